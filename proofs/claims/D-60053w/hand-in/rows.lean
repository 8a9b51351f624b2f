section
-- ===== PART A: goes FIRST, ahead of the names: the tables' words, and 'selects' of the private methods out of them =====
/-- a private method of a class that the tables say can be made, by its rows of tables_1 -/
def lw_okq (q : MethodName × Nat) : Prop := (q.1.cls ≠ "java/lang/invoke/MethodHandle" ∧ q.1.cls ≠ "java/lang/invoke/VarHandle") ∧ Cond.instantiable q.1.cls q.2 ∈ tables_1 ∧ Cond.privateMethod q.1 ∈ tables_1 ∧ Cond.instanceMethod q.1 ∈ tables_1
set_option maxRecDepth 100000
theorem lw_p0 : lw_okq (⟨"BondDesk", "all", "()I"⟩, 4) := ⟨⟨by decide +kernel, by decide +kernel⟩, List.mem_of_getElem? (i := 5) rfl, List.mem_of_getElem? (i := 81) rfl, List.mem_of_getElem? (i := 82) rfl⟩
theorem lw_p1 : lw_okq (⟨"BondDesk$Pairing", "path", "(I)I"⟩, 9) := ⟨⟨by decide +kernel, by decide +kernel⟩, List.mem_of_getElem? (i := 13) rfl, List.mem_of_getElem? (i := 89) rfl, List.mem_of_getElem? (i := 90) rfl⟩
theorem lw_p2 : lw_okq (⟨"BondDesk$Pairing", "draw", "(II)V"⟩, 9) := ⟨⟨by decide +kernel, by decide +kernel⟩, List.mem_of_getElem? (i := 13) rfl, List.mem_of_getElem? (i := 93) rfl, List.mem_of_getElem? (i := 94) rfl⟩
theorem lw_p3 : lw_okq (⟨"BondDesk$Pairing", "meeting", "(II)I"⟩, 9) := ⟨⟨by decide +kernel, by decide +kernel⟩, List.mem_of_getElem? (i := 13) rfl, List.mem_of_getElem? (i := 97) rfl, List.mem_of_getElem? (i := 98) rfl⟩
theorem lw_p4 : lw_okq (⟨"BondDesk$Pairing", "along", "(III)V"⟩, 9) := ⟨⟨by decide +kernel, by decide +kernel⟩, List.mem_of_getElem? (i := 13) rfl, List.mem_of_getElem? (i := 101) rfl, List.mem_of_getElem? (i := 102) rfl⟩
theorem lw_p5 : lw_okq (⟨"BondDesk$Pairing", "see", "(I)V"⟩, 9) := ⟨⟨by decide +kernel, by decide +kernel⟩, List.mem_of_getElem? (i := 13) rfl, List.mem_of_getElem? (i := 105) rfl, List.mem_of_getElem? (i := 106) rfl⟩
theorem lw_p6 : lw_okq (⟨"BondDesk$Pairing", "turn", "(I)V"⟩, 9) := ⟨⟨by decide +kernel, by decide +kernel⟩, List.mem_of_getElem? (i := 13) rfl, List.mem_of_getElem? (i := 109) rfl, List.mem_of_getElem? (i := 110) rfl⟩
theorem lw_p7 : lw_okq (⟨"BondDeskModel", "at", "(I)I"⟩, 4) := ⟨⟨by decide +kernel, by decide +kernel⟩, List.mem_of_getElem? (i := 122) rfl, List.mem_of_getElem? (i := 151) rfl, List.mem_of_getElem? (i := 152) rfl⟩
theorem lw_p8 : lw_okq (⟨"BondDeskModel", "reckon", "()V"⟩, 4) := ⟨⟨by decide +kernel, by decide +kernel⟩, List.mem_of_getElem? (i := 122) rfl, List.mem_of_getElem? (i := 163) rfl, List.mem_of_getElem? (i := 164) rfl⟩
def lw_privs_1 : List (MethodName × Nat) := [(⟨"BondDesk", "all", "()I"⟩, 4), (⟨"BondDesk$Pairing", "path", "(I)I"⟩, 9), (⟨"BondDesk$Pairing", "draw", "(II)V"⟩, 9), (⟨"BondDesk$Pairing", "meeting", "(II)I"⟩, 9), (⟨"BondDesk$Pairing", "along", "(III)V"⟩, 9), (⟨"BondDesk$Pairing", "see", "(I)V"⟩, 9), (⟨"BondDesk$Pairing", "turn", "(I)V"⟩, 9), (⟨"BondDeskModel", "at", "(I)I"⟩, 4), (⟨"BondDeskModel", "reckon", "()V"⟩, 4)]
theorem lw_r1 : ∀ q ∈ lw_privs_1, lw_okq q := List.forall_mem_cons.mpr ⟨lw_p0, List.forall_mem_cons.mpr ⟨lw_p1, List.forall_mem_cons.mpr ⟨lw_p2, List.forall_mem_cons.mpr ⟨lw_p3, List.forall_mem_cons.mpr ⟨lw_p4, List.forall_mem_cons.mpr ⟨lw_p5, List.forall_mem_cons.mpr ⟨lw_p6, List.forall_mem_cons.mpr ⟨lw_p7, List.forall_mem_cons.mpr ⟨lw_p8, fun _ h => absurd h List.not_mem_nil⟩⟩⟩⟩⟩⟩⟩⟩⟩
def lw_privs : List (MethodName × Nat) := lw_privs_1
def lw_tbl : List Cond := k2_sels lw_privs ++ tables_1
theorem lw_privs_ok : ∀ q ∈ lw_privs, lw_okq q := lw_r1
-- ===== ONE list of words for every method: the tables' words that hold all through a run =====
def lw_all : List Cond := lw_tbl.filter goodWord
/-- a word of the tables by its place: claim/WORDS.tsv -/
theorem lw_w {w : Cond} (i : Nat) (h : lw_tbl[i]? = some w) (g : goodWord w = true) : w ∈ lw_all := List.mem_filter.mpr ⟨List.mem_of_getElem? h, g⟩
theorem lw_all_tbl {w : Cond} (h : w ∈ lw_all) : w ∈ lw_tbl := (List.mem_filter.mp h).1
theorem lw_self : GoodIn lw_all lw_all := fun w h => ⟨h, good_of_word (List.mem_filter.mp h).2⟩
/-- a class's field words, by their places -/
theorem lw_in (ws : List Cond) (ps : List Nat) (hp : ws = ps.filterMap (fun i => lw_tbl[i]?)) (hg : ws.all goodWord = true) : ∀ w ∈ ws, w ∈ lw_all := by
  intro w h
  have h1 := List.all_eq_true.mp hg w h
  rw [hp] at h
  obtain ⟨i, -, hi⟩ := List.mem_filterMap.mp h
  exact lw_w i hi h1
/-- the words of a contract for the method y with code b, L locals, answer r -/
abbrev ws_ (y : MethodName) (b : ByteArray) (L : Nat) (r : Option FieldType) : List Cond := Cond.code y b L r :: lw_all
theorem lw_meth {y : MethodName} {b : ByteArray} {L : Nat} {r : Option FieldType} (h : Cond.code y b L r ∈ lw_all) : GoodIn lw_all (ws_ y b L r) := by
  intro w hw
  rcases List.mem_cons.mp hw with e | e
  · rw [e]
    exact lw_self _ h
  · exact lw_self _ e
theorem lw_app {a c : List Cond} (ha : ∀ w ∈ a, w ∈ lw_all) (hc : GoodIn lw_all c) : GoodIn lw_all (a ++ c) := by
  intro w hw
  rcases List.mem_append.mp hw with e | e
  · exact lw_self w (ha w e)
  · exact hc w e
/-- what a call through an object asks: cwV n hts (lw_V ..) -/
theorem lw_V {own : String} {idx : Nat} {C : String} {y : MethodName} {b : ByteArray} {L : Nat} {r : Option FieldType} (h1 : Cond.methodLink own idx y ∈ lw_all) (h2 : Cond.instanceMethod y ∈ lw_all) (h3 : Cond.selects C y y ∈ lw_all) (h4 : Cond.initialized C ∈ lw_all) (h5 : Cond.code y b L r ∈ lw_all) : GoodIn lw_all (wsV own idx C y (ws_ y b L r)) := by
  refine lw_app ?_ (lw_meth h5)
  intro w hw
  simp only [List.mem_cons, List.not_mem_nil, or_false] at hw
  rcases hw with e | e | e | e
  · rw [e]; exact h1
  · rw [e]; exact h2
  · rw [e]; exact h3
  · rw [e]; exact h4
/-- what a static call asks: va_cwS n hts (lw_S ..) -/
theorem lw_S {own : String} {idx : Nat} {y : MethodName} {b : ByteArray} {L : Nat} {r : Option FieldType} (h1 : Cond.methodLink own idx y ∈ lw_all) (h2 : Cond.static y ∈ lw_all) (h3 : Cond.initialized y.cls ∈ lw_all) (h4 : Cond.code y b L r ∈ lw_all) : GoodIn lw_all (va_wsS own idx y (ws_ y b L r)) := by
  refine lw_app ?_ (lw_meth h4)
  intro w hw
  simp only [List.mem_cons, List.not_mem_nil, or_false] at hw
  rcases hw with e | e | e
  · rw [e]; exact h1
  · rw [e]; exact h2
  · rw [e]; exact h3
/-- the words of a contract for a method WITH HANDLERS (hh: its table) -/
abbrev wsW_ (y : MethodName) (b : ByteArray) (L : Nat) (r : Option FieldType) (hh : List (Nat × Nat × Nat × Nat)) : List Cond := Cond.codeWith y b L r hh :: lw_all
theorem lw_methW {y : MethodName} {b : ByteArray} {L : Nat} {r : Option FieldType} {hh : List (Nat × Nat × Nat × Nat)} (h : Cond.codeWith y b L r hh ∈ lw_all) : GoodIn lw_all (wsW_ y b L r hh) := by
  intro w hw
  rcases List.mem_cons.mp hw with e | e
  · rw [e]
    exact lw_self _ h
  · exact lw_self _ e
/-- any list of words by their places (lw_in), good -/
theorem lw_good {ws : List Cond} (h : ∀ w ∈ ws, w ∈ lw_all) : GoodIn lw_all ws := fun w hw => lw_self w (h w hw)
/-- what a call of a method with handlers asks: vx_cwVW n hts (lw_VW ..), vx_cwSW n hts (lw_SW ..) -/
theorem lw_VW {own : String} {idx : Nat} {C : String} {y : MethodName} {b : ByteArray} {L : Nat} {r : Option FieldType} {hh : List (Nat × Nat × Nat × Nat)} (h1 : Cond.methodLink own idx y ∈ lw_all) (h2 : Cond.instanceMethod y ∈ lw_all) (h3 : Cond.selects C y y ∈ lw_all) (h4 : Cond.initialized C ∈ lw_all) (h5 : Cond.codeWith y b L r hh ∈ lw_all) : GoodIn lw_all (wsV own idx C y (wsW_ y b L r hh)) := by
  refine lw_app ?_ (lw_methW h5)
  intro w hw
  simp only [List.mem_cons, List.not_mem_nil, or_false] at hw
  rcases hw with e | e | e | e
  · rw [e]; exact h1
  · rw [e]; exact h2
  · rw [e]; exact h3
  · rw [e]; exact h4
theorem lw_SW {own : String} {idx : Nat} {y : MethodName} {b : ByteArray} {L : Nat} {r : Option FieldType} {hh : List (Nat × Nat × Nat × Nat)} (h1 : Cond.methodLink own idx y ∈ lw_all) (h2 : Cond.static y ∈ lw_all) (h3 : Cond.initialized y.cls ∈ lw_all) (h4 : Cond.codeWith y b L r hh ∈ lw_all) : GoodIn lw_all (va_wsS own idx y (wsW_ y b L r hh)) := by
  refine lw_app ?_ (lw_methW h4)
  intro w hw
  simp only [List.mem_cons, List.not_mem_nil, or_false] at hw
  rcases hw with e | e | e
  · rw [e]; exact h1
  · rw [e]; exact h2
  · rw [e]; exact h3
/-- a word by its place in its run of the tables -/
theorem lw_at {r : List Cond} (hr : ∀ w ∈ r, w ∈ lw_tbl) {w : Cond} (i : Nat) (h : r[i]? = some w) : w ∈ lw_tbl := hr w (List.mem_of_getElem? h)
theorem lw_g {w : Cond} (h : w ∈ lw_tbl) (g : goodWord w = true) : w ∈ lw_all := List.mem_filter.mpr ⟨h, g⟩
theorem lw_ms : ∀ w ∈ k2_sels lw_privs, w ∈ lw_tbl := fun w h => show w ∈ k2_sels lw_privs ++ tables_1 from List.mem_append_left _ h
theorem lw_m0 : ∀ w ∈ tables_1, w ∈ lw_tbl := fun w h => show w ∈ k2_sels lw_privs ++ tables_1 from List.mem_append_right (k2_sels lw_privs) h
theorem qs0 : (Cond.selects "BondDesk" ⟨"BondDesk", "all", "()I"⟩ ⟨"BondDesk", "all", "()I"⟩) ∈ lw_all := lw_g (lw_at lw_ms 0 rfl) rfl
theorem qs1 : (Cond.selects "BondDesk$Pairing" ⟨"BondDesk$Pairing", "path", "(I)I"⟩ ⟨"BondDesk$Pairing", "path", "(I)I"⟩) ∈ lw_all := lw_g (lw_at lw_ms 1 rfl) rfl
theorem qs2 : (Cond.selects "BondDesk$Pairing" ⟨"BondDesk$Pairing", "draw", "(II)V"⟩ ⟨"BondDesk$Pairing", "draw", "(II)V"⟩) ∈ lw_all := lw_g (lw_at lw_ms 2 rfl) rfl
theorem qs3 : (Cond.selects "BondDesk$Pairing" ⟨"BondDesk$Pairing", "meeting", "(II)I"⟩ ⟨"BondDesk$Pairing", "meeting", "(II)I"⟩) ∈ lw_all := lw_g (lw_at lw_ms 3 rfl) rfl
theorem qs4 : (Cond.selects "BondDesk$Pairing" ⟨"BondDesk$Pairing", "along", "(III)V"⟩ ⟨"BondDesk$Pairing", "along", "(III)V"⟩) ∈ lw_all := lw_g (lw_at lw_ms 4 rfl) rfl
theorem qs5 : (Cond.selects "BondDesk$Pairing" ⟨"BondDesk$Pairing", "see", "(I)V"⟩ ⟨"BondDesk$Pairing", "see", "(I)V"⟩) ∈ lw_all := lw_g (lw_at lw_ms 5 rfl) rfl
theorem qs6 : (Cond.selects "BondDesk$Pairing" ⟨"BondDesk$Pairing", "turn", "(I)V"⟩ ⟨"BondDesk$Pairing", "turn", "(I)V"⟩) ∈ lw_all := lw_g (lw_at lw_ms 6 rfl) rfl
theorem qs7 : (Cond.selects "BondDeskModel" ⟨"BondDeskModel", "at", "(I)I"⟩ ⟨"BondDeskModel", "at", "(I)I"⟩) ∈ lw_all := lw_g (lw_at lw_ms 7 rfl) rfl
theorem qs8 : (Cond.selects "BondDeskModel" ⟨"BondDeskModel", "reckon", "()V"⟩ ⟨"BondDeskModel", "reckon", "()V"⟩) ∈ lw_all := lw_g (lw_at lw_ms 8 rfl) rfl
end
section
/-! BondDesk$Pairing -/
set_option maxRecDepth 100000
def RX1 : String := "BondDesk$Pairing"
def TX1 : u_T := fun k => match k with
  | 0 => ("BondDesk$Pairing", "bonds", "[I", true)
  | 1 => ("BondDesk$Pairing", "mate", "[I", true)
  | 2 => ("BondDesk$Pairing", "from", "[I", true)
  | 3 => ("BondDesk$Pairing", "base", "[I", true)
  | 4 => ("BondDesk$Pairing", "row", "[I", true)
  | 5 => ("BondDesk$Pairing", "alive", "I", false)
  | 6 => ("BondDesk$Pairing", "seen", "I", false)
  | 7 => ("BondDesk$Pairing", "drawn", "I", false)
  | _ => ("BondDesk$Pairing", "rowMany", "I", false)
def tyX1 : Nat → FieldType := fun k => match k with
  | 0 => .array .int
  | 1 => .array .int
  | 2 => .array .int
  | 3 => .array .int
  | 4 => .array .int
  | 5 => .int
  | 6 => .int
  | 7 => .int
  | _ => .int
abbrev wsX10 : List Cond := u_ws RX1 TX1 9
theorem nmX1 : ∀ a, a < 9 → ∀ b, b < 9 → a ≠ b → (TX1 a).2.1 ≠ (TX1 b).2.1 := by decide +kernel
theorem tyX1_ok : ∀ k, k < 9 → parseFieldDescriptor (TX1 k).2.2.1 = some (tyX1 k) := by decide +kernel
abbrev cX1_init : ByteArray := prog_2_method_1_code
def yX1_init : MethodName := ⟨RX1, "<init>", "([I)V"⟩
theorem dX1_init_0 : decode cX1_init 0 = .ok (.aload_n 0, 1) := by decide +kernel
theorem dX1_init_1 : decode cX1_init 1 = .ok (.invokespecial 3, 3) := by decide +kernel
theorem dX1_init_4 : decode cX1_init 4 = .ok (.aload_n 0, 1) := by decide +kernel
theorem dX1_init_5 : decode cX1_init 5 = .ok (.bipush 10, 2) := by decide +kernel
theorem dX1_init_7 : decode cX1_init 7 = .ok (.newarray .int, 2) := by decide +kernel
theorem dX1_init_9 : decode cX1_init 9 = .ok (.putfield 9, 3) := by decide +kernel
theorem dX1_init_12 : decode cX1_init 12 = .ok (.aload_n 0, 1) := by decide +kernel
theorem dX1_init_13 : decode cX1_init 13 = .ok (.bipush 10, 2) := by decide +kernel
theorem dX1_init_15 : decode cX1_init 15 = .ok (.newarray .int, 2) := by decide +kernel
theorem dX1_init_17 : decode cX1_init 17 = .ok (.putfield 15, 3) := by decide +kernel
theorem dX1_init_20 : decode cX1_init 20 = .ok (.aload_n 0, 1) := by decide +kernel
theorem dX1_init_21 : decode cX1_init 21 = .ok (.bipush 10, 2) := by decide +kernel
theorem dX1_init_23 : decode cX1_init 23 = .ok (.newarray .int, 2) := by decide +kernel
theorem dX1_init_25 : decode cX1_init 25 = .ok (.putfield 18, 3) := by decide +kernel
theorem dX1_init_28 : decode cX1_init 28 = .ok (.aload_n 0, 1) := by decide +kernel
theorem dX1_init_29 : decode cX1_init 29 = .ok (.bipush 10, 2) := by decide +kernel
theorem dX1_init_31 : decode cX1_init 31 = .ok (.newarray .int, 2) := by decide +kernel
theorem dX1_init_33 : decode cX1_init 33 = .ok (.putfield 21, 3) := by decide +kernel
theorem dX1_init_36 : decode cX1_init 36 = .ok (.aload_n 0, 1) := by decide +kernel
theorem dX1_init_37 : decode cX1_init 37 = .ok (.aload_n 1, 1) := by decide +kernel
theorem dX1_init_38 : decode cX1_init 38 = .ok (.putfield 24, 3) := by decide +kernel
theorem dX1_init_41 : decode cX1_init 41 = .ok (.return_, 1) := by decide +kernel
abbrev cX1_most : ByteArray := prog_2_method_2_code
def yX1_most : MethodName := ⟨RX1, "most", "(I)I"⟩
theorem dX1_most_0 : decode cX1_most 0 = .ok (.aload_n 0, 1) := by decide +kernel
theorem dX1_most_1 : decode cX1_most 1 = .ok (.iload_n 1, 1) := by decide +kernel
theorem dX1_most_2 : decode cX1_most 2 = .ok (.putfield 27, 3) := by decide +kernel
theorem dX1_most_5 : decode cX1_most 5 = .ok (.iconst 0, 1) := by decide +kernel
theorem dX1_most_6 : decode cX1_most 6 = .ok (.istore_n 2, 1) := by decide +kernel
theorem dX1_most_7 : decode cX1_most 7 = .ok (.iconst 0, 1) := by decide +kernel
theorem dX1_most_8 : decode cX1_most 8 = .ok (.istore_n 3, 1) := by decide +kernel
theorem dX1_most_9 : decode cX1_most 9 = .ok (.iload_n 3, 1) := by decide +kernel
theorem dX1_most_10 : decode cX1_most 10 = .ok (.bipush 10, 2) := by decide +kernel
theorem dX1_most_12 : decode cX1_most 12 = .ok (.if_icmp .ge 16, 3) := by decide +kernel
theorem dX1_most_15 : decode cX1_most 15 = .ok (.aload_n 0, 1) := by decide +kernel
theorem dX1_most_16 : decode cX1_most 16 = .ok (.getfield 9, 3) := by decide +kernel
theorem dX1_most_19 : decode cX1_most 19 = .ok (.iload_n 3, 1) := by decide +kernel
theorem dX1_most_20 : decode cX1_most 20 = .ok (.iconst (-1), 1) := by decide +kernel
theorem dX1_most_21 : decode cX1_most 21 = .ok (.iastore, 1) := by decide +kernel
theorem dX1_most_22 : decode cX1_most 22 = .ok (.iinc 3 1, 3) := by decide +kernel
theorem dX1_most_25 : decode cX1_most 25 = .ok (.goto (-16), 3) := by decide +kernel
theorem dX1_most_28 : decode cX1_most 28 = .ok (.iconst 0, 1) := by decide +kernel
theorem dX1_most_29 : decode cX1_most 29 = .ok (.istore_n 3, 1) := by decide +kernel
theorem dX1_most_30 : decode cX1_most 30 = .ok (.iload_n 3, 1) := by decide +kernel
theorem dX1_most_31 : decode cX1_most 31 = .ok (.bipush 10, 2) := by decide +kernel
theorem dX1_most_33 : decode cX1_most 33 = .ok (.if_icmp .ge 53, 3) := by decide +kernel
theorem dX1_most_36 : decode cX1_most 36 = .ok (.iload_n 1, 1) := by decide +kernel
theorem dX1_most_37 : decode cX1_most 37 = .ok (.iload_n 3, 1) := by decide +kernel
theorem dX1_most_38 : decode cX1_most 38 = .ok (.ishr, 1) := by decide +kernel
theorem dX1_most_39 : decode cX1_most 39 = .ok (.iconst 1, 1) := by decide +kernel
theorem dX1_most_40 : decode cX1_most 40 = .ok (.iand, 1) := by decide +kernel
theorem dX1_most_41 : decode cX1_most 41 = .ok (.iconst 1, 1) := by decide +kernel
theorem dX1_most_42 : decode cX1_most 42 = .ok (.if_icmp .ne 38, 3) := by decide +kernel
theorem dX1_most_45 : decode cX1_most 45 = .ok (.aload_n 0, 1) := by decide +kernel
theorem dX1_most_46 : decode cX1_most 46 = .ok (.getfield 9, 3) := by decide +kernel
theorem dX1_most_49 : decode cX1_most 49 = .ok (.iload_n 3, 1) := by decide +kernel
theorem dX1_most_50 : decode cX1_most 50 = .ok (.iaload, 1) := by decide +kernel
theorem dX1_most_51 : decode cX1_most 51 = .ok (.iconst (-1), 1) := by decide +kernel
theorem dX1_most_52 : decode cX1_most 52 = .ok (.if_icmp .ne 28, 3) := by decide +kernel
theorem dX1_most_55 : decode cX1_most 55 = .ok (.aload_n 0, 1) := by decide +kernel
theorem dX1_most_56 : decode cX1_most 56 = .ok (.iload_n 3, 1) := by decide +kernel
theorem dX1_most_57 : decode cX1_most 57 = .ok (.invokevirtual 31, 3) := by decide +kernel
theorem dX1_most_60 : decode cX1_most 60 = .ok (.istore 4, 2) := by decide +kernel
theorem dX1_most_62 : decode cX1_most 62 = .ok (.iload 4, 2) := by decide +kernel
theorem dX1_most_64 : decode cX1_most 64 = .ok (.iconst (-1), 1) := by decide +kernel
theorem dX1_most_65 : decode cX1_most 65 = .ok (.if_icmp .ne 6, 3) := by decide +kernel
theorem dX1_most_68 : decode cX1_most 68 = .ok (.goto 12, 3) := by decide +kernel
theorem dX1_most_71 : decode cX1_most 71 = .ok (.aload_n 0, 1) := by decide +kernel
theorem dX1_most_72 : decode cX1_most 72 = .ok (.iload 4, 2) := by decide +kernel
theorem dX1_most_74 : decode cX1_most 74 = .ok (.invokevirtual 35, 3) := by decide +kernel
theorem dX1_most_77 : decode cX1_most 77 = .ok (.iinc 2 1, 3) := by decide +kernel
theorem dX1_most_80 : decode cX1_most 80 = .ok (.iinc 3 1, 3) := by decide +kernel
theorem dX1_most_83 : decode cX1_most 83 = .ok (.goto (-53), 3) := by decide +kernel
theorem dX1_most_86 : decode cX1_most 86 = .ok (.iload_n 2, 1) := by decide +kernel
theorem dX1_most_87 : decode cX1_most 87 = .ok (.ireturn, 1) := by decide +kernel
abbrev cX1_path : ByteArray := prog_2_method_4_code
def yX1_path : MethodName := ⟨RX1, "path", "(I)I"⟩
theorem dX1_path_0 : decode cX1_path 0 = .ok (.iconst 0, 1) := by decide +kernel
theorem dX1_path_1 : decode cX1_path 1 = .ok (.istore_n 2, 1) := by decide +kernel
theorem dX1_path_2 : decode cX1_path 2 = .ok (.iload_n 2, 1) := by decide +kernel
theorem dX1_path_3 : decode cX1_path 3 = .ok (.bipush 10, 2) := by decide +kernel
theorem dX1_path_5 : decode cX1_path 5 = .ok (.if_icmp .ge 23, 3) := by decide +kernel
theorem dX1_path_8 : decode cX1_path 8 = .ok (.aload_n 0, 1) := by decide +kernel
theorem dX1_path_9 : decode cX1_path 9 = .ok (.getfield 15, 3) := by decide +kernel
theorem dX1_path_12 : decode cX1_path 12 = .ok (.iload_n 2, 1) := by decide +kernel
theorem dX1_path_13 : decode cX1_path 13 = .ok (.iconst (-1), 1) := by decide +kernel
theorem dX1_path_14 : decode cX1_path 14 = .ok (.iastore, 1) := by decide +kernel
theorem dX1_path_15 : decode cX1_path 15 = .ok (.aload_n 0, 1) := by decide +kernel
theorem dX1_path_16 : decode cX1_path 16 = .ok (.getfield 18, 3) := by decide +kernel
theorem dX1_path_19 : decode cX1_path 19 = .ok (.iload_n 2, 1) := by decide +kernel
theorem dX1_path_20 : decode cX1_path 20 = .ok (.iload_n 2, 1) := by decide +kernel
theorem dX1_path_21 : decode cX1_path 21 = .ok (.iastore, 1) := by decide +kernel
theorem dX1_path_22 : decode cX1_path 22 = .ok (.iinc 2 1, 3) := by decide +kernel
theorem dX1_path_25 : decode cX1_path 25 = .ok (.goto (-23), 3) := by decide +kernel
theorem dX1_path_28 : decode cX1_path 28 = .ok (.aload_n 0, 1) := by decide +kernel
theorem dX1_path_29 : decode cX1_path 29 = .ok (.iconst 1, 1) := by decide +kernel
theorem dX1_path_30 : decode cX1_path 30 = .ok (.iload_n 1, 1) := by decide +kernel
theorem dX1_path_31 : decode cX1_path 31 = .ok (.ishl, 1) := by decide +kernel
theorem dX1_path_32 : decode cX1_path 32 = .ok (.putfield 39, 3) := by decide +kernel
theorem dX1_path_35 : decode cX1_path 35 = .ok (.aload_n 0, 1) := by decide +kernel
theorem dX1_path_36 : decode cX1_path 36 = .ok (.getfield 21, 3) := by decide +kernel
theorem dX1_path_39 : decode cX1_path 39 = .ok (.iconst 0, 1) := by decide +kernel
theorem dX1_path_40 : decode cX1_path 40 = .ok (.iload_n 1, 1) := by decide +kernel
theorem dX1_path_41 : decode cX1_path 41 = .ok (.iastore, 1) := by decide +kernel
theorem dX1_path_42 : decode cX1_path 42 = .ok (.aload_n 0, 1) := by decide +kernel
theorem dX1_path_43 : decode cX1_path 43 = .ok (.iconst 1, 1) := by decide +kernel
theorem dX1_path_44 : decode cX1_path 44 = .ok (.putfield 42, 3) := by decide +kernel
theorem dX1_path_47 : decode cX1_path 47 = .ok (.iconst 0, 1) := by decide +kernel
theorem dX1_path_48 : decode cX1_path 48 = .ok (.istore_n 2, 1) := by decide +kernel
theorem dX1_path_49 : decode cX1_path 49 = .ok (.iload_n 2, 1) := by decide +kernel
theorem dX1_path_50 : decode cX1_path 50 = .ok (.aload_n 0, 1) := by decide +kernel
theorem dX1_path_51 : decode cX1_path 51 = .ok (.getfield 42, 3) := by decide +kernel
theorem dX1_path_54 : decode cX1_path 54 = .ok (.if_icmp .ge 168, 3) := by decide +kernel
theorem dX1_path_57 : decode cX1_path 57 = .ok (.aload_n 0, 1) := by decide +kernel
theorem dX1_path_58 : decode cX1_path 58 = .ok (.getfield 21, 3) := by decide +kernel
theorem dX1_path_61 : decode cX1_path 61 = .ok (.iload_n 2, 1) := by decide +kernel
theorem dX1_path_62 : decode cX1_path 62 = .ok (.iaload, 1) := by decide +kernel
theorem dX1_path_63 : decode cX1_path 63 = .ok (.istore_n 3, 1) := by decide +kernel
theorem dX1_path_64 : decode cX1_path 64 = .ok (.iconst 0, 1) := by decide +kernel
theorem dX1_path_65 : decode cX1_path 65 = .ok (.istore 4, 2) := by decide +kernel
theorem dX1_path_67 : decode cX1_path 67 = .ok (.iload 4, 2) := by decide +kernel
theorem dX1_path_69 : decode cX1_path 69 = .ok (.bipush 10, 2) := by decide +kernel
theorem dX1_path_71 : decode cX1_path 71 = .ok (.if_icmp .ge 145, 3) := by decide +kernel
theorem dX1_path_74 : decode cX1_path 74 = .ok (.aload_n 0, 1) := by decide +kernel
theorem dX1_path_75 : decode cX1_path 75 = .ok (.getfield 24, 3) := by decide +kernel
theorem dX1_path_78 : decode cX1_path 78 = .ok (.iload_n 3, 1) := by decide +kernel
theorem dX1_path_79 : decode cX1_path 79 = .ok (.iaload, 1) := by decide +kernel
theorem dX1_path_80 : decode cX1_path 80 = .ok (.aload_n 0, 1) := by decide +kernel
theorem dX1_path_81 : decode cX1_path 81 = .ok (.getfield 27, 3) := by decide +kernel
theorem dX1_path_84 : decode cX1_path 84 = .ok (.iand, 1) := by decide +kernel
theorem dX1_path_85 : decode cX1_path 85 = .ok (.iconst 1, 1) := by decide +kernel
theorem dX1_path_86 : decode cX1_path 86 = .ok (.iload 4, 2) := by decide +kernel
theorem dX1_path_88 : decode cX1_path 88 = .ok (.ishl, 1) := by decide +kernel
theorem dX1_path_89 : decode cX1_path 89 = .ok (.iand, 1) := by decide +kernel
theorem dX1_path_90 : decode cX1_path 90 = .ok (.ifCond .eq 120, 3) := by decide +kernel
theorem dX1_path_93 : decode cX1_path 93 = .ok (.aload_n 0, 1) := by decide +kernel
theorem dX1_path_94 : decode cX1_path 94 = .ok (.getfield 18, 3) := by decide +kernel
theorem dX1_path_97 : decode cX1_path 97 = .ok (.iload_n 3, 1) := by decide +kernel
theorem dX1_path_98 : decode cX1_path 98 = .ok (.iaload, 1) := by decide +kernel
theorem dX1_path_99 : decode cX1_path 99 = .ok (.aload_n 0, 1) := by decide +kernel
theorem dX1_path_100 : decode cX1_path 100 = .ok (.getfield 18, 3) := by decide +kernel
theorem dX1_path_103 : decode cX1_path 103 = .ok (.iload 4, 2) := by decide +kernel
theorem dX1_path_105 : decode cX1_path 105 = .ok (.iaload, 1) := by decide +kernel
theorem dX1_path_106 : decode cX1_path 106 = .ok (.if_icmp .eq 104, 3) := by decide +kernel
theorem dX1_path_109 : decode cX1_path 109 = .ok (.aload_n 0, 1) := by decide +kernel
theorem dX1_path_110 : decode cX1_path 110 = .ok (.getfield 9, 3) := by decide +kernel
theorem dX1_path_113 : decode cX1_path 113 = .ok (.iload_n 3, 1) := by decide +kernel
theorem dX1_path_114 : decode cX1_path 114 = .ok (.iaload, 1) := by decide +kernel
theorem dX1_path_115 : decode cX1_path 115 = .ok (.iload 4, 2) := by decide +kernel
theorem dX1_path_117 : decode cX1_path 117 = .ok (.if_icmp .ne 6, 3) := by decide +kernel
theorem dX1_path_120 : decode cX1_path 120 = .ok (.goto 90, 3) := by decide +kernel
theorem dX1_path_123 : decode cX1_path 123 = .ok (.iload 4, 2) := by decide +kernel
theorem dX1_path_125 : decode cX1_path 125 = .ok (.iload_n 1, 1) := by decide +kernel
theorem dX1_path_126 : decode cX1_path 126 = .ok (.if_icmp .eq 30, 3) := by decide +kernel
theorem dX1_path_129 : decode cX1_path 129 = .ok (.aload_n 0, 1) := by decide +kernel
theorem dX1_path_130 : decode cX1_path 130 = .ok (.getfield 9, 3) := by decide +kernel
theorem dX1_path_133 : decode cX1_path 133 = .ok (.iload 4, 2) := by decide +kernel
theorem dX1_path_135 : decode cX1_path 135 = .ok (.iaload, 1) := by decide +kernel
theorem dX1_path_136 : decode cX1_path 136 = .ok (.iconst (-1), 1) := by decide +kernel
theorem dX1_path_137 : decode cX1_path 137 = .ok (.if_icmp .eq 29, 3) := by decide +kernel
theorem dX1_path_140 : decode cX1_path 140 = .ok (.aload_n 0, 1) := by decide +kernel
theorem dX1_path_141 : decode cX1_path 141 = .ok (.getfield 15, 3) := by decide +kernel
theorem dX1_path_144 : decode cX1_path 144 = .ok (.aload_n 0, 1) := by decide +kernel
theorem dX1_path_145 : decode cX1_path 145 = .ok (.getfield 9, 3) := by decide +kernel
theorem dX1_path_148 : decode cX1_path 148 = .ok (.iload 4, 2) := by decide +kernel
theorem dX1_path_150 : decode cX1_path 150 = .ok (.iaload, 1) := by decide +kernel
theorem dX1_path_151 : decode cX1_path 151 = .ok (.iaload, 1) := by decide +kernel
theorem dX1_path_152 : decode cX1_path 152 = .ok (.iconst (-1), 1) := by decide +kernel
theorem dX1_path_153 : decode cX1_path 153 = .ok (.if_icmp .eq 13, 3) := by decide +kernel
theorem dX1_path_156 : decode cX1_path 156 = .ok (.aload_n 0, 1) := by decide +kernel
theorem dX1_path_157 : decode cX1_path 157 = .ok (.iload_n 3, 1) := by decide +kernel
theorem dX1_path_158 : decode cX1_path 158 = .ok (.iload 4, 2) := by decide +kernel
theorem dX1_path_160 : decode cX1_path 160 = .ok (.invokevirtual 45, 3) := by decide +kernel
theorem dX1_path_163 : decode cX1_path 163 = .ok (.goto 47, 3) := by decide +kernel
theorem dX1_path_166 : decode cX1_path 166 = .ok (.aload_n 0, 1) := by decide +kernel
theorem dX1_path_167 : decode cX1_path 167 = .ok (.getfield 15, 3) := by decide +kernel
theorem dX1_path_170 : decode cX1_path 170 = .ok (.iload 4, 2) := by decide +kernel
theorem dX1_path_172 : decode cX1_path 172 = .ok (.iaload, 1) := by decide +kernel
theorem dX1_path_173 : decode cX1_path 173 = .ok (.iconst (-1), 1) := by decide +kernel
theorem dX1_path_174 : decode cX1_path 174 = .ok (.if_icmp .ne 36, 3) := by decide +kernel
theorem dX1_path_177 : decode cX1_path 177 = .ok (.aload_n 0, 1) := by decide +kernel
theorem dX1_path_178 : decode cX1_path 178 = .ok (.getfield 15, 3) := by decide +kernel
theorem dX1_path_181 : decode cX1_path 181 = .ok (.iload 4, 2) := by decide +kernel
theorem dX1_path_183 : decode cX1_path 183 = .ok (.iload_n 3, 1) := by decide +kernel
theorem dX1_path_184 : decode cX1_path 184 = .ok (.iastore, 1) := by decide +kernel
theorem dX1_path_185 : decode cX1_path 185 = .ok (.aload_n 0, 1) := by decide +kernel
theorem dX1_path_186 : decode cX1_path 186 = .ok (.getfield 9, 3) := by decide +kernel
theorem dX1_path_189 : decode cX1_path 189 = .ok (.iload 4, 2) := by decide +kernel
theorem dX1_path_191 : decode cX1_path 191 = .ok (.iaload, 1) := by decide +kernel
theorem dX1_path_192 : decode cX1_path 192 = .ok (.iconst (-1), 1) := by decide +kernel
theorem dX1_path_193 : decode cX1_path 193 = .ok (.if_icmp .ne 6, 3) := by decide +kernel
theorem dX1_path_196 : decode cX1_path 196 = .ok (.iload 4, 2) := by decide +kernel
theorem dX1_path_198 : decode cX1_path 198 = .ok (.ireturn, 1) := by decide +kernel
theorem dX1_path_199 : decode cX1_path 199 = .ok (.aload_n 0, 1) := by decide +kernel
theorem dX1_path_200 : decode cX1_path 200 = .ok (.aload_n 0, 1) := by decide +kernel
theorem dX1_path_201 : decode cX1_path 201 = .ok (.getfield 9, 3) := by decide +kernel
theorem dX1_path_204 : decode cX1_path 204 = .ok (.iload 4, 2) := by decide +kernel
theorem dX1_path_206 : decode cX1_path 206 = .ok (.iaload, 1) := by decide +kernel
theorem dX1_path_207 : decode cX1_path 207 = .ok (.invokevirtual 49, 3) := by decide +kernel
theorem dX1_path_210 : decode cX1_path 210 = .ok (.iinc 4 1, 3) := by decide +kernel
theorem dX1_path_213 : decode cX1_path 213 = .ok (.goto (-146), 3) := by decide +kernel
theorem dX1_path_216 : decode cX1_path 216 = .ok (.iinc 2 1, 3) := by decide +kernel
theorem dX1_path_219 : decode cX1_path 219 = .ok (.goto (-170), 3) := by decide +kernel
theorem dX1_path_222 : decode cX1_path 222 = .ok (.iconst (-1), 1) := by decide +kernel
theorem dX1_path_223 : decode cX1_path 223 = .ok (.ireturn, 1) := by decide +kernel
abbrev cX1_draw : ByteArray := prog_2_method_6_code
def yX1_draw : MethodName := ⟨RX1, "draw", "(II)V"⟩
theorem dX1_draw_0 : decode cX1_draw 0 = .ok (.aload_n 0, 1) := by decide +kernel
theorem dX1_draw_1 : decode cX1_draw 1 = .ok (.iload_n 1, 1) := by decide +kernel
theorem dX1_draw_2 : decode cX1_draw 2 = .ok (.iload_n 2, 1) := by decide +kernel
theorem dX1_draw_3 : decode cX1_draw 3 = .ok (.invokevirtual 52, 3) := by decide +kernel
theorem dX1_draw_6 : decode cX1_draw 6 = .ok (.istore_n 3, 1) := by decide +kernel
theorem dX1_draw_7 : decode cX1_draw 7 = .ok (.aload_n 0, 1) := by decide +kernel
theorem dX1_draw_8 : decode cX1_draw 8 = .ok (.iconst 0, 1) := by decide +kernel
theorem dX1_draw_9 : decode cX1_draw 9 = .ok (.putfield 56, 3) := by decide +kernel
theorem dX1_draw_12 : decode cX1_draw 12 = .ok (.aload_n 0, 1) := by decide +kernel
theorem dX1_draw_13 : decode cX1_draw 13 = .ok (.iload_n 1, 1) := by decide +kernel
theorem dX1_draw_14 : decode cX1_draw 14 = .ok (.iload_n 3, 1) := by decide +kernel
theorem dX1_draw_15 : decode cX1_draw 15 = .ok (.iload_n 2, 1) := by decide +kernel
theorem dX1_draw_16 : decode cX1_draw 16 = .ok (.invokevirtual 59, 3) := by decide +kernel
theorem dX1_draw_19 : decode cX1_draw 19 = .ok (.aload_n 0, 1) := by decide +kernel
theorem dX1_draw_20 : decode cX1_draw 20 = .ok (.iload_n 2, 1) := by decide +kernel
theorem dX1_draw_21 : decode cX1_draw 21 = .ok (.iload_n 3, 1) := by decide +kernel
theorem dX1_draw_22 : decode cX1_draw 22 = .ok (.iload_n 1, 1) := by decide +kernel
theorem dX1_draw_23 : decode cX1_draw 23 = .ok (.invokevirtual 59, 3) := by decide +kernel
theorem dX1_draw_26 : decode cX1_draw 26 = .ok (.iconst 0, 1) := by decide +kernel
theorem dX1_draw_27 : decode cX1_draw 27 = .ok (.istore 4, 2) := by decide +kernel
theorem dX1_draw_29 : decode cX1_draw 29 = .ok (.iload 4, 2) := by decide +kernel
theorem dX1_draw_31 : decode cX1_draw 31 = .ok (.bipush 10, 2) := by decide +kernel
theorem dX1_draw_33 : decode cX1_draw 33 = .ok (.if_icmp .ge 41, 3) := by decide +kernel
theorem dX1_draw_36 : decode cX1_draw 36 = .ok (.aload_n 0, 1) := by decide +kernel
theorem dX1_draw_37 : decode cX1_draw 37 = .ok (.getfield 56, 3) := by decide +kernel
theorem dX1_draw_40 : decode cX1_draw 40 = .ok (.aload_n 0, 1) := by decide +kernel
theorem dX1_draw_41 : decode cX1_draw 41 = .ok (.getfield 18, 3) := by decide +kernel
theorem dX1_draw_44 : decode cX1_draw 44 = .ok (.iload 4, 2) := by decide +kernel
theorem dX1_draw_46 : decode cX1_draw 46 = .ok (.iaload, 1) := by decide +kernel
theorem dX1_draw_47 : decode cX1_draw 47 = .ok (.ishr, 1) := by decide +kernel
theorem dX1_draw_48 : decode cX1_draw 48 = .ok (.iconst 1, 1) := by decide +kernel
theorem dX1_draw_49 : decode cX1_draw 49 = .ok (.iand, 1) := by decide +kernel
theorem dX1_draw_50 : decode cX1_draw 50 = .ok (.iconst 1, 1) := by decide +kernel
theorem dX1_draw_51 : decode cX1_draw 51 = .ok (.if_icmp .ne 17, 3) := by decide +kernel
theorem dX1_draw_54 : decode cX1_draw 54 = .ok (.aload_n 0, 1) := by decide +kernel
theorem dX1_draw_55 : decode cX1_draw 55 = .ok (.getfield 18, 3) := by decide +kernel
theorem dX1_draw_58 : decode cX1_draw 58 = .ok (.iload 4, 2) := by decide +kernel
theorem dX1_draw_60 : decode cX1_draw 60 = .ok (.iload_n 3, 1) := by decide +kernel
theorem dX1_draw_61 : decode cX1_draw 61 = .ok (.iastore, 1) := by decide +kernel
theorem dX1_draw_62 : decode cX1_draw 62 = .ok (.aload_n 0, 1) := by decide +kernel
theorem dX1_draw_63 : decode cX1_draw 63 = .ok (.iload 4, 2) := by decide +kernel
theorem dX1_draw_65 : decode cX1_draw 65 = .ok (.invokevirtual 49, 3) := by decide +kernel
theorem dX1_draw_68 : decode cX1_draw 68 = .ok (.iinc 4 1, 3) := by decide +kernel
theorem dX1_draw_71 : decode cX1_draw 71 = .ok (.goto (-42), 3) := by decide +kernel
theorem dX1_draw_74 : decode cX1_draw 74 = .ok (.return_, 1) := by decide +kernel
abbrev cX1_meeting : ByteArray := prog_2_method_7_code
def yX1_meeting : MethodName := ⟨RX1, "meeting", "(II)I"⟩
theorem dX1_meeting_0 : decode cX1_meeting 0 = .ok (.iconst 0, 1) := by decide +kernel
theorem dX1_meeting_1 : decode cX1_meeting 1 = .ok (.istore_n 3, 1) := by decide +kernel
theorem dX1_meeting_2 : decode cX1_meeting 2 = .ok (.iload_n 1, 1) := by decide +kernel
theorem dX1_meeting_3 : decode cX1_meeting 3 = .ok (.istore 4, 2) := by decide +kernel
theorem dX1_meeting_5 : decode cX1_meeting 5 = .ok (.iload_n 2, 1) := by decide +kernel
theorem dX1_meeting_6 : decode cX1_meeting 6 = .ok (.istore 5, 2) := by decide +kernel
theorem dX1_meeting_8 : decode cX1_meeting 8 = .ok (.aload_n 0, 1) := by decide +kernel
theorem dX1_meeting_9 : decode cX1_meeting 9 = .ok (.getfield 18, 3) := by decide +kernel
theorem dX1_meeting_12 : decode cX1_meeting 12 = .ok (.iload 4, 2) := by decide +kernel
theorem dX1_meeting_14 : decode cX1_meeting 14 = .ok (.iaload, 1) := by decide +kernel
theorem dX1_meeting_15 : decode cX1_meeting 15 = .ok (.istore 4, 2) := by decide +kernel
theorem dX1_meeting_17 : decode cX1_meeting 17 = .ok (.iload_n 3, 1) := by decide +kernel
theorem dX1_meeting_18 : decode cX1_meeting 18 = .ok (.iconst 1, 1) := by decide +kernel
theorem dX1_meeting_19 : decode cX1_meeting 19 = .ok (.iload 4, 2) := by decide +kernel
theorem dX1_meeting_21 : decode cX1_meeting 21 = .ok (.ishl, 1) := by decide +kernel
theorem dX1_meeting_22 : decode cX1_meeting 22 = .ok (.ior, 1) := by decide +kernel
theorem dX1_meeting_23 : decode cX1_meeting 23 = .ok (.istore_n 3, 1) := by decide +kernel
theorem dX1_meeting_24 : decode cX1_meeting 24 = .ok (.aload_n 0, 1) := by decide +kernel
theorem dX1_meeting_25 : decode cX1_meeting 25 = .ok (.getfield 9, 3) := by decide +kernel
theorem dX1_meeting_28 : decode cX1_meeting 28 = .ok (.iload 4, 2) := by decide +kernel
theorem dX1_meeting_30 : decode cX1_meeting 30 = .ok (.iaload, 1) := by decide +kernel
theorem dX1_meeting_31 : decode cX1_meeting 31 = .ok (.iconst (-1), 1) := by decide +kernel
theorem dX1_meeting_32 : decode cX1_meeting 32 = .ok (.if_icmp .ne 6, 3) := by decide +kernel
theorem dX1_meeting_35 : decode cX1_meeting 35 = .ok (.goto 20, 3) := by decide +kernel
theorem dX1_meeting_38 : decode cX1_meeting 38 = .ok (.aload_n 0, 1) := by decide +kernel
theorem dX1_meeting_39 : decode cX1_meeting 39 = .ok (.getfield 15, 3) := by decide +kernel
theorem dX1_meeting_42 : decode cX1_meeting 42 = .ok (.aload_n 0, 1) := by decide +kernel
theorem dX1_meeting_43 : decode cX1_meeting 43 = .ok (.getfield 9, 3) := by decide +kernel
theorem dX1_meeting_46 : decode cX1_meeting 46 = .ok (.iload 4, 2) := by decide +kernel
theorem dX1_meeting_48 : decode cX1_meeting 48 = .ok (.iaload, 1) := by decide +kernel
theorem dX1_meeting_49 : decode cX1_meeting 49 = .ok (.iaload, 1) := by decide +kernel
theorem dX1_meeting_50 : decode cX1_meeting 50 = .ok (.istore 4, 2) := by decide +kernel
theorem dX1_meeting_52 : decode cX1_meeting 52 = .ok (.goto (-44), 3) := by decide +kernel
theorem dX1_meeting_55 : decode cX1_meeting 55 = .ok (.iload_n 3, 1) := by decide +kernel
theorem dX1_meeting_56 : decode cX1_meeting 56 = .ok (.aload_n 0, 1) := by decide +kernel
theorem dX1_meeting_57 : decode cX1_meeting 57 = .ok (.getfield 18, 3) := by decide +kernel
theorem dX1_meeting_60 : decode cX1_meeting 60 = .ok (.iload 5, 2) := by decide +kernel
theorem dX1_meeting_62 : decode cX1_meeting 62 = .ok (.iaload, 1) := by decide +kernel
theorem dX1_meeting_63 : decode cX1_meeting 63 = .ok (.ishr, 1) := by decide +kernel
theorem dX1_meeting_64 : decode cX1_meeting 64 = .ok (.iconst 1, 1) := by decide +kernel
theorem dX1_meeting_65 : decode cX1_meeting 65 = .ok (.iand, 1) := by decide +kernel
theorem dX1_meeting_66 : decode cX1_meeting 66 = .ok (.ifCond .ne 25, 3) := by decide +kernel
theorem dX1_meeting_69 : decode cX1_meeting 69 = .ok (.aload_n 0, 1) := by decide +kernel
theorem dX1_meeting_70 : decode cX1_meeting 70 = .ok (.getfield 15, 3) := by decide +kernel
theorem dX1_meeting_73 : decode cX1_meeting 73 = .ok (.aload_n 0, 1) := by decide +kernel
theorem dX1_meeting_74 : decode cX1_meeting 74 = .ok (.getfield 9, 3) := by decide +kernel
theorem dX1_meeting_77 : decode cX1_meeting 77 = .ok (.aload_n 0, 1) := by decide +kernel
theorem dX1_meeting_78 : decode cX1_meeting 78 = .ok (.getfield 18, 3) := by decide +kernel
theorem dX1_meeting_81 : decode cX1_meeting 81 = .ok (.iload 5, 2) := by decide +kernel
theorem dX1_meeting_83 : decode cX1_meeting 83 = .ok (.iaload, 1) := by decide +kernel
theorem dX1_meeting_84 : decode cX1_meeting 84 = .ok (.iaload, 1) := by decide +kernel
theorem dX1_meeting_85 : decode cX1_meeting 85 = .ok (.iaload, 1) := by decide +kernel
theorem dX1_meeting_86 : decode cX1_meeting 86 = .ok (.istore 5, 2) := by decide +kernel
theorem dX1_meeting_88 : decode cX1_meeting 88 = .ok (.goto (-33), 3) := by decide +kernel
theorem dX1_meeting_91 : decode cX1_meeting 91 = .ok (.aload_n 0, 1) := by decide +kernel
theorem dX1_meeting_92 : decode cX1_meeting 92 = .ok (.getfield 18, 3) := by decide +kernel
theorem dX1_meeting_95 : decode cX1_meeting 95 = .ok (.iload 5, 2) := by decide +kernel
theorem dX1_meeting_97 : decode cX1_meeting 97 = .ok (.iaload, 1) := by decide +kernel
theorem dX1_meeting_98 : decode cX1_meeting 98 = .ok (.ireturn, 1) := by decide +kernel
abbrev cX1_along : ByteArray := prog_2_method_8_code
def yX1_along : MethodName := ⟨RX1, "along", "(III)V"⟩
theorem dX1_along_0 : decode cX1_along 0 = .ok (.iload_n 1, 1) := by decide +kernel
theorem dX1_along_1 : decode cX1_along 1 = .ok (.istore 4, 2) := by decide +kernel
theorem dX1_along_3 : decode cX1_along 3 = .ok (.iload_n 3, 1) := by decide +kernel
theorem dX1_along_4 : decode cX1_along 4 = .ok (.istore 5, 2) := by decide +kernel
theorem dX1_along_6 : decode cX1_along 6 = .ok (.aload_n 0, 1) := by decide +kernel
theorem dX1_along_7 : decode cX1_along 7 = .ok (.getfield 18, 3) := by decide +kernel
theorem dX1_along_10 : decode cX1_along 10 = .ok (.iload 4, 2) := by decide +kernel
theorem dX1_along_12 : decode cX1_along 12 = .ok (.iaload, 1) := by decide +kernel
theorem dX1_along_13 : decode cX1_along 13 = .ok (.iload_n 2, 1) := by decide +kernel
theorem dX1_along_14 : decode cX1_along 14 = .ok (.if_icmp .eq 71, 3) := by decide +kernel
theorem dX1_along_17 : decode cX1_along 17 = .ok (.aload_n 0, 1) := by decide +kernel
theorem dX1_along_18 : decode cX1_along 18 = .ok (.dup, 1) := by decide +kernel
theorem dX1_along_19 : decode cX1_along 19 = .ok (.getfield 56, 3) := by decide +kernel
theorem dX1_along_22 : decode cX1_along 22 = .ok (.iconst 1, 1) := by decide +kernel
theorem dX1_along_23 : decode cX1_along 23 = .ok (.aload_n 0, 1) := by decide +kernel
theorem dX1_along_24 : decode cX1_along 24 = .ok (.getfield 18, 3) := by decide +kernel
theorem dX1_along_27 : decode cX1_along 27 = .ok (.iload 4, 2) := by decide +kernel
theorem dX1_along_29 : decode cX1_along 29 = .ok (.iaload, 1) := by decide +kernel
theorem dX1_along_30 : decode cX1_along 30 = .ok (.ishl, 1) := by decide +kernel
theorem dX1_along_31 : decode cX1_along 31 = .ok (.iconst 1, 1) := by decide +kernel
theorem dX1_along_32 : decode cX1_along 32 = .ok (.aload_n 0, 1) := by decide +kernel
theorem dX1_along_33 : decode cX1_along 33 = .ok (.getfield 18, 3) := by decide +kernel
theorem dX1_along_36 : decode cX1_along 36 = .ok (.aload_n 0, 1) := by decide +kernel
theorem dX1_along_37 : decode cX1_along 37 = .ok (.getfield 9, 3) := by decide +kernel
theorem dX1_along_40 : decode cX1_along 40 = .ok (.iload 4, 2) := by decide +kernel
theorem dX1_along_42 : decode cX1_along 42 = .ok (.iaload, 1) := by decide +kernel
theorem dX1_along_43 : decode cX1_along 43 = .ok (.iaload, 1) := by decide +kernel
theorem dX1_along_44 : decode cX1_along 44 = .ok (.ishl, 1) := by decide +kernel
theorem dX1_along_45 : decode cX1_along 45 = .ok (.ior, 1) := by decide +kernel
theorem dX1_along_46 : decode cX1_along 46 = .ok (.ior, 1) := by decide +kernel
theorem dX1_along_47 : decode cX1_along 47 = .ok (.putfield 56, 3) := by decide +kernel
theorem dX1_along_50 : decode cX1_along 50 = .ok (.aload_n 0, 1) := by decide +kernel
theorem dX1_along_51 : decode cX1_along 51 = .ok (.getfield 15, 3) := by decide +kernel
theorem dX1_along_54 : decode cX1_along 54 = .ok (.iload 4, 2) := by decide +kernel
theorem dX1_along_56 : decode cX1_along 56 = .ok (.iload 5, 2) := by decide +kernel
theorem dX1_along_58 : decode cX1_along 58 = .ok (.iastore, 1) := by decide +kernel
theorem dX1_along_59 : decode cX1_along 59 = .ok (.aload_n 0, 1) := by decide +kernel
theorem dX1_along_60 : decode cX1_along 60 = .ok (.getfield 9, 3) := by decide +kernel
theorem dX1_along_63 : decode cX1_along 63 = .ok (.iload 4, 2) := by decide +kernel
theorem dX1_along_65 : decode cX1_along 65 = .ok (.iaload, 1) := by decide +kernel
theorem dX1_along_66 : decode cX1_along 66 = .ok (.istore 5, 2) := by decide +kernel
theorem dX1_along_68 : decode cX1_along 68 = .ok (.aload_n 0, 1) := by decide +kernel
theorem dX1_along_69 : decode cX1_along 69 = .ok (.getfield 15, 3) := by decide +kernel
theorem dX1_along_72 : decode cX1_along 72 = .ok (.aload_n 0, 1) := by decide +kernel
theorem dX1_along_73 : decode cX1_along 73 = .ok (.getfield 9, 3) := by decide +kernel
theorem dX1_along_76 : decode cX1_along 76 = .ok (.iload 4, 2) := by decide +kernel
theorem dX1_along_78 : decode cX1_along 78 = .ok (.iaload, 1) := by decide +kernel
theorem dX1_along_79 : decode cX1_along 79 = .ok (.iaload, 1) := by decide +kernel
theorem dX1_along_80 : decode cX1_along 80 = .ok (.istore 4, 2) := by decide +kernel
theorem dX1_along_82 : decode cX1_along 82 = .ok (.goto (-76), 3) := by decide +kernel
theorem dX1_along_85 : decode cX1_along 85 = .ok (.return_, 1) := by decide +kernel
abbrev cX1_see : ByteArray := prog_2_method_5_code
def yX1_see : MethodName := ⟨RX1, "see", "(I)V"⟩
theorem dX1_see_0 : decode cX1_see 0 = .ok (.aload_n 0, 1) := by decide +kernel
theorem dX1_see_1 : decode cX1_see 1 = .ok (.getfield 39, 3) := by decide +kernel
theorem dX1_see_4 : decode cX1_see 4 = .ok (.iload_n 1, 1) := by decide +kernel
theorem dX1_see_5 : decode cX1_see 5 = .ok (.ishr, 1) := by decide +kernel
theorem dX1_see_6 : decode cX1_see 6 = .ok (.iconst 1, 1) := by decide +kernel
theorem dX1_see_7 : decode cX1_see 7 = .ok (.iand, 1) := by decide +kernel
theorem dX1_see_8 : decode cX1_see 8 = .ok (.iconst 1, 1) := by decide +kernel
theorem dX1_see_9 : decode cX1_see 9 = .ok (.if_icmp .ne 4, 3) := by decide +kernel
theorem dX1_see_12 : decode cX1_see 12 = .ok (.return_, 1) := by decide +kernel
theorem dX1_see_13 : decode cX1_see 13 = .ok (.aload_n 0, 1) := by decide +kernel
theorem dX1_see_14 : decode cX1_see 14 = .ok (.dup, 1) := by decide +kernel
theorem dX1_see_15 : decode cX1_see 15 = .ok (.getfield 39, 3) := by decide +kernel
theorem dX1_see_18 : decode cX1_see 18 = .ok (.iconst 1, 1) := by decide +kernel
theorem dX1_see_19 : decode cX1_see 19 = .ok (.iload_n 1, 1) := by decide +kernel
theorem dX1_see_20 : decode cX1_see 20 = .ok (.ishl, 1) := by decide +kernel
theorem dX1_see_21 : decode cX1_see 21 = .ok (.ior, 1) := by decide +kernel
theorem dX1_see_22 : decode cX1_see 22 = .ok (.putfield 39, 3) := by decide +kernel
theorem dX1_see_25 : decode cX1_see 25 = .ok (.aload_n 0, 1) := by decide +kernel
theorem dX1_see_26 : decode cX1_see 26 = .ok (.getfield 21, 3) := by decide +kernel
theorem dX1_see_29 : decode cX1_see 29 = .ok (.aload_n 0, 1) := by decide +kernel
theorem dX1_see_30 : decode cX1_see 30 = .ok (.dup, 1) := by decide +kernel
theorem dX1_see_31 : decode cX1_see 31 = .ok (.getfield 42, 3) := by decide +kernel
theorem dX1_see_34 : decode cX1_see 34 = .ok (.dup_x1, 1) := by decide +kernel
theorem dX1_see_35 : decode cX1_see 35 = .ok (.iconst 1, 1) := by decide +kernel
theorem dX1_see_36 : decode cX1_see 36 = .ok (.iadd, 1) := by decide +kernel
theorem dX1_see_37 : decode cX1_see 37 = .ok (.putfield 42, 3) := by decide +kernel
theorem dX1_see_40 : decode cX1_see 40 = .ok (.iload_n 1, 1) := by decide +kernel
theorem dX1_see_41 : decode cX1_see 41 = .ok (.iastore, 1) := by decide +kernel
theorem dX1_see_42 : decode cX1_see 42 = .ok (.return_, 1) := by decide +kernel
abbrev cX1_turn : ByteArray := prog_2_method_3_code
def yX1_turn : MethodName := ⟨RX1, "turn", "(I)V"⟩
theorem dX1_turn_0 : decode cX1_turn 0 = .ok (.iload_n 1, 1) := by decide +kernel
theorem dX1_turn_1 : decode cX1_turn 1 = .ok (.istore_n 2, 1) := by decide +kernel
theorem dX1_turn_2 : decode cX1_turn 2 = .ok (.iload_n 2, 1) := by decide +kernel
theorem dX1_turn_3 : decode cX1_turn 3 = .ok (.iconst (-1), 1) := by decide +kernel
theorem dX1_turn_4 : decode cX1_turn 4 = .ok (.if_icmp .eq 38, 3) := by decide +kernel
theorem dX1_turn_7 : decode cX1_turn 7 = .ok (.aload_n 0, 1) := by decide +kernel
theorem dX1_turn_8 : decode cX1_turn 8 = .ok (.getfield 15, 3) := by decide +kernel
theorem dX1_turn_11 : decode cX1_turn 11 = .ok (.iload_n 2, 1) := by decide +kernel
theorem dX1_turn_12 : decode cX1_turn 12 = .ok (.iaload, 1) := by decide +kernel
theorem dX1_turn_13 : decode cX1_turn 13 = .ok (.istore_n 3, 1) := by decide +kernel
theorem dX1_turn_14 : decode cX1_turn 14 = .ok (.aload_n 0, 1) := by decide +kernel
theorem dX1_turn_15 : decode cX1_turn 15 = .ok (.getfield 9, 3) := by decide +kernel
theorem dX1_turn_18 : decode cX1_turn 18 = .ok (.iload_n 3, 1) := by decide +kernel
theorem dX1_turn_19 : decode cX1_turn 19 = .ok (.iaload, 1) := by decide +kernel
theorem dX1_turn_20 : decode cX1_turn 20 = .ok (.istore 4, 2) := by decide +kernel
theorem dX1_turn_22 : decode cX1_turn 22 = .ok (.aload_n 0, 1) := by decide +kernel
theorem dX1_turn_23 : decode cX1_turn 23 = .ok (.getfield 9, 3) := by decide +kernel
theorem dX1_turn_26 : decode cX1_turn 26 = .ok (.iload_n 2, 1) := by decide +kernel
theorem dX1_turn_27 : decode cX1_turn 27 = .ok (.iload_n 3, 1) := by decide +kernel
theorem dX1_turn_28 : decode cX1_turn 28 = .ok (.iastore, 1) := by decide +kernel
theorem dX1_turn_29 : decode cX1_turn 29 = .ok (.aload_n 0, 1) := by decide +kernel
theorem dX1_turn_30 : decode cX1_turn 30 = .ok (.getfield 9, 3) := by decide +kernel
theorem dX1_turn_33 : decode cX1_turn 33 = .ok (.iload_n 3, 1) := by decide +kernel
theorem dX1_turn_34 : decode cX1_turn 34 = .ok (.iload_n 2, 1) := by decide +kernel
theorem dX1_turn_35 : decode cX1_turn 35 = .ok (.iastore, 1) := by decide +kernel
theorem dX1_turn_36 : decode cX1_turn 36 = .ok (.iload 4, 2) := by decide +kernel
theorem dX1_turn_38 : decode cX1_turn 38 = .ok (.istore_n 2, 1) := by decide +kernel
theorem dX1_turn_39 : decode cX1_turn 39 = .ok (.goto (-37), 3) := by decide +kernel
theorem dX1_turn_42 : decode cX1_turn 42 = .ok (.return_, 1) := by decide +kernel
theorem q11 : (Jvm.Cond.initialized "BondDesk$Pairing") ∈ lw_all := lw_g (lw_at lw_m0 2 rfl) rfl
theorem q22 : (Jvm.Cond.instantiable "BondDesk$Pairing" (9 : Nat)) ∈ lw_all := lw_g (lw_at lw_m0 13 rfl) rfl
theorem q24 : (Jvm.Cond.instanceMethod ({ cls := "BondDesk$Pairing", name := "<init>", desc := "([I)V" } : Jvm.MethodName)) ∈ lw_all := lw_g (lw_at lw_m0 15 rfl) rfl
theorem q25 : (Jvm.Cond.code ({ cls := "BondDesk$Pairing", name := "<init>", desc := "([I)V" } : Jvm.MethodName) prog_2_method_1_code (2 : Nat) (Option.none : Option Jvm.ClassFile.FieldType)) ∈ lw_all := lw_g (lw_at lw_m0 16 rfl) rfl
theorem q26 : (Jvm.Cond.methodLink "BondDesk$Pairing" (3 : Nat) ({ cls := "java/lang/Object", name := "<init>", desc := "()V" } : Jvm.MethodName)) ∈ lw_all := lw_g (lw_at lw_m0 17 rfl) rfl
theorem q27 : (Jvm.Cond.fieldLink "BondDesk$Pairing" (24 : Nat) "BondDesk$Pairing" "bonds" "[I") ∈ lw_all := lw_g (lw_at lw_m0 18 rfl) rfl
theorem q28 : (Jvm.Cond.fieldLink "BondDesk$Pairing" (9 : Nat) "BondDesk$Pairing" "mate" "[I") ∈ lw_all := lw_g (lw_at lw_m0 19 rfl) rfl
theorem q29 : (Jvm.Cond.fieldLink "BondDesk$Pairing" (15 : Nat) "BondDesk$Pairing" "from" "[I") ∈ lw_all := lw_g (lw_at lw_m0 20 rfl) rfl
theorem q30 : (Jvm.Cond.fieldLink "BondDesk$Pairing" (18 : Nat) "BondDesk$Pairing" "base" "[I") ∈ lw_all := lw_g (lw_at lw_m0 21 rfl) rfl
theorem q31 : (Jvm.Cond.fieldLink "BondDesk$Pairing" (21 : Nat) "BondDesk$Pairing" "row" "[I") ∈ lw_all := lw_g (lw_at lw_m0 22 rfl) rfl
theorem q32 : (Jvm.Cond.fieldLink "BondDesk$Pairing" (27 : Nat) "BondDesk$Pairing" "alive" "I") ∈ lw_all := lw_g (lw_at lw_m0 23 rfl) rfl
theorem q33 : (Jvm.Cond.fieldLink "BondDesk$Pairing" (39 : Nat) "BondDesk$Pairing" "seen" "I") ∈ lw_all := lw_g (lw_at lw_m0 24 rfl) rfl
theorem q34 : (Jvm.Cond.fieldLink "BondDesk$Pairing" (56 : Nat) "BondDesk$Pairing" "drawn" "I") ∈ lw_all := lw_g (lw_at lw_m0 25 rfl) rfl
theorem q35 : (Jvm.Cond.fieldLink "BondDesk$Pairing" (42 : Nat) "BondDesk$Pairing" "rowMany" "I") ∈ lw_all := lw_g (lw_at lw_m0 26 rfl) rfl
theorem q36 : (Jvm.Cond.laysFinal "BondDesk$Pairing" "BondDesk$Pairing" "bonds" "[I") ∈ lw_all := lw_g (lw_at lw_m0 27 rfl) rfl
theorem q37 : (Jvm.Cond.soleField "BondDesk$Pairing" "bonds") ∈ lw_all := lw_g (lw_at lw_m0 28 rfl) rfl
theorem q38 : (Jvm.Cond.laysFinal "BondDesk$Pairing" "BondDesk$Pairing" "mate" "[I") ∈ lw_all := lw_g (lw_at lw_m0 29 rfl) rfl
theorem q39 : (Jvm.Cond.soleField "BondDesk$Pairing" "mate") ∈ lw_all := lw_g (lw_at lw_m0 30 rfl) rfl
theorem q40 : (Jvm.Cond.laysFinal "BondDesk$Pairing" "BondDesk$Pairing" "from" "[I") ∈ lw_all := lw_g (lw_at lw_m0 31 rfl) rfl
theorem q41 : (Jvm.Cond.soleField "BondDesk$Pairing" "from") ∈ lw_all := lw_g (lw_at lw_m0 32 rfl) rfl
theorem q42 : (Jvm.Cond.laysFinal "BondDesk$Pairing" "BondDesk$Pairing" "base" "[I") ∈ lw_all := lw_g (lw_at lw_m0 33 rfl) rfl
theorem q43 : (Jvm.Cond.soleField "BondDesk$Pairing" "base") ∈ lw_all := lw_g (lw_at lw_m0 34 rfl) rfl
theorem q44 : (Jvm.Cond.laysFinal "BondDesk$Pairing" "BondDesk$Pairing" "row" "[I") ∈ lw_all := lw_g (lw_at lw_m0 35 rfl) rfl
theorem q45 : (Jvm.Cond.soleField "BondDesk$Pairing" "row") ∈ lw_all := lw_g (lw_at lw_m0 36 rfl) rfl
theorem q46 : (Jvm.Cond.lays "BondDesk$Pairing" "BondDesk$Pairing" "alive" "I") ∈ lw_all := lw_g (lw_at lw_m0 37 rfl) rfl
theorem q47 : (Jvm.Cond.soleField "BondDesk$Pairing" "alive") ∈ lw_all := lw_g (lw_at lw_m0 38 rfl) rfl
theorem q48 : (Jvm.Cond.lays "BondDesk$Pairing" "BondDesk$Pairing" "seen" "I") ∈ lw_all := lw_g (lw_at lw_m0 39 rfl) rfl
theorem q49 : (Jvm.Cond.soleField "BondDesk$Pairing" "seen") ∈ lw_all := lw_g (lw_at lw_m0 40 rfl) rfl
theorem q50 : (Jvm.Cond.lays "BondDesk$Pairing" "BondDesk$Pairing" "drawn" "I") ∈ lw_all := lw_g (lw_at lw_m0 41 rfl) rfl
theorem q51 : (Jvm.Cond.soleField "BondDesk$Pairing" "drawn") ∈ lw_all := lw_g (lw_at lw_m0 42 rfl) rfl
theorem q52 : (Jvm.Cond.lays "BondDesk$Pairing" "BondDesk$Pairing" "rowMany" "I") ∈ lw_all := lw_g (lw_at lw_m0 43 rfl) rfl
theorem q53 : (Jvm.Cond.soleField "BondDesk$Pairing" "rowMany") ∈ lw_all := lw_g (lw_at lw_m0 44 rfl) rfl
theorem q54 : (Jvm.Cond.superclass "BondDesk$Pairing" "java/lang/Object") ∈ lw_all := lw_g (lw_at lw_m0 45 rfl) rfl
theorem q94 : (Jvm.Cond.instanceMethod ({ cls := "BondDesk$Pairing", name := "most", desc := "(I)I" } : Jvm.MethodName)) ∈ lw_all := lw_g (lw_at lw_m0 85 rfl) rfl
theorem q95 : (Jvm.Cond.selects "BondDesk$Pairing" ({ cls := "BondDesk$Pairing", name := "most", desc := "(I)I" } : Jvm.MethodName) ({ cls := "BondDesk$Pairing", name := "most", desc := "(I)I" } : Jvm.MethodName)) ∈ lw_all := lw_g (lw_at lw_m0 86 rfl) rfl
theorem q96 : (Jvm.Cond.code ({ cls := "BondDesk$Pairing", name := "most", desc := "(I)I" } : Jvm.MethodName) prog_2_method_2_code (5 : Nat) (Option.some Jvm.ClassFile.FieldType.int)) ∈ lw_all := lw_g (lw_at lw_m0 87 rfl) rfl
theorem q97 : (Jvm.Cond.methodLink "BondDesk$Pairing" (31 : Nat) ({ cls := "BondDesk$Pairing", name := "path", desc := "(I)I" } : Jvm.MethodName)) ∈ lw_all := lw_g (lw_at lw_m0 88 rfl) rfl
theorem q98 : (Jvm.Cond.privateMethod ({ cls := "BondDesk$Pairing", name := "path", desc := "(I)I" } : Jvm.MethodName)) ∈ lw_tbl := lw_at lw_m0 89 rfl
theorem q99 : (Jvm.Cond.instanceMethod ({ cls := "BondDesk$Pairing", name := "path", desc := "(I)I" } : Jvm.MethodName)) ∈ lw_all := lw_g (lw_at lw_m0 90 rfl) rfl
theorem q100 : (Jvm.Cond.code ({ cls := "BondDesk$Pairing", name := "path", desc := "(I)I" } : Jvm.MethodName) prog_2_method_4_code (5 : Nat) (Option.some Jvm.ClassFile.FieldType.int)) ∈ lw_all := lw_g (lw_at lw_m0 91 rfl) rfl
theorem q101 : (Jvm.Cond.methodLink "BondDesk$Pairing" (45 : Nat) ({ cls := "BondDesk$Pairing", name := "draw", desc := "(II)V" } : Jvm.MethodName)) ∈ lw_all := lw_g (lw_at lw_m0 92 rfl) rfl
theorem q102 : (Jvm.Cond.privateMethod ({ cls := "BondDesk$Pairing", name := "draw", desc := "(II)V" } : Jvm.MethodName)) ∈ lw_tbl := lw_at lw_m0 93 rfl
theorem q103 : (Jvm.Cond.instanceMethod ({ cls := "BondDesk$Pairing", name := "draw", desc := "(II)V" } : Jvm.MethodName)) ∈ lw_all := lw_g (lw_at lw_m0 94 rfl) rfl
theorem q104 : (Jvm.Cond.code ({ cls := "BondDesk$Pairing", name := "draw", desc := "(II)V" } : Jvm.MethodName) prog_2_method_6_code (5 : Nat) (Option.none : Option Jvm.ClassFile.FieldType)) ∈ lw_all := lw_g (lw_at lw_m0 95 rfl) rfl
theorem q105 : (Jvm.Cond.methodLink "BondDesk$Pairing" (52 : Nat) ({ cls := "BondDesk$Pairing", name := "meeting", desc := "(II)I" } : Jvm.MethodName)) ∈ lw_all := lw_g (lw_at lw_m0 96 rfl) rfl
theorem q106 : (Jvm.Cond.privateMethod ({ cls := "BondDesk$Pairing", name := "meeting", desc := "(II)I" } : Jvm.MethodName)) ∈ lw_tbl := lw_at lw_m0 97 rfl
theorem q107 : (Jvm.Cond.instanceMethod ({ cls := "BondDesk$Pairing", name := "meeting", desc := "(II)I" } : Jvm.MethodName)) ∈ lw_all := lw_g (lw_at lw_m0 98 rfl) rfl
theorem q108 : (Jvm.Cond.code ({ cls := "BondDesk$Pairing", name := "meeting", desc := "(II)I" } : Jvm.MethodName) prog_2_method_7_code (6 : Nat) (Option.some Jvm.ClassFile.FieldType.int)) ∈ lw_all := lw_g (lw_at lw_m0 99 rfl) rfl
theorem q109 : (Jvm.Cond.methodLink "BondDesk$Pairing" (59 : Nat) ({ cls := "BondDesk$Pairing", name := "along", desc := "(III)V" } : Jvm.MethodName)) ∈ lw_all := lw_g (lw_at lw_m0 100 rfl) rfl
theorem q110 : (Jvm.Cond.privateMethod ({ cls := "BondDesk$Pairing", name := "along", desc := "(III)V" } : Jvm.MethodName)) ∈ lw_tbl := lw_at lw_m0 101 rfl
theorem q111 : (Jvm.Cond.instanceMethod ({ cls := "BondDesk$Pairing", name := "along", desc := "(III)V" } : Jvm.MethodName)) ∈ lw_all := lw_g (lw_at lw_m0 102 rfl) rfl
theorem q112 : (Jvm.Cond.code ({ cls := "BondDesk$Pairing", name := "along", desc := "(III)V" } : Jvm.MethodName) prog_2_method_8_code (6 : Nat) (Option.none : Option Jvm.ClassFile.FieldType)) ∈ lw_all := lw_g (lw_at lw_m0 103 rfl) rfl
theorem q113 : (Jvm.Cond.methodLink "BondDesk$Pairing" (49 : Nat) ({ cls := "BondDesk$Pairing", name := "see", desc := "(I)V" } : Jvm.MethodName)) ∈ lw_all := lw_g (lw_at lw_m0 104 rfl) rfl
theorem q114 : (Jvm.Cond.privateMethod ({ cls := "BondDesk$Pairing", name := "see", desc := "(I)V" } : Jvm.MethodName)) ∈ lw_tbl := lw_at lw_m0 105 rfl
theorem q115 : (Jvm.Cond.instanceMethod ({ cls := "BondDesk$Pairing", name := "see", desc := "(I)V" } : Jvm.MethodName)) ∈ lw_all := lw_g (lw_at lw_m0 106 rfl) rfl
theorem q116 : (Jvm.Cond.code ({ cls := "BondDesk$Pairing", name := "see", desc := "(I)V" } : Jvm.MethodName) prog_2_method_5_code (2 : Nat) (Option.none : Option Jvm.ClassFile.FieldType)) ∈ lw_all := lw_g (lw_at lw_m0 107 rfl) rfl
theorem q117 : (Jvm.Cond.methodLink "BondDesk$Pairing" (35 : Nat) ({ cls := "BondDesk$Pairing", name := "turn", desc := "(I)V" } : Jvm.MethodName)) ∈ lw_all := lw_g (lw_at lw_m0 108 rfl) rfl
theorem q118 : (Jvm.Cond.privateMethod ({ cls := "BondDesk$Pairing", name := "turn", desc := "(I)V" } : Jvm.MethodName)) ∈ lw_tbl := lw_at lw_m0 109 rfl
theorem q119 : (Jvm.Cond.instanceMethod ({ cls := "BondDesk$Pairing", name := "turn", desc := "(I)V" } : Jvm.MethodName)) ∈ lw_all := lw_g (lw_at lw_m0 110 rfl) rfl
theorem q120 : (Jvm.Cond.code ({ cls := "BondDesk$Pairing", name := "turn", desc := "(I)V" } : Jvm.MethodName) prog_2_method_3_code (5 : Nat) (Option.none : Option Jvm.ClassFile.FieldType)) ∈ lw_all := lw_g (lw_at lw_m0 111 rfl) rfl
theorem in_X1 : ∀ w ∈ wsX10, w ∈ lw_all := lw_in wsX10 [36, 38, 40, 42, 44, 46, 48, 50, 52] (by decide +kernel) (by decide +kernel)
end
section
/-! BondDesk -/
set_option maxRecDepth 100000
def RX0 : String := "BondDesk"
def TX0 : u_T := fun k => match k with
  | 0 => ("BondDesk", "bonds", "[I", true)
  | 1 => ("BondDesk", "partner", "[I", true)
  | 2 => ("BondDesk", "pairing", "LBondDesk$Pairing;", true)
  | _ => ("BondDesk", "n", "I", false)
def tyX0 : Nat → FieldType := fun k => match k with
  | 0 => .array .int
  | 1 => .array .int
  | 2 => .object "BondDesk$Pairing"
  | _ => .int
abbrev wsX00 : List Cond := u_ws RX0 TX0 4
theorem nmX0 : ∀ a, a < 4 → ∀ b, b < 4 → a ≠ b → (TX0 a).2.1 ≠ (TX0 b).2.1 := by decide +kernel
theorem tyX0_ok : ∀ k, k < 4 → parseFieldDescriptor (TX0 k).2.2.1 = some (tyX0 k) := by decide +kernel
abbrev cX0_init : ByteArray := prog_1_method_1_code
def yX0_init : MethodName := ⟨RX0, "<init>", "()V"⟩
theorem dX0_init_0 : decode cX0_init 0 = .ok (.aload_n 0, 1) := by decide +kernel
theorem dX0_init_1 : decode cX0_init 1 = .ok (.invokespecial 1, 3) := by decide +kernel
theorem dX0_init_4 : decode cX0_init 4 = .ok (.aload_n 0, 1) := by decide +kernel
theorem dX0_init_5 : decode cX0_init 5 = .ok (.bipush 10, 2) := by decide +kernel
theorem dX0_init_7 : decode cX0_init 7 = .ok (.newarray .int, 2) := by decide +kernel
theorem dX0_init_9 : decode cX0_init 9 = .ok (.putfield 9, 3) := by decide +kernel
theorem dX0_init_12 : decode cX0_init 12 = .ok (.aload_n 0, 1) := by decide +kernel
theorem dX0_init_13 : decode cX0_init 13 = .ok (.bipush 10, 2) := by decide +kernel
theorem dX0_init_15 : decode cX0_init 15 = .ok (.newarray .int, 2) := by decide +kernel
theorem dX0_init_17 : decode cX0_init 17 = .ok (.putfield 13, 3) := by decide +kernel
theorem dX0_init_20 : decode cX0_init 20 = .ok (.aload_n 0, 1) := by decide +kernel
theorem dX0_init_21 : decode cX0_init 21 = .ok (.new 16, 3) := by decide +kernel
theorem dX0_init_24 : decode cX0_init 24 = .ok (.dup, 1) := by decide +kernel
theorem dX0_init_25 : decode cX0_init 25 = .ok (.aload_n 0, 1) := by decide +kernel
theorem dX0_init_26 : decode cX0_init 26 = .ok (.getfield 9, 3) := by decide +kernel
theorem dX0_init_29 : decode cX0_init 29 = .ok (.invokespecial 18, 3) := by decide +kernel
theorem dX0_init_32 : decode cX0_init 32 = .ok (.putfield 21, 3) := by decide +kernel
theorem dX0_init_35 : decode cX0_init 35 = .ok (.aload_n 0, 1) := by decide +kernel
theorem dX0_init_36 : decode cX0_init 36 = .ok (.iconst 2, 1) := by decide +kernel
theorem dX0_init_37 : decode cX0_init 37 = .ok (.putfield 25, 3) := by decide +kernel
theorem dX0_init_40 : decode cX0_init 40 = .ok (.return_, 1) := by decide +kernel
abbrev cX0_places : ByteArray := prog_1_method_3_code
def yX0_places : MethodName := ⟨RX0, "places", "(I)V"⟩
theorem dX0_places_0 : decode cX0_places 0 = .ok (.aload_n 0, 1) := by decide +kernel
theorem dX0_places_1 : decode cX0_places 1 = .ok (.iconst 1, 1) := by decide +kernel
theorem dX0_places_2 : decode cX0_places 2 = .ok (.iload_n 1, 1) := by decide +kernel
theorem dX0_places_3 : decode cX0_places 3 = .ok (.bipush 10, 2) := by decide +kernel
theorem dX0_places_5 : decode cX0_places 5 = .ok (.invokestatic 32, 3) := by decide +kernel
theorem dX0_places_8 : decode cX0_places 8 = .ok (.iadd, 1) := by decide +kernel
theorem dX0_places_9 : decode cX0_places 9 = .ok (.putfield 25, 3) := by decide +kernel
theorem dX0_places_12 : decode cX0_places 12 = .ok (.iconst 0, 1) := by decide +kernel
theorem dX0_places_13 : decode cX0_places 13 = .ok (.istore_n 2, 1) := by decide +kernel
theorem dX0_places_14 : decode cX0_places 14 = .ok (.iload_n 2, 1) := by decide +kernel
theorem dX0_places_15 : decode cX0_places 15 = .ok (.bipush 10, 2) := by decide +kernel
theorem dX0_places_17 : decode cX0_places 17 = .ok (.if_icmp .ge 16, 3) := by decide +kernel
theorem dX0_places_20 : decode cX0_places 20 = .ok (.aload_n 0, 1) := by decide +kernel
theorem dX0_places_21 : decode cX0_places 21 = .ok (.getfield 9, 3) := by decide +kernel
theorem dX0_places_24 : decode cX0_places 24 = .ok (.iload_n 2, 1) := by decide +kernel
theorem dX0_places_25 : decode cX0_places 25 = .ok (.iconst 0, 1) := by decide +kernel
theorem dX0_places_26 : decode cX0_places 26 = .ok (.iastore, 1) := by decide +kernel
theorem dX0_places_27 : decode cX0_places 27 = .ok (.iinc 2 1, 3) := by decide +kernel
theorem dX0_places_30 : decode cX0_places 30 = .ok (.goto (-16), 3) := by decide +kernel
theorem dX0_places_33 : decode cX0_places 33 = .ok (.return_, 1) := by decide +kernel
abbrev cX0_below : ByteArray := prog_1_method_2_code
def yX0_below : MethodName := ⟨RX0, "below", "(II)I"⟩
theorem dX0_below_0 : decode cX0_below 0 = .ok (.iload_n 0, 1) := by decide +kernel
theorem dX0_below_1 : decode cX0_below 1 = .ok (.ldc 31, 2) := by decide +kernel
theorem dX0_below_3 : decode cX0_below 3 = .ok (.iand, 1) := by decide +kernel
theorem dX0_below_4 : decode cX0_below 4 = .ok (.iload_n 1, 1) := by decide +kernel
theorem dX0_below_5 : decode cX0_below 5 = .ok (.irem, 1) := by decide +kernel
theorem dX0_below_6 : decode cX0_below 6 = .ok (.ireturn, 1) := by decide +kernel
abbrev cX0_tie : ByteArray := prog_1_method_4_code
def yX0_tie : MethodName := ⟨RX0, "tie", "(II)Z"⟩
theorem dX0_tie_0 : decode cX0_tie 0 = .ok (.iload_n 1, 1) := by decide +kernel
theorem dX0_tie_1 : decode cX0_tie 1 = .ok (.aload_n 0, 1) := by decide +kernel
theorem dX0_tie_2 : decode cX0_tie 2 = .ok (.getfield 25, 3) := by decide +kernel
theorem dX0_tie_5 : decode cX0_tie 5 = .ok (.invokestatic 32, 3) := by decide +kernel
theorem dX0_tie_8 : decode cX0_tie 8 = .ok (.istore_n 3, 1) := by decide +kernel
theorem dX0_tie_9 : decode cX0_tie 9 = .ok (.iload_n 2, 1) := by decide +kernel
theorem dX0_tie_10 : decode cX0_tie 10 = .ok (.aload_n 0, 1) := by decide +kernel
theorem dX0_tie_11 : decode cX0_tie 11 = .ok (.getfield 25, 3) := by decide +kernel
theorem dX0_tie_14 : decode cX0_tie 14 = .ok (.invokestatic 32, 3) := by decide +kernel
theorem dX0_tie_17 : decode cX0_tie 17 = .ok (.istore 4, 2) := by decide +kernel
theorem dX0_tie_19 : decode cX0_tie 19 = .ok (.iload_n 3, 1) := by decide +kernel
theorem dX0_tie_20 : decode cX0_tie 20 = .ok (.iload 4, 2) := by decide +kernel
theorem dX0_tie_22 : decode cX0_tie 22 = .ok (.if_icmp .ne 5, 3) := by decide +kernel
theorem dX0_tie_25 : decode cX0_tie 25 = .ok (.iconst 0, 1) := by decide +kernel
theorem dX0_tie_26 : decode cX0_tie 26 = .ok (.ireturn, 1) := by decide +kernel
theorem dX0_tie_27 : decode cX0_tie 27 = .ok (.aload_n 0, 1) := by decide +kernel
theorem dX0_tie_28 : decode cX0_tie 28 = .ok (.getfield 9, 3) := by decide +kernel
theorem dX0_tie_31 : decode cX0_tie 31 = .ok (.iload_n 3, 1) := by decide +kernel
theorem dX0_tie_32 : decode cX0_tie 32 = .ok (.dup2, 1) := by decide +kernel
theorem dX0_tie_33 : decode cX0_tie 33 = .ok (.iaload, 1) := by decide +kernel
theorem dX0_tie_34 : decode cX0_tie 34 = .ok (.iconst 1, 1) := by decide +kernel
theorem dX0_tie_35 : decode cX0_tie 35 = .ok (.iload 4, 2) := by decide +kernel
theorem dX0_tie_37 : decode cX0_tie 37 = .ok (.ishl, 1) := by decide +kernel
theorem dX0_tie_38 : decode cX0_tie 38 = .ok (.ior, 1) := by decide +kernel
theorem dX0_tie_39 : decode cX0_tie 39 = .ok (.iastore, 1) := by decide +kernel
theorem dX0_tie_40 : decode cX0_tie 40 = .ok (.aload_n 0, 1) := by decide +kernel
theorem dX0_tie_41 : decode cX0_tie 41 = .ok (.getfield 9, 3) := by decide +kernel
theorem dX0_tie_44 : decode cX0_tie 44 = .ok (.iload 4, 2) := by decide +kernel
theorem dX0_tie_46 : decode cX0_tie 46 = .ok (.dup2, 1) := by decide +kernel
theorem dX0_tie_47 : decode cX0_tie 47 = .ok (.iaload, 1) := by decide +kernel
theorem dX0_tie_48 : decode cX0_tie 48 = .ok (.iconst 1, 1) := by decide +kernel
theorem dX0_tie_49 : decode cX0_tie 49 = .ok (.iload_n 3, 1) := by decide +kernel
theorem dX0_tie_50 : decode cX0_tie 50 = .ok (.ishl, 1) := by decide +kernel
theorem dX0_tie_51 : decode cX0_tie 51 = .ok (.ior, 1) := by decide +kernel
theorem dX0_tie_52 : decode cX0_tie 52 = .ok (.iastore, 1) := by decide +kernel
theorem dX0_tie_53 : decode cX0_tie 53 = .ok (.iconst 1, 1) := by decide +kernel
theorem dX0_tie_54 : decode cX0_tie 54 = .ok (.ireturn, 1) := by decide +kernel
abbrev cX0_cut : ByteArray := prog_1_method_5_code
def yX0_cut : MethodName := ⟨RX0, "cut", "(II)V"⟩
theorem dX0_cut_0 : decode cX0_cut 0 = .ok (.iload_n 1, 1) := by decide +kernel
theorem dX0_cut_1 : decode cX0_cut 1 = .ok (.aload_n 0, 1) := by decide +kernel
theorem dX0_cut_2 : decode cX0_cut 2 = .ok (.getfield 25, 3) := by decide +kernel
theorem dX0_cut_5 : decode cX0_cut 5 = .ok (.invokestatic 32, 3) := by decide +kernel
theorem dX0_cut_8 : decode cX0_cut 8 = .ok (.istore_n 3, 1) := by decide +kernel
theorem dX0_cut_9 : decode cX0_cut 9 = .ok (.iload_n 2, 1) := by decide +kernel
theorem dX0_cut_10 : decode cX0_cut 10 = .ok (.aload_n 0, 1) := by decide +kernel
theorem dX0_cut_11 : decode cX0_cut 11 = .ok (.getfield 25, 3) := by decide +kernel
theorem dX0_cut_14 : decode cX0_cut 14 = .ok (.invokestatic 32, 3) := by decide +kernel
theorem dX0_cut_17 : decode cX0_cut 17 = .ok (.istore 4, 2) := by decide +kernel
theorem dX0_cut_19 : decode cX0_cut 19 = .ok (.aload_n 0, 1) := by decide +kernel
theorem dX0_cut_20 : decode cX0_cut 20 = .ok (.getfield 9, 3) := by decide +kernel
theorem dX0_cut_23 : decode cX0_cut 23 = .ok (.iload_n 3, 1) := by decide +kernel
theorem dX0_cut_24 : decode cX0_cut 24 = .ok (.dup2, 1) := by decide +kernel
theorem dX0_cut_25 : decode cX0_cut 25 = .ok (.iaload, 1) := by decide +kernel
theorem dX0_cut_26 : decode cX0_cut 26 = .ok (.iconst 1, 1) := by decide +kernel
theorem dX0_cut_27 : decode cX0_cut 27 = .ok (.iload 4, 2) := by decide +kernel
theorem dX0_cut_29 : decode cX0_cut 29 = .ok (.ishl, 1) := by decide +kernel
theorem dX0_cut_30 : decode cX0_cut 30 = .ok (.iconst (-1), 1) := by decide +kernel
theorem dX0_cut_31 : decode cX0_cut 31 = .ok (.ixor, 1) := by decide +kernel
theorem dX0_cut_32 : decode cX0_cut 32 = .ok (.iand, 1) := by decide +kernel
theorem dX0_cut_33 : decode cX0_cut 33 = .ok (.iastore, 1) := by decide +kernel
theorem dX0_cut_34 : decode cX0_cut 34 = .ok (.aload_n 0, 1) := by decide +kernel
theorem dX0_cut_35 : decode cX0_cut 35 = .ok (.getfield 9, 3) := by decide +kernel
theorem dX0_cut_38 : decode cX0_cut 38 = .ok (.iload 4, 2) := by decide +kernel
theorem dX0_cut_40 : decode cX0_cut 40 = .ok (.dup2, 1) := by decide +kernel
theorem dX0_cut_41 : decode cX0_cut 41 = .ok (.iaload, 1) := by decide +kernel
theorem dX0_cut_42 : decode cX0_cut 42 = .ok (.iconst 1, 1) := by decide +kernel
theorem dX0_cut_43 : decode cX0_cut 43 = .ok (.iload_n 3, 1) := by decide +kernel
theorem dX0_cut_44 : decode cX0_cut 44 = .ok (.ishl, 1) := by decide +kernel
theorem dX0_cut_45 : decode cX0_cut 45 = .ok (.iconst (-1), 1) := by decide +kernel
theorem dX0_cut_46 : decode cX0_cut 46 = .ok (.ixor, 1) := by decide +kernel
theorem dX0_cut_47 : decode cX0_cut 47 = .ok (.iand, 1) := by decide +kernel
theorem dX0_cut_48 : decode cX0_cut 48 = .ok (.iastore, 1) := by decide +kernel
theorem dX0_cut_49 : decode cX0_cut 49 = .ok (.return_, 1) := by decide +kernel
abbrev cX0_most : ByteArray := prog_1_method_7_code
def yX0_most : MethodName := ⟨RX0, "most", "()I"⟩
theorem dX0_most_0 : decode cX0_most 0 = .ok (.aload_n 0, 1) := by decide +kernel
theorem dX0_most_1 : decode cX0_most 1 = .ok (.getfield 21, 3) := by decide +kernel
theorem dX0_most_4 : decode cX0_most 4 = .ok (.aload_n 0, 1) := by decide +kernel
theorem dX0_most_5 : decode cX0_most 5 = .ok (.invokevirtual 36, 3) := by decide +kernel
theorem dX0_most_8 : decode cX0_most 8 = .ok (.invokevirtual 40, 3) := by decide +kernel
theorem dX0_most_11 : decode cX0_most 11 = .ok (.ireturn, 1) := by decide +kernel
abbrev cX0_all : ByteArray := prog_1_method_6_code
def yX0_all : MethodName := ⟨RX0, "all", "()I"⟩
theorem dX0_all_0 : decode cX0_all 0 = .ok (.iconst 1, 1) := by decide +kernel
theorem dX0_all_1 : decode cX0_all 1 = .ok (.aload_n 0, 1) := by decide +kernel
theorem dX0_all_2 : decode cX0_all 2 = .ok (.getfield 25, 3) := by decide +kernel
theorem dX0_all_5 : decode cX0_all 5 = .ok (.ishl, 1) := by decide +kernel
theorem dX0_all_6 : decode cX0_all 6 = .ok (.iconst 1, 1) := by decide +kernel
theorem dX0_all_7 : decode cX0_all 7 = .ok (.isub, 1) := by decide +kernel
theorem dX0_all_8 : decode cX0_all 8 = .ok (.ireturn, 1) := by decide +kernel
abbrev cX0_always : ByteArray := prog_1_method_8_code
def yX0_always : MethodName := ⟨RX0, "always", "()I"⟩
theorem dX0_always_0 : decode cX0_always 0 = .ok (.aload_n 0, 1) := by decide +kernel
theorem dX0_always_1 : decode cX0_always 1 = .ok (.invokevirtual 44, 3) := by decide +kernel
theorem dX0_always_4 : decode cX0_always 4 = .ok (.istore_n 1, 1) := by decide +kernel
theorem dX0_always_5 : decode cX0_always 5 = .ok (.iconst 0, 1) := by decide +kernel
theorem dX0_always_6 : decode cX0_always 6 = .ok (.istore_n 2, 1) := by decide +kernel
theorem dX0_always_7 : decode cX0_always 7 = .ok (.iconst 0, 1) := by decide +kernel
theorem dX0_always_8 : decode cX0_always 8 = .ok (.istore_n 3, 1) := by decide +kernel
theorem dX0_always_9 : decode cX0_always 9 = .ok (.iload_n 3, 1) := by decide +kernel
theorem dX0_always_10 : decode cX0_always 10 = .ok (.aload_n 0, 1) := by decide +kernel
theorem dX0_always_11 : decode cX0_always 11 = .ok (.getfield 25, 3) := by decide +kernel
theorem dX0_always_14 : decode cX0_always 14 = .ok (.if_icmp .ge 36, 3) := by decide +kernel
theorem dX0_always_17 : decode cX0_always 17 = .ok (.aload_n 0, 1) := by decide +kernel
theorem dX0_always_18 : decode cX0_always 18 = .ok (.getfield 21, 3) := by decide +kernel
theorem dX0_always_21 : decode cX0_always 21 = .ok (.aload_n 0, 1) := by decide +kernel
theorem dX0_always_22 : decode cX0_always 22 = .ok (.invokevirtual 36, 3) := by decide +kernel
theorem dX0_always_25 : decode cX0_always 25 = .ok (.iconst 1, 1) := by decide +kernel
theorem dX0_always_26 : decode cX0_always 26 = .ok (.iload_n 3, 1) := by decide +kernel
theorem dX0_always_27 : decode cX0_always 27 = .ok (.ishl, 1) := by decide +kernel
theorem dX0_always_28 : decode cX0_always 28 = .ok (.iconst (-1), 1) := by decide +kernel
theorem dX0_always_29 : decode cX0_always 29 = .ok (.ixor, 1) := by decide +kernel
theorem dX0_always_30 : decode cX0_always 30 = .ok (.iand, 1) := by decide +kernel
theorem dX0_always_31 : decode cX0_always 31 = .ok (.invokevirtual 40, 3) := by decide +kernel
theorem dX0_always_34 : decode cX0_always 34 = .ok (.iload_n 1, 1) := by decide +kernel
theorem dX0_always_35 : decode cX0_always 35 = .ok (.if_icmp .ge 9, 3) := by decide +kernel
theorem dX0_always_38 : decode cX0_always 38 = .ok (.iload_n 2, 1) := by decide +kernel
theorem dX0_always_39 : decode cX0_always 39 = .ok (.iconst 1, 1) := by decide +kernel
theorem dX0_always_40 : decode cX0_always 40 = .ok (.iload_n 3, 1) := by decide +kernel
theorem dX0_always_41 : decode cX0_always 41 = .ok (.ishl, 1) := by decide +kernel
theorem dX0_always_42 : decode cX0_always 42 = .ok (.ior, 1) := by decide +kernel
theorem dX0_always_43 : decode cX0_always 43 = .ok (.istore_n 2, 1) := by decide +kernel
theorem dX0_always_44 : decode cX0_always 44 = .ok (.iinc 3 1, 3) := by decide +kernel
theorem dX0_always_47 : decode cX0_always 47 = .ok (.goto (-38), 3) := by decide +kernel
theorem dX0_always_50 : decode cX0_always 50 = .ok (.iload_n 2, 1) := by decide +kernel
theorem dX0_always_51 : decode cX0_always 51 = .ok (.ireturn, 1) := by decide +kernel
abbrev cX0_partner : ByteArray := prog_1_method_9_code
def yX0_partner : MethodName := ⟨RX0, "partner", "(I)I"⟩
theorem dX0_partner_0 : decode cX0_partner 0 = .ok (.aload_n 0, 1) := by decide +kernel
theorem dX0_partner_1 : decode cX0_partner 1 = .ok (.invokevirtual 36, 3) := by decide +kernel
theorem dX0_partner_4 : decode cX0_partner 4 = .ok (.istore_n 2, 1) := by decide +kernel
theorem dX0_partner_5 : decode cX0_partner 5 = .ok (.aload_n 0, 1) := by decide +kernel
theorem dX0_partner_6 : decode cX0_partner 6 = .ok (.invokevirtual 44, 3) := by decide +kernel
theorem dX0_partner_9 : decode cX0_partner 9 = .ok (.istore_n 3, 1) := by decide +kernel
theorem dX0_partner_10 : decode cX0_partner 10 = .ok (.iconst 0, 1) := by decide +kernel
theorem dX0_partner_11 : decode cX0_partner 11 = .ok (.istore 4, 2) := by decide +kernel
theorem dX0_partner_13 : decode cX0_partner 13 = .ok (.iload 4, 2) := by decide +kernel
theorem dX0_partner_15 : decode cX0_partner 15 = .ok (.aload_n 0, 1) := by decide +kernel
theorem dX0_partner_16 : decode cX0_partner 16 = .ok (.getfield 25, 3) := by decide +kernel
theorem dX0_partner_19 : decode cX0_partner 19 = .ok (.if_icmp .ge 17, 3) := by decide +kernel
theorem dX0_partner_22 : decode cX0_partner 22 = .ok (.aload_n 0, 1) := by decide +kernel
theorem dX0_partner_23 : decode cX0_partner 23 = .ok (.getfield 13, 3) := by decide +kernel
theorem dX0_partner_26 : decode cX0_partner 26 = .ok (.iload 4, 2) := by decide +kernel
theorem dX0_partner_28 : decode cX0_partner 28 = .ok (.iconst (-1), 1) := by decide +kernel
theorem dX0_partner_29 : decode cX0_partner 29 = .ok (.iastore, 1) := by decide +kernel
theorem dX0_partner_30 : decode cX0_partner 30 = .ok (.iinc 4 1, 3) := by decide +kernel
theorem dX0_partner_33 : decode cX0_partner 33 = .ok (.goto (-20), 3) := by decide +kernel
theorem dX0_partner_36 : decode cX0_partner 36 = .ok (.iconst 0, 1) := by decide +kernel
theorem dX0_partner_37 : decode cX0_partner 37 = .ok (.istore 4, 2) := by decide +kernel
theorem dX0_partner_39 : decode cX0_partner 39 = .ok (.iload 4, 2) := by decide +kernel
theorem dX0_partner_41 : decode cX0_partner 41 = .ok (.aload_n 0, 1) := by decide +kernel
theorem dX0_partner_42 : decode cX0_partner 42 = .ok (.getfield 25, 3) := by decide +kernel
theorem dX0_partner_45 : decode cX0_partner 45 = .ok (.if_icmp .ge 127, 3) := by decide +kernel
theorem dX0_partner_48 : decode cX0_partner 48 = .ok (.iload_n 2, 1) := by decide +kernel
theorem dX0_partner_49 : decode cX0_partner 49 = .ok (.iload 4, 2) := by decide +kernel
theorem dX0_partner_51 : decode cX0_partner 51 = .ok (.ishr, 1) := by decide +kernel
theorem dX0_partner_52 : decode cX0_partner 52 = .ok (.iconst 1, 1) := by decide +kernel
theorem dX0_partner_53 : decode cX0_partner 53 = .ok (.iand, 1) := by decide +kernel
theorem dX0_partner_54 : decode cX0_partner 54 = .ok (.ifCond .ne 6, 3) := by decide +kernel
theorem dX0_partner_57 : decode cX0_partner 57 = .ok (.goto 109, 3) := by decide +kernel
theorem dX0_partner_60 : decode cX0_partner 60 = .ok (.iload_n 2, 1) := by decide +kernel
theorem dX0_partner_61 : decode cX0_partner 61 = .ok (.iconst 1, 1) := by decide +kernel
theorem dX0_partner_62 : decode cX0_partner 62 = .ok (.iload 4, 2) := by decide +kernel
theorem dX0_partner_64 : decode cX0_partner 64 = .ok (.ishl, 1) := by decide +kernel
theorem dX0_partner_65 : decode cX0_partner 65 = .ok (.iconst (-1), 1) := by decide +kernel
theorem dX0_partner_66 : decode cX0_partner 66 = .ok (.ixor, 1) := by decide +kernel
theorem dX0_partner_67 : decode cX0_partner 67 = .ok (.iand, 1) := by decide +kernel
theorem dX0_partner_68 : decode cX0_partner 68 = .ok (.istore_n 2, 1) := by decide +kernel
theorem dX0_partner_69 : decode cX0_partner 69 = .ok (.iconst 0, 1) := by decide +kernel
theorem dX0_partner_70 : decode cX0_partner 70 = .ok (.istore 5, 2) := by decide +kernel
theorem dX0_partner_72 : decode cX0_partner 72 = .ok (.iload 5, 2) := by decide +kernel
theorem dX0_partner_74 : decode cX0_partner 74 = .ok (.aload_n 0, 1) := by decide +kernel
theorem dX0_partner_75 : decode cX0_partner 75 = .ok (.getfield 25, 3) := by decide +kernel
theorem dX0_partner_78 : decode cX0_partner 78 = .ok (.if_icmp .ge 88, 3) := by decide +kernel
theorem dX0_partner_81 : decode cX0_partner 81 = .ok (.aload_n 0, 1) := by decide +kernel
theorem dX0_partner_82 : decode cX0_partner 82 = .ok (.getfield 13, 3) := by decide +kernel
theorem dX0_partner_85 : decode cX0_partner 85 = .ok (.iload 4, 2) := by decide +kernel
theorem dX0_partner_87 : decode cX0_partner 87 = .ok (.iaload, 1) := by decide +kernel
theorem dX0_partner_88 : decode cX0_partner 88 = .ok (.iconst (-1), 1) := by decide +kernel
theorem dX0_partner_89 : decode cX0_partner 89 = .ok (.if_icmp .ne 77, 3) := by decide +kernel
theorem dX0_partner_92 : decode cX0_partner 92 = .ok (.iload_n 2, 1) := by decide +kernel
theorem dX0_partner_93 : decode cX0_partner 93 = .ok (.aload_n 0, 1) := by decide +kernel
theorem dX0_partner_94 : decode cX0_partner 94 = .ok (.getfield 9, 3) := by decide +kernel
theorem dX0_partner_97 : decode cX0_partner 97 = .ok (.iload 4, 2) := by decide +kernel
theorem dX0_partner_99 : decode cX0_partner 99 = .ok (.iaload, 1) := by decide +kernel
theorem dX0_partner_100 : decode cX0_partner 100 = .ok (.iand, 1) := by decide +kernel
theorem dX0_partner_101 : decode cX0_partner 101 = .ok (.iconst 1, 1) := by decide +kernel
theorem dX0_partner_102 : decode cX0_partner 102 = .ok (.iload 5, 2) := by decide +kernel
theorem dX0_partner_104 : decode cX0_partner 104 = .ok (.ishl, 1) := by decide +kernel
theorem dX0_partner_105 : decode cX0_partner 105 = .ok (.iand, 1) := by decide +kernel
theorem dX0_partner_106 : decode cX0_partner 106 = .ok (.ifCond .eq 54, 3) := by decide +kernel
theorem dX0_partner_109 : decode cX0_partner 109 = .ok (.aload_n 0, 1) := by decide +kernel
theorem dX0_partner_110 : decode cX0_partner 110 = .ok (.getfield 21, 3) := by decide +kernel
theorem dX0_partner_113 : decode cX0_partner 113 = .ok (.iload_n 2, 1) := by decide +kernel
theorem dX0_partner_114 : decode cX0_partner 114 = .ok (.iconst 1, 1) := by decide +kernel
theorem dX0_partner_115 : decode cX0_partner 115 = .ok (.iload 5, 2) := by decide +kernel
theorem dX0_partner_117 : decode cX0_partner 117 = .ok (.ishl, 1) := by decide +kernel
theorem dX0_partner_118 : decode cX0_partner 118 = .ok (.iconst (-1), 1) := by decide +kernel
theorem dX0_partner_119 : decode cX0_partner 119 = .ok (.ixor, 1) := by decide +kernel
theorem dX0_partner_120 : decode cX0_partner 120 = .ok (.iand, 1) := by decide +kernel
theorem dX0_partner_121 : decode cX0_partner 121 = .ok (.invokevirtual 40, 3) := by decide +kernel
theorem dX0_partner_124 : decode cX0_partner 124 = .ok (.iload_n 3, 1) := by decide +kernel
theorem dX0_partner_125 : decode cX0_partner 125 = .ok (.iconst 1, 1) := by decide +kernel
theorem dX0_partner_126 : decode cX0_partner 126 = .ok (.isub, 1) := by decide +kernel
theorem dX0_partner_127 : decode cX0_partner 127 = .ok (.if_icmp .ne 33, 3) := by decide +kernel
theorem dX0_partner_130 : decode cX0_partner 130 = .ok (.aload_n 0, 1) := by decide +kernel
theorem dX0_partner_131 : decode cX0_partner 131 = .ok (.getfield 13, 3) := by decide +kernel
theorem dX0_partner_134 : decode cX0_partner 134 = .ok (.iload 4, 2) := by decide +kernel
theorem dX0_partner_136 : decode cX0_partner 136 = .ok (.iload 5, 2) := by decide +kernel
theorem dX0_partner_138 : decode cX0_partner 138 = .ok (.iastore, 1) := by decide +kernel
theorem dX0_partner_139 : decode cX0_partner 139 = .ok (.aload_n 0, 1) := by decide +kernel
theorem dX0_partner_140 : decode cX0_partner 140 = .ok (.getfield 13, 3) := by decide +kernel
theorem dX0_partner_143 : decode cX0_partner 143 = .ok (.iload 5, 2) := by decide +kernel
theorem dX0_partner_145 : decode cX0_partner 145 = .ok (.iload 4, 2) := by decide +kernel
theorem dX0_partner_147 : decode cX0_partner 147 = .ok (.iastore, 1) := by decide +kernel
theorem dX0_partner_148 : decode cX0_partner 148 = .ok (.iload_n 2, 1) := by decide +kernel
theorem dX0_partner_149 : decode cX0_partner 149 = .ok (.iconst 1, 1) := by decide +kernel
theorem dX0_partner_150 : decode cX0_partner 150 = .ok (.iload 5, 2) := by decide +kernel
theorem dX0_partner_152 : decode cX0_partner 152 = .ok (.ishl, 1) := by decide +kernel
theorem dX0_partner_153 : decode cX0_partner 153 = .ok (.iconst (-1), 1) := by decide +kernel
theorem dX0_partner_154 : decode cX0_partner 154 = .ok (.ixor, 1) := by decide +kernel
theorem dX0_partner_155 : decode cX0_partner 155 = .ok (.iand, 1) := by decide +kernel
theorem dX0_partner_156 : decode cX0_partner 156 = .ok (.istore_n 2, 1) := by decide +kernel
theorem dX0_partner_157 : decode cX0_partner 157 = .ok (.iinc 3 (-1), 3) := by decide +kernel
theorem dX0_partner_160 : decode cX0_partner 160 = .ok (.iinc 5 1, 3) := by decide +kernel
theorem dX0_partner_163 : decode cX0_partner 163 = .ok (.goto (-91), 3) := by decide +kernel
theorem dX0_partner_166 : decode cX0_partner 166 = .ok (.iinc 4 1, 3) := by decide +kernel
theorem dX0_partner_169 : decode cX0_partner 169 = .ok (.goto (-130), 3) := by decide +kernel
theorem dX0_partner_172 : decode cX0_partner 172 = .ok (.aload_n 0, 1) := by decide +kernel
theorem dX0_partner_173 : decode cX0_partner 173 = .ok (.getfield 13, 3) := by decide +kernel
theorem dX0_partner_176 : decode cX0_partner 176 = .ok (.iload_n 1, 1) := by decide +kernel
theorem dX0_partner_177 : decode cX0_partner 177 = .ok (.aload_n 0, 1) := by decide +kernel
theorem dX0_partner_178 : decode cX0_partner 178 = .ok (.getfield 25, 3) := by decide +kernel
theorem dX0_partner_181 : decode cX0_partner 181 = .ok (.invokestatic 32, 3) := by decide +kernel
theorem dX0_partner_184 : decode cX0_partner 184 = .ok (.iaload, 1) := by decide +kernel
theorem dX0_partner_185 : decode cX0_partner 185 = .ok (.ireturn, 1) := by decide +kernel
theorem q10 : (Jvm.Cond.initialized "BondDesk") ∈ lw_all := lw_g (lw_at lw_m0 1 rfl) rfl
theorem q14 : (Jvm.Cond.instantiable "BondDesk" (4 : Nat)) ∈ lw_all := lw_g (lw_at lw_m0 5 rfl) rfl
theorem q16 : (Jvm.Cond.instanceMethod ({ cls := "BondDesk", name := "<init>", desc := "()V" } : Jvm.MethodName)) ∈ lw_all := lw_g (lw_at lw_m0 7 rfl) rfl
theorem q17 : (Jvm.Cond.code ({ cls := "BondDesk", name := "<init>", desc := "()V" } : Jvm.MethodName) prog_1_method_1_code (1 : Nat) (Option.none : Option Jvm.ClassFile.FieldType)) ∈ lw_all := lw_g (lw_at lw_m0 8 rfl) rfl
theorem q18 : (Jvm.Cond.methodLink "BondDesk" (1 : Nat) ({ cls := "java/lang/Object", name := "<init>", desc := "()V" } : Jvm.MethodName)) ∈ lw_all := lw_g (lw_at lw_m0 9 rfl) rfl
theorem q21 : (Jvm.Cond.classLink "BondDesk" (16 : Nat) "BondDesk$Pairing") ∈ lw_all := lw_g (lw_at lw_m0 12 rfl) rfl
theorem q23 : (Jvm.Cond.methodLink "BondDesk" (18 : Nat) ({ cls := "BondDesk$Pairing", name := "<init>", desc := "([I)V" } : Jvm.MethodName)) ∈ lw_all := lw_g (lw_at lw_m0 14 rfl) rfl
theorem q56 : (Jvm.Cond.fieldLink "BondDesk" (9 : Nat) "BondDesk" "bonds" "[I") ∈ lw_all := lw_g (lw_at lw_m0 47 rfl) rfl
theorem q57 : (Jvm.Cond.fieldLink "BondDesk" (13 : Nat) "BondDesk" "partner" "[I") ∈ lw_all := lw_g (lw_at lw_m0 48 rfl) rfl
theorem q58 : (Jvm.Cond.fieldLink "BondDesk" (21 : Nat) "BondDesk" "pairing" "LBondDesk$Pairing;") ∈ lw_all := lw_g (lw_at lw_m0 49 rfl) rfl
theorem q59 : (Jvm.Cond.fieldLink "BondDesk" (25 : Nat) "BondDesk" "n" "I") ∈ lw_all := lw_g (lw_at lw_m0 50 rfl) rfl
theorem q60 : (Jvm.Cond.laysFinal "BondDesk" "BondDesk" "bonds" "[I") ∈ lw_all := lw_g (lw_at lw_m0 51 rfl) rfl
theorem q61 : (Jvm.Cond.soleField "BondDesk" "bonds") ∈ lw_all := lw_g (lw_at lw_m0 52 rfl) rfl
theorem q62 : (Jvm.Cond.laysFinal "BondDesk" "BondDesk" "partner" "[I") ∈ lw_all := lw_g (lw_at lw_m0 53 rfl) rfl
theorem q63 : (Jvm.Cond.soleField "BondDesk" "partner") ∈ lw_all := lw_g (lw_at lw_m0 54 rfl) rfl
theorem q64 : (Jvm.Cond.laysFinal "BondDesk" "BondDesk" "pairing" "LBondDesk$Pairing;") ∈ lw_all := lw_g (lw_at lw_m0 55 rfl) rfl
theorem q65 : (Jvm.Cond.soleField "BondDesk" "pairing") ∈ lw_all := lw_g (lw_at lw_m0 56 rfl) rfl
theorem q66 : (Jvm.Cond.lays "BondDesk" "BondDesk" "n" "I") ∈ lw_all := lw_g (lw_at lw_m0 57 rfl) rfl
theorem q67 : (Jvm.Cond.soleField "BondDesk" "n") ∈ lw_all := lw_g (lw_at lw_m0 58 rfl) rfl
theorem q68 : (Jvm.Cond.superclass "BondDesk" "java/lang/Object") ∈ lw_all := lw_g (lw_at lw_m0 59 rfl) rfl
theorem q70 : (Jvm.Cond.instanceMethod ({ cls := "BondDesk", name := "places", desc := "(I)V" } : Jvm.MethodName)) ∈ lw_all := lw_g (lw_at lw_m0 61 rfl) rfl
theorem q71 : (Jvm.Cond.selects "BondDesk" ({ cls := "BondDesk", name := "places", desc := "(I)V" } : Jvm.MethodName) ({ cls := "BondDesk", name := "places", desc := "(I)V" } : Jvm.MethodName)) ∈ lw_all := lw_g (lw_at lw_m0 62 rfl) rfl
theorem q72 : (Jvm.Cond.code ({ cls := "BondDesk", name := "places", desc := "(I)V" } : Jvm.MethodName) prog_1_method_3_code (3 : Nat) (Option.none : Option Jvm.ClassFile.FieldType)) ∈ lw_all := lw_g (lw_at lw_m0 63 rfl) rfl
theorem q73 : (Jvm.Cond.methodLink "BondDesk" (32 : Nat) ({ cls := "BondDesk", name := "below", desc := "(II)I" } : Jvm.MethodName)) ∈ lw_all := lw_g (lw_at lw_m0 64 rfl) rfl
theorem q74 : (Jvm.Cond.static ({ cls := "BondDesk", name := "below", desc := "(II)I" } : Jvm.MethodName)) ∈ lw_all := lw_g (lw_at lw_m0 65 rfl) rfl
theorem q75 : (Jvm.Cond.code ({ cls := "BondDesk", name := "below", desc := "(II)I" } : Jvm.MethodName) prog_1_method_2_code (2 : Nat) (Option.some Jvm.ClassFile.FieldType.int)) ∈ lw_all := lw_g (lw_at lw_m0 66 rfl) rfl
theorem q76 : (Jvm.Cond.constant "BondDesk" (31 : Nat) (2147483647 : Int32)) ∈ lw_all := lw_g (lw_at lw_m0 67 rfl) rfl
theorem q78 : (Jvm.Cond.instanceMethod ({ cls := "BondDesk", name := "tie", desc := "(II)Z" } : Jvm.MethodName)) ∈ lw_all := lw_g (lw_at lw_m0 69 rfl) rfl
theorem q79 : (Jvm.Cond.selects "BondDesk" ({ cls := "BondDesk", name := "tie", desc := "(II)Z" } : Jvm.MethodName) ({ cls := "BondDesk", name := "tie", desc := "(II)Z" } : Jvm.MethodName)) ∈ lw_all := lw_g (lw_at lw_m0 70 rfl) rfl
theorem q80 : (Jvm.Cond.code ({ cls := "BondDesk", name := "tie", desc := "(II)Z" } : Jvm.MethodName) prog_1_method_4_code (5 : Nat) (Option.some Jvm.ClassFile.FieldType.boolean)) ∈ lw_all := lw_g (lw_at lw_m0 71 rfl) rfl
theorem q82 : (Jvm.Cond.instanceMethod ({ cls := "BondDesk", name := "cut", desc := "(II)V" } : Jvm.MethodName)) ∈ lw_all := lw_g (lw_at lw_m0 73 rfl) rfl
theorem q83 : (Jvm.Cond.selects "BondDesk" ({ cls := "BondDesk", name := "cut", desc := "(II)V" } : Jvm.MethodName) ({ cls := "BondDesk", name := "cut", desc := "(II)V" } : Jvm.MethodName)) ∈ lw_all := lw_g (lw_at lw_m0 74 rfl) rfl
theorem q84 : (Jvm.Cond.code ({ cls := "BondDesk", name := "cut", desc := "(II)V" } : Jvm.MethodName) prog_1_method_5_code (5 : Nat) (Option.none : Option Jvm.ClassFile.FieldType)) ∈ lw_all := lw_g (lw_at lw_m0 75 rfl) rfl
theorem q86 : (Jvm.Cond.instanceMethod ({ cls := "BondDesk", name := "most", desc := "()I" } : Jvm.MethodName)) ∈ lw_all := lw_g (lw_at lw_m0 77 rfl) rfl
theorem q87 : (Jvm.Cond.selects "BondDesk" ({ cls := "BondDesk", name := "most", desc := "()I" } : Jvm.MethodName) ({ cls := "BondDesk", name := "most", desc := "()I" } : Jvm.MethodName)) ∈ lw_all := lw_g (lw_at lw_m0 78 rfl) rfl
theorem q88 : (Jvm.Cond.code ({ cls := "BondDesk", name := "most", desc := "()I" } : Jvm.MethodName) prog_1_method_7_code (1 : Nat) (Option.some Jvm.ClassFile.FieldType.int)) ∈ lw_all := lw_g (lw_at lw_m0 79 rfl) rfl
theorem q89 : (Jvm.Cond.methodLink "BondDesk" (36 : Nat) ({ cls := "BondDesk", name := "all", desc := "()I" } : Jvm.MethodName)) ∈ lw_all := lw_g (lw_at lw_m0 80 rfl) rfl
theorem q90 : (Jvm.Cond.privateMethod ({ cls := "BondDesk", name := "all", desc := "()I" } : Jvm.MethodName)) ∈ lw_tbl := lw_at lw_m0 81 rfl
theorem q91 : (Jvm.Cond.instanceMethod ({ cls := "BondDesk", name := "all", desc := "()I" } : Jvm.MethodName)) ∈ lw_all := lw_g (lw_at lw_m0 82 rfl) rfl
theorem q92 : (Jvm.Cond.code ({ cls := "BondDesk", name := "all", desc := "()I" } : Jvm.MethodName) prog_1_method_6_code (1 : Nat) (Option.some Jvm.ClassFile.FieldType.int)) ∈ lw_all := lw_g (lw_at lw_m0 83 rfl) rfl
theorem q93 : (Jvm.Cond.methodLink "BondDesk" (40 : Nat) ({ cls := "BondDesk$Pairing", name := "most", desc := "(I)I" } : Jvm.MethodName)) ∈ lw_all := lw_g (lw_at lw_m0 84 rfl) rfl
theorem q122 : (Jvm.Cond.instanceMethod ({ cls := "BondDesk", name := "always", desc := "()I" } : Jvm.MethodName)) ∈ lw_all := lw_g (lw_at lw_m0 113 rfl) rfl
theorem q123 : (Jvm.Cond.selects "BondDesk" ({ cls := "BondDesk", name := "always", desc := "()I" } : Jvm.MethodName) ({ cls := "BondDesk", name := "always", desc := "()I" } : Jvm.MethodName)) ∈ lw_all := lw_g (lw_at lw_m0 114 rfl) rfl
theorem q124 : (Jvm.Cond.code ({ cls := "BondDesk", name := "always", desc := "()I" } : Jvm.MethodName) prog_1_method_8_code (4 : Nat) (Option.some Jvm.ClassFile.FieldType.int)) ∈ lw_all := lw_g (lw_at lw_m0 115 rfl) rfl
theorem q125 : (Jvm.Cond.methodLink "BondDesk" (44 : Nat) ({ cls := "BondDesk", name := "most", desc := "()I" } : Jvm.MethodName)) ∈ lw_all := lw_g (lw_at lw_m0 116 rfl) rfl
theorem q127 : (Jvm.Cond.instanceMethod ({ cls := "BondDesk", name := "partner", desc := "(I)I" } : Jvm.MethodName)) ∈ lw_all := lw_g (lw_at lw_m0 118 rfl) rfl
theorem q128 : (Jvm.Cond.selects "BondDesk" ({ cls := "BondDesk", name := "partner", desc := "(I)I" } : Jvm.MethodName) ({ cls := "BondDesk", name := "partner", desc := "(I)I" } : Jvm.MethodName)) ∈ lw_all := lw_g (lw_at lw_m0 119 rfl) rfl
theorem q129 : (Jvm.Cond.code ({ cls := "BondDesk", name := "partner", desc := "(I)I" } : Jvm.MethodName) prog_1_method_9_code (6 : Nat) (Option.some Jvm.ClassFile.FieldType.int)) ∈ lw_all := lw_g (lw_at lw_m0 120 rfl) rfl
theorem in_X0 : ∀ w ∈ wsX00, w ∈ lw_all := lw_in wsX00 [60, 62, 64, 66] (by decide +kernel) (by decide +kernel)
end
section
/-! BondDeskModel -/
set_option maxRecDepth 100000
def RX2 : String := "BondDeskModel"
def TX2 : u_T := fun k => match k with
  | 0 => ("BondDeskModel", "bond", "[Z", true)
  | 1 => ("BondDeskModel", "n", "I", false)
  | 2 => ("BondDeskModel", "best", "[I", true)
  | _ => ("BondDeskModel", "known", "Z", false)
def tyX2 : Nat → FieldType := fun k => match k with
  | 0 => .array .boolean
  | 1 => .int
  | 2 => .array .int
  | _ => .boolean
abbrev wsX20 : List Cond := u_ws RX2 TX2 4
theorem nmX2 : ∀ a, a < 4 → ∀ b, b < 4 → a ≠ b → (TX2 a).2.1 ≠ (TX2 b).2.1 := by decide +kernel
theorem tyX2_ok : ∀ k, k < 4 → parseFieldDescriptor (TX2 k).2.2.1 = some (tyX2 k) := by decide +kernel
abbrev cX2_init : ByteArray := prog_4_method_1_code
def yX2_init : MethodName := ⟨RX2, "<init>", "()V"⟩
theorem dX2_init_0 : decode cX2_init 0 = .ok (.aload_n 0, 1) := by decide +kernel
theorem dX2_init_1 : decode cX2_init 1 = .ok (.invokespecial 1, 3) := by decide +kernel
theorem dX2_init_4 : decode cX2_init 4 = .ok (.aload_n 0, 1) := by decide +kernel
theorem dX2_init_5 : decode cX2_init 5 = .ok (.bipush 100, 2) := by decide +kernel
theorem dX2_init_7 : decode cX2_init 7 = .ok (.newarray .boolean, 2) := by decide +kernel
theorem dX2_init_9 : decode cX2_init 9 = .ok (.putfield 7, 3) := by decide +kernel
theorem dX2_init_12 : decode cX2_init 12 = .ok (.aload_n 0, 1) := by decide +kernel
theorem dX2_init_13 : decode cX2_init 13 = .ok (.iconst 2, 1) := by decide +kernel
theorem dX2_init_14 : decode cX2_init 14 = .ok (.putfield 13, 3) := by decide +kernel
theorem dX2_init_17 : decode cX2_init 17 = .ok (.aload_n 0, 1) := by decide +kernel
theorem dX2_init_18 : decode cX2_init 18 = .ok (.sipush 1024, 3) := by decide +kernel
theorem dX2_init_21 : decode cX2_init 21 = .ok (.newarray .int, 2) := by decide +kernel
theorem dX2_init_23 : decode cX2_init 23 = .ok (.putfield 17, 3) := by decide +kernel
theorem dX2_init_26 : decode cX2_init 26 = .ok (.return_, 1) := by decide +kernel
abbrev cX2_places : ByteArray := prog_4_method_2_code
def yX2_places : MethodName := ⟨RX2, "places", "(I)V"⟩
theorem dX2_places_0 : decode cX2_places 0 = .ok (.aload_n 0, 1) := by decide +kernel
theorem dX2_places_1 : decode cX2_places 1 = .ok (.iconst 1, 1) := by decide +kernel
theorem dX2_places_2 : decode cX2_places 2 = .ok (.iload_n 1, 1) := by decide +kernel
theorem dX2_places_3 : decode cX2_places 3 = .ok (.ldc 21, 2) := by decide +kernel
theorem dX2_places_5 : decode cX2_places 5 = .ok (.iand, 1) := by decide +kernel
theorem dX2_places_6 : decode cX2_places 6 = .ok (.bipush 10, 2) := by decide +kernel
theorem dX2_places_8 : decode cX2_places 8 = .ok (.irem, 1) := by decide +kernel
theorem dX2_places_9 : decode cX2_places 9 = .ok (.iadd, 1) := by decide +kernel
theorem dX2_places_10 : decode cX2_places 10 = .ok (.putfield 13, 3) := by decide +kernel
theorem dX2_places_13 : decode cX2_places 13 = .ok (.iconst 0, 1) := by decide +kernel
theorem dX2_places_14 : decode cX2_places 14 = .ok (.istore_n 2, 1) := by decide +kernel
theorem dX2_places_15 : decode cX2_places 15 = .ok (.iload_n 2, 1) := by decide +kernel
theorem dX2_places_16 : decode cX2_places 16 = .ok (.bipush 100, 2) := by decide +kernel
theorem dX2_places_18 : decode cX2_places 18 = .ok (.if_icmp .ge 16, 3) := by decide +kernel
theorem dX2_places_21 : decode cX2_places 21 = .ok (.aload_n 0, 1) := by decide +kernel
theorem dX2_places_22 : decode cX2_places 22 = .ok (.getfield 7, 3) := by decide +kernel
theorem dX2_places_25 : decode cX2_places 25 = .ok (.iload_n 2, 1) := by decide +kernel
theorem dX2_places_26 : decode cX2_places 26 = .ok (.iconst 0, 1) := by decide +kernel
theorem dX2_places_27 : decode cX2_places 27 = .ok (.bastore, 1) := by decide +kernel
theorem dX2_places_28 : decode cX2_places 28 = .ok (.iinc 2 1, 3) := by decide +kernel
theorem dX2_places_31 : decode cX2_places 31 = .ok (.goto (-16), 3) := by decide +kernel
theorem dX2_places_34 : decode cX2_places 34 = .ok (.aload_n 0, 1) := by decide +kernel
theorem dX2_places_35 : decode cX2_places 35 = .ok (.iconst 0, 1) := by decide +kernel
theorem dX2_places_36 : decode cX2_places 36 = .ok (.putfield 22, 3) := by decide +kernel
theorem dX2_places_39 : decode cX2_places 39 = .ok (.return_, 1) := by decide +kernel
abbrev cX2_tie : ByteArray := prog_4_method_4_code
def yX2_tie : MethodName := ⟨RX2, "tie", "(II)Z"⟩
theorem dX2_tie_0 : decode cX2_tie 0 = .ok (.aload_n 0, 1) := by decide +kernel
theorem dX2_tie_1 : decode cX2_tie 1 = .ok (.iload_n 1, 1) := by decide +kernel
theorem dX2_tie_2 : decode cX2_tie 2 = .ok (.invokevirtual 26, 3) := by decide +kernel
theorem dX2_tie_5 : decode cX2_tie 5 = .ok (.istore_n 3, 1) := by decide +kernel
theorem dX2_tie_6 : decode cX2_tie 6 = .ok (.aload_n 0, 1) := by decide +kernel
theorem dX2_tie_7 : decode cX2_tie 7 = .ok (.iload_n 2, 1) := by decide +kernel
theorem dX2_tie_8 : decode cX2_tie 8 = .ok (.invokevirtual 26, 3) := by decide +kernel
theorem dX2_tie_11 : decode cX2_tie 11 = .ok (.istore 4, 2) := by decide +kernel
theorem dX2_tie_13 : decode cX2_tie 13 = .ok (.iload_n 3, 1) := by decide +kernel
theorem dX2_tie_14 : decode cX2_tie 14 = .ok (.iload 4, 2) := by decide +kernel
theorem dX2_tie_16 : decode cX2_tie 16 = .ok (.if_icmp .ne 5, 3) := by decide +kernel
theorem dX2_tie_19 : decode cX2_tie 19 = .ok (.iconst 0, 1) := by decide +kernel
theorem dX2_tie_20 : decode cX2_tie 20 = .ok (.ireturn, 1) := by decide +kernel
theorem dX2_tie_21 : decode cX2_tie 21 = .ok (.aload_n 0, 1) := by decide +kernel
theorem dX2_tie_22 : decode cX2_tie 22 = .ok (.getfield 7, 3) := by decide +kernel
theorem dX2_tie_25 : decode cX2_tie 25 = .ok (.bipush 10, 2) := by decide +kernel
theorem dX2_tie_27 : decode cX2_tie 27 = .ok (.iload_n 3, 1) := by decide +kernel
theorem dX2_tie_28 : decode cX2_tie 28 = .ok (.imul, 1) := by decide +kernel
theorem dX2_tie_29 : decode cX2_tie 29 = .ok (.iload 4, 2) := by decide +kernel
theorem dX2_tie_31 : decode cX2_tie 31 = .ok (.iadd, 1) := by decide +kernel
theorem dX2_tie_32 : decode cX2_tie 32 = .ok (.iconst 1, 1) := by decide +kernel
theorem dX2_tie_33 : decode cX2_tie 33 = .ok (.bastore, 1) := by decide +kernel
theorem dX2_tie_34 : decode cX2_tie 34 = .ok (.aload_n 0, 1) := by decide +kernel
theorem dX2_tie_35 : decode cX2_tie 35 = .ok (.getfield 7, 3) := by decide +kernel
theorem dX2_tie_38 : decode cX2_tie 38 = .ok (.bipush 10, 2) := by decide +kernel
theorem dX2_tie_40 : decode cX2_tie 40 = .ok (.iload 4, 2) := by decide +kernel
theorem dX2_tie_42 : decode cX2_tie 42 = .ok (.imul, 1) := by decide +kernel
theorem dX2_tie_43 : decode cX2_tie 43 = .ok (.iload_n 3, 1) := by decide +kernel
theorem dX2_tie_44 : decode cX2_tie 44 = .ok (.iadd, 1) := by decide +kernel
theorem dX2_tie_45 : decode cX2_tie 45 = .ok (.iconst 1, 1) := by decide +kernel
theorem dX2_tie_46 : decode cX2_tie 46 = .ok (.bastore, 1) := by decide +kernel
theorem dX2_tie_47 : decode cX2_tie 47 = .ok (.aload_n 0, 1) := by decide +kernel
theorem dX2_tie_48 : decode cX2_tie 48 = .ok (.iconst 0, 1) := by decide +kernel
theorem dX2_tie_49 : decode cX2_tie 49 = .ok (.putfield 22, 3) := by decide +kernel
theorem dX2_tie_52 : decode cX2_tie 52 = .ok (.iconst 1, 1) := by decide +kernel
theorem dX2_tie_53 : decode cX2_tie 53 = .ok (.ireturn, 1) := by decide +kernel
abbrev cX2_at : ByteArray := prog_4_method_3_code
def yX2_at : MethodName := ⟨RX2, "at", "(I)I"⟩
theorem dX2_at_0 : decode cX2_at 0 = .ok (.iload_n 1, 1) := by decide +kernel
theorem dX2_at_1 : decode cX2_at 1 = .ok (.ldc 21, 2) := by decide +kernel
theorem dX2_at_3 : decode cX2_at 3 = .ok (.iand, 1) := by decide +kernel
theorem dX2_at_4 : decode cX2_at 4 = .ok (.aload_n 0, 1) := by decide +kernel
theorem dX2_at_5 : decode cX2_at 5 = .ok (.getfield 13, 3) := by decide +kernel
theorem dX2_at_8 : decode cX2_at 8 = .ok (.irem, 1) := by decide +kernel
theorem dX2_at_9 : decode cX2_at 9 = .ok (.ireturn, 1) := by decide +kernel
abbrev cX2_cut : ByteArray := prog_4_method_5_code
def yX2_cut : MethodName := ⟨RX2, "cut", "(II)V"⟩
theorem dX2_cut_0 : decode cX2_cut 0 = .ok (.aload_n 0, 1) := by decide +kernel
theorem dX2_cut_1 : decode cX2_cut 1 = .ok (.iload_n 1, 1) := by decide +kernel
theorem dX2_cut_2 : decode cX2_cut 2 = .ok (.invokevirtual 26, 3) := by decide +kernel
theorem dX2_cut_5 : decode cX2_cut 5 = .ok (.istore_n 3, 1) := by decide +kernel
theorem dX2_cut_6 : decode cX2_cut 6 = .ok (.aload_n 0, 1) := by decide +kernel
theorem dX2_cut_7 : decode cX2_cut 7 = .ok (.iload_n 2, 1) := by decide +kernel
theorem dX2_cut_8 : decode cX2_cut 8 = .ok (.invokevirtual 26, 3) := by decide +kernel
theorem dX2_cut_11 : decode cX2_cut 11 = .ok (.istore 4, 2) := by decide +kernel
theorem dX2_cut_13 : decode cX2_cut 13 = .ok (.aload_n 0, 1) := by decide +kernel
theorem dX2_cut_14 : decode cX2_cut 14 = .ok (.getfield 7, 3) := by decide +kernel
theorem dX2_cut_17 : decode cX2_cut 17 = .ok (.bipush 10, 2) := by decide +kernel
theorem dX2_cut_19 : decode cX2_cut 19 = .ok (.iload_n 3, 1) := by decide +kernel
theorem dX2_cut_20 : decode cX2_cut 20 = .ok (.imul, 1) := by decide +kernel
theorem dX2_cut_21 : decode cX2_cut 21 = .ok (.iload 4, 2) := by decide +kernel
theorem dX2_cut_23 : decode cX2_cut 23 = .ok (.iadd, 1) := by decide +kernel
theorem dX2_cut_24 : decode cX2_cut 24 = .ok (.iconst 0, 1) := by decide +kernel
theorem dX2_cut_25 : decode cX2_cut 25 = .ok (.bastore, 1) := by decide +kernel
theorem dX2_cut_26 : decode cX2_cut 26 = .ok (.aload_n 0, 1) := by decide +kernel
theorem dX2_cut_27 : decode cX2_cut 27 = .ok (.getfield 7, 3) := by decide +kernel
theorem dX2_cut_30 : decode cX2_cut 30 = .ok (.bipush 10, 2) := by decide +kernel
theorem dX2_cut_32 : decode cX2_cut 32 = .ok (.iload 4, 2) := by decide +kernel
theorem dX2_cut_34 : decode cX2_cut 34 = .ok (.imul, 1) := by decide +kernel
theorem dX2_cut_35 : decode cX2_cut 35 = .ok (.iload_n 3, 1) := by decide +kernel
theorem dX2_cut_36 : decode cX2_cut 36 = .ok (.iadd, 1) := by decide +kernel
theorem dX2_cut_37 : decode cX2_cut 37 = .ok (.iconst 0, 1) := by decide +kernel
theorem dX2_cut_38 : decode cX2_cut 38 = .ok (.bastore, 1) := by decide +kernel
theorem dX2_cut_39 : decode cX2_cut 39 = .ok (.aload_n 0, 1) := by decide +kernel
theorem dX2_cut_40 : decode cX2_cut 40 = .ok (.iconst 0, 1) := by decide +kernel
theorem dX2_cut_41 : decode cX2_cut 41 = .ok (.putfield 22, 3) := by decide +kernel
theorem dX2_cut_44 : decode cX2_cut 44 = .ok (.return_, 1) := by decide +kernel
abbrev cX2_most : ByteArray := prog_4_method_7_code
def yX2_most : MethodName := ⟨RX2, "most", "()I"⟩
theorem dX2_most_0 : decode cX2_most 0 = .ok (.aload_n 0, 1) := by decide +kernel
theorem dX2_most_1 : decode cX2_most 1 = .ok (.invokevirtual 30, 3) := by decide +kernel
theorem dX2_most_4 : decode cX2_most 4 = .ok (.aload_n 0, 1) := by decide +kernel
theorem dX2_most_5 : decode cX2_most 5 = .ok (.getfield 17, 3) := by decide +kernel
theorem dX2_most_8 : decode cX2_most 8 = .ok (.iconst 1, 1) := by decide +kernel
theorem dX2_most_9 : decode cX2_most 9 = .ok (.aload_n 0, 1) := by decide +kernel
theorem dX2_most_10 : decode cX2_most 10 = .ok (.getfield 13, 3) := by decide +kernel
theorem dX2_most_13 : decode cX2_most 13 = .ok (.ishl, 1) := by decide +kernel
theorem dX2_most_14 : decode cX2_most 14 = .ok (.iconst 1, 1) := by decide +kernel
theorem dX2_most_15 : decode cX2_most 15 = .ok (.isub, 1) := by decide +kernel
theorem dX2_most_16 : decode cX2_most 16 = .ok (.iaload, 1) := by decide +kernel
theorem dX2_most_17 : decode cX2_most 17 = .ok (.ireturn, 1) := by decide +kernel
abbrev cX2_reckon : ByteArray := prog_4_method_6_code
def yX2_reckon : MethodName := ⟨RX2, "reckon", "()V"⟩
theorem dX2_reckon_0 : decode cX2_reckon 0 = .ok (.aload_n 0, 1) := by decide +kernel
theorem dX2_reckon_1 : decode cX2_reckon 1 = .ok (.getfield 22, 3) := by decide +kernel
theorem dX2_reckon_4 : decode cX2_reckon 4 = .ok (.ifCond .eq 4, 3) := by decide +kernel
theorem dX2_reckon_7 : decode cX2_reckon 7 = .ok (.return_, 1) := by decide +kernel
theorem dX2_reckon_8 : decode cX2_reckon 8 = .ok (.aload_n 0, 1) := by decide +kernel
theorem dX2_reckon_9 : decode cX2_reckon 9 = .ok (.iconst 1, 1) := by decide +kernel
theorem dX2_reckon_10 : decode cX2_reckon 10 = .ok (.putfield 22, 3) := by decide +kernel
theorem dX2_reckon_13 : decode cX2_reckon 13 = .ok (.aload_n 0, 1) := by decide +kernel
theorem dX2_reckon_14 : decode cX2_reckon 14 = .ok (.getfield 17, 3) := by decide +kernel
theorem dX2_reckon_17 : decode cX2_reckon 17 = .ok (.iconst 0, 1) := by decide +kernel
theorem dX2_reckon_18 : decode cX2_reckon 18 = .ok (.iconst 0, 1) := by decide +kernel
theorem dX2_reckon_19 : decode cX2_reckon 19 = .ok (.iastore, 1) := by decide +kernel
theorem dX2_reckon_20 : decode cX2_reckon 20 = .ok (.iconst 1, 1) := by decide +kernel
theorem dX2_reckon_21 : decode cX2_reckon 21 = .ok (.istore_n 1, 1) := by decide +kernel
theorem dX2_reckon_22 : decode cX2_reckon 22 = .ok (.iload_n 1, 1) := by decide +kernel
theorem dX2_reckon_23 : decode cX2_reckon 23 = .ok (.iconst 1, 1) := by decide +kernel
theorem dX2_reckon_24 : decode cX2_reckon 24 = .ok (.aload_n 0, 1) := by decide +kernel
theorem dX2_reckon_25 : decode cX2_reckon 25 = .ok (.getfield 13, 3) := by decide +kernel
theorem dX2_reckon_28 : decode cX2_reckon 28 = .ok (.ishl, 1) := by decide +kernel
theorem dX2_reckon_29 : decode cX2_reckon 29 = .ok (.if_icmp .ge 131, 3) := by decide +kernel
theorem dX2_reckon_32 : decode cX2_reckon 32 = .ok (.iconst 0, 1) := by decide +kernel
theorem dX2_reckon_33 : decode cX2_reckon 33 = .ok (.istore_n 2, 1) := by decide +kernel
theorem dX2_reckon_34 : decode cX2_reckon 34 = .ok (.iload_n 1, 1) := by decide +kernel
theorem dX2_reckon_35 : decode cX2_reckon 35 = .ok (.iload_n 2, 1) := by decide +kernel
theorem dX2_reckon_36 : decode cX2_reckon 36 = .ok (.ishr, 1) := by decide +kernel
theorem dX2_reckon_37 : decode cX2_reckon 37 = .ok (.iconst 1, 1) := by decide +kernel
theorem dX2_reckon_38 : decode cX2_reckon 38 = .ok (.iand, 1) := by decide +kernel
theorem dX2_reckon_39 : decode cX2_reckon 39 = .ok (.ifCond .ne 10, 3) := by decide +kernel
theorem dX2_reckon_42 : decode cX2_reckon 42 = .ok (.iload_n 2, 1) := by decide +kernel
theorem dX2_reckon_43 : decode cX2_reckon 43 = .ok (.iconst 1, 1) := by decide +kernel
theorem dX2_reckon_44 : decode cX2_reckon 44 = .ok (.iadd, 1) := by decide +kernel
theorem dX2_reckon_45 : decode cX2_reckon 45 = .ok (.istore_n 2, 1) := by decide +kernel
theorem dX2_reckon_46 : decode cX2_reckon 46 = .ok (.goto (-12), 3) := by decide +kernel
theorem dX2_reckon_49 : decode cX2_reckon 49 = .ok (.iload_n 1, 1) := by decide +kernel
theorem dX2_reckon_50 : decode cX2_reckon 50 = .ok (.iconst 1, 1) := by decide +kernel
theorem dX2_reckon_51 : decode cX2_reckon 51 = .ok (.iload_n 2, 1) := by decide +kernel
theorem dX2_reckon_52 : decode cX2_reckon 52 = .ok (.ishl, 1) := by decide +kernel
theorem dX2_reckon_53 : decode cX2_reckon 53 = .ok (.iconst (-1), 1) := by decide +kernel
theorem dX2_reckon_54 : decode cX2_reckon 54 = .ok (.ixor, 1) := by decide +kernel
theorem dX2_reckon_55 : decode cX2_reckon 55 = .ok (.iand, 1) := by decide +kernel
theorem dX2_reckon_56 : decode cX2_reckon 56 = .ok (.istore_n 3, 1) := by decide +kernel
theorem dX2_reckon_57 : decode cX2_reckon 57 = .ok (.aload_n 0, 1) := by decide +kernel
theorem dX2_reckon_58 : decode cX2_reckon 58 = .ok (.getfield 17, 3) := by decide +kernel
theorem dX2_reckon_61 : decode cX2_reckon 61 = .ok (.iload_n 3, 1) := by decide +kernel
theorem dX2_reckon_62 : decode cX2_reckon 62 = .ok (.iaload, 1) := by decide +kernel
theorem dX2_reckon_63 : decode cX2_reckon 63 = .ok (.istore 4, 2) := by decide +kernel
theorem dX2_reckon_65 : decode cX2_reckon 65 = .ok (.iload_n 2, 1) := by decide +kernel
theorem dX2_reckon_66 : decode cX2_reckon 66 = .ok (.iconst 1, 1) := by decide +kernel
theorem dX2_reckon_67 : decode cX2_reckon 67 = .ok (.iadd, 1) := by decide +kernel
theorem dX2_reckon_68 : decode cX2_reckon 68 = .ok (.istore 5, 2) := by decide +kernel
theorem dX2_reckon_70 : decode cX2_reckon 70 = .ok (.iload 5, 2) := by decide +kernel
theorem dX2_reckon_72 : decode cX2_reckon 72 = .ok (.aload_n 0, 1) := by decide +kernel
theorem dX2_reckon_73 : decode cX2_reckon 73 = .ok (.getfield 13, 3) := by decide +kernel
theorem dX2_reckon_76 : decode cX2_reckon 76 = .ok (.if_icmp .ge 70, 3) := by decide +kernel
theorem dX2_reckon_79 : decode cX2_reckon 79 = .ok (.iload_n 3, 1) := by decide +kernel
theorem dX2_reckon_80 : decode cX2_reckon 80 = .ok (.iload 5, 2) := by decide +kernel
theorem dX2_reckon_82 : decode cX2_reckon 82 = .ok (.ishr, 1) := by decide +kernel
theorem dX2_reckon_83 : decode cX2_reckon 83 = .ok (.iconst 1, 1) := by decide +kernel
theorem dX2_reckon_84 : decode cX2_reckon 84 = .ok (.iand, 1) := by decide +kernel
theorem dX2_reckon_85 : decode cX2_reckon 85 = .ok (.ifCond .eq 55, 3) := by decide +kernel
theorem dX2_reckon_88 : decode cX2_reckon 88 = .ok (.aload_n 0, 1) := by decide +kernel
theorem dX2_reckon_89 : decode cX2_reckon 89 = .ok (.getfield 7, 3) := by decide +kernel
theorem dX2_reckon_92 : decode cX2_reckon 92 = .ok (.bipush 10, 2) := by decide +kernel
theorem dX2_reckon_94 : decode cX2_reckon 94 = .ok (.iload_n 2, 1) := by decide +kernel
theorem dX2_reckon_95 : decode cX2_reckon 95 = .ok (.imul, 1) := by decide +kernel
theorem dX2_reckon_96 : decode cX2_reckon 96 = .ok (.iload 5, 2) := by decide +kernel
theorem dX2_reckon_98 : decode cX2_reckon 98 = .ok (.iadd, 1) := by decide +kernel
theorem dX2_reckon_99 : decode cX2_reckon 99 = .ok (.baload, 1) := by decide +kernel
theorem dX2_reckon_100 : decode cX2_reckon 100 = .ok (.ifCond .eq 40, 3) := by decide +kernel
theorem dX2_reckon_103 : decode cX2_reckon 103 = .ok (.aload_n 0, 1) := by decide +kernel
theorem dX2_reckon_104 : decode cX2_reckon 104 = .ok (.getfield 17, 3) := by decide +kernel
theorem dX2_reckon_107 : decode cX2_reckon 107 = .ok (.iload_n 3, 1) := by decide +kernel
theorem dX2_reckon_108 : decode cX2_reckon 108 = .ok (.iconst 1, 1) := by decide +kernel
theorem dX2_reckon_109 : decode cX2_reckon 109 = .ok (.iload 5, 2) := by decide +kernel
theorem dX2_reckon_111 : decode cX2_reckon 111 = .ok (.ishl, 1) := by decide +kernel
theorem dX2_reckon_112 : decode cX2_reckon 112 = .ok (.iconst (-1), 1) := by decide +kernel
theorem dX2_reckon_113 : decode cX2_reckon 113 = .ok (.ixor, 1) := by decide +kernel
theorem dX2_reckon_114 : decode cX2_reckon 114 = .ok (.iand, 1) := by decide +kernel
theorem dX2_reckon_115 : decode cX2_reckon 115 = .ok (.iaload, 1) := by decide +kernel
theorem dX2_reckon_116 : decode cX2_reckon 116 = .ok (.iconst 1, 1) := by decide +kernel
theorem dX2_reckon_117 : decode cX2_reckon 117 = .ok (.iadd, 1) := by decide +kernel
theorem dX2_reckon_118 : decode cX2_reckon 118 = .ok (.iload 4, 2) := by decide +kernel
theorem dX2_reckon_120 : decode cX2_reckon 120 = .ok (.if_icmp .le 20, 3) := by decide +kernel
theorem dX2_reckon_123 : decode cX2_reckon 123 = .ok (.aload_n 0, 1) := by decide +kernel
theorem dX2_reckon_124 : decode cX2_reckon 124 = .ok (.getfield 17, 3) := by decide +kernel
theorem dX2_reckon_127 : decode cX2_reckon 127 = .ok (.iload_n 3, 1) := by decide +kernel
theorem dX2_reckon_128 : decode cX2_reckon 128 = .ok (.iconst 1, 1) := by decide +kernel
theorem dX2_reckon_129 : decode cX2_reckon 129 = .ok (.iload 5, 2) := by decide +kernel
theorem dX2_reckon_131 : decode cX2_reckon 131 = .ok (.ishl, 1) := by decide +kernel
theorem dX2_reckon_132 : decode cX2_reckon 132 = .ok (.iconst (-1), 1) := by decide +kernel
theorem dX2_reckon_133 : decode cX2_reckon 133 = .ok (.ixor, 1) := by decide +kernel
theorem dX2_reckon_134 : decode cX2_reckon 134 = .ok (.iand, 1) := by decide +kernel
theorem dX2_reckon_135 : decode cX2_reckon 135 = .ok (.iaload, 1) := by decide +kernel
theorem dX2_reckon_136 : decode cX2_reckon 136 = .ok (.iconst 1, 1) := by decide +kernel
theorem dX2_reckon_137 : decode cX2_reckon 137 = .ok (.iadd, 1) := by decide +kernel
theorem dX2_reckon_138 : decode cX2_reckon 138 = .ok (.istore 4, 2) := by decide +kernel
theorem dX2_reckon_140 : decode cX2_reckon 140 = .ok (.iinc 5 1, 3) := by decide +kernel
theorem dX2_reckon_143 : decode cX2_reckon 143 = .ok (.goto (-73), 3) := by decide +kernel
theorem dX2_reckon_146 : decode cX2_reckon 146 = .ok (.aload_n 0, 1) := by decide +kernel
theorem dX2_reckon_147 : decode cX2_reckon 147 = .ok (.getfield 17, 3) := by decide +kernel
theorem dX2_reckon_150 : decode cX2_reckon 150 = .ok (.iload_n 1, 1) := by decide +kernel
theorem dX2_reckon_151 : decode cX2_reckon 151 = .ok (.iload 4, 2) := by decide +kernel
theorem dX2_reckon_153 : decode cX2_reckon 153 = .ok (.iastore, 1) := by decide +kernel
theorem dX2_reckon_154 : decode cX2_reckon 154 = .ok (.iinc 1 1, 3) := by decide +kernel
theorem dX2_reckon_157 : decode cX2_reckon 157 = .ok (.goto (-135), 3) := by decide +kernel
theorem dX2_reckon_160 : decode cX2_reckon 160 = .ok (.return_, 1) := by decide +kernel
abbrev cX2_always : ByteArray := prog_4_method_8_code
def yX2_always : MethodName := ⟨RX2, "always", "()I"⟩
theorem dX2_always_0 : decode cX2_always 0 = .ok (.aload_n 0, 1) := by decide +kernel
theorem dX2_always_1 : decode cX2_always 1 = .ok (.invokevirtual 30, 3) := by decide +kernel
theorem dX2_always_4 : decode cX2_always 4 = .ok (.iconst 1, 1) := by decide +kernel
theorem dX2_always_5 : decode cX2_always 5 = .ok (.aload_n 0, 1) := by decide +kernel
theorem dX2_always_6 : decode cX2_always 6 = .ok (.getfield 13, 3) := by decide +kernel
theorem dX2_always_9 : decode cX2_always 9 = .ok (.ishl, 1) := by decide +kernel
theorem dX2_always_10 : decode cX2_always 10 = .ok (.iconst 1, 1) := by decide +kernel
theorem dX2_always_11 : decode cX2_always 11 = .ok (.isub, 1) := by decide +kernel
theorem dX2_always_12 : decode cX2_always 12 = .ok (.istore_n 1, 1) := by decide +kernel
theorem dX2_always_13 : decode cX2_always 13 = .ok (.iconst 0, 1) := by decide +kernel
theorem dX2_always_14 : decode cX2_always 14 = .ok (.istore_n 2, 1) := by decide +kernel
theorem dX2_always_15 : decode cX2_always 15 = .ok (.iconst 0, 1) := by decide +kernel
theorem dX2_always_16 : decode cX2_always 16 = .ok (.istore_n 3, 1) := by decide +kernel
theorem dX2_always_17 : decode cX2_always 17 = .ok (.iload_n 3, 1) := by decide +kernel
theorem dX2_always_18 : decode cX2_always 18 = .ok (.aload_n 0, 1) := by decide +kernel
theorem dX2_always_19 : decode cX2_always 19 = .ok (.getfield 13, 3) := by decide +kernel
theorem dX2_always_22 : decode cX2_always 22 = .ok (.if_icmp .ge 36, 3) := by decide +kernel
theorem dX2_always_25 : decode cX2_always 25 = .ok (.aload_n 0, 1) := by decide +kernel
theorem dX2_always_26 : decode cX2_always 26 = .ok (.getfield 17, 3) := by decide +kernel
theorem dX2_always_29 : decode cX2_always 29 = .ok (.iload_n 1, 1) := by decide +kernel
theorem dX2_always_30 : decode cX2_always 30 = .ok (.iconst 1, 1) := by decide +kernel
theorem dX2_always_31 : decode cX2_always 31 = .ok (.iload_n 3, 1) := by decide +kernel
theorem dX2_always_32 : decode cX2_always 32 = .ok (.ishl, 1) := by decide +kernel
theorem dX2_always_33 : decode cX2_always 33 = .ok (.iconst (-1), 1) := by decide +kernel
theorem dX2_always_34 : decode cX2_always 34 = .ok (.ixor, 1) := by decide +kernel
theorem dX2_always_35 : decode cX2_always 35 = .ok (.iand, 1) := by decide +kernel
theorem dX2_always_36 : decode cX2_always 36 = .ok (.iaload, 1) := by decide +kernel
theorem dX2_always_37 : decode cX2_always 37 = .ok (.aload_n 0, 1) := by decide +kernel
theorem dX2_always_38 : decode cX2_always 38 = .ok (.getfield 17, 3) := by decide +kernel
theorem dX2_always_41 : decode cX2_always 41 = .ok (.iload_n 1, 1) := by decide +kernel
theorem dX2_always_42 : decode cX2_always 42 = .ok (.iaload, 1) := by decide +kernel
theorem dX2_always_43 : decode cX2_always 43 = .ok (.if_icmp .ge 9, 3) := by decide +kernel
theorem dX2_always_46 : decode cX2_always 46 = .ok (.iload_n 2, 1) := by decide +kernel
theorem dX2_always_47 : decode cX2_always 47 = .ok (.iconst 1, 1) := by decide +kernel
theorem dX2_always_48 : decode cX2_always 48 = .ok (.iload_n 3, 1) := by decide +kernel
theorem dX2_always_49 : decode cX2_always 49 = .ok (.ishl, 1) := by decide +kernel
theorem dX2_always_50 : decode cX2_always 50 = .ok (.ior, 1) := by decide +kernel
theorem dX2_always_51 : decode cX2_always 51 = .ok (.istore_n 2, 1) := by decide +kernel
theorem dX2_always_52 : decode cX2_always 52 = .ok (.iinc 3 1, 3) := by decide +kernel
theorem dX2_always_55 : decode cX2_always 55 = .ok (.goto (-38), 3) := by decide +kernel
theorem dX2_always_58 : decode cX2_always 58 = .ok (.iload_n 2, 1) := by decide +kernel
theorem dX2_always_59 : decode cX2_always 59 = .ok (.ireturn, 1) := by decide +kernel
abbrev cX2_partner : ByteArray := prog_4_method_9_code
def yX2_partner : MethodName := ⟨RX2, "partner", "(I)I"⟩
theorem dX2_partner_0 : decode cX2_partner 0 = .ok (.aload_n 0, 1) := by decide +kernel
theorem dX2_partner_1 : decode cX2_partner 1 = .ok (.invokevirtual 30, 3) := by decide +kernel
theorem dX2_partner_4 : decode cX2_partner 4 = .ok (.iconst 1, 1) := by decide +kernel
theorem dX2_partner_5 : decode cX2_partner 5 = .ok (.aload_n 0, 1) := by decide +kernel
theorem dX2_partner_6 : decode cX2_partner 6 = .ok (.getfield 13, 3) := by decide +kernel
theorem dX2_partner_9 : decode cX2_partner 9 = .ok (.ishl, 1) := by decide +kernel
theorem dX2_partner_10 : decode cX2_partner 10 = .ok (.iconst 1, 1) := by decide +kernel
theorem dX2_partner_11 : decode cX2_partner 11 = .ok (.isub, 1) := by decide +kernel
theorem dX2_partner_12 : decode cX2_partner 12 = .ok (.istore_n 2, 1) := by decide +kernel
theorem dX2_partner_13 : decode cX2_partner 13 = .ok (.aload_n 0, 1) := by decide +kernel
theorem dX2_partner_14 : decode cX2_partner 14 = .ok (.iload_n 1, 1) := by decide +kernel
theorem dX2_partner_15 : decode cX2_partner 15 = .ok (.invokevirtual 26, 3) := by decide +kernel
theorem dX2_partner_18 : decode cX2_partner 18 = .ok (.istore_n 3, 1) := by decide +kernel
theorem dX2_partner_19 : decode cX2_partner 19 = .ok (.iconst 0, 1) := by decide +kernel
theorem dX2_partner_20 : decode cX2_partner 20 = .ok (.istore 4, 2) := by decide +kernel
theorem dX2_partner_22 : decode cX2_partner 22 = .ok (.iload 4, 2) := by decide +kernel
theorem dX2_partner_24 : decode cX2_partner 24 = .ok (.aload_n 0, 1) := by decide +kernel
theorem dX2_partner_25 : decode cX2_partner 25 = .ok (.getfield 13, 3) := by decide +kernel
theorem dX2_partner_28 : decode cX2_partner 28 = .ok (.if_icmp .ge 151, 3) := by decide +kernel
theorem dX2_partner_31 : decode cX2_partner 31 = .ok (.iload_n 2, 1) := by decide +kernel
theorem dX2_partner_32 : decode cX2_partner 32 = .ok (.iload 4, 2) := by decide +kernel
theorem dX2_partner_34 : decode cX2_partner 34 = .ok (.ishr, 1) := by decide +kernel
theorem dX2_partner_35 : decode cX2_partner 35 = .ok (.iconst 1, 1) := by decide +kernel
theorem dX2_partner_36 : decode cX2_partner 36 = .ok (.iand, 1) := by decide +kernel
theorem dX2_partner_37 : decode cX2_partner 37 = .ok (.ifCond .eq 136, 3) := by decide +kernel
theorem dX2_partner_40 : decode cX2_partner 40 = .ok (.iload_n 2, 1) := by decide +kernel
theorem dX2_partner_41 : decode cX2_partner 41 = .ok (.iconst 1, 1) := by decide +kernel
theorem dX2_partner_42 : decode cX2_partner 42 = .ok (.iload 4, 2) := by decide +kernel
theorem dX2_partner_44 : decode cX2_partner 44 = .ok (.ishl, 1) := by decide +kernel
theorem dX2_partner_45 : decode cX2_partner 45 = .ok (.iconst (-1), 1) := by decide +kernel
theorem dX2_partner_46 : decode cX2_partner 46 = .ok (.ixor, 1) := by decide +kernel
theorem dX2_partner_47 : decode cX2_partner 47 = .ok (.iand, 1) := by decide +kernel
theorem dX2_partner_48 : decode cX2_partner 48 = .ok (.istore 5, 2) := by decide +kernel
theorem dX2_partner_50 : decode cX2_partner 50 = .ok (.iconst (-1), 1) := by decide +kernel
theorem dX2_partner_51 : decode cX2_partner 51 = .ok (.istore 6, 2) := by decide +kernel
theorem dX2_partner_53 : decode cX2_partner 53 = .ok (.aload_n 0, 1) := by decide +kernel
theorem dX2_partner_54 : decode cX2_partner 54 = .ok (.getfield 13, 3) := by decide +kernel
theorem dX2_partner_57 : decode cX2_partner 57 = .ok (.iconst 1, 1) := by decide +kernel
theorem dX2_partner_58 : decode cX2_partner 58 = .ok (.isub, 1) := by decide +kernel
theorem dX2_partner_59 : decode cX2_partner 59 = .ok (.istore 7, 2) := by decide +kernel
theorem dX2_partner_61 : decode cX2_partner 61 = .ok (.iload 7, 2) := by decide +kernel
theorem dX2_partner_63 : decode cX2_partner 63 = .ok (.iload 4, 2) := by decide +kernel
theorem dX2_partner_65 : decode cX2_partner 65 = .ok (.if_icmp .le 64, 3) := by decide +kernel
theorem dX2_partner_68 : decode cX2_partner 68 = .ok (.iload 5, 2) := by decide +kernel
theorem dX2_partner_70 : decode cX2_partner 70 = .ok (.iload 7, 2) := by decide +kernel
theorem dX2_partner_72 : decode cX2_partner 72 = .ok (.ishr, 1) := by decide +kernel
theorem dX2_partner_73 : decode cX2_partner 73 = .ok (.iconst 1, 1) := by decide +kernel
theorem dX2_partner_74 : decode cX2_partner 74 = .ok (.iand, 1) := by decide +kernel
theorem dX2_partner_75 : decode cX2_partner 75 = .ok (.ifCond .eq 48, 3) := by decide +kernel
theorem dX2_partner_78 : decode cX2_partner 78 = .ok (.aload_n 0, 1) := by decide +kernel
theorem dX2_partner_79 : decode cX2_partner 79 = .ok (.getfield 7, 3) := by decide +kernel
theorem dX2_partner_82 : decode cX2_partner 82 = .ok (.bipush 10, 2) := by decide +kernel
theorem dX2_partner_84 : decode cX2_partner 84 = .ok (.iload 4, 2) := by decide +kernel
theorem dX2_partner_86 : decode cX2_partner 86 = .ok (.imul, 1) := by decide +kernel
theorem dX2_partner_87 : decode cX2_partner 87 = .ok (.iload 7, 2) := by decide +kernel
theorem dX2_partner_89 : decode cX2_partner 89 = .ok (.iadd, 1) := by decide +kernel
theorem dX2_partner_90 : decode cX2_partner 90 = .ok (.baload, 1) := by decide +kernel
theorem dX2_partner_91 : decode cX2_partner 91 = .ok (.ifCond .eq 32, 3) := by decide +kernel
theorem dX2_partner_94 : decode cX2_partner 94 = .ok (.aload_n 0, 1) := by decide +kernel
theorem dX2_partner_95 : decode cX2_partner 95 = .ok (.getfield 17, 3) := by decide +kernel
theorem dX2_partner_98 : decode cX2_partner 98 = .ok (.iload 5, 2) := by decide +kernel
theorem dX2_partner_100 : decode cX2_partner 100 = .ok (.iconst 1, 1) := by decide +kernel
theorem dX2_partner_101 : decode cX2_partner 101 = .ok (.iload 7, 2) := by decide +kernel
theorem dX2_partner_103 : decode cX2_partner 103 = .ok (.ishl, 1) := by decide +kernel
theorem dX2_partner_104 : decode cX2_partner 104 = .ok (.iconst (-1), 1) := by decide +kernel
theorem dX2_partner_105 : decode cX2_partner 105 = .ok (.ixor, 1) := by decide +kernel
theorem dX2_partner_106 : decode cX2_partner 106 = .ok (.iand, 1) := by decide +kernel
theorem dX2_partner_107 : decode cX2_partner 107 = .ok (.iaload, 1) := by decide +kernel
theorem dX2_partner_108 : decode cX2_partner 108 = .ok (.iconst 1, 1) := by decide +kernel
theorem dX2_partner_109 : decode cX2_partner 109 = .ok (.iadd, 1) := by decide +kernel
theorem dX2_partner_110 : decode cX2_partner 110 = .ok (.aload_n 0, 1) := by decide +kernel
theorem dX2_partner_111 : decode cX2_partner 111 = .ok (.getfield 17, 3) := by decide +kernel
theorem dX2_partner_114 : decode cX2_partner 114 = .ok (.iload_n 2, 1) := by decide +kernel
theorem dX2_partner_115 : decode cX2_partner 115 = .ok (.iaload, 1) := by decide +kernel
theorem dX2_partner_116 : decode cX2_partner 116 = .ok (.if_icmp .ne 7, 3) := by decide +kernel
theorem dX2_partner_119 : decode cX2_partner 119 = .ok (.iload 7, 2) := by decide +kernel
theorem dX2_partner_121 : decode cX2_partner 121 = .ok (.istore 6, 2) := by decide +kernel
theorem dX2_partner_123 : decode cX2_partner 123 = .ok (.iinc 7 (-1), 3) := by decide +kernel
theorem dX2_partner_126 : decode cX2_partner 126 = .ok (.goto (-65), 3) := by decide +kernel
theorem dX2_partner_129 : decode cX2_partner 129 = .ok (.iload 6, 2) := by decide +kernel
theorem dX2_partner_131 : decode cX2_partner 131 = .ok (.ifCond .ge 14, 3) := by decide +kernel
theorem dX2_partner_134 : decode cX2_partner 134 = .ok (.iload 5, 2) := by decide +kernel
theorem dX2_partner_136 : decode cX2_partner 136 = .ok (.istore_n 2, 1) := by decide +kernel
theorem dX2_partner_137 : decode cX2_partner 137 = .ok (.iload 4, 2) := by decide +kernel
theorem dX2_partner_139 : decode cX2_partner 139 = .ok (.iload_n 3, 1) := by decide +kernel
theorem dX2_partner_140 : decode cX2_partner 140 = .ok (.if_icmp .ne 33, 3) := by decide +kernel
theorem dX2_partner_143 : decode cX2_partner 143 = .ok (.iconst (-1), 1) := by decide +kernel
theorem dX2_partner_144 : decode cX2_partner 144 = .ok (.ireturn, 1) := by decide +kernel
theorem dX2_partner_145 : decode cX2_partner 145 = .ok (.iload 5, 2) := by decide +kernel
theorem dX2_partner_147 : decode cX2_partner 147 = .ok (.iconst 1, 1) := by decide +kernel
theorem dX2_partner_148 : decode cX2_partner 148 = .ok (.iload 6, 2) := by decide +kernel
theorem dX2_partner_150 : decode cX2_partner 150 = .ok (.ishl, 1) := by decide +kernel
theorem dX2_partner_151 : decode cX2_partner 151 = .ok (.iconst (-1), 1) := by decide +kernel
theorem dX2_partner_152 : decode cX2_partner 152 = .ok (.ixor, 1) := by decide +kernel
theorem dX2_partner_153 : decode cX2_partner 153 = .ok (.iand, 1) := by decide +kernel
theorem dX2_partner_154 : decode cX2_partner 154 = .ok (.istore_n 2, 1) := by decide +kernel
theorem dX2_partner_155 : decode cX2_partner 155 = .ok (.iload 4, 2) := by decide +kernel
theorem dX2_partner_157 : decode cX2_partner 157 = .ok (.iload_n 3, 1) := by decide +kernel
theorem dX2_partner_158 : decode cX2_partner 158 = .ok (.if_icmp .ne 6, 3) := by decide +kernel
theorem dX2_partner_161 : decode cX2_partner 161 = .ok (.iload 6, 2) := by decide +kernel
theorem dX2_partner_163 : decode cX2_partner 163 = .ok (.ireturn, 1) := by decide +kernel
theorem dX2_partner_164 : decode cX2_partner 164 = .ok (.iload 6, 2) := by decide +kernel
theorem dX2_partner_166 : decode cX2_partner 166 = .ok (.iload_n 3, 1) := by decide +kernel
theorem dX2_partner_167 : decode cX2_partner 167 = .ok (.if_icmp .ne 6, 3) := by decide +kernel
theorem dX2_partner_170 : decode cX2_partner 170 = .ok (.iload 4, 2) := by decide +kernel
theorem dX2_partner_172 : decode cX2_partner 172 = .ok (.ireturn, 1) := by decide +kernel
theorem dX2_partner_173 : decode cX2_partner 173 = .ok (.iinc 4 1, 3) := by decide +kernel
theorem dX2_partner_176 : decode cX2_partner 176 = .ok (.goto (-154), 3) := by decide +kernel
theorem dX2_partner_179 : decode cX2_partner 179 = .ok (.iconst (-1), 1) := by decide +kernel
theorem dX2_partner_180 : decode cX2_partner 180 = .ok (.ireturn, 1) := by decide +kernel
theorem q12 : (Jvm.Cond.initialized "BondDeskModel") ∈ lw_all := lw_g (lw_at lw_m0 3 rfl) rfl
theorem q131 : (Jvm.Cond.instantiable "BondDeskModel" (4 : Nat)) ∈ lw_all := lw_g (lw_at lw_m0 122 rfl) rfl
theorem q133 : (Jvm.Cond.instanceMethod ({ cls := "BondDeskModel", name := "<init>", desc := "()V" } : Jvm.MethodName)) ∈ lw_all := lw_g (lw_at lw_m0 124 rfl) rfl
theorem q134 : (Jvm.Cond.code ({ cls := "BondDeskModel", name := "<init>", desc := "()V" } : Jvm.MethodName) prog_4_method_1_code (1 : Nat) (Option.none : Option Jvm.ClassFile.FieldType)) ∈ lw_all := lw_g (lw_at lw_m0 125 rfl) rfl
theorem q135 : (Jvm.Cond.methodLink "BondDeskModel" (1 : Nat) ({ cls := "java/lang/Object", name := "<init>", desc := "()V" } : Jvm.MethodName)) ∈ lw_all := lw_g (lw_at lw_m0 126 rfl) rfl
theorem q136 : (Jvm.Cond.fieldLink "BondDeskModel" (7 : Nat) "BondDeskModel" "bond" "[Z") ∈ lw_all := lw_g (lw_at lw_m0 127 rfl) rfl
theorem q137 : (Jvm.Cond.fieldLink "BondDeskModel" (13 : Nat) "BondDeskModel" "n" "I") ∈ lw_all := lw_g (lw_at lw_m0 128 rfl) rfl
theorem q138 : (Jvm.Cond.fieldLink "BondDeskModel" (17 : Nat) "BondDeskModel" "best" "[I") ∈ lw_all := lw_g (lw_at lw_m0 129 rfl) rfl
theorem q139 : (Jvm.Cond.fieldLink "BondDeskModel" (22 : Nat) "BondDeskModel" "known" "Z") ∈ lw_all := lw_g (lw_at lw_m0 130 rfl) rfl
theorem q140 : (Jvm.Cond.laysFinal "BondDeskModel" "BondDeskModel" "bond" "[Z") ∈ lw_all := lw_g (lw_at lw_m0 131 rfl) rfl
theorem q141 : (Jvm.Cond.soleField "BondDeskModel" "bond") ∈ lw_all := lw_g (lw_at lw_m0 132 rfl) rfl
theorem q142 : (Jvm.Cond.lays "BondDeskModel" "BondDeskModel" "n" "I") ∈ lw_all := lw_g (lw_at lw_m0 133 rfl) rfl
theorem q143 : (Jvm.Cond.soleField "BondDeskModel" "n") ∈ lw_all := lw_g (lw_at lw_m0 134 rfl) rfl
theorem q144 : (Jvm.Cond.laysFinal "BondDeskModel" "BondDeskModel" "best" "[I") ∈ lw_all := lw_g (lw_at lw_m0 135 rfl) rfl
theorem q145 : (Jvm.Cond.soleField "BondDeskModel" "best") ∈ lw_all := lw_g (lw_at lw_m0 136 rfl) rfl
theorem q146 : (Jvm.Cond.lays "BondDeskModel" "BondDeskModel" "known" "Z") ∈ lw_all := lw_g (lw_at lw_m0 137 rfl) rfl
theorem q147 : (Jvm.Cond.soleField "BondDeskModel" "known") ∈ lw_all := lw_g (lw_at lw_m0 138 rfl) rfl
theorem q148 : (Jvm.Cond.superclass "BondDeskModel" "java/lang/Object") ∈ lw_all := lw_g (lw_at lw_m0 139 rfl) rfl
theorem q151 : (Jvm.Cond.instanceMethod ({ cls := "BondDeskModel", name := "places", desc := "(I)V" } : Jvm.MethodName)) ∈ lw_all := lw_g (lw_at lw_m0 142 rfl) rfl
theorem q152 : (Jvm.Cond.selects "BondDeskModel" ({ cls := "BondDeskModel", name := "places", desc := "(I)V" } : Jvm.MethodName) ({ cls := "BondDeskModel", name := "places", desc := "(I)V" } : Jvm.MethodName)) ∈ lw_all := lw_g (lw_at lw_m0 143 rfl) rfl
theorem q153 : (Jvm.Cond.code ({ cls := "BondDeskModel", name := "places", desc := "(I)V" } : Jvm.MethodName) prog_4_method_2_code (3 : Nat) (Option.none : Option Jvm.ClassFile.FieldType)) ∈ lw_all := lw_g (lw_at lw_m0 144 rfl) rfl
theorem q154 : (Jvm.Cond.constant "BondDeskModel" (21 : Nat) (2147483647 : Int32)) ∈ lw_all := lw_g (lw_at lw_m0 145 rfl) rfl
theorem q156 : (Jvm.Cond.instanceMethod ({ cls := "BondDeskModel", name := "tie", desc := "(II)Z" } : Jvm.MethodName)) ∈ lw_all := lw_g (lw_at lw_m0 147 rfl) rfl
theorem q157 : (Jvm.Cond.selects "BondDeskModel" ({ cls := "BondDeskModel", name := "tie", desc := "(II)Z" } : Jvm.MethodName) ({ cls := "BondDeskModel", name := "tie", desc := "(II)Z" } : Jvm.MethodName)) ∈ lw_all := lw_g (lw_at lw_m0 148 rfl) rfl
theorem q158 : (Jvm.Cond.code ({ cls := "BondDeskModel", name := "tie", desc := "(II)Z" } : Jvm.MethodName) prog_4_method_4_code (5 : Nat) (Option.some Jvm.ClassFile.FieldType.boolean)) ∈ lw_all := lw_g (lw_at lw_m0 149 rfl) rfl
theorem q159 : (Jvm.Cond.methodLink "BondDeskModel" (26 : Nat) ({ cls := "BondDeskModel", name := "at", desc := "(I)I" } : Jvm.MethodName)) ∈ lw_all := lw_g (lw_at lw_m0 150 rfl) rfl
theorem q160 : (Jvm.Cond.privateMethod ({ cls := "BondDeskModel", name := "at", desc := "(I)I" } : Jvm.MethodName)) ∈ lw_tbl := lw_at lw_m0 151 rfl
theorem q161 : (Jvm.Cond.instanceMethod ({ cls := "BondDeskModel", name := "at", desc := "(I)I" } : Jvm.MethodName)) ∈ lw_all := lw_g (lw_at lw_m0 152 rfl) rfl
theorem q162 : (Jvm.Cond.code ({ cls := "BondDeskModel", name := "at", desc := "(I)I" } : Jvm.MethodName) prog_4_method_3_code (2 : Nat) (Option.some Jvm.ClassFile.FieldType.int)) ∈ lw_all := lw_g (lw_at lw_m0 153 rfl) rfl
theorem q164 : (Jvm.Cond.instanceMethod ({ cls := "BondDeskModel", name := "cut", desc := "(II)V" } : Jvm.MethodName)) ∈ lw_all := lw_g (lw_at lw_m0 155 rfl) rfl
theorem q165 : (Jvm.Cond.selects "BondDeskModel" ({ cls := "BondDeskModel", name := "cut", desc := "(II)V" } : Jvm.MethodName) ({ cls := "BondDeskModel", name := "cut", desc := "(II)V" } : Jvm.MethodName)) ∈ lw_all := lw_g (lw_at lw_m0 156 rfl) rfl
theorem q166 : (Jvm.Cond.code ({ cls := "BondDeskModel", name := "cut", desc := "(II)V" } : Jvm.MethodName) prog_4_method_5_code (5 : Nat) (Option.none : Option Jvm.ClassFile.FieldType)) ∈ lw_all := lw_g (lw_at lw_m0 157 rfl) rfl
theorem q168 : (Jvm.Cond.instanceMethod ({ cls := "BondDeskModel", name := "most", desc := "()I" } : Jvm.MethodName)) ∈ lw_all := lw_g (lw_at lw_m0 159 rfl) rfl
theorem q169 : (Jvm.Cond.selects "BondDeskModel" ({ cls := "BondDeskModel", name := "most", desc := "()I" } : Jvm.MethodName) ({ cls := "BondDeskModel", name := "most", desc := "()I" } : Jvm.MethodName)) ∈ lw_all := lw_g (lw_at lw_m0 160 rfl) rfl
theorem q170 : (Jvm.Cond.code ({ cls := "BondDeskModel", name := "most", desc := "()I" } : Jvm.MethodName) prog_4_method_7_code (1 : Nat) (Option.some Jvm.ClassFile.FieldType.int)) ∈ lw_all := lw_g (lw_at lw_m0 161 rfl) rfl
theorem q171 : (Jvm.Cond.methodLink "BondDeskModel" (30 : Nat) ({ cls := "BondDeskModel", name := "reckon", desc := "()V" } : Jvm.MethodName)) ∈ lw_all := lw_g (lw_at lw_m0 162 rfl) rfl
theorem q172 : (Jvm.Cond.privateMethod ({ cls := "BondDeskModel", name := "reckon", desc := "()V" } : Jvm.MethodName)) ∈ lw_tbl := lw_at lw_m0 163 rfl
theorem q173 : (Jvm.Cond.instanceMethod ({ cls := "BondDeskModel", name := "reckon", desc := "()V" } : Jvm.MethodName)) ∈ lw_all := lw_g (lw_at lw_m0 164 rfl) rfl
theorem q174 : (Jvm.Cond.code ({ cls := "BondDeskModel", name := "reckon", desc := "()V" } : Jvm.MethodName) prog_4_method_6_code (6 : Nat) (Option.none : Option Jvm.ClassFile.FieldType)) ∈ lw_all := lw_g (lw_at lw_m0 165 rfl) rfl
theorem q176 : (Jvm.Cond.instanceMethod ({ cls := "BondDeskModel", name := "always", desc := "()I" } : Jvm.MethodName)) ∈ lw_all := lw_g (lw_at lw_m0 167 rfl) rfl
theorem q177 : (Jvm.Cond.selects "BondDeskModel" ({ cls := "BondDeskModel", name := "always", desc := "()I" } : Jvm.MethodName) ({ cls := "BondDeskModel", name := "always", desc := "()I" } : Jvm.MethodName)) ∈ lw_all := lw_g (lw_at lw_m0 168 rfl) rfl
theorem q178 : (Jvm.Cond.code ({ cls := "BondDeskModel", name := "always", desc := "()I" } : Jvm.MethodName) prog_4_method_8_code (4 : Nat) (Option.some Jvm.ClassFile.FieldType.int)) ∈ lw_all := lw_g (lw_at lw_m0 169 rfl) rfl
theorem q180 : (Jvm.Cond.instanceMethod ({ cls := "BondDeskModel", name := "partner", desc := "(I)I" } : Jvm.MethodName)) ∈ lw_all := lw_g (lw_at lw_m0 171 rfl) rfl
theorem q181 : (Jvm.Cond.selects "BondDeskModel" ({ cls := "BondDeskModel", name := "partner", desc := "(I)I" } : Jvm.MethodName) ({ cls := "BondDeskModel", name := "partner", desc := "(I)I" } : Jvm.MethodName)) ∈ lw_all := lw_g (lw_at lw_m0 172 rfl) rfl
theorem q182 : (Jvm.Cond.code ({ cls := "BondDeskModel", name := "partner", desc := "(I)I" } : Jvm.MethodName) prog_4_method_9_code (8 : Nat) (Option.some Jvm.ClassFile.FieldType.int)) ∈ lw_all := lw_g (lw_at lw_m0 173 rfl) rfl
theorem in_X2 : ∀ w ∈ wsX20, w ∈ lw_all := lw_in wsX20 [140, 142, 144, 146] (by decide +kernel) (by decide +kernel)
end
section
/-! java/lang/Object -/
set_option maxRecDepth 100000
def RJ0 : String := "java/lang/Object"
abbrev cJ0_init : ByteArray := object_method_1_code
def yJ0_init : MethodName := ⟨RJ0, "<init>", "()V"⟩
theorem dJ0_init_0 : decode cJ0_init 0 = .ok (.return_, 1) := by decide +kernel
theorem q19 : (Jvm.Cond.instanceMethod ({ cls := "java/lang/Object", name := "<init>", desc := "()V" } : Jvm.MethodName)) ∈ lw_all := lw_g (lw_at lw_m0 10 rfl) rfl
theorem q20 : (Jvm.Cond.code ({ cls := "java/lang/Object", name := "<init>", desc := "()V" } : Jvm.MethodName) object_method_1_code (1 : Nat) (Option.none : Option Jvm.ClassFile.FieldType)) ∈ lw_all := lw_g (lw_at lw_m0 11 rfl) rfl
/-! the law's own entry -/
set_option maxRecDepth 100000
abbrev cL_law : ByteArray := code
theorem dL_law_0 : decode cL_law 0 = .ok (.new 7, 3) := by decide +kernel
theorem dL_law_3 : decode cL_law 3 = .ok (.dup, 1) := by decide +kernel
theorem dL_law_4 : decode cL_law 4 = .ok (.invokespecial 9, 3) := by decide +kernel
theorem dL_law_7 : decode cL_law 7 = .ok (.astore_n 1, 1) := by decide +kernel
theorem dL_law_8 : decode cL_law 8 = .ok (.new 10, 3) := by decide +kernel
theorem dL_law_11 : decode cL_law 11 = .ok (.dup, 1) := by decide +kernel
theorem dL_law_12 : decode cL_law 12 = .ok (.invokespecial 12, 3) := by decide +kernel
theorem dL_law_15 : decode cL_law 15 = .ok (.astore_n 2, 1) := by decide +kernel
theorem dL_law_16 : decode cL_law 16 = .ok (.iconst 0, 1) := by decide +kernel
theorem dL_law_17 : decode cL_law 17 = .ok (.istore_n 3, 1) := by decide +kernel
theorem dL_law_18 : decode cL_law 18 = .ok (.iload_n 3, 1) := by decide +kernel
theorem dL_law_19 : decode cL_law 19 = .ok (.aload_n 0, 1) := by decide +kernel
theorem dL_law_20 : decode cL_law 20 = .ok (.arraylength, 1) := by decide +kernel
theorem dL_law_21 : decode cL_law 21 = .ok (.iconst 3, 1) := by decide +kernel
theorem dL_law_22 : decode cL_law 22 = .ok (.isub, 1) := by decide +kernel
theorem dL_law_23 : decode cL_law 23 = .ok (.if_icmp .gt 189, 3) := by decide +kernel
theorem dL_law_26 : decode cL_law 26 = .ok (.aload_n 0, 1) := by decide +kernel
theorem dL_law_27 : decode cL_law 27 = .ok (.iload_n 3, 1) := by decide +kernel
theorem dL_law_28 : decode cL_law 28 = .ok (.iaload, 1) := by decide +kernel
theorem dL_law_29 : decode cL_law 29 = .ok (.bipush 7, 2) := by decide +kernel
theorem dL_law_31 : decode cL_law 31 = .ok (.iand, 1) := by decide +kernel
theorem dL_law_32 : decode cL_law 32 = .ok (.tableswitch 174 0 5 #[40, 61, 94, 125, 138, 151], 40) := by decide +kernel
theorem dL_law_72 : decode cL_law 72 = .ok (.aload_n 1, 1) := by decide +kernel
theorem dL_law_73 : decode cL_law 73 = .ok (.aload_n 0, 1) := by decide +kernel
theorem dL_law_74 : decode cL_law 74 = .ok (.iload_n 3, 1) := by decide +kernel
theorem dL_law_75 : decode cL_law 75 = .ok (.iconst 1, 1) := by decide +kernel
theorem dL_law_76 : decode cL_law 76 = .ok (.iadd, 1) := by decide +kernel
theorem dL_law_77 : decode cL_law 77 = .ok (.iaload, 1) := by decide +kernel
theorem dL_law_78 : decode cL_law 78 = .ok (.invokevirtual 13, 3) := by decide +kernel
theorem dL_law_81 : decode cL_law 81 = .ok (.aload_n 2, 1) := by decide +kernel
theorem dL_law_82 : decode cL_law 82 = .ok (.aload_n 0, 1) := by decide +kernel
theorem dL_law_83 : decode cL_law 83 = .ok (.iload_n 3, 1) := by decide +kernel
theorem dL_law_84 : decode cL_law 84 = .ok (.iconst 1, 1) := by decide +kernel
theorem dL_law_85 : decode cL_law 85 = .ok (.iadd, 1) := by decide +kernel
theorem dL_law_86 : decode cL_law 86 = .ok (.iaload, 1) := by decide +kernel
theorem dL_law_87 : decode cL_law 87 = .ok (.invokevirtual 17, 3) := by decide +kernel
theorem dL_law_90 : decode cL_law 90 = .ok (.goto 116, 3) := by decide +kernel
theorem dL_law_93 : decode cL_law 93 = .ok (.aload_n 1, 1) := by decide +kernel
theorem dL_law_94 : decode cL_law 94 = .ok (.aload_n 0, 1) := by decide +kernel
theorem dL_law_95 : decode cL_law 95 = .ok (.iload_n 3, 1) := by decide +kernel
theorem dL_law_96 : decode cL_law 96 = .ok (.iconst 1, 1) := by decide +kernel
theorem dL_law_97 : decode cL_law 97 = .ok (.iadd, 1) := by decide +kernel
theorem dL_law_98 : decode cL_law 98 = .ok (.iaload, 1) := by decide +kernel
theorem dL_law_99 : decode cL_law 99 = .ok (.aload_n 0, 1) := by decide +kernel
theorem dL_law_100 : decode cL_law 100 = .ok (.iload_n 3, 1) := by decide +kernel
theorem dL_law_101 : decode cL_law 101 = .ok (.iconst 2, 1) := by decide +kernel
theorem dL_law_102 : decode cL_law 102 = .ok (.iadd, 1) := by decide +kernel
theorem dL_law_103 : decode cL_law 103 = .ok (.iaload, 1) := by decide +kernel
theorem dL_law_104 : decode cL_law 104 = .ok (.invokevirtual 18, 3) := by decide +kernel
theorem dL_law_107 : decode cL_law 107 = .ok (.aload_n 2, 1) := by decide +kernel
theorem dL_law_108 : decode cL_law 108 = .ok (.aload_n 0, 1) := by decide +kernel
theorem dL_law_109 : decode cL_law 109 = .ok (.iload_n 3, 1) := by decide +kernel
theorem dL_law_110 : decode cL_law 110 = .ok (.iconst 1, 1) := by decide +kernel
theorem dL_law_111 : decode cL_law 111 = .ok (.iadd, 1) := by decide +kernel
theorem dL_law_112 : decode cL_law 112 = .ok (.iaload, 1) := by decide +kernel
theorem dL_law_113 : decode cL_law 113 = .ok (.aload_n 0, 1) := by decide +kernel
theorem dL_law_114 : decode cL_law 114 = .ok (.iload_n 3, 1) := by decide +kernel
theorem dL_law_115 : decode cL_law 115 = .ok (.iconst 2, 1) := by decide +kernel
theorem dL_law_116 : decode cL_law 116 = .ok (.iadd, 1) := by decide +kernel
theorem dL_law_117 : decode cL_law 117 = .ok (.iaload, 1) := by decide +kernel
theorem dL_law_118 : decode cL_law 118 = .ok (.invokevirtual 22, 3) := by decide +kernel
theorem dL_law_121 : decode cL_law 121 = .ok (.if_icmp .eq 85, 3) := by decide +kernel
theorem dL_law_124 : decode cL_law 124 = .ok (.iconst 0, 1) := by decide +kernel
theorem dL_law_125 : decode cL_law 125 = .ok (.ireturn, 1) := by decide +kernel
theorem dL_law_126 : decode cL_law 126 = .ok (.aload_n 1, 1) := by decide +kernel
theorem dL_law_127 : decode cL_law 127 = .ok (.aload_n 0, 1) := by decide +kernel
theorem dL_law_128 : decode cL_law 128 = .ok (.iload_n 3, 1) := by decide +kernel
theorem dL_law_129 : decode cL_law 129 = .ok (.iconst 1, 1) := by decide +kernel
theorem dL_law_130 : decode cL_law 130 = .ok (.iadd, 1) := by decide +kernel
theorem dL_law_131 : decode cL_law 131 = .ok (.iaload, 1) := by decide +kernel
theorem dL_law_132 : decode cL_law 132 = .ok (.aload_n 0, 1) := by decide +kernel
theorem dL_law_133 : decode cL_law 133 = .ok (.iload_n 3, 1) := by decide +kernel
theorem dL_law_134 : decode cL_law 134 = .ok (.iconst 2, 1) := by decide +kernel
theorem dL_law_135 : decode cL_law 135 = .ok (.iadd, 1) := by decide +kernel
theorem dL_law_136 : decode cL_law 136 = .ok (.iaload, 1) := by decide +kernel
theorem dL_law_137 : decode cL_law 137 = .ok (.invokevirtual 23, 3) := by decide +kernel
theorem dL_law_140 : decode cL_law 140 = .ok (.aload_n 2, 1) := by decide +kernel
theorem dL_law_141 : decode cL_law 141 = .ok (.aload_n 0, 1) := by decide +kernel
theorem dL_law_142 : decode cL_law 142 = .ok (.iload_n 3, 1) := by decide +kernel
theorem dL_law_143 : decode cL_law 143 = .ok (.iconst 1, 1) := by decide +kernel
theorem dL_law_144 : decode cL_law 144 = .ok (.iadd, 1) := by decide +kernel
theorem dL_law_145 : decode cL_law 145 = .ok (.iaload, 1) := by decide +kernel
theorem dL_law_146 : decode cL_law 146 = .ok (.aload_n 0, 1) := by decide +kernel
theorem dL_law_147 : decode cL_law 147 = .ok (.iload_n 3, 1) := by decide +kernel
theorem dL_law_148 : decode cL_law 148 = .ok (.iconst 2, 1) := by decide +kernel
theorem dL_law_149 : decode cL_law 149 = .ok (.iadd, 1) := by decide +kernel
theorem dL_law_150 : decode cL_law 150 = .ok (.iaload, 1) := by decide +kernel
theorem dL_law_151 : decode cL_law 151 = .ok (.invokevirtual 27, 3) := by decide +kernel
theorem dL_law_154 : decode cL_law 154 = .ok (.goto 52, 3) := by decide +kernel
theorem dL_law_157 : decode cL_law 157 = .ok (.aload_n 1, 1) := by decide +kernel
theorem dL_law_158 : decode cL_law 158 = .ok (.invokevirtual 28, 3) := by decide +kernel
theorem dL_law_161 : decode cL_law 161 = .ok (.aload_n 2, 1) := by decide +kernel
theorem dL_law_162 : decode cL_law 162 = .ok (.invokevirtual 32, 3) := by decide +kernel
theorem dL_law_165 : decode cL_law 165 = .ok (.if_icmp .eq 41, 3) := by decide +kernel
theorem dL_law_168 : decode cL_law 168 = .ok (.iconst 0, 1) := by decide +kernel
theorem dL_law_169 : decode cL_law 169 = .ok (.ireturn, 1) := by decide +kernel
theorem dL_law_170 : decode cL_law 170 = .ok (.aload_n 1, 1) := by decide +kernel
theorem dL_law_171 : decode cL_law 171 = .ok (.invokevirtual 33, 3) := by decide +kernel
theorem dL_law_174 : decode cL_law 174 = .ok (.aload_n 2, 1) := by decide +kernel
theorem dL_law_175 : decode cL_law 175 = .ok (.invokevirtual 36, 3) := by decide +kernel
theorem dL_law_178 : decode cL_law 178 = .ok (.if_icmp .eq 28, 3) := by decide +kernel
theorem dL_law_181 : decode cL_law 181 = .ok (.iconst 0, 1) := by decide +kernel
theorem dL_law_182 : decode cL_law 182 = .ok (.ireturn, 1) := by decide +kernel
theorem dL_law_183 : decode cL_law 183 = .ok (.aload_n 1, 1) := by decide +kernel
theorem dL_law_184 : decode cL_law 184 = .ok (.aload_n 0, 1) := by decide +kernel
theorem dL_law_185 : decode cL_law 185 = .ok (.iload_n 3, 1) := by decide +kernel
theorem dL_law_186 : decode cL_law 186 = .ok (.iconst 1, 1) := by decide +kernel
theorem dL_law_187 : decode cL_law 187 = .ok (.iadd, 1) := by decide +kernel
theorem dL_law_188 : decode cL_law 188 = .ok (.iaload, 1) := by decide +kernel
theorem dL_law_189 : decode cL_law 189 = .ok (.invokevirtual 37, 3) := by decide +kernel
theorem dL_law_192 : decode cL_law 192 = .ok (.aload_n 2, 1) := by decide +kernel
theorem dL_law_193 : decode cL_law 193 = .ok (.aload_n 0, 1) := by decide +kernel
theorem dL_law_194 : decode cL_law 194 = .ok (.iload_n 3, 1) := by decide +kernel
theorem dL_law_195 : decode cL_law 195 = .ok (.iconst 1, 1) := by decide +kernel
theorem dL_law_196 : decode cL_law 196 = .ok (.iadd, 1) := by decide +kernel
theorem dL_law_197 : decode cL_law 197 = .ok (.iaload, 1) := by decide +kernel
theorem dL_law_198 : decode cL_law 198 = .ok (.invokevirtual 41, 3) := by decide +kernel
theorem dL_law_201 : decode cL_law 201 = .ok (.if_icmp .eq 5, 3) := by decide +kernel
theorem dL_law_204 : decode cL_law 204 = .ok (.iconst 0, 1) := by decide +kernel
theorem dL_law_205 : decode cL_law 205 = .ok (.ireturn, 1) := by decide +kernel
theorem dL_law_206 : decode cL_law 206 = .ok (.iinc 3 3, 3) := by decide +kernel
theorem dL_law_209 : decode cL_law 209 = .ok (.goto (-191), 3) := by decide +kernel
theorem dL_law_212 : decode cL_law 212 = .ok (.iconst 1, 1) := by decide +kernel
theorem dL_law_213 : decode cL_law 213 = .ok (.ireturn, 1) := by decide +kernel
theorem q9 : (Jvm.Cond.initialized "BondDeskLaw") ∈ lw_all := lw_g (lw_at lw_m0 0 rfl) rfl
set_option maxRecDepth 100000
theorem q13 : (Jvm.Cond.classLink "BondDeskLaw" (7 : Nat) "BondDesk") ∈ lw_all := lw_g (lw_at lw_m0 4 rfl) rfl
theorem q15 : (Jvm.Cond.methodLink "BondDeskLaw" (9 : Nat) ({ cls := "BondDesk", name := "<init>", desc := "()V" } : Jvm.MethodName)) ∈ lw_all := lw_g (lw_at lw_m0 6 rfl) rfl
theorem q69 : (Jvm.Cond.methodLink "BondDeskLaw" (13 : Nat) ({ cls := "BondDesk", name := "places", desc := "(I)V" } : Jvm.MethodName)) ∈ lw_all := lw_g (lw_at lw_m0 60 rfl) rfl
theorem q77 : (Jvm.Cond.methodLink "BondDeskLaw" (18 : Nat) ({ cls := "BondDesk", name := "tie", desc := "(II)Z" } : Jvm.MethodName)) ∈ lw_all := lw_g (lw_at lw_m0 68 rfl) rfl
theorem q81 : (Jvm.Cond.methodLink "BondDeskLaw" (23 : Nat) ({ cls := "BondDesk", name := "cut", desc := "(II)V" } : Jvm.MethodName)) ∈ lw_all := lw_g (lw_at lw_m0 72 rfl) rfl
theorem q85 : (Jvm.Cond.methodLink "BondDeskLaw" (28 : Nat) ({ cls := "BondDesk", name := "most", desc := "()I" } : Jvm.MethodName)) ∈ lw_all := lw_g (lw_at lw_m0 76 rfl) rfl
theorem q121 : (Jvm.Cond.methodLink "BondDeskLaw" (33 : Nat) ({ cls := "BondDesk", name := "always", desc := "()I" } : Jvm.MethodName)) ∈ lw_all := lw_g (lw_at lw_m0 112 rfl) rfl
theorem q126 : (Jvm.Cond.methodLink "BondDeskLaw" (37 : Nat) ({ cls := "BondDesk", name := "partner", desc := "(I)I" } : Jvm.MethodName)) ∈ lw_all := lw_g (lw_at lw_m0 117 rfl) rfl
theorem q130 : (Jvm.Cond.classLink "BondDeskLaw" (10 : Nat) "BondDeskModel") ∈ lw_all := lw_g (lw_at lw_m0 121 rfl) rfl
theorem q132 : (Jvm.Cond.methodLink "BondDeskLaw" (12 : Nat) ({ cls := "BondDeskModel", name := "<init>", desc := "()V" } : Jvm.MethodName)) ∈ lw_all := lw_g (lw_at lw_m0 123 rfl) rfl
theorem q150 : (Jvm.Cond.methodLink "BondDeskLaw" (17 : Nat) ({ cls := "BondDeskModel", name := "places", desc := "(I)V" } : Jvm.MethodName)) ∈ lw_all := lw_g (lw_at lw_m0 141 rfl) rfl
theorem q155 : (Jvm.Cond.methodLink "BondDeskLaw" (22 : Nat) ({ cls := "BondDeskModel", name := "tie", desc := "(II)Z" } : Jvm.MethodName)) ∈ lw_all := lw_g (lw_at lw_m0 146 rfl) rfl
theorem q163 : (Jvm.Cond.methodLink "BondDeskLaw" (27 : Nat) ({ cls := "BondDeskModel", name := "cut", desc := "(II)V" } : Jvm.MethodName)) ∈ lw_all := lw_g (lw_at lw_m0 154 rfl) rfl
theorem q167 : (Jvm.Cond.methodLink "BondDeskLaw" (32 : Nat) ({ cls := "BondDeskModel", name := "most", desc := "()I" } : Jvm.MethodName)) ∈ lw_all := lw_g (lw_at lw_m0 158 rfl) rfl
theorem q175 : (Jvm.Cond.methodLink "BondDeskLaw" (36 : Nat) ({ cls := "BondDeskModel", name := "always", desc := "()I" } : Jvm.MethodName)) ∈ lw_all := lw_g (lw_at lw_m0 166 rfl) rfl
theorem q179 : (Jvm.Cond.methodLink "BondDeskLaw" (41 : Nat) ({ cls := "BondDeskModel", name := "partner", desc := "(I)I" } : Jvm.MethodName)) ∈ lw_all := lw_g (lw_at lw_m0 170 rfl) rfl
theorem q55 : (Jvm.Cond.arrayClass Jvm.ClassFile.FieldType.int) ∈ lw_all := lw_g (lw_at lw_m0 46 rfl) rfl
set_option maxRecDepth 100000
theorem q149 : (Jvm.Cond.arrayClass Jvm.ClassFile.FieldType.boolean) ∈ lw_all := lw_g (lw_at lw_m0 140 rfl) rfl
end
section
/-! THE PURE MODEL: arrays are functions Nat → Nat; a value of 10 or more is NONE -/
def bd_up (f : Nat → Nat) (k v : Nat) : Nat → Nat := fun j => if j = k then v else f j
theorem bd_up_s (f : Nat → Nat) (k v : Nat) : bd_up f k v k = v := by simp [bd_up]
theorem bd_up_n {f : Nat → Nat} {k v j : Nat} (h : j ≠ k) : bd_up f k v j = f j := by simp [bd_up, h]
/-- Pairing.turn -/
def bd_turn (f : Nat → Nat) : Nat → (Nat → Nat) → Nat → Option (Nat → Nat)
  | 0, _, _ => none
  | k + 1, m, v => if v < 10 then (if f v < 10 then bd_turn f k (bd_up (bd_up m v (f v)) (f v) v) (m (f v)) else none) else some m
/-- Pairing.along: from, drawn -/
def bd_along (m b : Nat → Nat) (t : Nat) : Nat → (Nat → Nat) → Nat → Nat → Nat → Option ((Nat → Nat) × Nat)
  | 0, _, _, _, _ => none
  | k + 1, f, dr, u, a => if b u = t then some (f, dr) else
      if b u < 10 ∧ m u < 10 ∧ b (m u) < 10 ∧ bd_up f u a (m u) < 10 then
        bd_along m b t k (bd_up f u a) (dr ||| (2 ^ (b u) ||| 2 ^ (b (m u)))) (bd_up f u a (m u)) (m u)
      else none
/-- Pairing.meeting, first loop: the mask of the bases from a on -/
def bd_met1 (m f b : Nat → Nat) : Nat → Nat → Nat → Option Nat
  | 0, _, _ => none
  | k + 1, a, met => if b a < 10 then
      (if m (b a) < 10 then (if f (m (b a)) < 10 then bd_met1 m f b k (f (m (b a))) (met ||| 2 ^ (b a)) else none)
       else some (met ||| 2 ^ (b a)))
      else none
/-- Pairing.meeting, second loop -/
def bd_met2 (m f b : Nat → Nat) (met : Nat) : Nat → Nat → Option Nat
  | 0, _ => none
  | k + 1, u => if b u < 10 then
      (if met.testBit (b u) = true then some (b u) else
        if m (b u) < 10 ∧ f (m (b u)) < 10 then bd_met2 m f b met k (f (m (b u))) else none)
      else none
/-- Pairing.see: seen, row, rowMany -/
def bd_see (v : Nat) (se : Nat) (r : Nat → Nat) (mn : Nat) : Option (Nat × (Nat → Nat) × Nat) :=
  if se.testBit v = true then some (se, r, mn) else if mn < 10 then some (se ||| 2 ^ v, bd_up r mn v, mn + 1) else none
/-- Pairing.draw's loop, k places left: base, seen, row, rowMany -/
def bd_dl (t dr : Nat) : Nat → (Nat → Nat) → Nat → (Nat → Nat) → Nat → Option ((Nat → Nat) × Nat × (Nat → Nat) × Nat)
  | 0, b, se, r, mn => some (b, se, r, mn)
  | k + 1, b, se, r, mn => if b (9 - k) < 10 then
      (if dr.testBit (b (9 - k)) = true then (bd_see (9 - k) se r mn).bind fun q => bd_dl t dr k (bd_up b (9 - k) t) q.1 q.2.1 q.2.2
       else bd_dl t dr k b se r mn)
      else none
/-- a search's state: from, base, row, seen, drawn, rowMany -/
abbrev bd_S : Type := (Nat → Nat) × (Nat → Nat) × (Nat → Nat) × Nat × Nat × Nat
/-- Pairing.draw -/
def bd_draw (m : Nat → Nat) (v w : Nat) (σ : bd_S) : Option bd_S :=
  (bd_met1 m σ.1 σ.2.1 11 v 0).bind fun met => (bd_met2 m σ.1 σ.2.1 met 11 w).bind fun t =>
  (bd_along m σ.2.1 t 11 σ.1 0 v w).bind fun q1 => (bd_along m σ.2.1 t 11 q1.1 q1.2 w v).bind fun q2 =>
  (bd_dl t q2.2 10 σ.2.1 σ.2.2.2.1 σ.2.2.1 σ.2.2.2.2.2).bind fun z => some (q2.1, z.1, z.2.2.1, z.2.1, q2.2, z.2.2.2)
/-- Pairing.path, what is done at one w; true: it is the answer -/
def bd_pb (g : Nat → Nat) (al : Nat) (m : Nat → Nat) (root v w : Nat) (σ : bd_S) : Option (bd_S × Bool) :=
  if (g v &&& al).testBit w = true then
    (if σ.2.1 v < 10 ∧ σ.2.1 w < 10 then
      (if σ.2.1 v = σ.2.1 w ∨ m v = w then some (σ, false)
       else if w = root ∨ (m w < 10 ∧ σ.1 (m w) < 10) then (bd_draw m v w σ).map (fun q => (q, false))
       else if σ.1 w < 10 then some (σ, false)
       else if m w < 10 then (bd_see (m w) σ.2.2.2.1 σ.2.2.1 σ.2.2.2.2.2).map (fun q => ((bd_up σ.1 w v, σ.2.1, q.2.1, q.1, σ.2.2.2.2.1, q.2.2), false))
       else some ((bd_up σ.1 w v, σ.2.1, σ.2.2.1, σ.2.2.2.1, σ.2.2.2.2.1, σ.2.2.2.2.2), true))
     else none)
  else some (σ, false)
/-- Pairing.path, inner loop, k places left -/
def bd_pw (g : Nat → Nat) (al : Nat) (m : Nat → Nat) (root v : Nat) : Nat → bd_S → Option (bd_S × Option Nat)
  | 0, σ => some (σ, none)
  | k + 1, σ => (bd_pb g al m root v (9 - k) σ).bind fun q => if q.2 = true then some (q.1, some (9 - k)) else bd_pw g al m root v k q.1
/-- Pairing.path, outer loop -/
def bd_pk (g : Nat → Nat) (al : Nat) (m : Nat → Nat) (root : Nat) : Nat → Nat → bd_S → Option (bd_S × Option Nat)
  | 0, _, _ => none
  | k + 1, i, σ => if i < σ.2.2.2.2.2 then
      (if i < 10 ∧ σ.2.2.1 i < 10 then (bd_pw g al m root (σ.2.2.1 i) 10 σ).bind fun q => match q.2 with
        | some w => some (q.1, some w)
        | none => bd_pk g al m root k (i + 1) q.1
       else none)
      else some (σ, none)
/-- Pairing.path -/
def bd_path (g : Nat → Nat) (al : Nat) (m : Nat → Nat) (root : Nat) (σ : bd_S) : Option (bd_S × Option Nat) :=
  bd_pk g al m root 11 0 (fun _ => 10, fun j => j, bd_up σ.2.2.1 0 root, 2 ^ root, σ.2.2.2.2.1, 1)
/-- Pairing.most, its second loop, k places left -/
def bd_ml (g : Nat → Nat) (al : Nat) : Nat → (Nat → Nat) → bd_S → Nat → Option ((Nat → Nat) × bd_S × Nat)
  | 0, m, σ, n => some (m, σ, n)
  | k + 1, m, σ, n => if al.testBit (9 - k) = true ∧ ¬ m (9 - k) < 10 then
      (bd_path g al m (9 - k) σ).bind fun q => match q.2 with
        | none => bd_ml g al k m q.1 n
        | some w => (bd_turn q.1.1 11 m w).bind fun m' => bd_ml g al k m' q.1 (n + 1)
      else bd_ml g al k m σ n
/-- Pairing.most -/
def bd_most (g : Nat → Nat) (al : Nat) (σ : bd_S) : Option ((Nat → Nat) × bd_S × Nat) := bd_ml g al 10 (fun _ => 10) σ 0
/-- a mask without one bit -/
def bd_clr (a w : Nat) : Nat := a ^^^ (a &&& 2 ^ w)
theorem bd_clr_bit (a w j : Nat) : (bd_clr a w).testBit j = (a.testBit j && decide (j ≠ w)) := by
  unfold bd_clr
  rw [Nat.testBit_xor, Nat.testBit_and, Nat.testBit_two_pow]
  by_cases h : w = j
  · subst h; simp
  · have h2 : j ≠ w := fun q => h q.symm
    simp [h, h2]
/-- how many pairs the places a .. 9 of a set make at most (k = 10 - a), for the bonds e -/
def bd_nu (e : Nat → Nat → Bool) : Nat → Nat → Nat
  | 0, _ => 0
  | k + 1, S => if S.testBit (9 - k) = true then
      (List.range 10).foldl (fun acc b => if (9 - k < b ∧ S.testBit b = true ∧ e (9 - k) b = true) then max acc (bd_nu e k (bd_clr (bd_clr S (9 - k)) b) + 1) else acc) (bd_nu e k (bd_clr S (9 - k)))
      else bd_nu e k S
end
section
/-! CHAINS: the outer places from x back to the root -/
def bd_Ch (f m : Nat → Nat) (root : Nat) : List Nat → Prop
  | [] => False
  | [x] => x = root
  | x :: y :: l => x ≠ root ∧ y = f (m x) ∧ bd_Ch f m root (y :: l)
/-- no two places of it are partners -/
def bd_Sm (m : Nat → Nat) (L : List Nat) : Prop := ∀ y ∈ L, m y ∉ L
theorem bd_Ch_suf {f m : Nat → Nat} {root : Nat} : ∀ (l : List Nat) {y : Nat} {l2 : List Nat}, bd_Ch f m root (l ++ y :: l2) → bd_Ch f m root (y :: l2)
  | [], _, _, h => h
  | [_], _, _, h => h.2.2
  | _ :: b :: l, _, _, h => bd_Ch_suf (b :: l) h.2.2
theorem bd_Ch_det {f m : Nat → Nat} {root : Nat} : ∀ (l l2 : List Nat) {x : Nat}, bd_Ch f m root (x :: l) → bd_Ch f m root (x :: l2) → l = l2
  | [], [], _, _, _ => rfl
  | [], _ :: _, _, h, h2 => absurd h h2.1
  | _ :: _, [], _, h, h2 => absurd h2 h.1
  | a :: l, a2 :: l2, x, h, h2 => by
    have e1 : a = f (m x) := h.2.1
    have e2 : a2 = f (m x) := h2.2.1
    subst e1
    subst e2
    rw [bd_Ch_det l l2 h.2.2 h2.2.2]
theorem bd_Ch_congr {f f' m : Nat → Nat} {root : Nat} : ∀ (l : List Nat), bd_Ch f m root l → (∀ x ∈ l, x ≠ root → f' (m x) = f (m x)) → bd_Ch f' m root l
  | [], h, _ => h
  | [_], h, _ => h
  | x :: y :: l, h, hc => ⟨h.1, by rw [hc x (by simp) h.1]; exact h.2.1, bd_Ch_congr (y :: l) h.2.2 (fun z hz => hc z (List.mem_cons_of_mem _ hz))⟩
theorem bd_Ch_mem {f m : Nat → Nat} {root : Nat} {L : List Nat} {y : Nat} (h : bd_Ch f m root L) (hy : y ∈ L) : ∃ l1 l2, L = l1 ++ y :: l2 ∧ bd_Ch f m root (y :: l2) := by
  obtain ⟨l1, l2, rfl⟩ := List.append_of_mem hy
  exact ⟨l1, l2, rfl, bd_Ch_suf l1 h⟩
theorem bd_Ch_nodup {f m : Nat → Nat} {root : Nat} : ∀ (L : List Nat), bd_Ch f m root L → L.Nodup
  | [], _ => List.nodup_nil
  | [x], _ => by simp
  | x :: y :: l, h => by
    refine List.nodup_cons.mpr ⟨fun hx => ?_, bd_Ch_nodup (y :: l) h.2.2⟩
    obtain ⟨l1, l2, e1, h2⟩ := bd_Ch_mem h.2.2 hx
    have h3 := bd_Ch_det _ _ h h2
    rw [e1] at h3
    have := congrArg List.length h3
    simp at this
    omega
theorem bd_Sm_sub {m : Nat → Nat} {L L' : List Nat} (h : bd_Sm m L) (hs : ∀ x ∈ L', x ∈ L) : bd_Sm m L' := fun y hy hm => h y (hs y hy) (hs _ hm)
/-- what holds all through a search -/
def bd_I (E : Nat → Nat → Prop) (m : Nat → Nat) (root : Nat) (f b : Nat → Nat) (O : Nat → Prop) : Prop :=
  (∀ x, x < 10 → b x < 10) ∧ (∀ x, x < 10 → b (b x) = b x) ∧ (∀ x, O x → x < 10) ∧ (O root ∧ b root = root ∧ ¬ m root < 10) ∧
  (∀ x, O x → O (b x)) ∧ (∀ x, x < 10 → ¬ O x → b x = x) ∧ (∀ u, u < 10 → ¬ O u → f u < 10 → m u < 10 ∧ O (m u)) ∧
  (∀ x, O x → x ≠ root → m x < 10 ∧ f (m x) < 10 ∧ O (f (m x)) ∧ E (f (m x)) (m x)) ∧
  (∀ x, O x → b x = x → ¬ f x < 10) ∧ (∀ x, O x → b x = x → ¬ O (m x)) ∧
  (∀ x, O x → b x ≠ x → O (m x) ∧ b (m x) = b x ∧ b (f (m x)) = b x) ∧
  (∀ x, O x → ∃ X, bd_Ch f m root (x :: X) ∧ bd_Sm m (x :: X))
section CH
variable {E : Nat → Nat → Prop} {m f b : Nat → Nat} {root : Nat} {O : Nat → Prop}
theorem bd_Ch_O (hst : ∀ x, O x → x ≠ root → m x < 10 ∧ f (m x) < 10 ∧ O (f (m x)) ∧ E (f (m x)) (m x)) : ∀ (L : List Nat) {x : Nat}, O x → bd_Ch f m root (x :: L) → ∀ y ∈ x :: L, O y
  | [], x, hx, _, y, hy => by simp at hy; subst hy; exact hx
  | z :: L, x, hx, h, y, hy => by
    rcases List.mem_cons.mp hy with e | e
    · subst e; exact hx
    · exact bd_Ch_O hst L (by rw [h.2.1]; exact (hst x hx h.1).2.2.1) h.2.2 y e
/-- a place's base is on its chain, and what stands before it has the same base -/
theorem bd_Ch_base (hbr : b root = root) (hst : ∀ x, O x → x ≠ root → m x < 10 ∧ f (m x) < 10 ∧ O (f (m x)) ∧ E (f (m x)) (m x)) (hp5 : ∀ x, O x → b x ≠ x → O (m x) ∧ b (m x) = b x ∧ b (f (m x)) = b x) : ∀ (L : List Nat) {x : Nat}, O x → bd_Ch f m root (x :: L) → ∃ l1 l2, x :: L = l1 ++ b x :: l2 ∧ ∀ y ∈ l1, b y = b x
  | [], x, hx, h => by
    have h : x = root := h
    subst h
    exact ⟨[], [], by rw [hbr]; rfl, fun _ h => by cases h⟩
  | z :: L, x, hx, h => by
    by_cases e : b x = x
    · exact ⟨[], z :: L, by rw [e]; rfl, fun _ h => by cases h⟩
    · have hz : z = f (m x) := h.2.1
      have hbz : b z = b x := by rw [hz]; exact (hp5 x hx e).2.2
      obtain ⟨l1, l2, e1, e2⟩ := bd_Ch_base hbr hst hp5 L (by rw [h.2.1]; exact (hst x hx h.1).2.2.1) h.2.2
      rw [hbz] at e1 e2
      refine ⟨x :: l1, l2, by rw [e1]; rfl, fun y hy => ?_⟩
      rcases List.mem_cons.mp hy with q | q
      · rw [q]
      · exact e2 y q
end CH
end
section
/-! DRAWING A RING: the pointers of U (from v back to the base t) and V (from w) are turned -/
def bd_Rv (m f' : Nat → Nat) : List Nat → Nat → Prop
  | [], _ => True
  | u :: L, a => f' u = a ∧ bd_Rv m f' L (m u)
def bd_Sit (m f b f' : Nat → Nat) (root : Nat) (O : Nat → Prop) (t v w : Nat) (X U Z1 : List Nat) (t1 : Nat) (Y V Z2 : List Nat) (t2 : Nat) : Prop :=
  (X = U ++ t1 :: Z1 ∧ Y = V ++ t2 :: Z2) ∧ ((∃ X', X = v :: X') ∧ ∃ Y', Y = w :: Y') ∧ (bd_Ch f m root X ∧ bd_Ch f m root Y) ∧ (bd_Sm m X ∧ bd_Sm m Y) ∧
  ((∀ x ∈ X, O x) ∧ ∀ y ∈ Y, O y) ∧ (b t1 = t ∧ b t2 = t) ∧ ((∀ u ∈ U, b u ≠ t) ∧ ∀ u ∈ V, b u ≠ t) ∧ ((∀ u ∈ U, ∀ y ∈ Y, b u ≠ b y) ∧ ∀ u ∈ V, ∀ x ∈ X, b u ≠ b x) ∧
  (bd_Rv m f' U w ∧ bd_Rv m f' V v) ∧ ∀ x, x ∉ U → x ∉ V → f' x = f x
theorem bd_Sit.swap {m f b f' : Nat → Nat} {root : Nat} {O : Nat → Prop} {t v w : Nat} {X U Z1 : List Nat} {t1 : Nat} {Y V Z2 : List Nat} {t2 : Nat} (h : bd_Sit m f b f' root O t v w X U Z1 t1 Y V Z2 t2) : bd_Sit m f b f' root O t w v Y V Z2 t2 X U Z1 t1 := by
  obtain ⟨h1, h2, h3, h4, h5, h6, h7, h8, h9, h10⟩ := h
  exact ⟨h1.symm, h2.symm, h3.symm, h4.symm, h5.symm, h6.symm, h7.symm, h8.symm, h9.symm, fun x a c => h10 x c a⟩
section DR
variable {E : Nat → Nat → Prop} {m f b f' : Nat → Nat} {root : Nat} {O : Nat → Prop}
theorem bd_Ub (hp5 : ∀ x, O x → b x ≠ x → O (m x) ∧ b (m x) = b x ∧ b (f (m x)) = b x) {t1 t : Nat} {Z1 : List Nat} (ht : b t1 = t) : ∀ (U : List Nat), bd_Ch f m root (U ++ t1 :: Z1) → (∀ x ∈ U, O x) → (∀ u ∈ U, b u ≠ t) → ∀ u ∈ U, b u ∈ U ∧ u ≠ root ∧ (f (m u) ∈ U ∨ f (m u) = t1)
  | [], _, _, _, u, hu => by cases hu
  | [x], h, hO, hn, u, hu => by
    have hu : u = x := by simpa using hu
    subst hu
    have h1 : u ≠ root := h.1
    have h2 : t1 = f (m u) := h.2.1
    by_cases e : b u = u
    · exact ⟨by rw [e]; simp, h1, Or.inr h2.symm⟩
    · have := (hp5 u (hO u (by simp)) e).2.2
      rw [← h2, ht] at this
      exact absurd this.symm (hn u (by simp))
  | x :: y :: U, h, hO, hn, u, hu => by
    have ih := bd_Ub hp5 ht (y :: U) h.2.2 (fun z hz => hO z (List.mem_cons_of_mem _ hz)) (fun z hz => hn z (List.mem_cons_of_mem _ hz))
    rcases List.mem_cons.mp hu with e | e
    · subst e
      have h2 : y = f (m u) := h.2.1
      refine ⟨?_, h.1, Or.inl (by rw [← h2]; simp)⟩
      by_cases e : b u = u
      · rw [e]; simp
      · have h3 := (hp5 u (hO u (by simp)) e).2.2
        rw [← h2] at h3
        rw [← h3]
        exact List.mem_cons_of_mem _ (ih y (by simp)).1
    · obtain ⟨a1, a2, a3⟩ := ih u e
      exact ⟨List.mem_cons_of_mem _ a1, a2, a3.imp (fun q => List.mem_cons_of_mem _ q) id⟩
theorem bd_Rv_val {t1 : Nat} {Z1 : List Nat} : ∀ (U : List Nat) (a : Nat), bd_Ch f m root (U ++ t1 :: Z1) → bd_Rv m f' U a → ∀ u ∈ U, (f' u = a ∧ ∃ U', U = u :: U') ∨ ∃ u' ∈ U, f' u = m u' ∧ u = f (m u')
  | [], _, _, _, u, hu => by cases hu
  | [x], a, h, hr, u, hu => by
    have hu : u = x := by simpa using hu
    subst hu
    exact Or.inl ⟨hr.1, [], rfl⟩
  | x :: y :: U, a, h, hr, u, hu => by
    rcases List.mem_cons.mp hu with e | e
    · subst e
      exact Or.inl ⟨hr.1, _, rfl⟩
    · rcases bd_Rv_val (y :: U) (m x) h.2.2 hr.2 u e with ⟨q1, U', q2⟩ | ⟨u', q1, q2⟩
      · refine Or.inr ⟨x, by simp, q1, ?_⟩
        have h2 : y = f (m x) := h.2.1
        have : u = y := by simpa using (List.cons.inj q2).1.symm
        rw [this]; exact h2
      · exact Or.inr ⟨u', List.mem_cons_of_mem _ q1, q2⟩
theorem bd_rev (hm : ∀ x, x < 10 → m x < 10 → m (m x) = x ∧ m x ≠ x) (hmr : ¬ m root < 10) : ∀ (U : List Nat) (a : Nat) (Q : List Nat), bd_Ch f' m root (a :: Q) → bd_Sm m (a :: Q) → (∀ y ∈ a :: Q, y < 10) → bd_Rv m f' U a → (∀ u ∈ U, u < 10 ∧ m u < 10 ∧ u ∉ a :: Q ∧ m u ∉ a :: Q) → (∀ u ∈ U, ∀ u' ∈ U, m u ≠ u') → U.Nodup → ∀ u ∈ U, ∃ Q', bd_Ch f' m root (m u :: Q') ∧ bd_Sm m (m u :: Q') ∧ ∀ z ∈ Q', z ∈ a :: Q ∨ ∃ u' ∈ U, z = m u'
  | [], _, _, _, _, _, _, _, _, _, u, hu => by cases hu
  | x :: U, a, Q, hC, hS, h10, hr, hd, hmm, hn, u, hu => by
    obtain ⟨x1, x2, x3, x4⟩ := hd x (by simp)
    obtain ⟨mx, mn⟩ := hm x x1 x2
    have hC' : bd_Ch f' m root (m x :: a :: Q) := by
      refine ⟨fun e => ?_, ?_, hC⟩
      · rw [← e, mx] at hmr; exact hmr x1
      · rw [mx]; exact hr.1.symm
    have hS' : bd_Sm m (m x :: a :: Q) := by
      intro y hy hmy
      rcases List.mem_cons.mp hy with e | e
      · subst e
        rw [mx] at hmy
        rcases List.mem_cons.mp hmy with e | e
        · exact mn e.symm
        · exact x3 e
      · rcases List.mem_cons.mp hmy with e2 | e2
        · have hy1 := h10 y e
          have := (hm y hy1 (by rw [e2]; exact x2)).1
          rw [e2, mx] at this
          rw [← this] at e
          exact x3 e
        · exact hS y e e2
    rcases List.mem_cons.mp hu with e | e
    · subst e
      exact ⟨a :: Q, hC', hS', fun z hz => Or.inl hz⟩
    · obtain ⟨hn1, hn2⟩ := List.nodup_cons.mp hn
      obtain ⟨Q', c1, c2, c3⟩ := bd_rev hm hmr U (m x) (a :: Q) hC' hS' (fun y hy => by
          rcases List.mem_cons.mp hy with e | e
          · rw [e]; exact x2
          · exact h10 y e) hr.2 (fun u' hu' => by
          obtain ⟨y1, y2, y3, y4⟩ := hd u' (List.mem_cons_of_mem _ hu')
          refine ⟨y1, y2, fun q => ?_, fun q => ?_⟩
          · rcases List.mem_cons.mp q with e | e
            · exact hmm x (by simp) u' (List.mem_cons_of_mem _ hu') e.symm
            · exact y3 e
          · rcases List.mem_cons.mp q with e | e
            · have := (hm u' y1 y2).1
              rw [e, mx] at this
              rw [← this] at hu'
              exact hn1 hu'
            · exact y4 e) (fun u1 h1 u2 h2 => hmm u1 (List.mem_cons_of_mem _ h1) u2 (List.mem_cons_of_mem _ h2)) hn2 u e
      refine ⟨Q', c1, c2, fun z hz => ?_⟩
      rcases c3 z hz with q | ⟨u', q1, q2⟩
      · rcases List.mem_cons.mp q with e | e
        · exact Or.inr ⟨x, by simp, e⟩
        · exact Or.inl e
      · exact Or.inr ⟨u', List.mem_cons_of_mem _ q1, q2⟩
/-- partners that are both outer have one base -/
theorem bd_mb (hI : bd_I E m root f b O) {x : Nat} (h : O x) (h2 : O (m x)) : b x ≠ x ∧ b (m x) = b x := by
  obtain ⟨-, -, -, -, -, -, -, -, -, hp4, hp5, -⟩ := hI
  have h3 : b x ≠ x := fun e => hp4 x h e h2
  exact ⟨h3, (hp5 x h h3).2.1⟩
theorem bd_cross (hI : bd_I E m root f b O) {U Y : List Nat} (hUO : ∀ u ∈ U, O u) (hYC : bd_Ch f m root Y) (hYO : ∀ y ∈ Y, O y) (hD : ∀ u ∈ U, ∀ y ∈ Y, b u ≠ b y) {x u : Nat} {l : List Nat} (hx : O x) (hC : bd_Ch f m root (x :: l)) (hu : u ∈ U) (hmu : m u ∈ x :: l) (hmx : m x ∈ Y) : False := by
  obtain ⟨hb10, hbb, hO10, ⟨hr1, hr2, hr3⟩, hOb, hnO, hin, hst, hfb, hp4, hp5, hch⟩ := id hI
  have hOm := hYO _ hmx
  obtain ⟨e1, e2⟩ := bd_mb hI hx hOm
  have hOmu : O (m u) := bd_Ch_O hst l hx hC _ hmu
  obtain ⟨e3, e4⟩ := bd_mb hI (hUO u hu) hOmu
  obtain ⟨l1, l2, p1, p2⟩ := bd_Ch_base hr2 hst hp5 l hx hC
  have hno : b (m u) = b x → False := fun q => hD u hu _ hmx (by rw [← e4, q, e2])
  rw [p1] at hmu
  rcases List.mem_append.mp hmu with q | q
  · exact hno (p2 _ q)
  · rcases List.mem_cons.mp q with q | q
    · exact hno (by rw [q]; exact hbb x (hO10 x hx))
    · obtain ⟨A, B, g1, g2⟩ := bd_Ch_mem hYC hmx
      obtain ⟨k1, k2, p3, p4⟩ := bd_Ch_base hr2 hst hp5 B hOm g2
      rw [e2] at p3
      have c1 : bd_Ch f m root (b x :: l2) := bd_Ch_suf l1 (by rw [← p1]; exact hC)
      have c2 : bd_Ch f m root (b x :: k2) := bd_Ch_suf k1 (by rw [← p3]; exact g2)
      have := bd_Ch_det _ _ c1 c2
      subst this
      have hY : m u ∈ Y := by rw [g1, p3]; simp [q]
      exact hD u hu _ hY e4.symm
variable {t v w : Nat} {X U Z1 : List Nat} {t1 : Nat} {Y V Z2 : List Nat} {t2 : Nat}
/-- the chains of v and w stay -/
theorem bd_keepX (hI : bd_I E m root f b O) (hS : bd_Sit m f b f' root O t v w X U Z1 t1 Y V Z2 t2) : (∀ x ∈ X, m x ∉ U ∧ m x ∉ V) ∧ bd_Ch f' m root X := by
  obtain ⟨⟨h1, h1'⟩, -, ⟨h3, -⟩, ⟨h4, -⟩, ⟨h5, h5'⟩, -, -, ⟨h8, h8'⟩, -, h10⟩ := hS
  have k : ∀ x ∈ X, m x ∉ U ∧ m x ∉ V := by
    intro x hx
    refine ⟨fun q => h4 x hx (by rw [h1]; exact List.mem_append_left _ q), fun q => ?_⟩
    have := bd_mb hI (h5 x hx) (h5' _ (by rw [h1']; exact List.mem_append_left _ q))
    exact h8' _ q x hx this.2
  exact ⟨k, bd_Ch_congr X h3 (fun x hx _ => h10 _ (k x hx).1 (k x hx).2)⟩
/-- the places that are turned get chains of their own -/
theorem bd_revU (hI : bd_I E m root f b O) (hm : ∀ x, x < 10 → m x < 10 → m (m x) = x ∧ m x ≠ x) (hS : bd_Sit m f b f' root O t v w X U Z1 t1 Y V Z2 t2) : ∀ u ∈ U, u < 10 ∧ m u < 10 ∧ ∃ Q', bd_Ch f' m root (m u :: Q') ∧ bd_Sm m (m u :: Q') ∧ ∀ z ∈ Q', z ∈ Y ∨ ∃ u' ∈ U, z = m u' := by
  have kY := (bd_keepX hI hS.swap).2
  obtain ⟨hb10, hbb, hO10, ⟨hr1, hr2, hr3⟩, hOb, hnO, hin, hst, hfb, hp4, hp5, hch⟩ := id hI
  obtain ⟨⟨h1, h1'⟩, ⟨-, Y', h2'⟩, ⟨h3, h3'⟩, ⟨h4, h4'⟩, ⟨h5, h5'⟩, ⟨h6, h6'⟩, ⟨h7, h7'⟩, ⟨h8, h8'⟩, ⟨h9, h9'⟩, h10⟩ := hS
  have hUX : ∀ u ∈ U, u ∈ X := fun u q => by rw [h1]; exact List.mem_append_left _ q
  have hub := bd_Ub hp5 h6 U (by rw [← h1]; exact h3) (fun u q => h5 u (hUX u q)) h7
  have h10' : ∀ u ∈ U, u < 10 ∧ m u < 10 := fun u hu => ⟨hO10 u (h5 u (hUX u hu)), (hst u (h5 u (hUX u hu)) (hub u hu).2.1).1⟩
  intro u hu
  have hnd : U.Nodup := by
    have := bd_Ch_nodup X h3
    rw [h1] at this
    exact (List.nodup_append.mp this).1
  obtain ⟨Q', c1, c2, c3⟩ := bd_rev hm hr3 U w Y' (by rw [← h2']; exact kY) (by rw [← h2']; exact h4') (by rw [← h2']; exact fun y hy => hO10 y (h5' y hy)) h9 (by
    rw [← h2']
    intro u hu
    refine ⟨(h10' u hu).1, (h10' u hu).2, fun q => h8 u hu u q rfl, fun q => ?_⟩
    exact h8 u hu _ q (bd_mb hI (h5 u (hUX u hu)) (h5' _ q)).2.symm) (fun u1 q1 u2 q2 e => h4 u1 (hUX u1 q1) (by rw [e]; exact hUX u2 q2)) hnd u hu
  refine ⟨(h10' u hu).1, (h10' u hu).2, Q', c1, c2, ?_⟩
  rw [← h2'] at c3
  exact c3
/-- every outer place has a chain over the new pointers -/
theorem bd_chain' (hI : bd_I E m root f b O) (hm : ∀ x, x < 10 → m x < 10 → m (m x) = x ∧ m x ≠ x) (hS : bd_Sit m f b f' root O t v w X U Z1 t1 Y V Z2 t2) : ∀ (l : List Nat) (x : Nat), O x → bd_Ch f m root (x :: l) → bd_Sm m (x :: l) → ∃ Q, bd_Ch f' m root (x :: Q) ∧ bd_Sm m (x :: Q) ∧ ∀ z ∈ x :: Q, z ∈ x :: l ∨ ((∃ u ∈ U, m u ∈ x :: l) ∧ (z ∈ Y ∨ ∃ u ∈ U, z = m u)) ∨ ((∃ u ∈ V, m u ∈ x :: l) ∧ (z ∈ X ∨ ∃ u ∈ V, z = m u)) := by
  have kX := bd_keepX hI hS
  have kY := bd_keepX hI hS.swap
  have rU := bd_revU hI hm hS
  have rV := bd_revU hI hm hS.swap
  obtain ⟨hb10, hbb, hO10, ⟨hr1, hr2, hr3⟩, hOb, hnO, hin, hst, hfb, hp4, hp5, hch⟩ := id hI
  obtain ⟨⟨h1, h1'⟩, -, ⟨h3, h3'⟩, ⟨h4, h4'⟩, ⟨h5, h5'⟩, ⟨h6, h6'⟩, ⟨h7, h7'⟩, ⟨h8, h8'⟩, ⟨h9, h9'⟩, h10⟩ := hS
  have hUX : ∀ u ∈ U, u ∈ X := fun u q => by rw [h1]; exact List.mem_append_left _ q
  have hVY : ∀ u ∈ V, u ∈ Y := fun u q => by rw [h1']; exact List.mem_append_left _ q
  intro l
  induction l with
  | nil =>
    intro x hx hC hSm
    exact ⟨[], hC, hSm, fun z hz => Or.inl hz⟩
  | cons y l ih =>
    intro x hx hC hSm
    by_cases c1 : x ∈ X
    · obtain ⟨l1, l2, e1, e2⟩ := bd_Ch_mem kX.2 c1
      have e3 : bd_Ch f m root (x :: l2) := bd_Ch_suf l1 (by rw [← e1]; exact h3)
      have := bd_Ch_det _ _ hC e3
      rw [← this] at e2
      exact ⟨_, e2, hSm, fun z hz => Or.inl hz⟩
    by_cases c2 : x ∈ Y
    · obtain ⟨l1, l2, e1, e2⟩ := bd_Ch_mem kY.2 c2
      have e3 : bd_Ch f m root (x :: l2) := bd_Ch_suf l1 (by rw [← e1]; exact h3')
      have := bd_Ch_det _ _ hC e3
      rw [← this] at e2
      exact ⟨_, e2, hSm, fun z hz => Or.inl hz⟩
    have hmx := (hst x hx hC.1).1
    have hx10 := hO10 x hx
    have mmx := (hm x hx10 hmx).1
    by_cases c3 : m x ∈ U
    · obtain ⟨-, -, Q', d1, d2, d3⟩ := rU _ c3
      rw [mmx] at d1 d2
      refine ⟨Q', d1, d2, fun z hz => ?_⟩
      rcases List.mem_cons.mp hz with e | e
      · exact Or.inl (by rw [e]; simp)
      · exact Or.inr (Or.inl ⟨⟨m x, c3, by rw [mmx]; simp⟩, d3 z e⟩)
    by_cases c4 : m x ∈ V
    · obtain ⟨-, -, Q', d1, d2, d3⟩ := rV _ c4
      rw [mmx] at d1 d2
      refine ⟨Q', d1, d2, fun z hz => ?_⟩
      rcases List.mem_cons.mp hz with e | e
      · exact Or.inl (by rw [e]; simp)
      · exact Or.inr (Or.inr ⟨⟨m x, c4, by rw [mmx]; simp⟩, d3 z e⟩)
    have hy : y = f (m x) := hC.2.1
    have hOy : O y := by rw [hy]; exact (hst x hx hC.1).2.2.1
    obtain ⟨Q, d1, d2, d3⟩ := ih y hOy hC.2.2 (bd_Sm_sub hSm (fun z hz => List.mem_cons_of_mem _ hz))
    have up : ∀ z, z ∈ y :: l → z ∈ x :: y :: l := fun z hz => List.mem_cons_of_mem _ hz
    have hno : m x ∉ y :: Q := by
      intro hz
      rcases d3 _ hz with q | ⟨⟨u, u1, u2⟩, q⟩ | ⟨⟨u, u1, u2⟩, q⟩
      · exact hSm x (by simp) (up _ q)
      · rcases q with q | ⟨u', q1, q2⟩
        · exact bd_cross hI (fun u q => h5 u (hUX u q)) h3' h5' h8 hx hC u1 (up _ u2) q
        · have : x = u' := by
            have g := (hm u' (rU u' q1).1 (rU u' q1).2.1).1
            rw [← q2, mmx] at g
            exact g
          exact c1 (by rw [this]; exact hUX u' q1)
      · rcases q with q | ⟨u', q1, q2⟩
        · exact bd_cross hI (fun u q => h5' u (hVY u q)) h3 h5 h8' hx hC u1 (up _ u2) q
        · have : x = u' := by
            have g := (hm u' (rV u' q1).1 (rV u' q1).2.1).1
            rw [← q2, mmx] at g
            exact g
          exact c2 (by rw [this]; exact hVY u' q1)
    have hC' : bd_Ch f' m root (x :: y :: Q) := ⟨hC.1, by rw [h10 _ c3 c4]; exact hy, d1⟩
    refine ⟨y :: Q, hC', ?_, fun z hz => ?_⟩
    · intro z hz hmz
      rcases List.mem_cons.mp hz with e | e
      · subst e
        rcases List.mem_cons.mp hmz with e | e
        · exact (hm _ hx10 hmx).2 e
        · exact hno e
      · rcases List.mem_cons.mp hmz with e2 | e2
        · have hz10 : z < 10 := by
            rcases d3 z e with q | ⟨⟨u, u1, u2⟩, q⟩ | ⟨⟨u, u1, u2⟩, q⟩
            · exact hO10 z (bd_Ch_O hst l hOy hC.2.2 z q)
            · rcases q with q | ⟨u', q1, q2⟩
              · exact hO10 z (h5' z q)
              · rw [q2]; exact (rU u' q1).2.1
            · rcases q with q | ⟨u', q1, q2⟩
              · exact hO10 z (h5 z q)
              · rw [q2]; exact (rV u' q1).2.1
          have := (hm z hz10 (by rw [e2]; exact hx10)).1
          rw [e2] at this
          rw [← this] at e
          exact hno e
        · exact d2 z e e2
    · rcases List.mem_cons.mp hz with e | e
      · exact Or.inl (by rw [e]; simp)
      · rcases d3 z e with q | ⟨⟨u, u1, u2⟩, q⟩ | ⟨⟨u, u1, u2⟩, q⟩
        · exact Or.inl (up _ q)
        · exact Or.inr (Or.inl ⟨⟨u, u1, up _ u2⟩, q⟩)
        · exact Or.inr (Or.inr ⟨⟨u, u1, up _ u2⟩, q⟩)
end DR
end
section
/-! behind the drawing all holds again -/
section DN
variable {E : Nat → Nat → Prop} {m f b f' b' : Nat → Nat} {root : Nat} {O O' Dr : Nat → Prop} {t v w : Nat} {X U Z1 : List Nat} {t1 : Nat} {Y V Z2 : List Nat} {t2 : Nat}
theorem bd_halfW (hI : bd_I E m root f b O) (hS : bd_Sit m f b f' root O t v w X U Z1 t1 Y V Z2 t2) : ∀ u ∈ U, O u ∧ u ≠ root ∧ m u < 10 ∧ b u ∈ U ∧ b u ≠ t ∧ (f (m u) ∈ U ∨ b (f (m u)) = t) ∧ ((f' u = w ∧ u = v) ∨ ∃ u' ∈ U, f' u = m u' ∧ u = f (m u')) := by
  obtain ⟨hb10, hbb, hO10, ⟨hr1, hr2, hr3⟩, hOb, hnO, hin, hst, hfb, hp4, hp5, hch⟩ := id hI
  obtain ⟨⟨h1, h1'⟩, ⟨⟨X', h2⟩, -⟩, ⟨h3, h3'⟩, ⟨h4, h4'⟩, ⟨h5, h5'⟩, ⟨h6, h6'⟩, ⟨h7, h7'⟩, ⟨h8, h8'⟩, ⟨h9, h9'⟩, h10⟩ := hS
  have hUX : ∀ u ∈ U, u ∈ X := fun u q => by rw [h1]; exact List.mem_append_left _ q
  have hub := bd_Ub hp5 h6 U (by rw [← h1]; exact h3) (fun u q => h5 u (hUX u q)) h7
  have hrv := bd_Rv_val (f' := f') U w (by rw [← h1]; exact h3) h9
  intro u hu
  obtain ⟨a1, a2, a3⟩ := hub u hu
  refine ⟨h5 u (hUX u hu), a2, (hst u (h5 u (hUX u hu)) a2).1, a1, h7 u hu, a3.imp id (fun q => by rw [q]; exact h6), ?_⟩
  rcases hrv u hu with ⟨q1, U', q2⟩ | q
  · refine Or.inl ⟨q1, ?_⟩
    rw [q2] at h1
    rw [h1] at h2
    exact (List.cons.inj h2).1
  · exact Or.inr q
theorem bd_drawn (hI : bd_I E m root f b O) (hm : ∀ x, x < 10 → m x < 10 → m (m x) = x ∧ m x ≠ x) (hE : ∀ x y, E x y → E y x) (hS : bd_Sit m f b f' root O t v w X U Z1 t1 Y V Z2 t2) (hvw : E v w)
    (hDr : ∀ β, Dr β ↔ ∃ u, (u ∈ U ∨ u ∈ V) ∧ (β = b u ∨ β = b (m u))) (hb1 : ∀ x, x < 10 → Dr (b x) → b' x = t) (hb2 : ∀ x, x < 10 → ¬ Dr (b x) → b' x = b x) (hO' : ∀ x, O' x ↔ O x ∨ (x < 10 ∧ Dr (b x))) : bd_I E m root f' b' O' ∧ b' v = b' w := by
  have wU := bd_halfW hI hS
  have wV := bd_halfW hI hS.swap
  have rU := bd_revU hI hm hS
  have rV := bd_revU hI hm hS.swap
  have cA := bd_chain' hI hm hS
  obtain ⟨hb10, hbb, hO10, ⟨hr1, hr2, hr3⟩, hOb, hnO, hin, hst, hfb, hp4, hp5, hch⟩ := id hI
  have hmb := fun x => bd_mb (x := x) hI
  obtain ⟨⟨h1, h1'⟩, ⟨⟨X', h2⟩, ⟨Y', h2'⟩⟩, ⟨h3, h3'⟩, ⟨h4, h4'⟩, ⟨h5, h5'⟩, ⟨h6, h6'⟩, ⟨h7, h7'⟩, ⟨h8, h8'⟩, ⟨h9, h9'⟩, h10⟩ := hS
  -- both sides in one
  obtain ⟨Wd, hWd⟩ : ∃ Wd : Nat → Prop, ∀ u, Wd u ↔ (u ∈ U ∨ u ∈ V) := ⟨_, fun _ => Iff.rfl⟩
  have hOv : O v := h5 v (by rw [h2]; simp)
  have hOw : O w := h5' w (by rw [h2']; simp)
  have hOt1 : O t1 := h5 t1 (by rw [h1]; simp)
  have hOt : O t := by rw [← h6]; exact hOb _ hOt1
  have hbt : b t = t := by rw [← h6]; exact hbb _ (hO10 _ hOt1)
  have ht10 := hO10 t hOt
  have hDr' : ∀ β, Dr β ↔ ∃ u, Wd u ∧ (β = b u ∨ β = b (m u)) := fun β => by rw [hDr]; simp only [hWd]
  have fW : ∀ u, Wd u → O u ∧ u ≠ root ∧ m u < 10 ∧ Wd (b u) ∧ b u ≠ t ∧ (Wd (f (m u)) ∨ b (f (m u)) = t) := by
    intro u hu
    rcases (hWd u).mp hu with q | q
    · obtain ⟨a1, a2, a3, a4, a5, a6, -⟩ := wU u q
      exact ⟨a1, a2, a3, (hWd _).mpr (Or.inl a4), a5, a6.imp (fun z => (hWd _).mpr (Or.inl z)) id⟩
    · obtain ⟨a1, a2, a3, a4, a5, a6, -⟩ := wV u q
      exact ⟨a1, a2, a3, (hWd _).mpr (Or.inr a4), a5, a6.imp (fun z => (hWd _).mpr (Or.inr z)) id⟩
  have F5 : ∀ u, Wd u → Dr (b u) ∧ Dr (b (m u)) := fun u hu => ⟨(hDr' _).mpr ⟨u, hu, Or.inl rfl⟩, (hDr' _).mpr ⟨u, hu, Or.inr rfl⟩⟩
  have F3 : ∀ x, O x → Dr (b x) → ∃ u, Wd u ∧ b x = b u := by
    intro x hx hd
    obtain ⟨u, hu, q | q⟩ := (hDr' _).mp hd
    · exact ⟨u, hu, q⟩
    · by_cases c : O (m u)
      · exact ⟨u, hu, by rw [q]; exact (hmb u (fW u hu).1 c).2⟩
      · rw [hnO _ (fW u hu).2.2.1 c] at q
        exact absurd (by rw [← q]; exact hOb x hx) c
  have F2 : ¬ Dr t := by
    intro hd
    rw [← hbt] at hd
    obtain ⟨u, hu, q⟩ := F3 t hOt hd
    rw [hbt] at q
    exact (fW u hu).2.2.2.2.1 q.symm
  have F4 : ∀ x, x < 10 → ¬ O x → Dr (b x) → ∃ u, Wd u ∧ x = m u := by
    intro x h10x hx hd
    have hbx := hnO x h10x hx
    rw [hbx] at hd
    obtain ⟨u, hu, q | q⟩ := (hDr' _).mp hd
    · exact absurd (by rw [q]; exact hOb u (fW u hu).1) hx
    · by_cases c : O (m u)
      · exact absurd (by rw [q]; exact hOb _ c) hx
      · rw [hnO _ (fW u hu).2.2.1 c] at q
        exact ⟨u, hu, q⟩
  have F6 : ∀ x, O x → b x = x → Dr x → Wd x := by
    intro x hx hbx hd
    obtain ⟨u, hu, q⟩ := F3 x hx (by rw [hbx]; exact hd)
    rw [hbx] at q
    rw [q]
    exact (fW u hu).2.2.2.1
  have hbT : ∀ x, x < 10 → b x = t → b' x = t := fun x hx q => by rw [hb2 x hx (by rw [q]; exact F2), q]
  have hbW : ∀ u, Wd u → b' u = t ∧ b' (m u) = t := fun u hu => ⟨hb1 u (hO10 u (fW u hu).1) (F5 u hu).1, hb1 _ (fW u hu).2.2.1 (F5 u hu).2⟩
  have hbw : b' w = t := by
    cases hV : V with
    | nil =>
      rw [hV] at h1'
      rw [h1'] at h2'
      have : t2 = w := (List.cons.inj h2').1
      exact hbT w (hO10 w hOw) (by rw [← this]; exact h6')
    | cons a V' =>
      rw [hV] at h1'
      rw [h1'] at h2'
      have : a = w := (List.cons.inj h2').1
      exact (hbW w ((hWd w).mpr (Or.inr (by rw [hV, this]; simp)))).1
  have hbv : b' v = t := by
    cases hU : U with
    | nil =>
      rw [hU] at h1
      rw [h1] at h2
      have : t1 = v := (List.cons.inj h2).1
      exact hbT v (hO10 v hOv) (by rw [← this]; exact h6)
    | cons a U' =>
      rw [hU] at h1
      rw [h1] at h2
      have : a = v := (List.cons.inj h2).1
      exact (hbW v ((hWd v).mpr (Or.inl (by rw [hU, this]; simp)))).1
  have hOm' : ∀ u, Wd u → O' (m u) := fun u hu => (hO' _).mpr (Or.inr ⟨(fW u hu).2.2.1, (F5 u hu).2⟩)
  -- the new pointers
  have fv : ∀ u, Wd u → f' u < 10 ∧ O' (f' u) ∧ E (f' u) u ∧ b' (f' u) = t := by
    intro u hu
    have k : (f' u = w ∧ u = v) ∨ (f' u = v ∧ u = w) ∨ ∃ u', Wd u' ∧ f' u = m u' ∧ u = f (m u') := by
      rcases (hWd u).mp hu with q | q
      · rcases (wU u q).2.2.2.2.2.2 with z | ⟨u', z1, z2⟩
        · exact Or.inl z
        · exact Or.inr (Or.inr ⟨u', (hWd _).mpr (Or.inl z1), z2⟩)
      · rcases (wV u q).2.2.2.2.2.2 with z | ⟨u', z1, z2⟩
        · exact Or.inr (Or.inl z)
        · exact Or.inr (Or.inr ⟨u', (hWd _).mpr (Or.inr z1), z2⟩)
    rcases k with ⟨e1, e2⟩ | ⟨e1, e2⟩ | ⟨u', g1, e1, e2⟩
    · rw [e1, e2]
      exact ⟨hO10 w hOw, (hO' _).mpr (Or.inl hOw), hE _ _ hvw, hbw⟩
    · rw [e1, e2]
      exact ⟨hO10 v hOv, (hO' _).mpr (Or.inl hOv), hvw, hbv⟩
    · rw [e1]
      refine ⟨(fW u' g1).2.2.1, hOm' u' g1, ?_, (hbW u' g1).2⟩
      rw [e2]
      exact hE _ _ (hst u' (fW u' g1).1 (fW u' g1).2.1).2.2.2
  have fk : ∀ x, ¬ Wd x → f' x = f x := fun x hx => h10 x (fun q => hx ((hWd x).mpr (Or.inl q))) (fun q => hx ((hWd x).mpr (Or.inr q)))
  have hO10' : ∀ x, O' x → x < 10 := fun x hx => ((hO' x).mp hx).elim (hO10 x) (fun q => q.1)
  -- an outer place of the new kind: an old one, or a partner of a turned one
  have hOx : ∀ x, O' x → O x ∨ (¬ O x ∧ ∃ u, Wd u ∧ x = m u) := by
    intro x hx
    by_cases c : O x
    · exact Or.inl c
    · rcases (hO' x).mp hx with q | q
      · exact absurd q c
      · exact Or.inr ⟨c, F4 x q.1 c q.2⟩
  have hmm : ∀ u, Wd u → m (m u) = u := fun u hu => (hm u (hO10 u (fW u hu).1) (fW u hu).2.2.1).1
  have hDec : ∀ β, Dr β ∨ ¬ Dr β := fun β => Classical.em _
  refine ⟨⟨?_, ?_, hO10', ⟨(hO' _).mpr (Or.inl hr1), ?_, hr3⟩, ?_, ?_, ?_, ?_, ?_, ?_, ?_, ?_⟩, by rw [hbv, hbw]⟩
  · intro x hx
    rcases hDec (b x) with q | q
    · rw [hb1 x hx q]; exact ht10
    · rw [hb2 x hx q]; exact hb10 x hx
  · intro x hx
    rcases hDec (b x) with q | q
    · rw [hb1 x hx q]; exact hbT t ht10 hbt
    · rw [hb2 x hx q, hb2 (b x) (hb10 x hx) (by rw [hbb x hx]; exact q), hbb x hx]
  · have h10r := hO10 root hr1
    rw [hb2 root h10r, hr2]
    intro q
    rw [hr2] at q
    exact (fW root (F6 root hr1 hr2 q)).2.1 rfl
  · intro x hx
    have h10x := hO10' x hx
    rcases hDec (b x) with q | q
    · rw [hb1 x h10x q]; exact (hO' _).mpr (Or.inl hOt)
    · rw [hb2 x h10x q]
      rcases (hO' x).mp hx with z | z
      · exact (hO' _).mpr (Or.inl (hOb x z))
      · exact absurd z.2 q
  · intro x hx hn
    have q : ¬ Dr (b x) := fun q => hn ((hO' x).mpr (Or.inr ⟨hx, q⟩))
    rw [hb2 x hx q]
    exact hnO x hx (fun z => hn ((hO' x).mpr (Or.inl z)))
  · intro u hu hn hf
    have hnu : ¬ O u := fun z => hn ((hO' u).mpr (Or.inl z))
    have hnw : ¬ Wd u := fun z => hnu (fW u z).1
    rw [fk u hnw] at hf
    obtain ⟨a1, a2⟩ := hin u hu hnu hf
    exact ⟨a1, (hO' _).mpr (Or.inl a2)⟩
  · intro x hx hxr
    rcases hOx x hx with c | ⟨c, u, hu, rfl⟩
    · obtain ⟨a1, a2, a3, a4⟩ := hst x c hxr
      by_cases q : Wd (m x)
      · obtain ⟨b1, b2, b3, -⟩ := fv _ q
        exact ⟨a1, b1, b2, b3⟩
      · rw [fk _ q]
        exact ⟨a1, a2, (hO' _).mpr (Or.inl a3), a4⟩
    · rw [hmm u hu]
      obtain ⟨b1, b2, b3, -⟩ := fv _ hu
      exact ⟨hO10 u (fW u hu).1, b1, b2, b3⟩
  · intro x hx hbx
    have h10x := hO10' x hx
    have hnd : ¬ Dr (b x) := by
      intro q
      rw [hb1 x h10x q] at hbx
      rw [← hbx, hbt] at q
      exact F2 q
    rw [hb2 x h10x hnd] at hbx
    have c : O x := ((hO' x).mp hx).elim id (fun q => absurd q.2 hnd)
    have hnw : ¬ Wd x := fun q => hnd (F5 x q).1
    rw [fk x hnw]
    exact hfb x c hbx
  · intro x hx hbx
    have h10x := hO10' x hx
    have hnd : ¬ Dr (b x) := by
      intro q
      rw [hb1 x h10x q] at hbx
      rw [← hbx, hbt] at q
      exact F2 q
    rw [hb2 x h10x hnd] at hbx
    have c : O x := ((hO' x).mp hx).elim id (fun q => absurd q.2 hnd)
    have hnw : ¬ Wd x := fun q => hnd (F5 x q).1
    intro hmx
    rcases hOx _ hmx with z | ⟨z, u, hu, e⟩
    · exact hp4 x c hbx z
    · have hmx10 : m x < 10 := hO10' _ hmx
      have e2 := (hm x h10x hmx10).1
      rw [e, hmm u hu] at e2
      exact hnw (by rw [← e2]; exact hu)
  · intro x hx hbx
    have h10x := hO10' x hx
    rcases hOx x hx with c | ⟨c, u, hu, rfl⟩
    · rcases hDec (b x) with q | q
      · rw [hb1 x h10x q]
        by_cases e : b x = x
        · have hw : Wd x := F6 x c e (by rw [← e]; exact q)
          have g2 := hbW x hw
          refine ⟨hOm' x hw, g2.2, ?_⟩
          by_cases y : Wd (m x)
          · exact (fv _ y).2.2.2
          · rw [fk _ y]
            rcases (fW x hw).2.2.2.2.2 with z | z
            · exact (hbW _ z).1
            · exact hbT _ (hst x c (fW x hw).2.1).2.1 z
        · obtain ⟨a1, a2, a3⟩ := hp5 x c e
          refine ⟨(hO' _).mpr (Or.inl a1), hb1 _ (hO10 _ a1) (by rw [a2]; exact q), ?_⟩
          by_cases y : Wd (m x)
          · exact (fv _ y).2.2.2
          · rw [fk _ y]
            have hxr : x ≠ root := fun z => e (by rw [z]; exact hr2)
            exact hb1 _ (hst x c hxr).2.1 (by rw [a3]; exact q)
      · rw [hb2 x h10x q] at hbx ⊢
        obtain ⟨a1, a2, a3⟩ := hp5 x c hbx
        have y : ¬ Wd (m x) := fun y => q (by rw [← a2]; exact (F5 _ y).1)
        have hxr : x ≠ root := fun z => hbx (by rw [z]; exact hr2)
        refine ⟨(hO' _).mpr (Or.inl a1), by rw [hb2 _ (hO10 _ a1) (by rw [a2]; exact q)]; exact a2, ?_⟩
        rw [fk _ y, hb2 _ (hst x c hxr).2.1 (by rw [a3]; exact q)]
        exact a3
    · rw [hmm u hu, (hbW u hu).2]
      exact ⟨(hO' _).mpr (Or.inl (fW u hu).1), (hbW u hu).1, (fv u hu).2.2.2⟩
  · intro x hx
    rcases hOx x hx with c | ⟨c, u, hu, rfl⟩
    · obtain ⟨l, d1, d2⟩ := hch x c
      obtain ⟨Q, e1, e2, -⟩ := cA l x c d1 d2
      exact ⟨Q, e1, e2⟩
    · rcases (hWd u).mp hu with q | q
      · obtain ⟨-, -, Q, e1, e2, -⟩ := rU u q
        exact ⟨Q, e1, e2⟩
      · obtain ⟨-, -, Q, e1, e2, -⟩ := rV u q
        exact ⟨Q, e1, e2⟩
end DN
end
section
/-! THE RUNS of meeting, along, see and draw's loop -/
theorem bd_or2 (a w j : Nat) : (a ||| 2 ^ w).testBit j = true ↔ (a.testBit j = true ∨ j = w) := by
  rw [Nat.testBit_or, Nat.testBit_two_pow]
  simp
  constructor
  · rintro (h | h)
    · exact Or.inl h
    · exact Or.inr h.symm
  · rintro (h | h)
    · exact Or.inl h
    · exact Or.inr h.symm
section RN
variable {E : Nat → Nat → Prop} {m f b : Nat → Nat} {root : Nat} {O : Nat → Prop}
theorem bd_Ch_nil {l : List Nat} (h : bd_Ch f m root (root :: l)) : l = [] := by
  cases l with
  | nil => rfl
  | cons a l => exact absurd rfl h.1
/-- the next base behind x's own: the rest of the chain -/
theorem bd_next (hI : bd_I E m root f b O) {x : Nat} {L : List Nat} (hx : O x) (hC : bd_Ch f m root (x :: L)) : b x < 10 ∧ ∃ l1 l2, x :: L = l1 ++ b x :: l2 ∧ (∀ y ∈ l1, b y = b x) ∧ bd_Ch f m root (b x :: l2) ∧ l2.length ≤ L.length ∧
    ((b x = root ∧ l2 = [] ∧ ¬ m (b x) < 10) ∨ (b x ≠ root ∧ m (b x) < 10 ∧ f (m (b x)) < 10 ∧ O (f (m (b x))) ∧ ∃ l3, l2 = f (m (b x)) :: l3 ∧ bd_Ch f m root (f (m (b x)) :: l3))) := by
  obtain ⟨hb10, hbb, hO10, ⟨hr1, hr2, hr3⟩, hOb, hnO, hin, hst, hfb, hp4, hp5, hch⟩ := id hI
  obtain ⟨l1, l2, p1, p2⟩ := bd_Ch_base hr2 hst hp5 L hx hC
  have c1 : bd_Ch f m root (b x :: l2) := bd_Ch_suf l1 (by rw [← p1]; exact hC)
  have hlen : l2.length ≤ L.length := by
    have := congrArg List.length p1
    simp at this
    omega
  refine ⟨hb10 x (hO10 x hx), l1, l2, p1, p2, c1, hlen, ?_⟩
  by_cases e : b x = root
  · refine Or.inl ⟨e, ?_, by rw [e]; exact hr3⟩
    rw [e] at c1
    exact bd_Ch_nil c1
  · obtain ⟨a1, a2, a3, -⟩ := hst (b x) (hOb x hx) e
    refine Or.inr ⟨e, a1, a2, a3, ?_⟩
    cases l2 with
    | nil => exact absurd c1 e
    | cons z l3 =>
      obtain ⟨-, z1, z2⟩ := c1
      rw [← z1]
      exact ⟨l3, rfl, z2⟩
theorem bd_met1_run (hI : bd_I E m root f b O) : ∀ (k : Nat) (L : List Nat) (x met : Nat), O x → bd_Ch f m root (x :: L) → L.length < k → ∃ r, bd_met1 m f b k x met = some r ∧ ∀ β, r.testBit β = true ↔ (met.testBit β = true ∨ ∃ y ∈ x :: L, b y = β)
  | 0, _, _, _, _, _, h => absurd h (Nat.not_lt_zero _)
  | k + 1, L, x, met, hx, hC, hk => by
    obtain ⟨c10, l1, l2, p1, p2, -, hlen, hh⟩ := bd_next hI hx hC
    have hbb := hI.2.1 x (hI.2.2.1 x hx)
    have key : ∀ β, (∃ y ∈ x :: L, b y = β) ↔ (b x = β ∨ ∃ y ∈ l2, b y = β) := by
      intro β
      rw [p1]
      constructor
      · rintro ⟨y, hy, e⟩
        rcases List.mem_append.mp hy with q | q
        · exact Or.inl (by rw [← p2 y q]; exact e)
        · rcases List.mem_cons.mp q with q | q
          · rw [q, hbb] at e; exact Or.inl e
          · exact Or.inr ⟨y, q, e⟩
      · rintro (e | ⟨y, hy, e⟩)
        · exact ⟨b x, by simp, by rw [hbb]; exact e⟩
        · exact ⟨y, by simp [hy], e⟩
    unfold bd_met1
    rw [if_pos c10]
    rcases hh with ⟨h1, h2, h3⟩ | ⟨h1, h2, h3, h4, l3, h5, h6⟩
    · rw [if_neg h3]
      refine ⟨_, rfl, fun β => ?_⟩
      rw [bd_or2, key, h2]
      simp
      exact ⟨fun q => q.imp id Eq.symm, fun q => q.imp id Eq.symm⟩
    · rw [if_pos h2, if_pos h3]
      obtain ⟨r, e1, e2⟩ := bd_met1_run hI k l3 _ (met ||| 2 ^ (b x)) h4 h6 (by rw [h5] at hlen; simp at hlen; omega)
      refine ⟨r, e1, fun β => ?_⟩
      rw [e2, bd_or2, key, ← h5]
      constructor
      · rintro ((q | q) | q)
        · exact Or.inl q
        · exact Or.inr (Or.inl q.symm)
        · exact Or.inr (Or.inr q)
      · rintro (q | q | q)
        · exact Or.inl (Or.inl q)
        · exact Or.inl (Or.inr q.symm)
        · exact Or.inr q
theorem bd_met2_run (hI : bd_I E m root f b O) {met : Nat} (hmet : met.testBit root = true) : ∀ (k : Nat) (L : List Nat) (x : Nat), O x → bd_Ch f m root (x :: L) → L.length < k → ∃ t V t2 Z, bd_met2 m f b met k x = some t ∧ x :: L = V ++ t2 :: Z ∧ b t2 = t ∧ met.testBit t = true ∧ ∀ y ∈ V, ¬ met.testBit (b y) = true
  | 0, _, _, _, _, h => absurd h (Nat.not_lt_zero _)
  | k + 1, L, x, hx, hC, hk => by
    obtain ⟨c10, l1, l2, p1, p2, -, hlen, hh⟩ := bd_next hI hx hC
    have hbb := hI.2.1 x (hI.2.2.1 x hx)
    unfold bd_met2
    rw [if_pos c10]
    by_cases q : met.testBit (b x) = true
    · rw [if_pos q]
      exact ⟨b x, [], x, L, rfl, rfl, rfl, q, fun y hy => by cases hy⟩
    · rw [if_neg q]
      rcases hh with ⟨h1, h2, h3⟩ | ⟨h1, h2, h3, h4, l3, h5, h6⟩
      · rw [h1] at q; exact absurd hmet q
      · rw [if_pos ⟨h2, h3⟩]
        obtain ⟨t, V, t2, Z, e1, e2, e3, e4, e5⟩ := bd_met2_run hI hmet k l3 _ h4 h6 (by rw [h5] at hlen; simp at hlen; omega)
        refine ⟨t, l1 ++ b x :: V, t2, Z, e1, ?_, e3, e4, fun y hy => ?_⟩
        · rw [p1, h5, e2]; simp
        · rcases List.mem_append.mp hy with z | z
          · rw [p2 y z]; exact q
          · rcases List.mem_cons.mp z with z | z
            · rw [z, hbb]; exact q
            · exact e5 y z
theorem bd_along_run {t t1 : Nat} {Z1 : List Nat} (ht : b t1 = t) : ∀ (U : List Nat) (k : Nat) (f : Nat → Nat) (dr u a : Nat), U.length < k → (∃ l, U ++ t1 :: Z1 = u :: l) → bd_Ch f m root (U ++ t1 :: Z1) → (∀ x ∈ U ++ t1 :: Z1, m x ∉ U) → U.Nodup → (∀ x ∈ U, b x ≠ t ∧ b x < 10 ∧ m x < 10 ∧ b (m x) < 10 ∧ f (m x) < 10) →
    ∃ f' dr', bd_along m b t k f dr u a = some (f', dr') ∧ bd_Rv m f' U a ∧ (∀ x, x ∉ U → f' x = f x) ∧ ∀ β, dr'.testBit β = true ↔ (dr.testBit β = true ∨ ∃ x ∈ U, β = b x ∨ β = b (m x))
  | [], 0, _, _, _, _, h, _, _, _, _, _ => absurd h (Nat.not_lt_zero _)
  | [], k + 1, f, dr, u, a, hk, ⟨l, hl⟩, hC, hmU, hn, hv => by
    have : t1 = u := (List.cons.inj hl).1
    subst this
    refine ⟨f, dr, by unfold bd_along; rw [if_pos ht], trivial, fun _ _ => rfl, fun β => ?_⟩
    simp
  | y :: U, 0, _, _, _, _, h, _, _, _, _, _ => absurd h (Nat.not_lt_zero _)
  | y :: U, k + 1, f, dr, u, a, hk, ⟨l, hl⟩, hC, hmU, hn, hv => by
    have : y = u := (List.cons.inj hl).1
    subst this
    obtain ⟨v1, v2, v3, v4, v5⟩ := hv y (by simp)
    obtain ⟨n1, n2⟩ := List.nodup_cons.mp hn
    have hmy : m y ≠ y := fun e => hmU y (by simp) (by rw [e]; simp)
    have hup : ∀ x ∈ (y :: U) ++ t1 :: Z1, bd_up f y a (m x) = f (m x) := fun x hx => bd_up_n (fun e => hmU x hx (by rw [e]; simp))
    have hfy := hup y (by simp)
    obtain ⟨z, l', hz⟩ : ∃ z l', U ++ t1 :: Z1 = z :: l' := by
      cases U with
      | nil => exact ⟨t1, Z1, rfl⟩
      | cons c U => exact ⟨c, U ++ t1 :: Z1, rfl⟩
    have hC2 : bd_Ch f m root (y :: z :: l') := by rw [← hz]; exact hC
    have hzf : f (m y) = z := hC2.2.1.symm
    have hC3 : bd_Ch (bd_up f y a) m root (U ++ t1 :: Z1) := by
      rw [hz]
      refine bd_Ch_congr _ hC2.2.2 (fun x hx _ => hup x ?_)
      rw [← hz] at hx
      exact List.mem_cons_of_mem _ hx
    obtain ⟨f', dr', e1, e2, e3, e4⟩ := bd_along_run ht U k (bd_up f y a) (dr ||| (2 ^ (b y) ||| 2 ^ (b (m y)))) z (m y) (by simp at hk; omega) ⟨l', hz⟩ hC3 (fun x hx q => hmU x (List.mem_cons_of_mem _ hx) (List.mem_cons_of_mem _ q)) n2 (fun x hx => by
      obtain ⟨w1, w2, w3, w4, w5⟩ := hv x (List.mem_cons_of_mem _ hx)
      exact ⟨w1, w2, w3, w4, by rw [hup x (by simp [hx])]; exact w5⟩)
    refine ⟨f', dr', ?_, ⟨?_, e2⟩, ?_, ?_⟩
    · unfold bd_along
      rw [if_neg v1, hfy, if_pos ⟨v2, v3, v4, v5⟩, hzf]
      exact e1
    · rw [e3 y n1]; exact bd_up_s _ _ _
    · intro x hx
      rw [e3 x (fun q => hx (List.mem_cons_of_mem _ q))]
      exact bd_up_n (fun e => hx (by rw [e]; simp))
    · intro β
      have hor : (dr ||| (2 ^ (b y) ||| 2 ^ (b (m y)))).testBit β = true ↔ (dr.testBit β = true ∨ β = b y ∨ β = b (m y)) := by
        rw [← Nat.or_assoc, bd_or2, bd_or2, or_assoc]
      rw [e4, hor]
      constructor
      · rintro ((q | q) | ⟨x, q1, q2⟩)
        · exact Or.inl q
        · exact Or.inr ⟨y, by simp, q⟩
        · exact Or.inr ⟨x, List.mem_cons_of_mem _ q1, q2⟩
      · rintro (q | ⟨x, q1, q2⟩)
        · exact Or.inl (Or.inl q)
        · rcases List.mem_cons.mp q1 with e | e
          · rw [e] at q2; exact Or.inl (Or.inr q2)
          · exact Or.inr ⟨x, e, q2⟩
end RN
/-! the row -/
def bd_Row (se : Nat) (r : Nat → Nat) (mn : Nat) : Prop := mn ≤ 10 ∧ (∀ i, i < mn → r i < 10 ∧ se.testBit (r i) = true) ∧ (∀ x, se.testBit x = true → ∃ i, i < mn ∧ r i = x) ∧ ∀ i j, i < j → j < mn → r i ≠ r j
theorem bd_holes : ∀ (m n : Nat) (f : Nat → Nat), (∀ i, i < n → f i < m) → (∀ i j, i < j → j < n → f i ≠ f j) → n ≤ m := by
  intro m
  induction m with
  | zero =>
    intro n f h1 _
    rcases Nat.eq_zero_or_pos n with h | h
    · omega
    · exact absurd (h1 0 h) (Nat.not_lt_zero _)
  | succ m ih =>
    intro n f h1 h2
    by_cases hx : ∃ i, i < n ∧ f i = m
    · obtain ⟨a, ha, hfa⟩ := hx
      have hg := ih (n - 1) (fun i => if i < a then f i else f (i + 1)) (by
        intro i hi
        by_cases q : i < a
        · simp only [if_pos q]
          have b1 := h1 i (by omega)
          have b2 := h2 i a q ha
          omega
        · simp only [if_neg q]
          have b1 := h1 (i + 1) (by omega)
          have b2 := h2 a (i + 1) (by omega) (by omega)
          omega) (by
        intro i j hij hj
        by_cases q : i < a
        · by_cases r : j < a
          · simp only [if_pos q, if_pos r]
            exact h2 i j hij (by omega)
          · simp only [if_pos q, if_neg r]
            exact h2 i (j + 1) (by omega) (by omega)
        · have r : ¬ j < a := by omega
          simp only [if_neg q, if_neg r]
          exact h2 (i + 1) (j + 1) (by omega) (by omega))
      omega
    · have hg := ih n f (fun i hi => by
        have b1 := h1 i hi
        have b2 : f i ≠ m := fun e => hx ⟨i, hi, e⟩
        omega) h2
      omega
theorem bd_see_run {se mn v : Nat} {r : Nat → Nat} (h : bd_Row se r mn) (hv : v < 10) : ∃ se' r' mn', bd_see v se r mn = some (se', r', mn') ∧ bd_Row se' r' mn' ∧ (∀ x, se'.testBit x = true ↔ (se.testBit x = true ∨ x = v)) ∧ mn ≤ mn' ∧ ∀ i, i < mn → r' i = r i := by
  obtain ⟨h0, h1, h2, h3⟩ := h
  unfold bd_see
  by_cases c : se.testBit v = true
  · rw [if_pos c]
    refine ⟨se, r, mn, rfl, ⟨h0, h1, h2, h3⟩, fun x => ⟨Or.inl, fun q => q.elim id (fun e => by rw [e]; exact c)⟩, Nat.le_refl _, fun _ _ => rfl⟩
  · rw [if_neg c]
    have hn : ∀ i, i < mn → r i ≠ v := fun i hi e => c (by rw [← e]; exact (h1 i hi).2)
    have h3' : ∀ i j, i < j → j < mn + 1 → bd_up r mn v i ≠ bd_up r mn v j := by
      intro i j hij hj
      rw [bd_up_n (show i ≠ mn by omega)]
      by_cases e : j = mn
      · rw [e, bd_up_s]; exact hn i (by omega)
      · rw [bd_up_n e]; exact h3 i j hij (by omega)
    have hlt : mn < 10 := by
      have := bd_holes 10 (mn + 1) (bd_up r mn v) (fun i hi => by
        by_cases e : i = mn
        · rw [e, bd_up_s]; exact hv
        · rw [bd_up_n e]; exact (h1 i (by omega)).1) h3'
      omega
    rw [if_pos hlt]
    refine ⟨_, _, _, rfl, ⟨by omega, ?_, ?_, h3'⟩, fun x => bd_or2 _ _ _, by omega, fun i hi => bd_up_n (by omega)⟩
    · intro i hi
      by_cases e : i = mn
      · rw [e, bd_up_s]; exact ⟨hv, (bd_or2 _ _ _).mpr (Or.inr rfl)⟩
      · rw [bd_up_n e]
        obtain ⟨a1, a2⟩ := h1 i (by omega)
        exact ⟨a1, (bd_or2 _ _ _).mpr (Or.inl a2)⟩
    · intro x hx
      rcases (bd_or2 _ _ _).mp hx with q | q
      · obtain ⟨i, i1, i2⟩ := h2 x q
        exact ⟨i, by omega, by rw [bd_up_n (by omega)]; exact i2⟩
      · exact ⟨mn, by omega, by rw [bd_up_s]; exact q.symm⟩
theorem bd_dl_run {t dr : Nat} (ht : t < 10) : ∀ (k : Nat) (b : Nat → Nat) (se : Nat) (r : Nat → Nat) (mn : Nat), k ≤ 10 → bd_Row se r mn → (∀ x, x < 10 → b x < 10) →
    ∃ b' se' r' mn', bd_dl t dr k b se r mn = some (b', se', r', mn') ∧ bd_Row se' r' mn' ∧ (∀ x, x < 10 → 10 - k ≤ x → (dr.testBit (b x) = true → b' x = t) ∧ (¬ dr.testBit (b x) = true → b' x = b x)) ∧ (∀ x, x < 10 - k → b' x = b x) ∧ (∀ x, se'.testBit x = true ↔ (se.testBit x = true ∨ (10 - k ≤ x ∧ x < 10 ∧ dr.testBit (b x) = true))) ∧ mn ≤ mn' ∧ ∀ i, i < mn → r' i = r i
  | 0, b, se, r, mn, _, hR, hb => ⟨b, se, r, mn, rfl, hR, fun x h1 h2 => absurd h1 (by omega), fun _ _ => rfl, fun x => ⟨Or.inl, fun q => q.elim id (fun z => absurd z.2.1 (by omega))⟩, Nat.le_refl _, fun _ _ => rfl⟩
  | k + 1, b, se, r, mn, hk, hR, hb => by
    have hu : 9 - k < 10 := by omega
    unfold bd_dl
    rw [if_pos (hb _ hu)]
    by_cases c : dr.testBit (b (9 - k)) = true
    · rw [if_pos c]
      obtain ⟨se1, r1, mn1, e1, e2, e3, e4, e5⟩ := bd_see_run hR hu
      rw [e1]
      have hne : ∀ x, x ≠ 9 - k → bd_up b (9 - k) t x = b x := fun x q => bd_up_n q
      obtain ⟨b', se', r', mn', g1, g2, g3, g4, g5, g6, g7⟩ := bd_dl_run ht k (bd_up b (9 - k) t) se1 r1 mn1 (by omega) e2 (fun x hx => by
        by_cases e : x = 9 - k
        · rw [e, bd_up_s]; exact ht
        · rw [hne x e]; exact hb x hx)
      refine ⟨b', se', r', mn', g1, g2, fun x h1 h2 => ?_, fun x h1 => ?_, fun x => ?_, by omega, fun i hi => by rw [g7 i (by omega), e5 i hi]⟩
      · by_cases e : x = 9 - k
        · rw [g4 x (by omega), e, bd_up_s]
          exact ⟨fun _ => rfl, fun q => absurd c q⟩
        · have := g3 x h1 (by omega)
          rw [hne x e] at this
          exact this
      · rw [g4 x (by omega), hne x (by omega)]
      · rw [g5 x, e3 x]
        by_cases e : x = 9 - k
        · subst e
          constructor
          · intro _; exact Or.inr ⟨by omega, hu, c⟩
          · intro _; exact Or.inl (Or.inr rfl)
        · rw [hne x e]
          constructor
          · rintro ((q | q) | q)
            · exact Or.inl q
            · exact absurd q e
            · exact Or.inr ⟨by omega, q.2⟩
          · rintro (q | q)
            · exact Or.inl (Or.inl q)
            · exact Or.inr ⟨by omega, q.2⟩
    · rw [if_neg c]
      obtain ⟨b', se', r', mn', g1, g2, g3, g4, g5, g6, g7⟩ := bd_dl_run ht k b se r mn (by omega) hR hb
      refine ⟨b', se', r', mn', g1, g2, fun x h1 h2 => ?_, fun x h1 => g4 x (by omega), fun x => ?_, g6, g7⟩
      · by_cases e : x = 9 - k
        · rw [g4 x (by omega), e]
          exact ⟨fun q => absurd q c, fun _ => rfl⟩
        · exact g3 x h1 (by omega)
      · rw [g5 x]
        constructor
        · rintro (q | q)
          · exact Or.inl q
          · exact Or.inr ⟨by omega, q.2⟩
        · rintro (q | q)
          · exact Or.inl q
          · by_cases e : x = 9 - k
            · rw [e] at q; exact absurd q.2.2 c
            · exact Or.inr ⟨by omega, q.2⟩
end
section
/-! DRAW, run -/
theorem bd_len10 {L : List Nat} (h : L.Nodup) (h10 : ∀ x ∈ L, x < 10) : L.length ≤ 10 := by
  refine bd_holes 10 L.length (fun i => L.getD i 0) (fun i hi => ?_) (fun i j hij hj => ?_)
  · have : L.getD i 0 = L[i] := by simp [List.getD, hi]
    rw [this]
    exact h10 _ (List.getElem_mem hi)
  · have e1 : L.getD i 0 = L[i]'(by omega) := by simp [List.getD, show i < L.length by omega]
    have e2 : L.getD j 0 = L[j] := by simp [List.getD, hj]
    rw [e1, e2]
    exact (List.pairwise_iff_getElem.mp h) i j (by omega) hj hij
theorem bd_first {b : Nat → Nat} {t : Nat} : ∀ (X : List Nat), (∃ x ∈ X, b x = t) → ∃ U t1 Z, X = U ++ t1 :: Z ∧ b t1 = t ∧ ∀ u ∈ U, b u ≠ t
  | [], ⟨x, h, _⟩ => by cases h
  | a :: X, ⟨x, h, e⟩ => by
    by_cases c : b a = t
    · exact ⟨[], a, X, rfl, c, fun _ h => by cases h⟩
    · obtain ⟨U, t1, Z, h1, h2, h3⟩ := bd_first (b := b) (t := t) X (by
        rcases List.mem_cons.mp h with q | q
        · rw [q] at e; exact absurd e c
        · exact ⟨x, q, e⟩)
      refine ⟨a :: U, t1, Z, by rw [h1]; rfl, h2, fun u hu => ?_⟩
      rcases List.mem_cons.mp hu with q | q
      · rw [q]; exact c
      · exact h3 u q
section DQ
variable {E : Nat → Nat → Prop} {m f b : Nat → Nat} {root : Nat} {O : Nat → Prop}
theorem bd_D1 (hI : bd_I E m root f b O) {X U Z1 Y V Z2 : List Nat} {t t1 t2 : Nat} (h1 : X = U ++ t1 :: Z1) (h1' : Y = V ++ t2 :: Z2) (h3 : bd_Ch f m root X) (h3' : bd_Ch f m root Y) (h5 : ∀ x ∈ X, O x) (h5' : ∀ y ∈ Y, O y) (h6 : b t1 = t) (h6' : b t2 = t) (h7 : ∀ u ∈ U, b u ≠ t) (h8' : ∀ u ∈ V, ∀ x ∈ X, b u ≠ b x) : ∀ u ∈ U, ∀ y ∈ Y, b u ≠ b y := by
  obtain ⟨hb10, hbb, hO10, ⟨hr1, hr2, hr3⟩, hOb, hnO, hin, hst, hfb, hp4, hp5, hch⟩ := id hI
  intro u hu y hy e
  have hUX : ∀ u ∈ U, u ∈ X := fun u q => by rw [h1]; exact List.mem_append_left _ q
  have hOt2 : O t2 := h5' _ (by rw [h1']; simp)
  have hOt1 : O t1 := h5 _ (by rw [h1]; simp)
  have hbt : b t = t := by rw [← h6']; exact hbb _ (hO10 _ hOt2)
  have hub := (bd_Ub hp5 h6 U (by rw [← h1]; exact h3) (fun u q => h5 u (hUX u q)) h7 u hu).1
  rw [h1'] at hy
  rcases List.mem_append.mp hy with q | q
  · exact h8' y q u (hUX u hu) e.symm
  have c2 : bd_Ch f m root (t2 :: Z2) := bd_Ch_suf V (by rw [← h1']; exact h3')
  obtain ⟨l1, l2, p1, p2⟩ := bd_Ch_base hr2 hst hp5 Z2 hOt2 c2
  rw [h6'] at p1 p2
  rw [p1] at q
  rcases List.mem_append.mp q with q | q
  · exact h7 u hu (by rw [e]; exact p2 y q)
  rcases List.mem_cons.mp q with q | q
  · exact h7 u hu (by rw [e, q]; exact hbt)
  have c3 : bd_Ch f m root (t :: l2) := bd_Ch_suf l1 (by rw [← p1]; exact c2)
  obtain ⟨a, b', ea⟩ := List.append_of_mem q
  have c4 : bd_Ch f m root (y :: b') := bd_Ch_suf (t :: a) (by rw [ea] at c3; exact c3)
  have hOy : O y := h5' y (by rw [h1', p1, ea]; simp)
  obtain ⟨k1, k2, p3, p4⟩ := bd_Ch_base hr2 hst hp5 b' hOy c4
  have c5 : bd_Ch f m root (b y :: k2) := bd_Ch_suf k1 (by rw [← p3]; exact c4)
  obtain ⟨a1, a2, eu⟩ := List.append_of_mem hub
  have c6 : bd_Ch f m root (b u :: (a2 ++ t1 :: Z1)) := bd_Ch_suf a1 (by rw [h1, eu] at h3; simpa using h3)
  have c7 : bd_Ch f m root (t1 :: Z1) := bd_Ch_suf U (by rw [← h1]; exact h3)
  obtain ⟨n1, n2, p5, p6⟩ := bd_Ch_base hr2 hst hp5 Z1 hOt1 c7
  rw [h6] at p5
  have c8 : bd_Ch f m root (t :: n2) := bd_Ch_suf n1 (by rw [← p5]; exact c7)
  have d1 := bd_Ch_det _ _ c3 c8
  rw [e] at c6
  have d2 := bd_Ch_det _ _ c5 c6
  have g1 := congrArg List.length p3
  have g2 := congrArg List.length p5
  have g3 := congrArg List.length d2
  have g4 := congrArg List.length ea
  rw [d1] at g4
  simp at g1 g2 g3 g4
  omega
end DQ
section DRun
variable {E : Nat → Nat → Prop} {m f b r : Nat → Nat} {root se dr mn : Nat}
theorem bd_draw_run (hI : bd_I E m root f b (fun x => se.testBit x = true)) (hm : ∀ x, x < 10 → m x < 10 → m (m x) = x ∧ m x ≠ x) (hE : ∀ x y, E x y → E y x) (hR : bd_Row se r mn) {v w : Nat} (hv : se.testBit v = true) (hw : se.testBit w = true) (hvw : E v w) :
    ∃ f' b' r' se' dr' mn', bd_draw m v w (f, b, r, se, dr, mn) = some (f', b', r', se', dr', mn') ∧ bd_I E m root f' b' (fun x => se'.testBit x = true) ∧ bd_Row se' r' mn' ∧ b' v = b' w ∧ mn ≤ mn' ∧ (∀ i, i < mn → r' i = r i) ∧ (∀ x, se.testBit x = true → se'.testBit x = true) ∧ (∀ x y, x < 10 → y < 10 → b x = b y → b' x = b' y) ∧ (∀ x, x < 10 → ¬ se'.testBit x = true → f x < 10 → f' x < 10) := by
  obtain ⟨hb10, hbb, hO10, ⟨hr1, hr2, hr3⟩, hOb, hnO, hin, hst, hfb, hp4, hp5, hch⟩ := id hI
  obtain ⟨LX, cX, sX⟩ := hch v hv
  obtain ⟨LY, cY, sY⟩ := hch w hw
  have oX := bd_Ch_O hst LX hv cX
  have oY := bd_Ch_O hst LY hw cY
  have lX : LX.length < 11 := by
    have := bd_len10 (bd_Ch_nodup _ cX) (fun x hx => hO10 x (oX x hx))
    simp at this
    omega
  have lY : LY.length < 11 := by
    have := bd_len10 (bd_Ch_nodup _ cY) (fun x hx => hO10 x (oY x hx))
    simp at this
    omega
  obtain ⟨met, e1, e2⟩ := bd_met1_run hI 11 LX v 0 hv cX lX
  have e2' : ∀ β, met.testBit β = true ↔ ∃ y ∈ v :: LX, b y = β := fun β => by rw [e2]; simp
  have hlast : ∀ (L : List Nat), bd_Ch f m root L → root ∈ L := by
    intro L
    induction L with
    | nil => intro h; exact h.elim
    | cons a L ih =>
      intro h
      cases L with
      | nil => rw [show a = root from h]; simp
      | cons c L => exact List.mem_cons_of_mem _ (ih h.2.2)
  have hmr : met.testBit root = true := (e2' root).mpr ⟨root, hlast _ cX, hr2⟩
  obtain ⟨t, V, t2, Z2, e3, h1', h6', e4, e5⟩ := bd_met2_run hI hmr 11 LY w hw cY lY
  obtain ⟨U, t1, Z1, h1, h6, h7⟩ := bd_first (b := b) (v :: LX) ((e2' t).mp e4)
  have h8' : ∀ u ∈ V, ∀ x ∈ v :: LX, b u ≠ b x := fun u hu x hx q => e5 u hu (by rw [q]; exact (e2' _).mpr ⟨x, hx, rfl⟩)
  have h7' : ∀ u ∈ V, b u ≠ t := fun u hu q => e5 u hu (by rw [q]; exact e4)
  have h8 := bd_D1 hI h1 h1' cX cY oX oY h6 h6' h7 h8'
  have hUX : ∀ u ∈ U, u ∈ v :: LX := fun u q => by rw [h1]; exact List.mem_append_left _ q
  have hVY : ∀ u ∈ V, u ∈ w :: LY := fun u q => by rw [h1']; exact List.mem_append_left _ q
  have ubU := bd_Ub hp5 h6 U (by rw [← h1]; exact cX) (fun u q => oX u (hUX u q)) h7
  have ubV := bd_Ub hp5 h6' V (by rw [← h1']; exact cY) (fun u q => oY u (hVY u q)) h7'
  have ndU : U.Nodup := by
    have := bd_Ch_nodup _ cX
    rw [h1] at this
    exact (List.nodup_append.mp this).1
  have ndV : V.Nodup := by
    have := bd_Ch_nodup _ cY
    rw [h1'] at this
    exact (List.nodup_append.mp this).1
  have lenU : U.length < 11 := by
    have := congrArg List.length h1
    simp at this
    omega
  have lenV : V.length < 11 := by
    have := congrArg List.length h1'
    simp at this
    omega
  have fac : ∀ x, se.testBit x = true → x ≠ root → b x < 10 ∧ m x < 10 ∧ b (m x) < 10 ∧ f (m x) < 10 := fun x hx hr => by
    obtain ⟨a1, a2, -, -⟩ := hst x hx hr
    exact ⟨hb10 x (hO10 x hx), a1, hb10 _ a1, a2⟩
  obtain ⟨f1, dr1, g1, g2, g3, g4⟩ := bd_along_run (m := m) (b := b) (root := root) (t := t) (t1 := t1) (Z1 := Z1) h6 U 11 f 0 v w lenU ⟨LX, h1.symm⟩ (by rw [← h1]; exact cX) (fun x hx q => by
    rw [← h1] at hx
    exact sX x hx (hUX _ q)) ndU (fun x hx => ⟨h7 x hx, fac x (oX x (hUX x hx)) (ubU x hx).2.1⟩)
  -- the second way back: not touched by the first
  have hmYU : ∀ y ∈ w :: LY, m y ∉ U := fun y hy q => by
    have := bd_mb hI (oY y hy) (oX _ (hUX _ q))
    exact h8 _ q y hy this.2
  obtain ⟨f2, dr2, k1, k2, k3, k4⟩ := bd_along_run (m := m) (b := b) (root := root) (t := t) (t1 := t2) (Z1 := Z2) h6' V 11 f1 dr1 w v lenV ⟨LY, h1'.symm⟩ (by
    rw [← h1']
    exact bd_Ch_congr _ cY (fun x hx _ => g3 _ (hmYU x hx))) (fun x hx q => by
    rw [← h1'] at hx
    exact sY x hx (hVY _ q)) ndV (fun x hx => by
    obtain ⟨a1, a2, a3, a4⟩ := fac x (oY x (hVY x hx)) (ubV x hx).2.1
    exact ⟨h7' x hx, a1, a2, a3, by rw [g3 _ (hmYU x (hVY x hx))]; exact a4⟩)
  have hOt1 := oX t1 (by rw [h1]; simp)
  have ht10 : t < 10 := by rw [← h6]; exact hb10 _ (hO10 _ hOt1)
  obtain ⟨b', se', r', mn', z1, z2, z3, -, z5, z6, z7⟩ := bd_dl_run (t := t) (dr := dr2) ht10 10 b se r mn (Nat.le_refl _) hR hb10
  -- the first turning is not undone
  have hUV : ∀ x ∈ U, x ∉ V := fun x hx q => h8 x hx x (hVY x q) rfl
  have hRvU : ∀ (L : List Nat) (a : Nat), (∀ x ∈ L, x ∈ U) → bd_Rv m f1 L a → bd_Rv m f2 L a := by
    intro L
    induction L with
    | nil => intro _ _ _; trivial
    | cons c L ih =>
      intro a hL h
      exact ⟨by rw [k3 c (hUV c (hL c (by simp)))]; exact h.1, ih _ (fun x hx => hL x (List.mem_cons_of_mem _ hx)) h.2⟩
  have hSit : bd_Sit m f b f2 root (fun x => se.testBit x = true) t v w (v :: LX) U Z1 t1 (w :: LY) V Z2 t2 :=
    ⟨⟨h1, h1'⟩, ⟨⟨LX, rfl⟩, ⟨LY, rfl⟩⟩, ⟨cX, cY⟩, ⟨sX, sY⟩, ⟨oX, oY⟩, ⟨h6, h6'⟩, ⟨h7, h7'⟩, ⟨h8, h8'⟩, ⟨hRvU U w (fun _ h => h) g2, k2⟩, fun x q1 q2 => by rw [k3 x q2, g3 x q1]⟩
  have hDr : ∀ β, dr2.testBit β = true ↔ ∃ u, (u ∈ U ∨ u ∈ V) ∧ (β = b u ∨ β = b (m u)) := by
    intro β
    rw [k4, g4]
    simp
    constructor
    · rintro (⟨x, q1, q2⟩ | ⟨x, q1, q2⟩)
      · exact ⟨x, Or.inl q1, q2⟩
      · exact ⟨x, Or.inr q1, q2⟩
    · rintro ⟨x, q1 | q1, q2⟩
      · exact Or.inl ⟨x, q1, q2⟩
      · exact Or.inr ⟨x, q1, q2⟩
  have hbb1 : ∀ x, x < 10 → dr2.testBit (b x) = true → b' x = t := fun x hx => (z3 x hx (by omega)).1
  have hbb2 : ∀ x, x < 10 → ¬ dr2.testBit (b x) = true → b' x = b x := fun x hx => (z3 x hx (by omega)).2
  have hfin := bd_drawn (Dr := fun β => dr2.testBit β = true) (O' := fun x => se'.testBit x = true) (b' := b') hI hm hE hSit hvw hDr hbb1 hbb2 (fun x => by
    rw [z5 x]
    simp)
  refine ⟨f2, b', r', se', dr2, mn', ?_, hfin.1, z2, hfin.2, z6, z7, fun x hx => (z5 x).mpr (Or.inl hx), fun x y hx hy q => ?_, fun x hx hn hf => ?_⟩
  · unfold bd_draw
    simp only [e1, e3, g1, k1, z1, Option.bind_some]
  · by_cases c : dr2.testBit (b x) = true
    · rw [hbb1 x hx c, hbb1 y hy (by rw [← q]; exact c)]
    · rw [hbb2 x hx c, hbb2 y hy (by rw [← q]; exact c), q]
  · have hnx : ¬ se.testBit x = true := fun q => hn ((z5 x).mpr (Or.inl q))
    rw [k3 x (fun q => hnx (oY x (hVY x q))), g3 x (fun q => hnx (oX x (hUX x q)))]
    exact hf
end DRun
end
section
/-! PATH: the search -/
def bd_E (g : Nat → Nat) (al : Nat) (x y : Nat) : Prop := x < 10 ∧ y < 10 ∧ (g x).testBit y = true ∧ al.testBit x = true ∧ al.testBit y = true
/-- a matching -/
def bd_M (E : Nat → Nat → Prop) (m : Nat → Nat) : Prop := ∀ x, x < 10 → m x < 10 → m (m x) = x ∧ m x ≠ x ∧ E x (m x)
def bd_J (E : Nat → Nat → Prop) (m : Nat → Nat) (root : Nat) (σ : bd_S) : Prop := bd_I E m root σ.1 σ.2.1 (fun x => σ.2.2.2.1.testBit x = true) ∧ bd_Row σ.2.2.2.1 σ.2.2.1 σ.2.2.2.2.2
def bd_Le (σ σ' : bd_S) : Prop := σ.2.2.2.2.2 ≤ σ'.2.2.2.2.2 ∧ (∀ i, i < σ.2.2.2.2.2 → σ'.2.2.1 i = σ.2.2.1 i) ∧ (∀ x, σ.2.2.2.1.testBit x = true → σ'.2.2.2.1.testBit x = true) ∧ (∀ x y, x < 10 → y < 10 → σ.2.1 x = σ.2.1 y → σ'.2.1 x = σ'.2.1 y) ∧ (∀ x, x < 10 → ¬ σ'.2.2.2.1.testBit x = true → σ.1 x < 10 → σ'.1 x < 10)
theorem bd_Le.rf (σ : bd_S) : bd_Le σ σ := ⟨Nat.le_refl _, fun _ _ => rfl, fun _ h => h, fun _ _ _ _ h => h, fun _ _ _ h => h⟩
/-- the answer of a search that came to an end at w -/
def bd_Suc (E : Nat → Nat → Prop) (m : Nat → Nat) (root : Nat) (f : Nat → Nat) (w : Nat) : Prop := w < 10 ∧ ¬ m w < 10 ∧ w ≠ root ∧ f w < 10 ∧ E (f w) w ∧ ∃ X, bd_Ch f m root (f w :: X) ∧ bd_Sm m (f w :: X) ∧ (∀ x ∈ f w :: X, x < 10 ∧ x ≠ w) ∧ ∀ x ∈ f w :: X, x ≠ root → m x < 10 ∧ f (m x) < 10 ∧ E (f (m x)) (m x)
section PA
variable {E : Nat → Nat → Prop} {m f b r : Nat → Nat} {root se dr mn : Nat}
theorem bd_grow {O O' : Nat → Prop} (hI : bd_I E m root f b O) (hm : ∀ x, x < 10 → m x < 10 → m (m x) = x ∧ m x ≠ x) {v w : Nat} (hv : O v) (hw : w < 10) (hvw : E v w) (hwO : ¬ O w) (hfw : ¬ f w < 10) (hmw : m w < 10) (hfm : ¬ f (m w) < 10) (hO' : ∀ x, O' x ↔ (O x ∨ x = m w)) : bd_I E m root (bd_up f w v) b O' := by
  obtain ⟨hb10, hbb, hO10, ⟨hr1, hr2, hr3⟩, hOb, hnO, hin, hst, hfb, hp4, hp5, hch⟩ := id hI
  obtain ⟨mm, mn⟩ := hm w hw hmw
  have hmr : m w ≠ root := fun e => hr3 (by rw [← e, mm]; exact hw)
  have hmO : ¬ O (m w) := fun q => by
    have := (hst _ q hmr).2.1
    rw [mm] at this
    exact hfw this
  have hbm := hnO _ hmw hmO
  have hOO : ∀ x, O x → O' x := fun x q => (hO' x).mpr (Or.inl q)
  have hne : ∀ x, O x → m x ≠ w := fun x q e => by
    by_cases c : x = root
    · rw [c] at e; exact hr3 (by rw [e]; exact hw)
    · have := (hm x (hO10 x q) (hst x q c).1).1
      rw [e] at this
      exact hmO (by rw [this]; exact q)
  have hup : ∀ x, O x → bd_up f w v (m x) = f (m x) := fun x q => bd_up_n (hne x q)
  have hupw : ∀ x, x ≠ w → bd_up f w v x = f x := fun x q => bd_up_n q
  refine ⟨hb10, hbb, fun x hx => ((hO' x).mp hx).elim (hO10 x) (fun q => by rw [q]; exact hmw), ⟨hOO _ hr1, hr2, hr3⟩, fun x hx => ?_, fun x hx hn => hnO x hx (fun q => hn (hOO x q)), fun u hu hn hf => ?_, fun x hx hxr => ?_, fun x hx hbx => ?_, fun x hx hbx q => ?_, fun x hx hbx => ?_, fun x hx => ?_⟩
  · rcases (hO' x).mp hx with q | q
    · exact hOO _ (hOb x q)
    · rw [q, hbm]; exact (hO' _).mpr (Or.inr rfl)
  · by_cases e : u = w
    · rw [e]; exact ⟨hmw, (hO' _).mpr (Or.inr rfl)⟩
    · rw [hupw u e] at hf
      obtain ⟨a1, a2⟩ := hin u hu (fun q => hn (hOO u q)) hf
      exact ⟨a1, hOO _ a2⟩
  · rcases (hO' x).mp hx with q | q
    · rw [hup x q]
      obtain ⟨a1, a2, a3, a4⟩ := hst x q hxr
      exact ⟨a1, a2, hOO _ a3, a4⟩
    · rw [q, mm, bd_up_s]
      exact ⟨hw, hO10 v hv, hOO _ hv, hvw⟩
  · rcases (hO' x).mp hx with q | q
    · rw [hupw x (fun e => hwO (by rw [← e]; exact q))]
      exact hfb x q hbx
    · rw [q, hupw _ mn]
      exact hfm
  · rcases (hO' x).mp hx with z | z
    · rcases (hO' _).mp q with z2 | z2
      · exact hp4 x z hbx z2
      · have h1 := (hm x (hO10 x z) (by rw [z2]; exact hmw)).1
        rw [z2, mm] at h1
        exact hwO (by rw [h1]; exact z)
    · rw [z, mm] at q
      rcases (hO' _).mp q with z2 | z2
      · exact hwO z2
      · exact mn z2.symm
  · rcases (hO' x).mp hx with q | q
    · obtain ⟨a1, a2, a3⟩ := hp5 x q hbx
      rw [hup x q]
      exact ⟨hOO _ a1, a2, a3⟩
    · rw [q] at hbx; exact absurd hbm hbx
  · have old : ∀ x, O x → ∃ X, bd_Ch (bd_up f w v) m root (x :: X) ∧ bd_Sm m (x :: X) ∧ ∀ y ∈ x :: X, O y := by
      intro x q
      obtain ⟨X, c1, c2⟩ := hch x q
      have c3 := bd_Ch_O hst X q c1
      exact ⟨X, bd_Ch_congr _ c1 (fun y hy _ => hup y (c3 y hy)), c2, c3⟩
    rcases (hO' x).mp hx with q | q
    · obtain ⟨X, c1, c2, -⟩ := old x q
      exact ⟨X, c1, c2⟩
    · obtain ⟨X, c1, c2, c3⟩ := old v hv
      subst q
      refine ⟨v :: X, ⟨hmr, by rw [mm, bd_up_s], c1⟩, fun y hy hmy => ?_⟩
      rcases List.mem_cons.mp hy with e | e
      · rw [e, mm] at hmy
        rcases List.mem_cons.mp hmy with e2 | e2
        · exact mn e2.symm
        · exact hwO (c3 _ e2)
      · rcases List.mem_cons.mp hmy with e2 | e2
        · have h1 := (hm y (hO10 y (c3 y e)) (by rw [e2]; exact hmw)).1
          rw [e2, mm] at h1
          exact hwO (by rw [h1]; exact c3 y e)
        · exact c2 y e e2
theorem bd_arrive {O : Nat → Prop} (hI : bd_I E m root f b O) (hm : ∀ x, x < 10 → m x < 10 → m (m x) = x ∧ m x ≠ x) {v w : Nat} (hv : O v) (hw : w < 10) (hvw : E v w) (hwr : w ≠ root) (hmw : ¬ m w < 10) : bd_Suc E m root (bd_up f w v) w := by
  obtain ⟨hb10, hbb, hO10, ⟨hr1, hr2, hr3⟩, hOb, hnO, hin, hst, hfb, hp4, hp5, hch⟩ := id hI
  have hwO : ¬ O w := fun q => hmw (hst w q hwr).1
  obtain ⟨X, c1, c2⟩ := hch v hv
  have c3 := bd_Ch_O hst X hv c1
  have hne : ∀ x, O x → x ≠ root → bd_up f w v (m x) = f (m x) := fun x q xr => bd_up_n (fun e => by
    have h1 := (hm x (hO10 x q) (hst x q xr).1).1
    rw [e] at h1
    exact hmw (by rw [h1]; exact hO10 x q))
  refine ⟨hw, hmw, hwr, by rw [bd_up_s]; exact hO10 v hv, by rw [bd_up_s]; exact hvw, X, ?_⟩
  rw [bd_up_s]
  refine ⟨bd_Ch_congr _ c1 (fun y hy yr => hne y (c3 y hy) yr), c2, fun x hx => ⟨hO10 x (c3 x hx), fun e => hwO (by rw [← e]; exact c3 x hx)⟩, fun x hx xr => ?_⟩
  rw [hne x (c3 x hx) xr]
  obtain ⟨a1, a2, -, a4⟩ := hst x (c3 x hx) xr
  exact ⟨a1, a2, a4⟩
end PA
section PB
variable {g m : Nat → Nat} {al root : Nat}
theorem bd_pb_run (hM : bd_M (bd_E g al) m) (hE : ∀ x y, bd_E g al x y → bd_E g al y x) {σ : bd_S} (hJ : bd_J (bd_E g al) m root σ) {v w : Nat} (hv : σ.2.2.2.1.testBit v = true) (hal : al.testBit v = true) (hw : w < 10) :
    ∃ q, bd_pb g al m root v w σ = some q ∧ ((q.2 = false ∧ bd_J (bd_E g al) m root q.1 ∧ bd_Le σ q.1 ∧ (bd_E g al v w → (q.1.2.1 v = q.1.2.1 w ∨ m v = w ∨ (¬ q.1.2.2.2.1.testBit w = true ∧ q.1.1 w < 10)))) ∨ (q.2 = true ∧ bd_Suc (bd_E g al) m root q.1.1 w)) := by
  obtain ⟨f, b, r, se, dr, mn⟩ := σ
  obtain ⟨hI, hR⟩ := hJ
  dsimp only at hI hR hv
  have hm : ∀ x, x < 10 → m x < 10 → m (m x) = x ∧ m x ≠ x := fun x h1 h2 => ⟨(hM x h1 h2).1, (hM x h1 h2).2.1⟩
  obtain ⟨hb10, hbb, hO10, ⟨hr1, hr2, hr3⟩, hOb, hnO, hin, hst, hfb, hp4, hp5, hch⟩ := id hI
  have hv10 := hO10 v hv
  have hEE : bd_E g al v w ↔ (g v &&& al).testBit w = true := by
    rw [Nat.testBit_and]
    simp [bd_E, hv10, hw, hal]
  unfold bd_pb
  dsimp only
  by_cases c1 : (g v &&& al).testBit w = true
  · rw [if_pos c1, if_pos ⟨hb10 v hv10, hb10 w hw⟩]
    have hvw := hEE.mpr c1
    by_cases c2 : b v = b w ∨ m v = w
    · rw [if_pos c2]
      exact ⟨_, rfl, Or.inl ⟨rfl, ⟨hI, hR⟩, bd_Le.rf _, fun _ => c2.imp id Or.inl⟩⟩
    · rw [if_neg c2]
      by_cases c3 : w = root ∨ (m w < 10 ∧ f (m w) < 10)
      · rw [if_pos c3]
        have hwO : se.testBit w = true := by
          rcases c3 with q | ⟨q1, q2⟩
          · rw [q]; exact hr1
          · refine Classical.byContradiction fun hn => ?_
            have mm := hm w hw q1
            by_cases d : se.testBit (m w) = true
            · have e : b (m w) ≠ m w := fun e => hfb _ d e q2
              have := (hp5 _ d e).1
              rw [mm.1] at this
              exact hn this
            · have := (hin _ q1 d q2).2
              rw [mm.1] at this
              exact hn this
        obtain ⟨f', b', r', se', dr', mn', e1, e2, e3, e4, e5, e6, e7, e8, e9⟩ := bd_draw_run (dr := dr) hI hm hE hR hv hwO hvw
        rw [e1]
        exact ⟨_, rfl, Or.inl ⟨rfl, ⟨e2, e3⟩, ⟨e5, e6, e7, e8, e9⟩, fun _ => Or.inl e4⟩⟩
      · rw [if_neg c3]
        have hwr : w ≠ root := fun e => c3 (Or.inl e)
        have hwO : ¬ se.testBit w = true := fun q => by
          obtain ⟨a1, a2, -⟩ := hst w q hwr
          exact c3 (Or.inr ⟨a1, a2⟩)
        by_cases c4 : f w < 10
        · rw [if_pos c4]
          exact ⟨_, rfl, Or.inl ⟨rfl, ⟨hI, hR⟩, bd_Le.rf _, fun _ => Or.inr (Or.inr ⟨hwO, c4⟩)⟩⟩
        · rw [if_neg c4]
          by_cases c5 : m w < 10
          · rw [if_pos c5]
            have hfm : ¬ f (m w) < 10 := fun q => c3 (Or.inr ⟨c5, q⟩)
            obtain ⟨se', r', mn', e1, e2, e3, e4, e5⟩ := bd_see_run hR c5
            rw [e1]
            have hG := bd_grow (O' := fun x => se'.testBit x = true) hI hm hv hw hvw hwO c4 c5 hfm e3
            refine ⟨_, rfl, Or.inl ⟨rfl, ⟨hG, e2⟩, ⟨e4, e5, fun x hx => (e3 x).mpr (Or.inl hx), fun x y _ _ q => q, fun x hx hn hf => ?_⟩, fun _ => Or.inr (Or.inr ⟨?_, ?_⟩)⟩⟩
            · by_cases e : x = w
              · rw [e]
                show bd_up f w v w < 10
                rw [bd_up_s]; exact hv10
              · show bd_up f w v x < 10
                rw [bd_up_n e]; exact hf
            · intro q
              rcases (e3 w).mp q with z | z
              · exact hwO z
              · exact (hm w hw c5).2 z.symm
            · show bd_up f w v w < 10
              rw [bd_up_s]; exact hv10
          · rw [if_neg c5]
            exact ⟨_, rfl, Or.inr ⟨rfl, bd_arrive hI hm hv hw hvw hwr c5⟩⟩
  · rw [if_neg c1]
    exact ⟨_, rfl, Or.inl ⟨rfl, ⟨hI, hR⟩, bd_Le.rf _, fun q => absurd (hEE.mp q) c1⟩⟩
/-- what is known of the pairs that were looked at: rows before i, and row i up to w -/
def bd_Q (E : Nat → Nat → Prop) (m : Nat → Nat) (σ : bd_S) (i w : Nat) : Prop := ∀ j y, y < 10 → j < σ.2.2.2.2.2 → (j < i ∨ (j = i ∧ y < w)) → E (σ.2.2.1 j) y →
  (σ.2.1 (σ.2.2.1 j) = σ.2.1 y ∨ m (σ.2.2.1 j) = y ∨ (¬ σ.2.2.2.1.testBit y = true ∧ σ.1 y < 10) ∨ ∃ j', j' < σ.2.2.2.2.2 ∧ σ.2.2.1 j' = y ∧ ¬ (j' < i ∨ (j' = i ∧ σ.2.2.1 j < w)))
theorem bd_Q_le {E : Nat → Nat → Prop} {σ σ' : bd_S} {i w : Nat} (hQ : bd_Q E m σ i w) (hL : bd_Le σ σ') (hR : bd_Row σ.2.2.2.1 σ.2.2.1 σ.2.2.2.2.2) (hR' : bd_Row σ'.2.2.2.1 σ'.2.2.1 σ'.2.2.2.2.2) (hi : i < σ.2.2.2.2.2) : bd_Q E m σ' i w := by
  obtain ⟨l1, l2, l3, l4, l5⟩ := hL
  intro j y hy hj hs he
  have hj0 : j < σ.2.2.2.2.2 := by omega
  rw [l2 j hj0] at he ⊢
  rcases hQ j y hy hj0 hs he with q | q | ⟨q1, q2⟩ | ⟨j', q1, q2, q3⟩
  · exact Or.inl (l4 _ _ (hR.2.1 j hj0).1 hy q)
  · exact Or.inr (Or.inl q)
  · by_cases c : σ'.2.2.2.1.testBit y = true
    · obtain ⟨j', k1, k2⟩ := hR'.2.2.1 y c
      refine Or.inr (Or.inr (Or.inr ⟨j', k1, k2, fun z => ?_⟩))
      have hj' : j' < σ.2.2.2.2.2 := by omega
      rw [l2 j' hj'] at k2
      exact q1 (by rw [← k2]; exact (hR.2.1 j' hj').2)
    · exact Or.inr (Or.inr (Or.inl ⟨c, l5 y hy c q2⟩))
  · exact Or.inr (Or.inr (Or.inr ⟨j', by omega, by rw [l2 j' q1]; exact q2, q3⟩))
theorem bd_Q_step {E : Nat → Nat → Prop} (hM : bd_M E m) (hE : ∀ x y, E x y → E y x) {σ : bd_S} {i w : Nat} (hQ : bd_Q E m σ i w) (hR : bd_Row σ.2.2.2.1 σ.2.2.1 σ.2.2.2.2.2) (hi : i < σ.2.2.2.2.2) (hw : w < 10)
    (h : E (σ.2.2.1 i) w → (σ.2.1 (σ.2.2.1 i) = σ.2.1 w ∨ m (σ.2.2.1 i) = w ∨ (¬ σ.2.2.2.1.testBit w = true ∧ σ.1 w < 10))) : bd_Q E m σ i (w + 1) := by
  intro j y hy hj hs he
  by_cases c : j < i ∨ (j = i ∧ y < w)
  · rcases hQ j y hy hj c he with q | q | q | ⟨j', q1, q2, q3⟩
    · exact Or.inl q
    · exact Or.inr (Or.inl q)
    · exact Or.inr (Or.inr (Or.inl q))
    · by_cases d : j' = i ∧ σ.2.2.1 j = w
      · obtain ⟨d1, d2⟩ := d
        subst d1
        rw [d2, ← q2] at he
        rw [d2, ← q2]
        have hin : σ.2.2.2.1.testBit w = true := by rw [← d2]; exact (hR.2.1 j hj).2
        rcases h (hE _ _ he) with z | z | z
        · exact Or.inl z.symm
        · refine Or.inr (Or.inl ?_)
          have := (hM _ (hR.2.1 _ hi).1 (by rw [z]; exact hw)).1
          rw [z] at this
          exact this
        · exact absurd hin z.1
      · refine Or.inr (Or.inr (Or.inr ⟨j', q1, q2, fun z => ?_⟩))
        rcases z with z | ⟨z1, z2⟩
        · exact q3 (Or.inl z)
        · exact q3 (Or.inr ⟨z1, by
            have : σ.2.2.1 j ≠ w := fun e => d ⟨z1, e⟩
            omega⟩)
  · have hji : j = i ∧ y = w := by omega
    obtain ⟨e1, e2⟩ := hji
    subst e1
    subst e2
    rcases h he with z | z | z
    · exact Or.inl z
    · exact Or.inr (Or.inl z)
    · exact Or.inr (Or.inr (Or.inl z))
theorem bd_Le.tr {a b c : bd_S} (h : bd_Le a b) (k : bd_Le b c) : bd_Le a c := by
  obtain ⟨l1, l2, l3, l4, l5⟩ := h
  obtain ⟨k1, k2, k3, k4, k5⟩ := k
  exact ⟨by omega, fun i hi => by rw [k2 i (by omega), l2 i hi], fun x q => k3 x (l3 x q), fun x y hx hy q => k4 x y hx hy (l4 x y hx hy q), fun x hx hn q => k5 x hx hn (l5 x hx (fun z => hn (k3 x z)) q)⟩
theorem bd_pw_run (hM : bd_M (bd_E g al) m) (hE : ∀ x y, bd_E g al x y → bd_E g al y x) {i v : Nat} (hal : al.testBit v = true) : ∀ (k : Nat) (σ : bd_S), k ≤ 10 → bd_J (bd_E g al) m root σ → i < σ.2.2.2.2.2 → σ.2.2.1 i = v → bd_Q (bd_E g al) m σ i (10 - k) →
    ∃ q, bd_pw g al m root v k σ = some q ∧ ((q.2 = none ∧ bd_J (bd_E g al) m root q.1 ∧ bd_Le σ q.1 ∧ bd_Q (bd_E g al) m q.1 i 10) ∨ ∃ w, q.2 = some w ∧ bd_Suc (bd_E g al) m root q.1.1 w)
  | 0, σ, _, hJ, _, _, hQ => ⟨_, rfl, Or.inl ⟨rfl, hJ, bd_Le.rf _, hQ⟩⟩
  | k + 1, σ, hk, hJ, hi, hv, hQ => by
    have hw : 9 - k < 10 := by omega
    obtain ⟨q, e1, e2⟩ := bd_pb_run hM hE hJ (v := v) (w := 9 - k) (by rw [← hv]; exact (hJ.2.2.1 i hi).2) hal hw
    unfold bd_pw
    rw [e1]
    rcases e2 with ⟨f1, f2, f3, f4⟩ | ⟨f1, f2⟩
    · have hi' : i < q.1.2.2.2.2.2 := Nat.lt_of_lt_of_le hi f3.1
      have hv' : q.1.2.2.1 i = v := by rw [f3.2.1 i hi]; exact hv
      have hQ' := bd_Q_step hM hE (bd_Q_le hQ f3 hJ.2 f2.2 hi) f2.2 hi' (w := 10 - (k + 1)) (by omega) (by
        rw [hv', show 10 - (k + 1) = 9 - k by omega]; exact f4)
      rw [show 10 - (k + 1) + 1 = 10 - k by omega] at hQ'
      obtain ⟨q2, g1, g2⟩ := bd_pw_run hM hE hal k q.1 (by omega) f2 hi' hv' hQ'
      refine ⟨q2, ?_, ?_⟩
      · show (if q.2 = true then _ else _) = _
        rw [f1]
        exact g1
      · rcases g2 with ⟨a1, a2, a3, a4⟩ | a
        · exact Or.inl ⟨a1, a2, f3.tr a3, a4⟩
        · exact Or.inr a
    · refine ⟨(q.1, some (9 - k)), ?_, Or.inr ⟨9 - k, rfl, f2⟩⟩
      show (if q.2 = true then _ else _) = _
      rw [if_pos f1]
/-- how a search ends that finds nothing -/
def bd_Fail (E : Nat → Nat → Prop) (m : Nat → Nat) (root : Nat) (σ : bd_S) : Prop := bd_J E m root σ ∧ ∀ x y, y < 10 → σ.2.2.2.1.testBit x = true → E x y → (σ.2.1 x = σ.2.1 y ∨ (¬ σ.2.2.2.1.testBit y = true ∧ σ.1 y < 10))
theorem bd_pk_run (hM : bd_M (bd_E g al) m) (hE : ∀ x y, bd_E g al x y → bd_E g al y x) (hra : al.testBit root = true) : ∀ (k i : Nat) (σ : bd_S), 10 < i + k → i ≤ σ.2.2.2.2.2 → bd_J (bd_E g al) m root σ → bd_Q (bd_E g al) m σ i 0 →
    ∃ q, bd_pk g al m root k i σ = some q ∧ ((q.2 = none ∧ bd_Fail (bd_E g al) m root q.1) ∨ ∃ w, q.2 = some w ∧ bd_Suc (bd_E g al) m root q.1.1 w)
  | 0, i, σ, hk, hi, hJ, _ => absurd hJ.2.1 (by omega)
  | k + 1, i, σ, hk, hi, hJ, hQ => by
    unfold bd_pk
    by_cases c : i < σ.2.2.2.2.2
    · rw [if_pos c, if_pos ⟨Nat.lt_of_lt_of_le c hJ.2.1, (hJ.2.2.1 i c).1⟩]
      have hO := (hJ.2.2.1 i c).2
      have hal : al.testBit (σ.2.2.1 i) = true := by
        by_cases e : σ.2.2.1 i = root
        · rw [e]; exact hra
        · have := hJ.1.2.2.2.2.2.2.2.1 _ hO e
          exact (hM _ (hJ.2.2.1 i c).1 this.1).2.2.2.2.2.1
      obtain ⟨q, e1, e2⟩ := bd_pw_run hM hE hal 10 σ (Nat.le_refl _) hJ c rfl hQ
      rw [e1]
      rcases e2 with ⟨f1, f2, f3, f4⟩ | ⟨w, f1, f2⟩
      · have hQ' : bd_Q (bd_E g al) m q.1 (i + 1) 0 := by
          intro j y hy hj hs he
          rcases f4 j y hy hj (by omega) he with z | z | z | ⟨j', z1, z2, z3⟩
          · exact Or.inl z
          · exact Or.inr (Or.inl z)
          · exact Or.inr (Or.inr (Or.inl z))
          · refine Or.inr (Or.inr (Or.inr ⟨j', z1, z2, fun n => z3 ?_⟩))
            have := (f2.2.2.1 j hj).1
            omega
        obtain ⟨q2, g1, g2⟩ := bd_pk_run hM hE hra k (i + 1) q.1 (by omega) (Nat.lt_of_lt_of_le c f3.1) f2 hQ'
        refine ⟨q2, ?_, g2⟩
        show (match q.2 with | some w => some (q.1, some w) | none => bd_pk g al m root k (i + 1) q.1) = some q2
        rw [f1]
        exact g1
      · refine ⟨(q.1, some w), ?_, Or.inr ⟨w, rfl, f2⟩⟩
        show (match q.2 with | some w => some (q.1, some w) | none => bd_pk g al m root k (i + 1) q.1) = _
        rw [f1]
    · rw [if_neg c]
      refine ⟨_, rfl, Or.inl ⟨rfl, hJ, fun x y hy hx he => ?_⟩⟩
      obtain ⟨j, j1, j2⟩ := hJ.2.2.2.1 x hx
      have hst := hJ.1.2.2.2.2.2.2.2.1
      rcases hQ j y hy j1 (by omega) (by rw [j2]; exact he) with z | z | z | ⟨j', z1, z2, z3⟩
      · rw [j2] at z; exact Or.inl z
      · rw [j2] at z
        by_cases d : σ.2.2.2.1.testBit y = true
        · have := bd_mb hJ.1 hx (by show σ.2.2.2.1.testBit (m x) = true; rw [z]; exact d)
          rw [z] at this
          exact Or.inl this.2.symm
        · have hxr : x ≠ root := fun e => hJ.1.2.2.2.1.2.2 (by rw [← e, z]; exact hy)
          have := (hst x hx hxr).2.1
          rw [z] at this
          exact Or.inr ⟨d, this⟩
      · exact Or.inr z
      · exact absurd z3 (by omega)
theorem bd_path_run (hM : bd_M (bd_E g al) m) (hE : ∀ x y, bd_E g al x y → bd_E g al y x) (hra : al.testBit root = true) (hr10 : root < 10) (hmr : ¬ m root < 10) (σ : bd_S) :
    ∃ q, bd_path g al m root σ = some q ∧ ((q.2 = none ∧ bd_Fail (bd_E g al) m root q.1) ∨ ∃ w, q.2 = some w ∧ bd_Suc (bd_E g al) m root q.1.1 w) := by
  have hb : ∀ x, (2 ^ root).testBit x = true ↔ x = root := fun x => by
    rw [Nat.testBit_two_pow]
    simp
    exact eq_comm
  have hJ : bd_J (bd_E g al) m root (fun _ => 10, fun j => j, bd_up σ.2.2.1 0 root, 2 ^ root, σ.2.2.2.2.1, 1) := by
    refine ⟨⟨fun x h => h, fun _ _ => rfl, fun x hx => ?_, ⟨(hb root).mpr rfl, rfl, hmr⟩, fun x hx => hx, fun _ _ _ => rfl, fun u _ _ h => absurd h (by simp), fun x hx hn => absurd ((hb x).mp hx) hn, fun _ _ _ => by simp, fun x hx _ h => ?_, fun _ _ h => absurd rfl h, fun x hx => ⟨[], (hb x).mp hx, fun y hy hmy => ?_⟩⟩, by show (1 : Nat) ≤ 10; omega, fun i hi => ?_, fun x hx => ⟨0, Nat.one_pos, by show bd_up σ.2.2.1 0 root 0 = x; rw [bd_up_s]; exact ((hb x).mp hx).symm⟩, fun i j h1 h2 => ?_⟩
    · rw [(hb x).mp hx]; exact hr10
    · have h1 := (hb x).mp hx
      have h2 := (hb _).mp h
      rw [h1] at h2
      exact hmr (by rw [h2]; exact hr10)
    · have h1 := (hb x).mp hx
      simp at hy hmy
      rw [hy, h1] at hmy
      exact hmr (by rw [hmy]; exact hr10)
    · have : i = 0 := by
        have hi : i < 1 := hi
        omega
      subst this
      show bd_up σ.2.2.1 0 root 0 < 10 ∧ (2 ^ root).testBit (bd_up σ.2.2.1 0 root 0) = true
      rw [bd_up_s]
      exact ⟨hr10, (hb root).mpr rfl⟩
    · have h2 : j < 1 := h2
      omega
  exact bd_pk_run hM hE hra 11 0 _ (by omega) (Nat.zero_le _) hJ (fun j y _ _ h => absurd h (by omega))
end PB
end
section
/-! TURN, and the labels of what was searched in vain: lb x < 10: outer, its base; 10: not in it; 11: inner -/
section TU
variable {E : Nat → Nat → Prop} {m f : Nat → Nat} {root : Nat}
theorem bd_turn_run (hE : ∀ x y, E x y → E y x) (hmr : ¬ m root < 10) : ∀ (L : List Nat) (k : Nat) (mc : Nat → Nat) (z x : Nat), L.length + 1 < k → f z = x → z < 10 → bd_Ch f m root (x :: L) → bd_Sm m (x :: L) → (∀ y ∈ x :: L, mc y = m y) → z ∉ x :: L → (∀ y ∈ x :: L, y < 10) → (∀ y ∈ x :: L, y ≠ root → m y < 10 ∧ f (m y) < 10 ∧ E (f (m y)) (m y)) → E x z → (∀ y, y < 10 → y ≠ z → mc y < 10 → mc (mc y) = y ∧ mc y ≠ y ∧ mc y ≠ z ∧ E y (mc y)) →
    ∃ m', bd_turn f k mc z = some m' ∧ bd_M E m' ∧ (∀ y, y < 10 → (m' y < 10 ↔ (mc y < 10 ∨ y = z ∨ y = root))) ∧ ∀ y, y ≠ z → y ∉ x :: L → (∀ x' ∈ x :: L, y ≠ m x') → m' y = mc y := by
  intro L
  induction L with
  | nil =>
    intro k mc z x hk hf hz hC hS hmc hzn h10 _ hEx hV
    have hxr : x = root := hC
    have hx10 := h10 x (by simp)
    have hzx : z ≠ x := fun e => hzn (by rw [e]; simp)
    have hmx : ¬ mc x < 10 := by rw [hmc x (by simp), hxr]; exact hmr
    obtain ⟨k, rfl⟩ : ∃ j, k = j + 2 := ⟨k - 2, by simp at hk; omega⟩
    have e1 : ∀ y, y ≠ x → y ≠ z → bd_up (bd_up mc z x) x z y = mc y := fun y a b => by rw [bd_up_n a, bd_up_n b]
    have e2 : bd_up (bd_up mc z x) x z x = z := bd_up_s _ _ _
    have e3 : bd_up (bd_up mc z x) x z z = x := by rw [bd_up_n hzx, bd_up_s]
    refine ⟨bd_up (bd_up mc z x) x z, ?_, ?_, ?_, ?_⟩
    · unfold bd_turn
      rw [if_pos hz, hf, if_pos hx10]
      unfold bd_turn
      rw [if_neg hmx]
    · intro y hy hmy
      by_cases c1 : y = x
      · rw [c1, e2, e3]; exact ⟨rfl, hzx, hEx⟩
      by_cases c2 : y = z
      · rw [c2, e3, e2]; exact ⟨rfl, fun q => hzx q.symm, hE _ _ hEx⟩
      rw [e1 y c1 c2] at hmy ⊢
      obtain ⟨v1, v2, v3, v4⟩ := hV y hy c2 hmy
      have v5 : mc y ≠ x := fun q => hmx (by rw [← q, v1]; exact hy)
      rw [e1 _ v5 v3]
      exact ⟨v1, v2, v4⟩
    · intro y hy
      by_cases c1 : y = x
      · rw [c1, e2]; exact ⟨fun _ => Or.inr (Or.inr hxr), fun _ => hz⟩
      by_cases c2 : y = z
      · rw [c2, e3]; exact ⟨fun _ => Or.inr (Or.inl rfl), fun _ => hx10⟩
      rw [e1 y c1 c2]
      exact ⟨Or.inl, fun q => by
        rcases q with q | q | q
        · exact q
        · exact absurd q c2
        · exact absurd (q.trans hxr.symm) c1⟩
    · intro y h1 h2 _
      exact e1 y (fun q => h2 (by rw [q]; simp)) h1
  | cons y1 L ih =>
    intro k mc z x hk hf hz hC hS hmc hzn h10 hin hEx hV
    have hxr : x ≠ root := hC.1
    have hy1 : y1 = f (m x) := hC.2.1
    have hx10 := h10 x (by simp)
    have hzx : z ≠ x := fun e => hzn (by rw [e]; simp)
    have hmx : mc x = m x := hmc x (by simp)
    obtain ⟨i1, i2, i3⟩ := hin x (by simp) hxr
    have hmxx : m x ≠ x := fun e => hS x (by simp) (by rw [e]; simp)
    obtain ⟨vx1, vx2, vx3, vx4⟩ := hV x hx10 (fun q => hzx q.symm) (by rw [hmx]; exact i1)
    rw [hmx] at vx1 vx2 vx3 vx4
    have hnd := List.nodup_cons.mp (bd_Ch_nodup _ hC)
    obtain ⟨k, rfl⟩ : ∃ j, k = j + 1 := ⟨k - 1, by omega⟩
    have e1 : ∀ y, y ≠ x → y ≠ z → bd_up (bd_up mc z x) x z y = mc y := fun y a b => by rw [bd_up_n a, bd_up_n b]
    have e2 : bd_up (bd_up mc z x) x z x = z := bd_up_s _ _ _
    have e3 : bd_up (bd_up mc z x) x z z = x := by rw [bd_up_n hzx, bd_up_s]
    obtain ⟨m', g1, g2, g3, g4⟩ := ih k (bd_up (bd_up mc z x) x z) (m x) y1 (by simp at hk; omega) hy1.symm i1 hC.2.2 (bd_Sm_sub hS (fun q h => List.mem_cons_of_mem _ h)) (fun y hy => by
        rw [e1 y (fun q => hnd.1 (by rw [← q]; exact hy)) (fun q => hzn (by rw [← q]; exact List.mem_cons_of_mem _ hy))]
        exact hmc y (List.mem_cons_of_mem _ hy)) (fun q => hS x (by simp) (List.mem_cons_of_mem _ q)) (fun y hy => h10 y (List.mem_cons_of_mem _ hy)) (fun y hy => hin y (List.mem_cons_of_mem _ hy)) (by rw [hy1]; exact i3) (by
        intro y hy hyz hmy
        by_cases c1 : y = x
        · rw [c1, e2, e3]; exact ⟨rfl, hzx, fun q => vx3 q.symm, hEx⟩
        by_cases c2 : y = z
        · rw [c2, e3, e2]; exact ⟨rfl, fun q => hzx q.symm, fun q => hmxx q.symm, hE _ _ hEx⟩
        rw [e1 y c1 c2] at hmy ⊢
        obtain ⟨v1, v2, v3, v4⟩ := hV y hy c2 hmy
        have v5 : mc y ≠ x := fun q => hyz (by rw [← hmx, ← q, v1])
        rw [e1 _ v5 v3]
        exact ⟨v1, v2, fun q => c1 (by rw [← v1, q, vx1]), v4⟩)
    refine ⟨m', ?_, g2, fun y hy => ?_, fun y h1 h2 h3 => ?_⟩
    · unfold bd_turn
      rw [if_pos hz, hf, if_pos hx10, hmx]
      exact g1
    · rw [g3 y hy]
      by_cases c1 : y = x
      · rw [c1, e2, hmx]
        exact ⟨fun _ => Or.inl i1, fun _ => Or.inl hz⟩
      by_cases c2 : y = z
      · rw [c2, e3]
        exact ⟨fun _ => Or.inr (Or.inl rfl), fun _ => Or.inl hx10⟩
      rw [e1 y c1 c2]
      constructor
      · rintro (q | q | q)
        · exact Or.inl q
        · rw [q, vx1]; exact Or.inl hx10
        · exact Or.inr (Or.inr q)
      · rintro (q | q | q)
        · exact Or.inl q
        · exact absurd q c2
        · exact Or.inr (Or.inr q)
    · rw [g4 y (h3 x (by simp)) (fun q => h2 (List.mem_cons_of_mem _ q)) (fun x' hx' => h3 x' (List.mem_cons_of_mem _ hx'))]
      exact e1 y (fun q => h2 (by rw [q]; simp)) h1
/-- labels that hold for the matching m -/
def bd_Z (E : Nat → Nat → Prop) (m lb : Nat → Nat) : Prop :=
  (∀ x, lb x ≤ 11) ∧ (∀ x, x < 10 → lb x < 10 → ∀ y, E x y → lb y = 11 ∨ lb y = lb x) ∧ (∀ x, x < 10 → lb x = 11 → m x < 10 ∧ lb (m x) < 10) ∧
  (∀ x, x < 10 → lb x < 10 → x ≠ lb x → m x < 10 ∧ lb (m x) = lb x) ∧ (∀ x, x < 10 → lb x = 10 → m x < 10 → lb (m x) = 10)
theorem bd_avoid {lb : Nat → Nat} (hE : ∀ x y, E x y → E y x) (hE10 : ∀ x y, E x y → x < 10 ∧ y < 10) (hM : bd_M E m) (hZ : bd_Z E m lb) (hlr : lb root = 10) : ∀ (L : List Nat) (x : Nat), bd_Ch f m root (x :: L) → bd_Sm m (x :: L) → (∀ y ∈ x :: L, y < 10) → (∀ y ∈ x :: L, y ≠ root → m y < 10 ∧ f (m y) < 10 ∧ E (f (m y)) (m y)) →
    (lb x ≠ 10 → lb x < 10 ∧ lb x ∈ x :: L) ∧ (lb x = 10 → ∀ y ∈ x :: L, lb y = 10) := by
  obtain ⟨z0, z1, z2, z3, z4⟩ := hZ
  intro L
  induction L with
  | nil =>
    intro x hC _ _ _
    have hx : x = root := hC
    subst hx
    exact ⟨fun q => absurd hlr q, fun _ y hy => by simp at hy; rw [hy]; exact hlr⟩
  | cons y L ih =>
    intro x hC hS h10 hin
    obtain ⟨ih1, ih2⟩ := ih y hC.2.2 (bd_Sm_sub hS (fun q h => List.mem_cons_of_mem _ h)) (fun q h => h10 q (List.mem_cons_of_mem _ h)) (fun q h => hin q (List.mem_cons_of_mem _ h))
    have hx10 := h10 x (by simp)
    have hy10 := h10 y (by simp)
    obtain ⟨i1, i2, i3⟩ := hin x (by simp) hC.1
    have hyf : y = f (m x) := hC.2.1
    rw [← hyf] at i3
    have mm := (hM x hx10 i1).1
    refine ⟨fun hl => ?_, fun hl => ?_⟩
    · have hz : lb (m x) ≠ 10 := fun q => hl (by rw [← mm]; exact z4 _ i1 q (by rw [mm]; exact hx10))
      have hA : lb (m x) = 11 → lb x < 10 ∧ lb x ∈ x :: y :: L := by
        intro q
        have h1 := (z2 _ i1 q).2
        rw [mm] at h1
        refine ⟨h1, ?_⟩
        by_cases c : x = lb x
        · rw [← c]; simp
        · have := (z3 x hx10 h1 c).2
          rw [q] at this
          omega
      have h11 := z0 (m x)
      by_cases c : lb y = 10
      · refine hA ?_
        by_cases d : lb (m x) < 10
        · rcases z1 _ i1 d y (hE _ _ i3) with q | q <;> omega
        · omega
      · obtain ⟨j1, j2⟩ := ih1 c
        rcases z1 y hy10 j1 _ i3 with q | q
        · exact hA q
        · have hne : m x ≠ lb (m x) := fun e => hS x (by simp) (by rw [e, q]; exact List.mem_cons_of_mem _ j2)
          have h1 := (z3 _ i1 (by rw [q]; exact j1) hne).2
          rw [mm, q] at h1
          rw [h1]
          exact ⟨j1, List.mem_cons_of_mem _ j2⟩
    · intro q hq
      rcases List.mem_cons.mp hq with e | e
      · rw [e]; exact hl
      · refine ih2 ?_ q e
        refine Classical.byContradiction fun c => ?_
        obtain ⟨j1, j2⟩ := ih1 c
        have h1 := z4 x hx10 hl i1
        rcases z1 y hy10 j1 _ i3 with q | q <;> omega
/-- an end was found: the path is turned, the labels stay -/
theorem bd_success {lb : Nat → Nat} (hE : ∀ x y, E x y → E y x) (hE10 : ∀ x y, E x y → x < 10 ∧ y < 10) (hM : bd_M E m) (hZ : bd_Z E m lb) (hlr : lb root = 10) (hmr : ¬ m root < 10) {w : Nat} (hS : bd_Suc E m root f w) :
    ∃ m', bd_turn f 11 m w = some m' ∧ bd_M E m' ∧ bd_Z E m' lb ∧ w < 10 ∧ ¬ m w < 10 ∧ w ≠ root ∧ (∀ y, y < 10 → (m' y < 10 ↔ (m y < 10 ∨ y = w ∨ y = root))) := by
  obtain ⟨s1, s2, s3, s4, s5, X, c1, c2, c3, c4⟩ := hS
  obtain ⟨a1, a2⟩ := bd_avoid hE hE10 hM hZ hlr X (f w) c1 c2 (fun y hy => (c3 y hy).1) c4
  obtain ⟨z0, z1, z2, z3, z4⟩ := id hZ
  have hlen : X.length + 1 ≤ 10 := by
    have := bd_len10 (bd_Ch_nodup _ c1) (fun y hy => (c3 y hy).1)
    simpa using this
  have hlw : lb w = 10 := by
    refine Classical.byContradiction fun c => ?_
    have h0 := z0 w
    have h1 : lb w < 10 := by
      by_cases d : lb w = 11
      · exact absurd (z2 w s1 d).1 s2
      · omega
    have h2 : w = lb w := by
      refine Classical.byContradiction fun d => ?_
      exact s2 (z3 w s1 h1 d).1
    rcases z1 w s1 h1 _ (hE _ _ s5) with q | q
    · have := a1 (by omega)
      omega
    · have := (a1 (by omega)).2
      rw [q, ← h2] at this
      exact (c3 w this).2 rfl
  have hlv : lb (f w) = 10 := by
    refine Classical.byContradiction fun c => ?_
    obtain ⟨j1, -⟩ := a1 c
    rcases z1 _ s4 j1 w s5 with q | q <;> omega
  have hall := a2 hlv
  obtain ⟨m', g1, g2, g3, g4⟩ := bd_turn_run (E := E) (m := m) (f := f) hE hmr X 11 m w (f w) (by omega) rfl s1 c1 c2 (fun _ _ => rfl) (fun q => (c3 w q).2 rfl) (fun y hy => (c3 y hy).1) c4 s5 (by
    intro y hy hyw hmy
    obtain ⟨q1, q2, q3⟩ := hM y hy hmy
    exact ⟨q1, q2, fun e => s2 (by rw [← e, q1]; exact hy), q3⟩)
  have hkeep : ∀ y, y < 10 → lb y ≠ 10 → m' y = m y := by
    intro y hy hl
    refine g4 y (fun e => hl (by rw [e]; exact hlw)) (fun q => hl (hall y q)) (fun x' hx' e => ?_)
    have := z4 x' (c3 x' hx').1 (hall x' hx') (by rw [← e]; exact hy)
    rw [← e] at this
    exact hl this
  refine ⟨m', g1, g2, ⟨z0, z1, fun x hx hl => ?_, fun x hx hl hn => ?_, fun x hx hl hmx => ?_⟩, s1, s2, s3, g3⟩
  · rw [hkeep x hx (by omega)]; exact z2 x hx hl
  · rw [hkeep x hx (by omega)]; exact z3 x hx hl hn
  · refine Classical.byContradiction fun c => ?_
    have h1 := hkeep _ hmx c
    have h2 := (g2 x hx hmx).1
    rw [h1] at h2
    have h3 := (hM _ hmx (by rw [h2]; exact hx)).1
    rw [h2] at h3
    have h4 := z4 x hx hl (by rw [h3]; exact hmx)
    rw [h3] at h4
    exact c h4
/-- nothing was found: the labels grow -/
theorem bd_failure {lb : Nat → Nat} (hE : ∀ x y, E x y → E y x) (hE10 : ∀ x y, E x y → x < 10 ∧ y < 10) (hM : bd_M E m) (hZ : bd_Z E m lb) {σ : bd_S} (hF : bd_Fail E m root σ) :
    ∃ lb', bd_Z E m lb' ∧ (∀ x, lb x ≠ 10 → lb' x ≠ 10) ∧ lb' root ≠ 10 ∧ ∀ x, x < 10 → lb' x ≠ 10 → lb x = 10 → ¬ m x < 10 → x = root := by
  obtain ⟨f, b, r, se, dr, mn⟩ := σ
  obtain ⟨⟨hI, -⟩, hfin⟩ := hF
  dsimp only at hI hfin
  obtain ⟨hb10, hbb, hO10, ⟨hr1, hr2, hr3⟩, hOb, hnO, hin, hst, hfb, hp4, hp5, hch⟩ := id hI
  obtain ⟨z0, z1, z2, z3, z4⟩ := id hZ
  have hm : ∀ x, x < 10 → m x < 10 → m (m x) = x := fun x h1 h2 => (hM x h1 h2).1
  obtain ⟨lb', hlb⟩ : ∃ lb' : Nat → Nat, ∀ x, lb' x = if lb x ≠ 10 then lb x else if se.testBit x = true then b x else if f x < 10 ∧ x < 10 then 11 else 10 := ⟨_, fun _ => rfl⟩
  have k1 : ∀ x, lb x ≠ 10 → lb' x = lb x := fun x q => by rw [hlb, if_pos q]
  have k2 : ∀ x, lb x = 10 → se.testBit x = true → lb' x = b x := fun x q q2 => by rw [hlb, if_neg (fun n => n q), if_pos q2]
  have k3 : ∀ x, lb x = 10 → ¬ se.testBit x = true → f x < 10 → x < 10 → lb' x = 11 := fun x q q2 q3 q4 => by rw [hlb, if_neg (fun n => n q), if_neg q2, if_pos ⟨q3, q4⟩]
  have k4 : ∀ x, lb x = 10 → ¬ se.testBit x = true → ¬ (f x < 10 ∧ x < 10) → lb' x = 10 := fun x q q2 q3 => by rw [hlb, if_neg (fun n => n q), if_neg q2, if_neg q3]
  have kO : ∀ x, se.testBit x = true → b x < 10 := fun x q => hb10 x (hO10 x q)
  refine ⟨lb', ⟨fun x => ?_, fun x hx hl y hxy => ?_, fun x hx hl => ?_, fun x hx hl hn => ?_, fun x hx hl hmx => ?_⟩, fun x q => by rw [k1 x q]; exact q, ?_, fun x hx hl hl2 hmx => ?_⟩
  · by_cases c1 : lb x = 10
    · by_cases c2 : se.testBit x = true
      · rw [k2 x c1 c2]; have := kO x c2; omega
      · by_cases c3 : f x < 10 ∧ x < 10
        · rw [k3 x c1 c2 c3.1 c3.2]; omega
        · rw [k4 x c1 c2 c3]; omega
    · rw [k1 x c1]; exact z0 x
  · have hy10 := (hE10 x y hxy).2
    by_cases c1 : lb x = 10
    · by_cases c2 : se.testBit x = true
      · rw [k2 x c1 c2] at hl ⊢
        by_cases d1 : lb y = 10
        · rcases hfin x y hy10 c2 hxy with q | ⟨q1, q2⟩
          · have hOy : se.testBit y = true := by
              refine Classical.byContradiction fun n => n ?_
              have h1 := hnO y hy10 n
              rw [h1] at q
              rw [← q]
              exact hOb x c2
            rw [k2 y d1 hOy]
            exact Or.inr q.symm
          · exact Or.inl (k3 y d1 q1 q2 hy10)
        · rw [k1 y d1]
          by_cases d2 : lb y < 10
          · rcases z1 y hy10 d2 x (hE _ _ hxy) with q | q <;> omega
          · have := z0 y
            exact Or.inl (by omega)
      · by_cases c3 : f x < 10 ∧ x < 10
        · rw [k3 x c1 c2 c3.1 c3.2] at hl; omega
        · rw [k4 x c1 c2 c3] at hl; omega
    · rw [k1 x c1] at hl ⊢
      rcases z1 x hx hl y hxy with q | q
      · rw [k1 y (by omega)]; exact Or.inl q
      · rw [k1 y (by omega)]; exact Or.inr q
  · by_cases c1 : lb x = 10
    · by_cases c2 : se.testBit x = true
      · rw [k2 x c1 c2] at hl; have := kO x c2; omega
      · by_cases c3 : f x < 10 ∧ x < 10
        · obtain ⟨a1, a2⟩ := hin x hx c2 c3.1
          have h1 := z4 x hx c1 a1
          rw [k2 _ h1 a2]
          exact ⟨a1, kO _ a2⟩
        · rw [k4 x c1 c2 c3] at hl; omega
    · rw [k1 x c1] at hl
      obtain ⟨a1, a2⟩ := z2 x hx hl
      rw [k1 _ (by omega)]
      exact ⟨a1, a2⟩
  · by_cases c1 : lb x = 10
    · by_cases c2 : se.testBit x = true
      · rw [k2 x c1 c2] at hn ⊢
        obtain ⟨a1, a2, -⟩ := hp5 x c2 (fun q => hn q.symm)
        have a3 := hO10 _ a1
        rw [k2 _ (z4 x hx c1 a3) a1]
        exact ⟨a3, a2⟩
      · by_cases c3 : f x < 10 ∧ x < 10
        · rw [k3 x c1 c2 c3.1 c3.2] at hl; omega
        · rw [k4 x c1 c2 c3] at hl; omega
    · rw [k1 x c1] at hl hn ⊢
      obtain ⟨a1, a2⟩ := z3 x hx hl hn
      rw [k1 _ (by omega)]
      exact ⟨a1, a2⟩
  · by_cases c1 : lb x = 10
    · have h1 := z4 x hx c1 hmx
      have mm := hm x hx hmx
      by_cases c2 : se.testBit x = true
      · rw [k2 x c1 c2] at hl; have := kO x c2; omega
      · by_cases c3 : f x < 10 ∧ x < 10
        · rw [k3 x c1 c2 c3.1 c3.2] at hl; omega
        · refine k4 _ h1 (fun q => ?_) (fun q => ?_)
          · have hr : m x ≠ root := fun e => hr3 (by rw [← e, mm]; exact hx)
            have := (hst _ q hr).2.1
            rw [mm] at this
            exact c3 ⟨this, hx⟩
          · by_cases d : se.testBit (m x) = true
            · have hr : m x ≠ root := fun e => hr3 (by rw [← e, mm]; exact hx)
              have := (hst _ d hr).2.1
              rw [mm] at this
              exact c3 ⟨this, hx⟩
            · have := (hin _ hmx d q.1).2
              rw [mm] at this
              exact c2 this
    · rw [k1 x c1] at hl; exact absurd hl c1
  · by_cases c1 : lb root = 10
    · rw [k2 root c1 hr1, hr2]
      have := hO10 root hr1
      omega
    · rw [k1 root c1]; exact c1
  · by_cases c2 : se.testBit x = true
    · refine Classical.byContradiction fun n => hmx (hst x c2 n).1
    · by_cases c3 : f x < 10 ∧ x < 10
      · exact absurd (hin x hx c2 c3.1).1 hmx
      · rw [k4 x hl2 c2 c3] at hl; exact absurd rfl hl
end TU
end
section
/-! ===== how many places have a property ===== -/
def fb_ct (p : Nat → Bool) : Nat → Nat
  | 0 => 0
  | n + 1 => fb_ct p n + (if p n then 1 else 0)
theorem fb_ct_succ (p : Nat → Bool) (n : Nat) : fb_ct p (n + 1) = fb_ct p n + (if p n then 1 else 0) := rfl
theorem fb_ct_le (p : Nat → Bool) : ∀ n, fb_ct p n ≤ n
  | 0 => Nat.le_refl _
  | n + 1 => by
    have h := fb_ct_le p n
    rw [fb_ct_succ]
    split <;> omega
theorem fb_ct_step (p : Nat → Bool) (m : Nat) : ∀ n, fb_ct p m ≤ fb_ct p (m + n)
  | 0 => Nat.le_refl _
  | n + 1 => by
    have h := fb_ct_step p m n
    show fb_ct p m ≤ fb_ct p (m + n + 1)
    rw [fb_ct_succ]
    omega
theorem fb_ct_mono (p : Nat → Bool) {m n : Nat} (h : m ≤ n) : fb_ct p m ≤ fb_ct p n := by
  have := fb_ct_step p m (n - m)
  rwa [Nat.add_sub_cancel' h] at this
theorem fb_ct_cong {p q : Nat → Bool} : ∀ {n : Nat}, (∀ k, k < n → p k = q k) → fb_ct p n = fb_ct q n
  | 0, _ => rfl
  | n + 1, h => by
    rw [fb_ct_succ, fb_ct_succ, fb_ct_cong (fun k hk => h k (by omega)), h n (by omega)]
/-- one place changed -/
theorem fb_ct_out (p : Nat → Bool) (b : Bool) {i n : Nat} (h : n ≤ i) : fb_ct (fun k => if k = i then b else p k) n = fb_ct p n :=
  fb_ct_cong fun k hk => if_neg (by omega)
theorem fb_ct_upd (p : Nat → Bool) (b : Bool) {i : Nat} : ∀ {n : Nat}, i < n → fb_ct (fun k => if k = i then b else p k) n + (if p i then 1 else 0) = fb_ct p n + (if b then 1 else 0)
  | 0, h => absurd h (Nat.not_lt_zero i)
  | n + 1, h => by
    rw [fb_ct_succ, fb_ct_succ]
    rcases Nat.lt_or_ge i n with q | q
    · have := fb_ct_upd p b q
      have e : (if n = i then b else p n) = p n := if_neg (by omega)
      rw [e]
      omega
    · have e : i = n := by omega
      subst e
      rw [fb_ct_out p b (Nat.le_refl _)]
      simp only [if_true]
      omega
theorem fb_ct_sub {p q : Nat → Bool} : ∀ {n : Nat}, (∀ k, k < n → p k = true → q k = true) → fb_ct p n ≤ fb_ct q n
  | 0, _ => Nat.le_refl _
  | n + 1, h => by
    have h1 := fb_ct_sub (n := n) (p := p) (q := q) (fun k hk => h k (by omega))
    have h2 := h n (by omega)
    rw [fb_ct_succ, fb_ct_succ]
    cases hp : p n <;> cases hq : q n <;> simp_all <;> omega
theorem fb_ct_or {p q : Nat → Bool} : ∀ {n : Nat}, (∀ k, k < n → ¬ (p k = true ∧ q k = true)) → fb_ct (fun k => p k || q k) n = fb_ct p n + fb_ct q n
  | 0, _ => rfl
  | n + 1, h => by
    have h1 := fb_ct_or (n := n) (p := p) (q := q) (fun k hk => h k (by omega))
    have h2 := h n (by omega)
    rw [fb_ct_succ, fb_ct_succ, fb_ct_succ, h1]
    cases hp : p n <;> cases hq : q n <;> simp_all <;> omega
theorem fb_ct_not (p : Nat → Bool) : ∀ n, fb_ct p n + fb_ct (fun k => !p k) n = n
  | 0 => rfl
  | n + 1 => by
    have h := fb_ct_not p n
    rw [fb_ct_succ, fb_ct_succ]
    cases p n <;> simp <;> omega
theorem fb_ct_split (p : Nat → Bool) (m : Nat) : ∀ n, fb_ct p (m + n) = fb_ct p m + fb_ct (fun k => p (m + k)) n
  | 0 => rfl
  | n + 1 => by
    have h := fb_ct_split p m n
    show fb_ct p (m + n + 1) = _
    rw [fb_ct_succ, fb_ct_succ, h, Nat.add_assoc]
theorem fb_ct_zero {p : Nat → Bool} : ∀ {n : Nat}, fb_ct p n = 0 ↔ ∀ k, k < n → p k = false
  | 0 => ⟨fun _ k hk => absurd hk (Nat.not_lt_zero k), fun _ => rfl⟩
  | n + 1 => by
    have h := fb_ct_zero (p := p) (n := n)
    rw [fb_ct_succ]
    constructor
    · intro e k hk
      have e1 : fb_ct p n = 0 := by omega
      rcases Nat.lt_or_ge k n with q | q
      · exact h.mp e1 k q
      · have ek : k = n := by omega
        subst ek
        cases hp : p k
        · rfl
        · simp [hp] at e
    · intro a
      rw [h.mpr (fun k hk => a k (by omega)), a n (by omega)]
      rfl
theorem fb_ct_pos {p : Nat → Bool} {n : Nat} : 0 < fb_ct p n ↔ ∃ k, k < n ∧ p k = true := by
  constructor
  · intro h
    refine Classical.byContradiction fun hx => ?_
    have := fb_ct_zero.mpr (fun k hk => by
      cases hp : p k
      · rfl
      · exact absurd ⟨k, hk, hp⟩ hx : ∀ k, k < n → p k = false)
    omega
  · rintro ⟨k, hk, hp⟩
    rcases Nat.eq_zero_or_pos (fb_ct p n) with e | e
    · have := fb_ct_zero.mp e k hk
      rw [this] at hp
      cases hp
    · exact e
theorem fb_ct_all {p : Nat → Bool} {n : Nat} : fb_ct p n = n ↔ ∀ k, k < n → p k = true := by
  have h := fb_ct_not p n
  constructor
  · intro e k hk
    have z : fb_ct (fun k => !p k) n = 0 := by omega
    have := fb_ct_zero.mp z k hk
    cases hp : p k
    · simp [hp] at this
    · rfl
  · intro a
    have z : fb_ct (fun k => !p k) n = 0 := fb_ct_zero.mpr (fun k hk => by simp [a k hk])
    omega
/-- the k-th place with the property -/
theorem fb_ct_kth {p : Nat → Bool} {k : Nat} : ∀ {n : Nat}, k < fb_ct p n → ∃ i, i < n ∧ p i = true ∧ fb_ct p i = k
  | 0, h => absurd h (Nat.not_lt_zero k)
  | n + 1, h => by
    rcases Nat.lt_or_ge k (fb_ct p n) with q | q
    · obtain ⟨i, h1, h2⟩ := fb_ct_kth q
      exact ⟨i, by omega, h2⟩
    · rw [fb_ct_succ] at h
      cases hp : p n
      · simp [hp] at h; omega
      · simp [hp] at h
        exact ⟨n, by omega, hp, by omega⟩
theorem fb_ct_kth_one {p : Nat → Bool} {i j : Nat} (hi : p i = true) (hj : p j = true) (e : fb_ct p i = fb_ct p j) : i = j := by
  have key : ∀ a b : Nat, a < b → p a = true → fb_ct p a < fb_ct p b := by
    intro a b hab ha
    have h := fb_ct_mono p (show a + 1 ≤ b from hab)
    rw [fb_ct_succ, ha] at h
    simp at h
    omega
  rcases Nat.lt_trichotomy i j with q | q | q
  · have := key i j q hi; omega
  · exact q
  · have := key j i q hj; omega
/-! ===== sums over a range: one place changed, parts, bounds ===== -/
def fb_sm (f : Nat → Nat) : Nat → Nat
  | 0 => 0
  | n + 1 => fb_sm f n + f n
theorem fb_sm_succ (f : Nat → Nat) (n : Nat) : fb_sm f (n + 1) = fb_sm f n + f n := rfl
theorem fb_sm_cong {f g : Nat → Nat} : ∀ {n : Nat}, (∀ k, k < n → f k = g k) → fb_sm f n = fb_sm g n
  | 0, _ => rfl
  | n + 1, h => by rw [fb_sm_succ, fb_sm_succ, fb_sm_cong (fun k hk => h k (by omega)), h n (by omega)]
theorem fb_sm_out (f : Nat → Nat) (v : Nat) {i n : Nat} (h : n ≤ i) : fb_sm (fun k => if k = i then v else f k) n = fb_sm f n :=
  fb_sm_cong fun k hk => if_neg (by omega)
theorem fb_sm_upd (f : Nat → Nat) (v : Nat) {i : Nat} : ∀ {n : Nat}, i < n → fb_sm (fun k => if k = i then v else f k) n + f i = fb_sm f n + v
  | 0, h => absurd h (Nat.not_lt_zero i)
  | n + 1, h => by
    rw [fb_sm_succ, fb_sm_succ]
    rcases Nat.lt_or_ge i n with q | q
    · have := fb_sm_upd f v q
      have e : (if n = i then v else f n) = f n := if_neg (by omega)
      rw [e]
      omega
    · have e : i = n := by omega
      subst e
      rw [fb_sm_out f v (Nat.le_refl _)]
      simp only [if_true]
      omega
theorem fb_sm_add (f g : Nat → Nat) : ∀ n, fb_sm (fun k => f k + g k) n = fb_sm f n + fb_sm g n
  | 0 => rfl
  | n + 1 => by
    have h := fb_sm_add f g n
    rw [fb_sm_succ, fb_sm_succ, fb_sm_succ, h]
    omega
theorem fb_sm_le {f g : Nat → Nat} : ∀ {n : Nat}, (∀ k, k < n → f k ≤ g k) → fb_sm f n ≤ fb_sm g n
  | 0, _ => Nat.le_refl _
  | n + 1, h => by
    have h1 := fb_sm_le (n := n) (f := f) (g := g) (fun k hk => h k (by omega))
    have h2 := h n (by omega)
    rw [fb_sm_succ, fb_sm_succ]
    omega
theorem fb_sm_const (c : Nat) : ∀ n, fb_sm (fun _ => c) n = n * c
  | 0 => by rw [Nat.zero_mul]; rfl
  | n + 1 => by rw [fb_sm_succ, fb_sm_const c n, Nat.succ_mul]
theorem fb_sm_bound {f : Nat → Nat} {c n : Nat} (h : ∀ k, k < n → f k ≤ c) : fb_sm f n ≤ n * c := by
  rw [← fb_sm_const c n]
  exact fb_sm_le h
theorem fb_sm_mono (f : Nat → Nat) (m : Nat) : ∀ n, fb_sm f m ≤ fb_sm f (m + n)
  | 0 => Nat.le_refl _
  | n + 1 => by
    have h := fb_sm_mono f m n
    show fb_sm f m ≤ fb_sm f (m + n + 1)
    rw [fb_sm_succ]
    omega
theorem fb_sm_part (f : Nat → Nat) {i n : Nat} (h : i < n) : fb_sm f i + f i ≤ fb_sm f n := by
  have := fb_sm_mono f (i + 1) (n - (i + 1))
  rw [fb_sm_succ, show i + 1 + (n - (i + 1)) = n by omega] at this
  exact this
theorem fb_sm_split (f : Nat → Nat) (m : Nat) : ∀ n, fb_sm f (m + n) = fb_sm f m + fb_sm (fun k => f (m + k)) n
  | 0 => rfl
  | n + 1 => by
    have h := fb_sm_split f m n
    show fb_sm f (m + n + 1) = _
    rw [fb_sm_succ, fb_sm_succ, h, Nat.add_assoc]
theorem fb_sm_zero {f : Nat → Nat} {n : Nat} (h : fb_sm f n = 0) : ∀ k, k < n → f k = 0 := fun k hk => by
  have := fb_sm_part f hk
  omega
end
section
/-! COUNTS: how many pairs; the labels bound them -/
theorem bd_ct_inj {p : Nat → Bool} {h : Nat → Nat} {N : Nat} : ∀ (n : Nat) (q : Nat → Bool), (∀ x, x < n → p x = true → h x < N ∧ q (h x) = true) → (∀ x y, x < n → y < n → p x = true → p y = true → h x = h y → x = y) → fb_ct p n ≤ fb_ct q N
  | 0, q, _, _ => Nat.zero_le _
  | n + 1, q, h1, h2 => by
    rw [fb_ct_succ]
    by_cases c : p n = true
    · rw [if_pos c]
      obtain ⟨a1, a2⟩ := h1 n (by omega) c
      have ih := bd_ct_inj (p := p) (h := h) (N := N) n (fun k => if k = h n then false else q k) (fun x hx px => by
        obtain ⟨b1, b2⟩ := h1 x (by omega) px
        refine ⟨b1, ?_⟩
        have : h x ≠ h n := fun e => by
          have := h2 x n (by omega) (by omega) px c e
          omega
        simp [this, b2]) (fun x y hx hy => h2 x y (by omega) (by omega))
      have hu := fb_ct_upd q false (i := h n) (n := N) a1
      rw [if_pos a2] at hu
      simp only [Bool.false_eq_true, if_false, Nat.add_zero] at hu
      omega
    · rw [if_neg c]
      exact bd_ct_inj (p := p) (h := h) (N := N) n q (fun x hx => h1 x (by omega)) (fun x y hx hy => h2 x y (by omega) (by omega))
theorem bd_ct_one {p : Nat → Bool} {c : Nat} : ∀ (n : Nat), (∀ x, x < n → p x = true → x = c) → fb_ct p n ≤ 1
  | 0, _ => Nat.zero_le _
  | n + 1, h => by
    rw [fb_ct_succ]
    by_cases q : p n = true
    · have : fb_ct p n = 0 := fb_ct_zero.mpr (fun k hk => by
        cases hp : p k with
        | false => rfl
        | true =>
          have e1 := h k (by omega) hp
          have e2 := h n (by omega) q
          omega)
      rw [this, if_pos q]
      omega
    · rw [if_neg q]
      have := bd_ct_one (p := p) (c := c) n (fun x hx => h x (by omega))
      omega
/-- partners come in pairs -/
theorem bd_ct_even {p : Nat → Bool} {m : Nat → Nat} (h : ∀ x, x < 10 → p x = true → m x < 10 ∧ p (m x) = true ∧ m (m x) = x ∧ m x ≠ x) : ∃ j, fb_ct p 10 = 2 * j := by
  have e1 : fb_ct p 10 = fb_ct (fun x => p x && decide (x < m x)) 10 + fb_ct (fun x => p x && decide (m x < x)) 10 := by
    rw [← fb_ct_or]
    · refine fb_ct_cong (fun k hk => ?_)
      cases hp : p k with
      | false => simp
      | true =>
        have := (h k hk hp).2.2.2
        simp
        omega
    · intro k hk
      simp
      intro _ q _
      omega
  have e2 : fb_ct (fun x => p x && decide (x < m x)) 10 ≤ fb_ct (fun x => p x && decide (m x < x)) 10 := by
    refine bd_ct_inj (h := m) 10 _ (fun x hx hp => ?_) (fun x y hx hy hp hq e => ?_)
    · simp at hp
      obtain ⟨a1, a2, a3, a4⟩ := h x hx hp.1
      exact ⟨a1, by simp [a2, a3, hp.2]⟩
    · simp at hp hq
      rw [← (h x hx hp.1).2.2.1, e, (h y hy hq.1).2.2.1]
  have e3 : fb_ct (fun x => p x && decide (m x < x)) 10 ≤ fb_ct (fun x => p x && decide (x < m x)) 10 := by
    refine bd_ct_inj (h := m) 10 _ (fun x hx hp => ?_) (fun x y hx hy hp hq e => ?_)
    · simp at hp
      obtain ⟨a1, a2, a3, a4⟩ := h x hx hp.1
      exact ⟨a1, by simp [a2, a3, hp.2]⟩
    · simp at hp hq
      rw [← (h x hx hp.1).2.2.1, e, (h y hy hq.1).2.2.1]
  exact ⟨fb_ct (fun x => p x && decide (x < m x)) 10, by omega⟩
theorem bd_sm_cls {p : Nat → Bool} {c : Nat → Nat} (n : Nat) : ∀ (N : Nat), fb_sm (fun k => fb_ct (fun x => p x && decide (c x = k)) n) N = fb_ct (fun x => p x && decide (c x < N)) n
  | 0 => by
    have : fb_ct (fun x => p x && decide (c x < 0)) n = 0 := fb_ct_zero.mpr (fun k _ => by simp)
    rw [this]; rfl
  | N + 1 => by
    rw [fb_sm_succ, bd_sm_cls n N, ← fb_ct_or]
    · refine fb_ct_cong (fun k _ => ?_)
      cases p k with
      | false => rfl
      | true =>
        rw [Bool.eq_iff_iff]
        simp
        omega
    · intro k _
      simp
      intro _ q _
      omega
theorem bd_sm_lt {f g : Nat → Nat} {c : Nat} : ∀ (n : Nat), (∀ k, k < n → f k ≤ g k) → c < n → f c + 1 ≤ g c → fb_sm f n + 1 ≤ fb_sm g n
  | 0, _, h, _ => absurd h (Nat.not_lt_zero _)
  | n + 1, h1, h2, h3 => by
    rw [fb_sm_succ, fb_sm_succ]
    have a := h1 n (by omega)
    by_cases e : c = n
    · subst e
      have := fb_sm_le (f := f) (g := g) (n := c) (fun k hk => h1 k (by omega))
      omega
    · have := bd_sm_lt (f := f) (g := g) (c := c) n (fun k hk => h1 k (by omega)) (by omega) h3
      omega
/-- the number of the places of S with label c -/
def bd_cc (lb : Nat → Nat) (S c : Nat) : Nat := fb_ct (fun x => S.testBit x && decide (lb x = c)) 10
/-- the bound by labels -/
def bd_W (lb : Nat → Nat) (S : Nat) : Nat := bd_cc lb S 11 + fb_sm (fun c => bd_cc lb S c / 2) 11
theorem bd_cc_clr (lb : Nat → Nat) (S a c : Nat) : bd_cc lb (bd_clr S a) c ≤ bd_cc lb S c := by
  refine fb_ct_sub (fun k hk h => ?_)
  rw [bd_clr_bit] at h
  simp at h ⊢
  exact ⟨h.1.1, h.2⟩
theorem bd_cc_clr1 {lb : Nat → Nat} {S a c : Nat} (ha : a < 10) (hS : S.testBit a = true) (hl : lb a = c) : bd_cc lb (bd_clr S a) c + 1 = bd_cc lb S c := by
  have hu := fb_ct_upd (fun x => S.testBit x && decide (lb x = c)) false (i := a) (n := 10) ha
  simp [hS, hl] at hu
  unfold bd_cc
  rw [← hu]
  congr 1
  refine fb_ct_cong (fun k hk => ?_)
  rw [bd_clr_bit]
  by_cases e : k = a
  · simp [e]
  · simp [e]
theorem bd_W_clr (lb : Nat → Nat) (S a : Nat) : bd_W lb (bd_clr S a) ≤ bd_W lb S := by
  unfold bd_W
  have h1 := bd_cc_clr lb S a 11
  have h2 := fb_sm_le (f := fun c => bd_cc lb (bd_clr S a) c / 2) (g := fun c => bd_cc lb S c / 2) (n := 11) (fun k _ => Nat.div_le_div_right (bd_cc_clr lb S a k))
  omega
theorem bd_W_pair {lb : Nat → Nat} {S a b : Nat} (ha : a < 10) (hb : b < 10) (hab : a ≠ b) (hSa : S.testBit a = true) (hSb : S.testBit b = true) (h11 : lb a ≤ 11) (hl : lb a = 11 ∨ lb b = 11 ∨ lb a = lb b) : bd_W lb (bd_clr (bd_clr S a) b) + 1 ≤ bd_W lb S := by
  have hSb' : (bd_clr S a).testBit b = true := by rw [bd_clr_bit]; simp [hSb]; omega
  by_cases c1 : lb a = 11
  · have h0 := bd_W_clr lb (bd_clr S a) b
    have h1 := bd_cc_clr1 (lb := lb) ha hSa c1
    have h2 := fb_sm_le (f := fun c => bd_cc lb (bd_clr S a) c / 2) (g := fun c => bd_cc lb S c / 2) (n := 11) (fun k _ => Nat.div_le_div_right (bd_cc_clr lb S a k))
    unfold bd_W at *
    omega
  by_cases c2 : lb b = 11
  · have h0 := bd_W_clr lb S a
    have h1 := bd_cc_clr1 (lb := lb) hb hSb' c2
    have h2 := fb_sm_le (f := fun c => bd_cc lb (bd_clr (bd_clr S a) b) c / 2) (g := fun c => bd_cc lb (bd_clr S a) c / 2) (n := 11) (fun k _ => Nat.div_le_div_right (bd_cc_clr lb _ b k))
    unfold bd_W at *
    omega
  have c3 : lb a = lb b := by omega
  have h1 := bd_cc_clr lb (bd_clr S a) b 11
  have h2 := bd_cc_clr lb S a 11
  have h3 := bd_cc_clr1 (lb := lb) ha hSa rfl
  have h4 := bd_cc_clr1 (lb := lb) hb hSb' rfl
  rw [← c3] at h4
  have h5 := bd_sm_lt (f := fun c => bd_cc lb (bd_clr (bd_clr S a) b) c / 2) (g := fun c => bd_cc lb S c / 2) (c := lb a) 11 (fun k _ => Nat.div_le_div_right (Nat.le_trans (bd_cc_clr lb _ b k) (bd_cc_clr lb S a k))) (by omega) (by
    show bd_cc lb (bd_clr (bd_clr S a) b) (lb a) / 2 + 1 ≤ bd_cc lb S (lb a) / 2
    omega)
  unfold bd_W
  omega
/-! the fold of nu -/
theorem bd_fold_ge {P : Nat → Prop} [DecidablePred P] {F : Nat → Nat} : ∀ (l : List Nat) (z : Nat), z ≤ l.foldl (fun acc b => if P b then max acc (F b) else acc) z
  | [], z => Nat.le_refl _
  | a :: l, z => by
    refine Nat.le_trans ?_ (bd_fold_ge (P := P) (F := F) l _)
    by_cases c : P a
    · simp only [if_pos c]; exact Nat.le_max_left _ _
    · simp only [if_neg c]; exact Nat.le_refl _
theorem bd_fold_in {P : Nat → Prop} [DecidablePred P] {F : Nat → Nat} : ∀ (l : List Nat) (z b : Nat), b ∈ l → P b → F b ≤ l.foldl (fun acc b => if P b then max acc (F b) else acc) z
  | [], z, b, h, _ => by cases h
  | a :: l, z, b, h, hP => by
    rcases List.mem_cons.mp h with e | e
    · subst e
      refine Nat.le_trans ?_ (bd_fold_ge (P := P) (F := F) l _)
      simp only [if_pos hP]
      exact Nat.le_max_right _ _
    · exact bd_fold_in (P := P) (F := F) l _ b e hP
theorem bd_fold_le {P : Nat → Prop} [DecidablePred P] {F : Nat → Nat} {B : Nat} : ∀ (l : List Nat) (z : Nat), z ≤ B → (∀ b ∈ l, P b → F b ≤ B) → l.foldl (fun acc b => if P b then max acc (F b) else acc) z ≤ B
  | [], z, h, _ => h
  | a :: l, z, h, hF => by
    refine bd_fold_le (P := P) (F := F) l _ ?_ (fun b hb => hF b (List.mem_cons_of_mem _ hb))
    by_cases c : P a
    · simp only [if_pos c]; exact Nat.max_le.mpr ⟨h, hF a (by simp) c⟩
    · simp only [if_neg c]; exact h
/-- nu is at most the bound by labels -/
theorem bd_nu_le {e : Nat → Nat → Bool} {lb : Nat → Nat} {al : Nat} (h0 : ∀ x, lb x ≤ 11) (he : ∀ a b, a < 10 → b < 10 → al.testBit a = true → al.testBit b = true → e a b = true → lb a = 11 ∨ lb b = 11 ∨ lb a = lb b) : ∀ (k S : Nat), k ≤ 10 → (∀ x, S.testBit x = true → al.testBit x = true) → bd_nu e k S ≤ bd_W lb S
  | 0, S, _, _ => Nat.zero_le _
  | k + 1, S, hk, hS => by
    unfold bd_nu
    have ih := fun S' hS' => bd_nu_le h0 he k S' (by omega) hS'
    have hc : ∀ S' a, (∀ x, S'.testBit x = true → al.testBit x = true) → ∀ x, (bd_clr S' a).testBit x = true → al.testBit x = true := fun S' a h x hx => by
      rw [bd_clr_bit] at hx
      simp at hx
      exact h x hx.1
    by_cases c : S.testBit (9 - k) = true
    · rw [if_pos c]
      refine bd_fold_le _ _ ?_ (fun b hb hP => ?_)
      · exact Nat.le_trans (ih _ (hc S _ hS)) (bd_W_clr lb S _)
      · have hb10 : b < 10 := by simpa using hb
        have := ih (bd_clr (bd_clr S (9 - k)) b) (hc _ _ (hc S _ hS))
        have h2 := bd_W_pair (lb := lb) (S := S) (a := 9 - k) (b := b) (by omega) hb10 (by omega) c hP.2.1 (h0 _) (he _ _ (by omega) hb10 (hS _ c) (hS _ hP.2.1) hP.2.2)
        omega
    · rw [if_neg c]
      exact ih S hS
/-- and at least the pairs of any matching -/
theorem bd_nu_ge {e : Nat → Nat → Bool} : ∀ (k S : Nat) (m : Nat → Nat), k ≤ 10 → (∀ x, x < 10 → m x < 10 → m (m x) = x ∧ m x ≠ x ∧ S.testBit x = true ∧ 10 - k ≤ x ∧ e x (m x) = true) → fb_ct (fun x => decide (m x < 10)) 10 ≤ 2 * bd_nu e k S
  | 0, S, m, _, h => by
    have : fb_ct (fun x => decide (m x < 10)) 10 = 0 := fb_ct_zero.mpr (fun x hx => by
      simp
      refine Nat.le_of_not_lt fun q => ?_
      have := (h x hx q).2.2.2.1
      omega)
    rw [this]; exact Nat.zero_le _
  | k + 1, S, m, hk, h => by
    unfold bd_nu
    have ha : 9 - k < 10 := by omega
    by_cases c : m (9 - k) < 10
    · obtain ⟨m1, m2, m3, m4, m5⟩ := h _ ha c
      obtain ⟨-, -, n3, n4, -⟩ := h _ c (by rw [m1]; exact ha)
      rw [if_pos m3]
      have ih := bd_nu_ge (e := e) k (bd_clr (bd_clr S (9 - k)) (m (9 - k))) (bd_up (bd_up m (9 - k) 10) (m (9 - k)) 10) (by omega) (fun x hx hmx => by
        by_cases e1 : x = m (9 - k)
        · rw [e1, bd_up_s] at hmx; omega
        by_cases e2 : x = 9 - k
        · rw [bd_up_n e1, e2, bd_up_s] at hmx; omega
        rw [bd_up_n e1, bd_up_n e2] at hmx ⊢
        obtain ⟨h1, h2, h3, h4, h5⟩ := h x hx hmx
        have e3 : m x ≠ m (9 - k) := fun q => e2 (by rw [← h1, q, m1])
        have e4 : m x ≠ 9 - k := fun q => e1 (by rw [← q, h1])
        rw [bd_up_n e3, bd_up_n e4]
        refine ⟨h1, h2, ?_, by omega, h5⟩
        rw [bd_clr_bit, bd_clr_bit]
        simp [h3, e1, e2])
      have hin := bd_fold_in (P := fun b => 9 - k < b ∧ S.testBit b = true ∧ e (9 - k) b = true) (F := fun b => bd_nu e k (bd_clr (bd_clr S (9 - k)) b) + 1) (List.range 10) (bd_nu e k (bd_clr S (9 - k))) (m (9 - k)) (by simp; exact c) ⟨by omega, n3, m5⟩
      have u1 := fb_ct_upd (fun x => decide (m x < 10)) false (i := 9 - k) (n := 10) ha
      have u2 := fb_ct_upd (fun x => if x = 9 - k then false else decide (m x < 10)) false (i := m (9 - k)) (n := 10) c
      have e5 : fb_ct (fun x => if x = m (9 - k) then false else if x = 9 - k then false else decide (m x < 10)) 10 = fb_ct (fun x => decide (bd_up (bd_up m (9 - k) 10) (m (9 - k)) 10 x < 10)) 10 := fb_ct_cong (fun x _ => by
        by_cases q1 : x = m (9 - k)
        · simp [q1, bd_up_s]
        · by_cases q2 : x = 9 - k
          · rw [bd_up_n q1, q2, bd_up_s]
            simp
          · rw [bd_up_n q1, bd_up_n q2]
            simp [q1, q2])
      have hv1 : decide (m (9 - k) < 10) = true := by simp [c]
      have hv2 : (if m (9 - k) = 9 - k then false else decide (m (m (9 - k)) < 10)) = true := by simp [m1, m2, ha]
      rw [if_pos hv1] at u1
      rw [if_pos hv2, e5] at u2
      simp only [Bool.false_eq_true, if_false, Nat.add_zero] at u1 u2
      omega
    · by_cases d : S.testBit (9 - k) = true
      · rw [if_pos d]
        have ih := bd_nu_ge (e := e) k (bd_clr S (9 - k)) m (by omega) (fun x hx hmx => by
          obtain ⟨h1, h2, h3, h4, h5⟩ := h x hx hmx
          have e2 : x ≠ 9 - k := fun q => c (by rw [← q]; exact hmx)
          refine ⟨h1, h2, ?_, by omega, h5⟩
          rw [bd_clr_bit]
          simp [h3, e2])
        have := bd_fold_ge (P := fun b => 9 - k < b ∧ S.testBit b = true ∧ e (9 - k) b = true) (F := fun b => bd_nu e k (bd_clr (bd_clr S (9 - k)) b) + 1) (List.range 10) (bd_nu e k (bd_clr S (9 - k)))
        omega
      · rw [if_neg d]
        exact bd_nu_ge (e := e) k S m (by omega) (fun x hx hmx => by
          obtain ⟨h1, h2, h3, h4, h5⟩ := h x hx hmx
          have e2 : x ≠ 9 - k := fun q => d (by rw [← q]; exact h3)
          exact ⟨h1, h2, h3, by omega, h5⟩)
end
section
/-! MOST is nu -/
section MO
variable {g : Nat → Nat} {al : Nat}
theorem bd_W_le {m lb : Nat → Nat} (hM : bd_M (bd_E g al) m) (hZ : bd_Z (bd_E g al) m lb) (hfin : ∀ u, u < 10 → al.testBit u = true → ¬ m u < 10 → lb u ≠ 10) : 2 * bd_W lb al ≤ fb_ct (fun x => decide (m x < 10)) 10 := by
  obtain ⟨z0, z1, z2, z3, z4⟩ := id hZ
  have hal : ∀ x, x < 10 → m x < 10 → al.testBit x = true ∧ al.testBit (m x) = true := fun x h1 h2 => by
    obtain ⟨-, -, -, -, -, q1, q2⟩ := hM x h1 h2
    exact ⟨q1, q2⟩
  obtain ⟨T, hT⟩ : ∃ T : Nat → Bool, ∀ x, T x = true ↔ (m x < 10 ∧ lb x ≠ 11 ∧ lb (m x) = lb x) := ⟨fun x => decide (m x < 10 ∧ lb x ≠ 11 ∧ lb (m x) = lb x), fun x => by simp⟩
  have hmi : ∀ c, c < 11 → bd_cc lb al c / 2 + bd_cc lb al c / 2 ≤ fb_ct (fun x => T x && decide (lb x = c)) 10 := by
    intro c hc
    obtain ⟨j, hj⟩ := bd_ct_even (p := fun x => T x && decide (lb x = c)) (m := m) (fun x hx hp => by
      simp only [Bool.and_eq_true, decide_eq_true_eq] at hp ⊢
      obtain ⟨h1, h2⟩ := hp
      obtain ⟨t1, t2, t3⟩ := (hT x).mp h1
      obtain ⟨q1, q2, -⟩ := hM x hx t1
      exact ⟨t1, ⟨(hT _).mpr ⟨by rw [q1]; exact hx, by rw [t3]; exact t2, by rw [q1]; exact t3.symm⟩, by rw [t3]; exact h2⟩, q1, q2⟩)
    have h1 : bd_cc lb al c ≤ fb_ct (fun x => T x && decide (lb x = c)) 10 + fb_ct (fun x => (al.testBit x && decide (lb x = c)) && !T x) 10 := by
      rw [← fb_ct_or]
      · refine fb_ct_sub (fun k hk h => ?_)
        simp only [Bool.and_eq_true, decide_eq_true_eq] at h
        cases hTk : T k with
        | false => simp [h.1, h.2]
        | true => simp [h.2]
      · intro k hk
        cases hTk : T k with
        | false => simp
        | true => simp
    have h2 : fb_ct (fun x => (al.testBit x && decide (lb x = c)) && !T x) 10 ≤ 1 := by
      refine bd_ct_one (c := c) 10 (fun x hx hp => ?_)
      simp only [Bool.and_eq_true, decide_eq_true_eq, Bool.not_eq_true'] at hp
      obtain ⟨⟨p1, p2⟩, p3⟩ := hp
      have hn : ¬ (m x < 10 ∧ lb x ≠ 11 ∧ lb (m x) = lb x) := fun q => by
        have := (hT x).mpr q
        rw [p3] at this
        cases this
      by_cases d : c = 10
      · refine absurd ?_ hn
        have h1 : m x < 10 := Classical.byContradiction fun q => hfin x hx p1 q (by omega)
        exact ⟨h1, by omega, by rw [z4 x hx (by omega) h1]; omega⟩
      · refine Classical.byContradiction fun q => hn ?_
        obtain ⟨a1, a2⟩ := z3 x hx (by omega) (by rw [p2]; exact q)
        exact ⟨a1, by omega, a2⟩
    omega
  have h3 : fb_sm (fun c => bd_cc lb al c / 2) 11 + fb_sm (fun c => bd_cc lb al c / 2) 11 ≤ fb_ct (fun x => T x && decide (lb x < 11)) 10 := by
    rw [← fb_sm_add, ← bd_sm_cls (p := T) (c := lb) 10 11]
    exact fb_sm_le (fun k hk => hmi k hk)
  have h5 : bd_cc lb al 11 ≤ fb_ct (fun x => decide (m x < 10) && (decide (lb (m x) = 11) && decide (lb x < 10))) 10 := by
    refine bd_ct_inj (h := m) 10 _ (fun x hx hp => ?_) (fun x y hx hy hp hq e => ?_)
    · simp only [Bool.and_eq_true, decide_eq_true_eq] at hp ⊢
      obtain ⟨a1, a2⟩ := z2 x hx hp.2
      obtain ⟨q1, q2, -⟩ := hM x hx a1
      exact ⟨a1, by rw [q1]; exact hx, by rw [q1]; exact hp.2, a2⟩
    · simp only [Bool.and_eq_true, decide_eq_true_eq] at hp hq
      rw [← (hM x hx (z2 x hx hp.2).1).1, e, (hM y hy (z2 y hy hq.2).1).1]
  have h6 : fb_ct (fun x => T x && decide (lb x < 11)) 10 + (bd_cc lb al 11 + fb_ct (fun x => decide (m x < 10) && (decide (lb (m x) = 11) && decide (lb x < 10))) 10) ≤ fb_ct (fun x => decide (m x < 10)) 10 := by
    unfold bd_cc
    rw [← fb_ct_or, ← fb_ct_or]
    · refine fb_ct_sub (fun k hk h => ?_)
      simp only [Bool.or_eq_true, Bool.and_eq_true, decide_eq_true_eq] at h ⊢
      rcases h with h | h | h
      · exact ((hT k).mp h.1).1
      · exact (z2 k hk h.2).1
      · exact h.1
    · intro k hk
      simp only [Bool.or_eq_true, Bool.and_eq_true, decide_eq_true_eq]
      rintro ⟨⟨q1, q2⟩, q3⟩
      obtain ⟨t1, t2, t3⟩ := (hT k).mp q1
      rcases q3 with q | q <;> omega
    · intro k hk
      simp only [Bool.and_eq_true, decide_eq_true_eq]
      rintro ⟨⟨q1, q2⟩, q3⟩
      omega
  unfold bd_W
  omega
theorem bd_ml_run (hE : ∀ x y, bd_E g al x y → bd_E g al y x) : ∀ (k : Nat) (m : Nat → Nat) (σ : bd_S) (n : Nat) (lb : Nat → Nat), k ≤ 10 → bd_M (bd_E g al) m → bd_Z (bd_E g al) m lb → (∀ u, u < 10 - k → al.testBit u = true → ¬ m u < 10 → lb u ≠ 10) → (∀ u, u < 10 → lb u ≠ 10 → ¬ m u < 10 → u < 10 - k) → 2 * n = fb_ct (fun x => decide (m x < 10)) 10 →
    ∃ m' σ' n' lb', bd_ml g al k m σ n = some (m', σ', n') ∧ bd_M (bd_E g al) m' ∧ bd_Z (bd_E g al) m' lb' ∧ (∀ u, u < 10 → al.testBit u = true → ¬ m' u < 10 → lb' u ≠ 10) ∧ 2 * n' = fb_ct (fun x => decide (m' x < 10)) 10
  | 0, m, σ, n, lb, _, hM, hZ, h1, _, hn => ⟨m, σ, n, lb, rfl, hM, hZ, h1, hn⟩
  | k + 1, m, σ, n, lb, hk, hM, hZ, h1, h2, hn => by
    have hv : 9 - k < 10 := by omega
    have hE10 : ∀ x y, bd_E g al x y → x < 10 ∧ y < 10 := fun x y q => ⟨q.1, q.2.1⟩
    unfold bd_ml
    by_cases c : al.testBit (9 - k) = true ∧ ¬ m (9 - k) < 10
    · rw [if_pos c]
      obtain ⟨q, e1, e2⟩ := bd_path_run hM hE c.1 hv c.2 σ
      rw [e1]
      rcases e2 with ⟨f1, f2⟩ | ⟨w, f1, f2⟩
      · obtain ⟨lb', g1, g2, g3, g4⟩ := bd_failure hE hE10 hM hZ f2
        obtain ⟨m', σ', n', lb2, i1, i2⟩ := bd_ml_run hE k m q.1 n lb' (by omega) hM g1 (fun u hu ha hm => by
          by_cases e : u = 9 - k
          · rw [e]; exact g3
          · exact g2 u (h1 u (by omega) ha hm)) (fun u hu hl hm => by
          by_cases e : lb u = 10
          · have := g4 u hu hl e hm
            omega
          · have := h2 u hu e hm
            omega) hn
        refine ⟨m', σ', n', lb2, ?_, i2⟩
        show (match q.2 with | none => bd_ml g al k m q.1 n | some w => (bd_turn q.1.1 11 m w).bind fun m' => bd_ml g al k m' q.1 (n + 1)) = _
        rw [f1]
        exact i1
      · have hlr : lb (9 - k) = 10 := Classical.byContradiction fun z => by
          have := h2 _ hv z c.2
          omega
        obtain ⟨m1, g1, g2, g3, g4, g5, g6, g7⟩ := bd_success hE hE10 hM hZ hlr c.2 f2
        have u1 := fb_ct_upd (fun x => decide (m x < 10)) true (i := w) (n := 10) g4
        have u2 := fb_ct_upd (fun x => if x = w then true else decide (m x < 10)) true (i := 9 - k) (n := 10) hv
        have e5 : fb_ct (fun x => if x = 9 - k then true else if x = w then true else decide (m x < 10)) 10 = fb_ct (fun x => decide (m1 x < 10)) 10 := fb_ct_cong (fun x hx => by
          have := g7 x hx
          by_cases q1 : x = 9 - k
          · simp only [if_pos q1]
            exact (decide_eq_true (this.mpr (Or.inr (Or.inr q1)))).symm
          · by_cases q2 : x = w
            · simp only [if_neg q1, if_pos q2]
              exact (decide_eq_true (this.mpr (Or.inr (Or.inl q2)))).symm
            · simp only [if_neg q1, if_neg q2]
              rw [Bool.eq_iff_iff]
              simp only [decide_eq_true_eq]
              rw [this]
              constructor
              · exact Or.inl
              · rintro (z | z | z)
                · exact z
                · exact absurd z q2
                · exact absurd z q1)
        have v1 : ¬ (decide (m w < 10) = true) := by simpa using g5
        have v2 : ¬ ((if 9 - k = w then true else decide (m (9 - k) < 10)) = true) := by
          rw [if_neg (fun z => g6 z.symm)]
          simpa using c.2
        rw [if_neg v1] at u1
        rw [if_neg v2, e5] at u2
        simp only [if_true, Nat.add_zero] at u1 u2
        obtain ⟨m', σ', n', lb2, i1, i2⟩ := bd_ml_run hE k m1 q.1 (n + 1) lb (by omega) g2 g3 (fun u hu ha hm => by
          have hu10 : u < 10 := by omega
          have := g7 u hu10
          by_cases e : u = 9 - k
          · exact absurd (this.mpr (Or.inr (Or.inr e))) hm
          · exact h1 u (by omega) ha (fun z => hm (this.mpr (Or.inl z)))) (fun u hu hl hm => by
          have := h2 u hu hl (fun z => hm ((g7 u hu).mpr (Or.inl z)))
          omega) (by omega)
        refine ⟨m', σ', n', lb2, ?_, i2⟩
        show (match q.2 with | none => bd_ml g al k m q.1 n | some w => (bd_turn q.1.1 11 m w).bind fun m' => bd_ml g al k m' q.1 (n + 1)) = _
        rw [f1]
        show (bd_turn q.1.1 11 m w).bind (fun m' => bd_ml g al k m' q.1 (n + 1)) = _
        rw [g1]
        exact i1
    · rw [if_neg c]
      exact bd_ml_run hE k m σ n lb (by omega) hM hZ (fun u hu ha hm => by
        by_cases e : u = 9 - k
        · exact absurd ⟨by rw [← e]; exact ha, by rw [← e]; exact hm⟩ c
        · exact h1 u (by omega) ha hm) (fun u hu hl hm => by
        have := h2 u hu hl hm
        omega) hn
/-- THE SEARCH IS RIGHT: what Pairing.most answers -/
theorem bd_most_run (hg : ∀ x y, x < 10 → y < 10 → (g x).testBit y = (g y).testBit x) (σ : bd_S) : ∃ m' σ', bd_most g al σ = some (m', σ', bd_nu (fun a b => (g a).testBit b) 10 al) := by
  have hE : ∀ x y, bd_E g al x y → bd_E g al y x := fun x y ⟨h1, h2, h3, h4, h5⟩ => ⟨h2, h1, by rw [← hg x y h1 h2]; exact h3, h5, h4⟩
  obtain ⟨m', σ', n', lb', e1, e2, e3, e4, e5⟩ := bd_ml_run (g := g) (al := al) hE 10 (fun _ => 10) σ 0 (fun _ => 10) (Nat.le_refl _) (fun x _ h => absurd h (by simp)) ⟨fun _ => by simp, fun _ _ h => absurd h (by simp), fun _ _ h => absurd h (by simp), fun _ _ h => absurd h (by simp), fun _ _ _ h => absurd h (by simp)⟩ (fun u hu => absurd hu (by omega)) (fun u _ h => absurd rfl h) (by
    have : fb_ct (fun x => decide ((10 : Nat) < 10)) 10 = 0 := by decide
    exact this.symm)
  have h1 := bd_W_le e2 e3 e4
  have h2 := bd_nu_le (e := fun a b => (g a).testBit b) (lb := lb') (al := al) e3.1 (fun a b ha hb h3 h4 h5 => by
    have hab : bd_E g al a b := ⟨ha, hb, h5, h3, h4⟩
    obtain ⟨z0, z1, -⟩ := e3
    by_cases c : lb' a < 10
    · rcases z1 a ha c b hab with q | q
      · exact Or.inr (Or.inl q)
      · exact Or.inr (Or.inr q.symm)
    · by_cases d : lb' b < 10
      · rcases z1 b hb d a (hE _ _ hab) with q | q
        · exact Or.inl q
        · exact Or.inr (Or.inr q)
      · have := z0 a
        have := z0 b
        omega) 10 al (Nat.le_refl _) (fun _ h => h)
  have h3 := bd_nu_ge (e := fun a b => (g a).testBit b) 10 al m' (Nat.le_refl _) (fun x hx hm => by
    obtain ⟨q1, q2, q3⟩ := e2 x hx hm
    exact ⟨q1, q2, q3.2.2.2.1, by omega, q3.2.2.1⟩)
  refine ⟨m', σ', ?_⟩
  have : n' = bd_nu (fun a b => (g a).testBit b) 10 al := by omega
  rw [← this]
  exact e1
end MO
end
section
/-! ROWS OVER Nat: numbers, arrays, calls, a method's start and end -/
abbrev bdCl : List vw_C := [(RX0, TX0, 4), (RX1, TX1, 9), (RX2, TX2, 4)]
def bd_eN (k : Nat) : Int32 := if k < 10 then nI k else -1
def bd_eA (m : Nat → Nat) : Nat → Int32 := fun j => bd_eN (m j)
def bd_nA (g : Nat → Nat) : Nat → Int32 := fun j => nI (g j)
def bd_zA (g : Nat → Bool) : Nat → Int32 := fun j => if g j = true then 1 else 0
theorem bd_eN_l {k : Nat} (h : k < 10) : bd_eN k = nI k := if_pos h
theorem bd_eN_g {k : Nat} (h : ¬ k < 10) : bd_eN k = -1 := if_neg h
theorem bd_nm1 {k : Nat} (h : k < 2 ^ 31) : ¬ nI k = (-1 : Int32) := fun q => by
  have a := nI_toInt h
  rw [q] at a
  have b : (-1 : Int32).toInt = -1 := by decide
  rw [b] at a
  omega
theorem bd_31 {k : Nat} (h : k < 10) : k < 2 ^ 31 := Nat.lt_trans h (by decide)
theorem bd_31' {k : Nat} (h : k < 1024) : k < 2 ^ 31 := Nat.lt_trans h (by decide)
theorem bd_sl : ∀ n, n < 32 → ((nI n &&& 31).toBitVec.smod 32).toNat = n := by decide +kernel
theorem bd_shl1 {k : Nat} (h : k < 31) : nI 1 <<< (nI k &&& 31) = nI (2 ^ k) := by
  have := pk_shlN (n := 1) (nI k &&& 31) k (bd_sl k (by omega)) (by
    rw [Nat.one_mul]
    exact Nat.pow_lt_pow_right (by decide) (by omega))
  rw [Nat.one_mul] at this
  exact this
theorem bd_shr {n k : Nat} (hn : n < 2 ^ 31) (h : k < 32) : nI n >>> (nI k &&& 31) = nI (n / 2 ^ k) := pk_shrN hn _ k (bd_sl k h)
/-- a bit of a mask, as a number -/
def bd_b (n k : Nat) : Nat := n / 2 ^ k % 2
theorem bd_b_t {n k : Nat} : n.testBit k = true ↔ bd_b n k = 1 := by
  rw [Nat.testBit_eq_decide_div_mod_eq]
  simp [bd_b]
theorem bd_b_cs (n k : Nat) : bd_b n k = 0 ∨ bd_b n k = 1 := by unfold bd_b; omega
theorem bd_b1 {n k : Nat} (h : n.testBit k = true) : nI (bd_b n k) = nI 1 := by rw [bd_b_t.mp h]
theorem bd_b0 {n k : Nat} (h : ¬ n.testBit k = true) : ¬ nI (bd_b n k) = nI 1 := by
  rcases bd_b_cs n k with q | q
  · rw [q]; decide
  · exact absurd (bd_b_t.mpr q) h
theorem bd_bz {n k : Nat} (h : ¬ n.testBit k = true) : nI (bd_b n k) = 0 := by
  rcases bd_b_cs n k with q | q
  · rw [q]; decide
  · exact absurd (bd_b_t.mpr q) h
theorem bd_bnz {n k : Nat} (h : n.testBit k = true) : ¬ nI (bd_b n k) = 0 := by rw [bd_b_t.mp h]; decide
theorem bd_andI (a b : Nat) : nI a &&& nI b = nI (a &&& b) := by
  apply Int32.toBitVec_inj.1
  show BitVec.ofNat 32 a &&& BitVec.ofNat 32 b = BitVec.ofNat 32 (a &&& b)
  apply BitVec.eq_of_getLsbD_eq
  intro i hi
  simp [hi]
theorem bd_orI (a b : Nat) : nI a ||| nI b = nI (a ||| b) := by
  apply Int32.toBitVec_inj.1
  show BitVec.ofNat 32 a ||| BitVec.ofNat 32 b = BitVec.ofNat 32 (a ||| b)
  apply BitVec.eq_of_getLsbD_eq
  intro i hi
  simp [hi]
theorem bd_m1bit : ∀ i, i < 32 → (-1 : Int32).toBitVec.getLsbD i = true := by decide +kernel
theorem bd_clrI (a w : Nat) : nI a &&& (nI (2 ^ w) ^^^ (-1)) = nI (bd_clr a w) := by
  apply Int32.toBitVec_inj.1
  show BitVec.ofNat 32 a &&& (BitVec.ofNat 32 (2 ^ w) ^^^ (-1 : Int32).toBitVec) = BitVec.ofNat 32 (bd_clr a w)
  apply BitVec.eq_of_getLsbD_eq
  intro i hi
  rw [BitVec.getLsbD_and, BitVec.getLsbD_xor, bd_m1bit i hi, BitVec.getLsbD_ofNat, BitVec.getLsbD_ofNat, BitVec.getLsbD_ofNat, bd_clr_bit, Nat.testBit_two_pow]
  by_cases e : w = i
  · subst e; simp [hi]
  · have e2 : i ≠ w := fun q => e q.symm
    simp [hi, e, e2]
theorem bd_and2z {a w : Nat} (h : ¬ a.testBit w = true) : nI (a &&& 2 ^ w) = 0 := by
  have : a &&& 2 ^ w = 0 := by
    apply Nat.eq_of_testBit_eq
    intro i
    rw [Nat.testBit_and, Nat.testBit_two_pow, Nat.zero_testBit]
    by_cases e : w = i
    · subst e; simpa using h
    · simp [e]
  rw [this]; decide
theorem bd_and2n {a w : Nat} (hw : w < 31) (h : a.testBit w = true) : ¬ nI (a &&& 2 ^ w) = 0 := by
  have e : a &&& 2 ^ w = 2 ^ w := by
    apply Nat.eq_of_testBit_eq
    intro i
    rw [Nat.testBit_and, Nat.testBit_two_pow]
    by_cases e : w = i
    · subst e; simpa using h
    · simp [e]
  rw [e]
  exact nI_ne0 (Nat.two_pow_pos w) (Nat.pow_lt_pow_right (by decide) hw)
theorem bd_or_lt {a b n : Nat} (ha : a < 2 ^ n) (hb : b < 2 ^ n) : a ||| b < 2 ^ n := Nat.or_lt_two_pow ha hb
theorem bd_clr_lt {a w : Nat} (ha : a < 1024) : bd_clr a w < 1024 := by
  unfold bd_clr
  exact Nat.xor_lt_two_pow (n := 10) ha (Nat.lt_of_le_of_lt Nat.and_le_left ha)
theorem bd_pw_lt {w : Nat} (h : w < 10) : 2 ^ w < 1024 := Nat.pow_lt_pow_right (m := w) (n := 10) (by decide) h
/-! arrays by what they hold -/
theorem bd_up_eA (m : Nat → Nat) (k v : Nat) : upd (bd_eA m) k (bd_eN v) = bd_eA (bd_up m k v) := by
  funext j
  unfold upd bd_eA bd_up
  by_cases e : j = k
  · simp [e]
  · simp [e]
theorem bd_up_nA (m : Nat → Nat) (k v : Nat) : upd (bd_nA m) k (nI v) = bd_nA (bd_up m k v) := by
  funext j
  unfold upd bd_nA bd_up
  by_cases e : j = k
  · simp [e]
  · simp [e]
/-- a world in which one array is said otherwise -/
theorem bd_P_ext {D : va_G} {cl : List vw_C} {ws : va_W} {H : Heap} (hP : va_P D cl ws H) (q0 : Nat) {a : Nat} {cA : ClassId} {n : Nat} {f f' : Nat → Int32} (ha : ws[q0]? = some (a, .inl (cA, n, .inl f))) (hf : ∀ j, j < n → f j = f' j) : va_P D cl (ws.set q0 (a, .inl (cA, n, .inl f'))) H := by
  have hl : q0 < ws.length := (List.getElem?_eq_some_iff.mp ha).1
  intro k q hk
  by_cases e : k = q0
  · subst e
    rw [List.getElem?_set_self hl] at hk
    cases hk
    have h1 : H[a]? = some (vp_cell cA (n, .inl f)) := hP k _ ha
    show H[a]? = some (vp_cell cA (n, .inl f'))
    rw [h1, vp_cell_i, vp_cell_i]
    unfold arrV
    congr 2
    congr 1
    funext j
    show Value.int (f j.val) = Value.int (f' j.val)
    rw [hf j.val j.isLt]
  · rw [List.getElem?_set_ne (fun q => e q.symm)] at hk
    exact hP k q hk
theorem bd_D_ext {A : Nat → Prop} {ws : va_W} (hD : va_D A ws) (q0 : Nat) {a : Nat} {e : va_E} (e' : va_E) (ha : ws[q0]? = some (a, e)) : va_D A (ws.set q0 (a, e')) := hD.set ha
/-! instructions -/
section BDR
variable {p : Program} {l : Launch} {e : Env} {R : Room} {s : State} {m : MethodId} {args : Array Value} {below : List Frame} {meth : Method} {c : Code} {H : Heap} {locs : List Loc} {cells slots : Nat} {Q : State → Prop}
variable {cc : ByteArray} {pc : Nat} {ls : Array Slot} {rest : List Value} {D : va_G} {cl : List vw_C} {A : Nat → Prop} {a : Nat} {tys : List (ClassId × FieldType)} {ws : va_W} {H0 : Heap}
theorem bd_top {x y : Int32} (h : x = y) (k : W p l e R s m args below meth c H locs cells slots Q (F0 m pc ls (.int y :: rest))) : W p l e R s m args below meth c H locs cells slots Q (F0 m pc ls (.int x :: rest)) := by
  subst h
  exact k
theorem bd_ishl (hx : p.tables.exec = Jvm.exec) (hb : c.code = cc) {n : Nat} (hd : decode cc pc = .ok (.ishl, 1)) (hn : n < 31) (k : W p l e R s m args below meth c H locs cells slots Q (F0 m (pc + 1) ls (.int (nI (2 ^ n)) :: rest))) : W p l e R s m args below meth c H locs cells slots Q (F0 m pc ls (.int (nI n) :: .int (nI 1) :: rest)) := lv_ishl hx hb hd (bd_top (bd_shl1 hn) k)
theorem bd_ishr (hx : p.tables.exec = Jvm.exec) (hb : c.code = cc) {x n : Nat} (hd : decode cc pc = .ok (.ishr, 1)) (hX : x < 2 ^ 31) (hn : n < 31) (k : W p l e R s m args below meth c H locs cells slots Q (F0 m (pc + 1) ls (.int (nI (x / 2 ^ n)) :: rest))) : W p l e R s m args below meth c H locs cells slots Q (F0 m pc ls (.int (nI n) :: .int (nI x) :: rest)) := lv_ishr hx hb hd (bd_top (bd_shr hX (by omega)) k)
theorem bd_iand1 (hx : p.tables.exec = Jvm.exec) (hb : c.code = cc) {x n : Nat} (hd : decode cc pc = .ok (.iand, 1)) (hX : x < 2 ^ 31) (k : W p l e R s m args below meth c H locs cells slots Q (F0 m (pc + 1) ls (.int (nI (bd_b x n)) :: rest))) : W p l e R s m args below meth c H locs cells slots Q (F0 m pc ls (.int (nI 1) :: .int (nI (x / 2 ^ n)) :: rest)) := by
  refine lv_iand hx hb hd (bd_top ?_ k)
  have h1 : x / 2 ^ n ≤ x := Nat.div_le_self _ _
  exact pk_andN (n := x / 2 ^ n) (by omega) 1 (by decide)
theorem bd_iand (hx : p.tables.exec = Jvm.exec) (hb : c.code = cc) {x y : Nat} (hd : decode cc pc = .ok (.iand, 1)) (k : W p l e R s m args below meth c H locs cells slots Q (F0 m (pc + 1) ls (.int (nI (x &&& y)) :: rest))) : W p l e R s m args below meth c H locs cells slots Q (F0 m pc ls (.int (nI y) :: .int (nI x) :: rest)) := lv_iand hx hb hd (bd_top (bd_andI _ _) k)
theorem bd_ior (hx : p.tables.exec = Jvm.exec) (hb : c.code = cc) {x y : Nat} (hd : decode cc pc = .ok (.ior, 1)) (k : W p l e R s m args below meth c H locs cells slots Q (F0 m (pc + 1) ls (.int (nI (x ||| y)) :: rest))) : W p l e R s m args below meth c H locs cells slots Q (F0 m pc ls (.int (nI y) :: .int (nI x) :: rest)) := lv_ior hx hb hd (bd_top (bd_orI _ _) k)
theorem bd_iclr (hx : p.tables.exec = Jvm.exec) (hb : c.code = cc) {x w : Nat} (hd : decode cc pc = .ok (.iand, 1)) (k : W p l e R s m args below meth c H locs cells slots Q (F0 m (pc + 1) ls (.int (nI (bd_clr x w)) :: rest))) : W p l e R s m args below meth c H locs cells slots Q (F0 m pc ls (.int (nI (2 ^ w) ^^^ (-1)) :: .int (nI x) :: rest)) := lv_iand hx hb hd (bd_top (bd_clrI _ _) k)
theorem bd_iadd (hx : p.tables.exec = Jvm.exec) (hb : c.code = cc) {x y : Nat} (hd : decode cc pc = .ok (.iadd, 1)) (k : W p l e R s m args below meth c H locs cells slots Q (F0 m (pc + 1) ls (.int (nI (x + y)) :: rest))) : W p l e R s m args below meth c H locs cells slots Q (F0 m pc ls (.int (nI y) :: .int (nI x) :: rest)) := lv_iadd hx hb hd (bd_top (nI_add _ _) k)
theorem bd_imul (hx : p.tables.exec = Jvm.exec) (hb : c.code = cc) {x y : Nat} (hd : decode cc pc = .ok (.imul, 1)) (k : W p l e R s m args below meth c H locs cells slots Q (F0 m (pc + 1) ls (.int (nI (x * y)) :: rest))) : W p l e R s m args below meth c H locs cells slots Q (F0 m pc ls (.int (nI y) :: .int (nI x) :: rest)) := lv_imul hx hb hd (bd_top (pk_mul _ _) k)
theorem bd_isub (hx : p.tables.exec = Jvm.exec) (hb : c.code = cc) {x y : Nat} (hd : decode cc pc = .ok (.isub, 1)) (h : y ≤ x) (k : W p l e R s m args below meth c H locs cells slots Q (F0 m (pc + 1) ls (.int (nI (x - y)) :: rest))) : W p l e R s m args below meth c H locs cells slots Q (F0 m pc ls (.int (nI y) :: .int (nI x) :: rest)) := lv_isub hx hb hd (bd_top (pk_sub h) k)
/-- an array of places, a number that is a place -/
theorem bd_aldL (hx : p.tables.exec = Jvm.exec) (hb : c.code = cc) (hK : va_K D cl tys s) (hP : va_P D cl ws H) (q0 t0 : Nat) {cA : ClassId} {f : Nat → Nat} (ha : ws[q0]? = some (a, .inl (cA, 10, .inl (bd_eA f)))) (ht : tys[t0]? = some (cA, .int)) {i : Nat} (hi : i < 10) (hv : f i < 10) (hd : decode cc pc = .ok (.iaload, 1))
    (kk : W p l e R s m args below meth c H locs cells slots Q (F0 m (pc + 1) ls (.int (nI (f i)) :: rest))) : W p l e R s m args below meth c H locs cells slots Q (F0 m pc ls (.int (nI i) :: .ref a :: rest)) := by
  refine va_iald hx hb hK hP q0 t0 ha ht (vp_in_nI hi (by decide)) hd (bd_top ?_ kk)
  rw [nI_clamp (bd_31 hi)]
  exact bd_eN_l hv
theorem bd_aldE (hx : p.tables.exec = Jvm.exec) (hb : c.code = cc) (hK : va_K D cl tys s) (hP : va_P D cl ws H) (q0 t0 : Nat) {cA : ClassId} {f : Nat → Nat} (ha : ws[q0]? = some (a, .inl (cA, 10, .inl (bd_eA f)))) (ht : tys[t0]? = some (cA, .int)) {i : Nat} (hi : i < 10) (hd : decode cc pc = .ok (.iaload, 1))
    (kk : W p l e R s m args below meth c H locs cells slots Q (F0 m (pc + 1) ls (.int (bd_eN (f i)) :: rest))) : W p l e R s m args below meth c H locs cells slots Q (F0 m pc ls (.int (nI i) :: .ref a :: rest)) := by
  refine va_iald hx hb hK hP q0 t0 ha ht (vp_in_nI hi (by decide)) hd (bd_top ?_ kk)
  rw [nI_clamp (bd_31 hi)]
  rfl
theorem bd_aldN (hx : p.tables.exec = Jvm.exec) (hb : c.code = cc) (hK : va_K D cl tys s) (hP : va_P D cl ws H) (q0 t0 : Nat) {cA : ClassId} {n : Nat} {f : Nat → Nat} (ha : ws[q0]? = some (a, .inl (cA, n, .inl (bd_nA f)))) (ht : tys[t0]? = some (cA, .int)) {i : Nat} (hi : i < n) (hn : n < 2 ^ 31) (hd : decode cc pc = .ok (.iaload, 1))
    (kk : W p l e R s m args below meth c H locs cells slots Q (F0 m (pc + 1) ls (.int (nI (f i)) :: rest))) : W p l e R s m args below meth c H locs cells slots Q (F0 m pc ls (.int (nI i) :: .ref a :: rest)) := by
  refine va_iald hx hb hK hP q0 t0 ha ht (vp_in_nI hi hn) hd (bd_top ?_ kk)
  rw [nI_clamp (Nat.lt_trans hi hn)]
  rfl
theorem bd_astE (hx : p.tables.exec = Jvm.exec) (hb : c.code = cc) (hK : va_K D cl tys s) (hP : va_P D cl ws H) (hD : va_D A ws) (hS : va_S A H0 H locs) (q0 t0 : Nat) {cA : ClassId} {f : Nat → Nat} (ha : ws[q0]? = some (a, .inl (cA, 10, .inl (bd_eA f)))) (ht : tys[t0]? = some (cA, .int)) {i v : Nat} {x : Int32} (hv : x = bd_eN v) (hi : i < 10) (hd : decode cc pc = .ok (.iastore, 1))
    (kk : ∀ (H1 : Heap) (locs1 : List Loc), va_P D cl (ws.set q0 (a, .inl (cA, 10, .inl (bd_eA (bd_up f i v))))) H1 → va_D A (ws.set q0 (a, .inl (cA, 10, .inl (bd_eA (bd_up f i v))))) → va_S A H0 H1 locs1 → W p l e R s m args below meth c H1 locs1 cells slots Q (F0 m (pc + 1) ls rest)) : W p l e R s m args below meth c H locs cells slots Q (F0 m pc ls (.int x :: .int (nI i) :: .ref a :: rest)) := by
  refine va_iast hx hb hK hP hD hS q0 t0 ha ht (vp_in_nI hi (by decide)) hd (fun H1 locs1 h1 h2 h3 => ?_)
  rw [nI_clamp (bd_31 hi), hv, bd_up_eA] at h1 h2
  exact kk H1 locs1 h1 h2 h3
theorem bd_astN (hx : p.tables.exec = Jvm.exec) (hb : c.code = cc) (hK : va_K D cl tys s) (hP : va_P D cl ws H) (hD : va_D A ws) (hS : va_S A H0 H locs) (q0 t0 : Nat) {cA : ClassId} {n : Nat} {f : Nat → Nat} (ha : ws[q0]? = some (a, .inl (cA, n, .inl (bd_nA f)))) (ht : tys[t0]? = some (cA, .int)) {i v : Nat} (hi : i < n) (hn : n < 2 ^ 31) (hd : decode cc pc = .ok (.iastore, 1))
    (kk : ∀ (H1 : Heap) (locs1 : List Loc), va_P D cl (ws.set q0 (a, .inl (cA, n, .inl (bd_nA (bd_up f i v))))) H1 → va_D A (ws.set q0 (a, .inl (cA, n, .inl (bd_nA (bd_up f i v))))) → va_S A H0 H1 locs1 → W p l e R s m args below meth c H1 locs1 cells slots Q (F0 m (pc + 1) ls rest)) : W p l e R s m args below meth c H locs cells slots Q (F0 m pc ls (.int (nI v) :: .int (nI i) :: .ref a :: rest)) := by
  refine va_iast hx hb hK hP hD hS q0 t0 ha ht (vp_in_nI hi hn) hd (fun H1 locs1 h1 h2 h3 => ?_)
  rw [nI_clamp (Nat.lt_trans hi hn), bd_up_nA] at h1 h2
  exact kk H1 locs1 h1 h2 h3
/-! a method's start, its end, its calls -/
def bd_Pre (D : va_G) (tys : List (ClassId × FieldType)) (ws : va_W) (sz : Nat) (U : State) : Prop := U.heap.size = sz ∧ va_P D bdCl ws U.heap ∧ va_K D bdCl tys U ∧ va_D (fun _ => True) ws
def bd_Post (D : va_G) (tys : List (ClassId × FieldType)) (A : Nat → Prop) (ws : va_W) (t : State) : Prop := va_P D bdCl ws t.heap ∧ va_K D bdCl tys t ∧ va_D A ws
/-- contracts: a void method, and one that answers an int (or a boolean) -/
abbrev bd_Cv {S : Type} (l : Launch) (y : MethodName) (cc : ByteArray) (L : Nat) (rm : Room) (D : va_G) (tys : List (ClassId × FieldType)) (av : List Value) (ws : va_W) (post : S → Prop) (wf : S → va_W) : Prop := ∀ sz : Nat, Met l y (ws_ y cc L none) rm (va_Pc av (bd_Pre D tys ws sz)) (va_Qv post (fun u t => bd_Post D tys (va_A ws sz) (wf u) t) (va_A ws sz)) 0 0 (va_A ws sz)
abbrev bd_Ci {S : Type} (l : Launch) (y : MethodName) (cc : ByteArray) (L : Nat) (ret : FieldType) (rm : Room) (D : va_G) (tys : List (ClassId × FieldType)) (av : List Value) (ws : va_W) (post : Int32 → S → Prop) (wf : S → va_W) : Prop := ∀ sz : Nat, Met l y (ws_ y cc L (some ret)) rm (va_Pc av (bd_Pre D tys ws sz)) (va_Qi post (fun u t => bd_Post D tys (va_A ws sz) (wf u) t) (va_A ws sz)) 0 0 (va_A ws sz)
theorem bd_start {y : MethodName} {maxL : Nat} {ret : Option FieldType} {rm : Room} {av : List Value} {mc ms sz : Nat} {Qc : (Nat → Prop) → Array Value → State → Outcome → State → Prop} (hy : plainName y.cls = true) (hL : (lg_sl av).length ≤ maxL)
    (body : ∀ (p : Program) (e : Env) (s : State) (m : MethodId) (below : List Frame) (meth : Method) (c : Code) (A : Nat → Prop) (ls : Array Slot), p.tables.exec = Jvm.exec → c.code = cc → meth.sig.returnType = ret → c.maxLocals = maxL → (∀ w ∈ lw_all, w.before av.toArray s = true) → s.vm.findClass y.cls = some m.cls → meth.locks = false → meth.name = y.name → (∀ q : Nat, s.heap.size ≤ q → A q) → va_K D bdCl tys s → va_P D bdCl ws s.heap → va_D A ws → lv_has ls maxL (lv_args 0 av) →
      W p l e (headSpec (ws_ y cc maxL ret) rm).room s m av.toArray below meth c s.heap [] 0 0 (MQ below (Qc A) av.toArray s mc ms A) (F0 m 0 ls [])) : Met l y (ws_ y cc maxL ret) rm (va_Pc av (bd_Pre D tys ws sz)) (Qc (va_A ws sz)) mc ms (va_A ws sz) := by
  refine Met.ofW (cc := cc) (maxL := maxL) (ret := ret) hy rfl ?_
  intro p e s m args below meth c s₁ B hml hv
  obtain ⟨rfl, hsz, hP, hK, hD0⟩ := hv
  have hts := atoms_spec (ws := ws_ y cc maxL ret) B.pre
  have hts : ∀ w ∈ lw_all, w.before _ s = true := fun w h => hts w (List.mem_cons_of_mem _ h)
  have hown : s.vm.findClass y.cls = some m.cls := findClass_of_methodNamed B.named
  have hin : meth.name = y.name := (name_of_methodNamed B.named B.method).1
  subst hsz
  have hD := hD0.self (sz := s.heap.size)
  have hl := lv_entry av (n := maxL) hL
  rw [lg_entry_eq]
  exact body p e s m below meth c _ _ B.exec B.bytes B.returns hml hts hown B.notSynchronized hin (fun q h => Or.inr h) hK hP hD hl
theorem bd_vret {S : Type} {post : S → Prop} {wf : S → va_W} (hx : p.tables.exec = Jvm.exec) (hb : c.code = cc) (hr : meth.sig.returnType = none) (hlocks : meth.locks = false) (u : S) (hu : post u) (hK : va_K D bdCl tys s) (hP : va_P D bdCl (wf u) H) (hD : va_D A (wf u)) (hS : va_S A s.heap H locs) (hd : decode cc pc = .ok (.return_, 1)) : W p l e R s m args below meth c H locs cells slots (MQ below (va_Qv post (fun u t => bd_Post D tys A (wf u) t) A) args s cells slots A) (F0 m pc ls []) :=
  W.vret hx hb hr (fun t ht hW => ⟨⟨u, rfl, hu, by rw [ht]; exact hP, va_K.moved hW.alike hK, hD⟩, hS.F ht⟩) hS.2.2 hd
theorem bd_iret {S : Type} {post : Int32 → S → Prop} {wf : S → va_W} {v : Int32} {ty : FieldType} (hx : p.tables.exec = Jvm.exec) (hb : c.code = cc) (hr : meth.sig.returnType = some ty) (hn : narrow ty (.int v) = .int v) (hlocks : meth.locks = false) (u : S) (hu : post v u) (hK : va_K D bdCl tys s) (hP : va_P D bdCl (wf u) H) (hD : va_D A (wf u)) (hS : va_S A s.heap H locs) (hd : decode cc pc = .ok (.ireturn, 1)) : W p l e R s m args below meth c H locs cells slots (MQ below (va_Qi post (fun u t => bd_Post D tys A (wf u) t) A) args s cells slots A) (F0 m pc ls [.int v]) :=
  W.zret hx hb hr hn (fun t ht hW => ⟨⟨v, u, rfl, hu, by rw [ht]; exact hP, va_K.moved hW.alike hK, hD⟩, hS.F ht⟩) hS.2.2 hd
variable {y : MethodName} {bytes : ByteArray} {maxL nL n index : Nat} {rm : Room} {own C : String} {b : Nat} {As st0 : List Value} {wc wr : va_W} {tysC : List (ClassId × FieldType)}
/-- a void method of an object is called: isC its cells' places, isR the places of the rest -/
theorem bd_callv {S : Type} {post : S → Prop} {wf : S → va_W} {ret : Option FieldType} {wsy : List Cond} (F : CallFix p m c cc nL s args lw_all own) (hM : Met l y wsy rm (va_Pc (.ref b :: As) (bd_Pre D tysC wc H.size)) (va_Qv post (fun u t => bd_Post D tysC (va_A wc H.size) (wf u) t) (va_A wc H.size)) 0 0 (va_A wc H.size)) (cw : CallW R s args own C index y bytes maxL ret wsy rm 0 0 n)
    (hK : va_K D bdCl tys s) (hP : va_P D bdCl ws H) (hD : va_D A ws) (hS : va_S A H0 H locs) (hA : ∀ q, H0.size ≤ q → A q) (isC isR isT : List Nat) (hT : isT.filterMap (fun i => tys[i]?) = tysC) (hC : isC.map (fun i => ws[i]?) = wc.map some) (hR : isR.map (fun i => ws[i]?) = wr.map some) (hc1 : va_nd isC = true) (hc2 : isC.filterMap (fun i => ws[i]?) = wc) (hn1 : va_nd isR = true) (hdis : ∀ i ∈ isR, i ∉ isC) {q0 ci : Nat} {T : u_T} {N : Nat} {fs : List Value} (hcl : bdCl[ci]? = some (C, T, N)) (he : wc[q0]? = some (b, .inr (ci, fs)))
    (hn : As.length = n) (hsize : ls.size = nL) (hst : st0 = As.reverse ++ .ref b :: rest) (hroom : (rest.map fun v => v.category).sum ≤ 8) (hd : decode cc pc = .ok (.invokevirtual index, 3)) (hf : cells ≤ R.cells ∧ slots ≤ R.slots)
    (kk : ∀ (u : S) (H1 : Heap) (locs1 : List Loc), post u → va_P D bdCl (wr ++ wf u) H1 → va_D A (wr ++ wf u) → va_S A H0 H1 locs1 → W p l e R s m args below meth c H1 locs1 cells slots Q (F0 m (pc + 3) ls rest)) : W p l e R s m args below meth c H locs cells slots Q (F0 m pc ls st0) := by
  subst hst
  have hPc : va_P D bdCl wc H := hP.sub isC hc2
  have hDc : va_D A wc := hD.sub isC hc1 hC
  have hKc : va_K D bdCl tysC s := hK.sub isT hT
  have hFc := va_free (wc := wc) hD hS hA isC hC
  refine va_callv (va_runV (As := As) (rest := rest) F hM cw ⟨fun a U g mk q => by obtain ⟨q0, q1, qP, qK, qD⟩ := q; exact ⟨q0, q1, qP, va_K.moved (u := U) (U := U.calling g mk a) (Vm.Alike.refl U.vm) qK, qD⟩, va_recv hKc hPc hcl he, fun U hU hW => ⟨rfl, by rw [hU], by rw [hU]; exact hPc, va_K.moved hW.alike hKc, hDc.weaken (fun _ _ _ _ => trivial)⟩⟩ rfl hn hsize rfl (lv_room hroom) hd hf) hS (fun q _ h => hFc q h) hFc (fun u t H1 locs1 ht hvm hw hB hz1 hk1 hS1 => ?_)
  obtain ⟨hP1, hK1, hD1⟩ := hB
  rw [ht] at hP1
  obtain ⟨hP2, hD2⟩ := va_join (wr := wr) (w1 := wf u) hP hD isC isR hC hR hn1 hdis hk1 hFc hP1 hD1
  exact kk u H1 locs1 hw hP2 hD2 hS1
theorem bd_calli {S : Type} {post : Int32 → S → Prop} {wf : S → va_W} {ret : Option FieldType} {wsy : List Cond} (F : CallFix p m c cc nL s args lw_all own) (hM : Met l y wsy rm (va_Pc (.ref b :: As) (bd_Pre D tysC wc H.size)) (va_Qi post (fun u t => bd_Post D tysC (va_A wc H.size) (wf u) t) (va_A wc H.size)) 0 0 (va_A wc H.size)) (cw : CallW R s args own C index y bytes maxL ret wsy rm 0 0 n)
    (hK : va_K D bdCl tys s) (hP : va_P D bdCl ws H) (hD : va_D A ws) (hS : va_S A H0 H locs) (hA : ∀ q, H0.size ≤ q → A q) (isC isR isT : List Nat) (hT : isT.filterMap (fun i => tys[i]?) = tysC) (hC : isC.map (fun i => ws[i]?) = wc.map some) (hR : isR.map (fun i => ws[i]?) = wr.map some) (hc1 : va_nd isC = true) (hc2 : isC.filterMap (fun i => ws[i]?) = wc) (hn1 : va_nd isR = true) (hdis : ∀ i ∈ isR, i ∉ isC) {q0 ci : Nat} {T : u_T} {N : Nat} {fs : List Value} (hcl : bdCl[ci]? = some (C, T, N)) (he : wc[q0]? = some (b, .inr (ci, fs)))
    (hn : As.length = n) (hsize : ls.size = nL) (hst : st0 = As.reverse ++ .ref b :: rest) (hroom : (rest.map fun v => v.category).sum ≤ 8) (hd : decode cc pc = .ok (.invokevirtual index, 3)) (hf : cells ≤ R.cells ∧ slots ≤ R.slots)
    (kk : ∀ (r : Int32) (u : S) (H1 : Heap) (locs1 : List Loc), post r u → va_P D bdCl (wr ++ wf u) H1 → va_D A (wr ++ wf u) → va_S A H0 H1 locs1 → W p l e R s m args below meth c H1 locs1 cells slots Q (F0 m (pc + 3) ls (.int r :: rest))) : W p l e R s m args below meth c H locs cells slots Q (F0 m pc ls st0) := by
  subst hst
  have hPc : va_P D bdCl wc H := hP.sub isC hc2
  have hDc : va_D A wc := hD.sub isC hc1 hC
  have hKc : va_K D bdCl tysC s := hK.sub isT hT
  have hFc := va_free (wc := wc) hD hS hA isC hC
  refine va_calli (va_runV (As := As) (rest := rest) F hM cw ⟨fun a U g mk q => by obtain ⟨q0, q1, qP, qK, qD⟩ := q; exact ⟨q0, q1, qP, va_K.moved (u := U) (U := U.calling g mk a) (Vm.Alike.refl U.vm) qK, qD⟩, va_recv hKc hPc hcl he, fun U hU hW => ⟨rfl, by rw [hU], by rw [hU]; exact hPc, va_K.moved hW.alike hKc, hDc.weaken (fun _ _ _ _ => trivial)⟩⟩ rfl hn hsize rfl (lv_room hroom) hd hf) hS (fun q _ h => hFc q h) hFc (fun r u t H1 locs1 ht hvm hw hB hz1 hk1 hS1 => ?_)
  obtain ⟨hP1, hK1, hD1⟩ := hB
  rw [ht] at hP1
  obtain ⟨hP2, hD2⟩ := va_join (wr := wr) (w1 := wf u) hP hD isC isR hC hR hn1 hdis hk1 hFc hP1 hD1
  exact kk r u H1 locs1 hw hP2 hD2 hS1
/-- a static method without a world that answers an int -/
theorem bd_calls {post : Int32 → Unit → Prop} {ret : Option FieldType} {wsy : List Cond} (F : CallFix p m c cc nL s args lw_all own) (hM : Met l y wsy rm (va_Pc As (bd_Pre D [] [] H.size)) (va_Qi post (fun _ t => bd_Post D [] (va_A [] H.size) [] t) (va_A [] H.size)) 0 0 (va_A [] H.size)) (cw : CallB R s args own index y bytes maxL ret wsy rm 0 0 n ∧ (Cond.static y).before args s = true)
    (hK : va_K D bdCl tys s) (hP : va_P D bdCl ws H) (hS : va_S A H0 H locs) (hA : ∀ q, H0.size ≤ q → A q)
    (hn : As.length = n) (hsize : ls.size = nL) (hst : st0 = As.reverse ++ rest) (hroom : (rest.map fun v => v.category).sum ≤ 8) (hd : decode cc pc = .ok (.invokestatic index, 3)) (hf : cells ≤ R.cells ∧ slots ≤ R.slots)
    (kk : ∀ (r : Int32) (H1 : Heap) (locs1 : List Loc), post r () → va_P D bdCl ws H1 → va_S A H0 H1 locs1 → W p l e R s m args below meth c H1 locs1 cells slots Q (F0 m (pc + 3) ls (.int r :: rest))) : W p l e R s m args below meth c H locs cells slots Q (F0 m pc ls st0) := by
  subst hst
  have hKc : va_K D bdCl [] s := hK.sub [] rfl
  have hA1 : ∀ q, va_A [] H.size q → A q := fun q h => by
    rcases h with ⟨k, e, h⟩ | h
    · simp at h
    · exact hA q (Nat.le_trans hS.1 h)
  refine va_calli (va_runS (As := As) (rest := rest) F hM cw ⟨fun a U g mk q => by obtain ⟨q0, q1, qP, qK, qD⟩ := q; exact ⟨q0, q1, qP, va_K.moved (u := U) (U := U.calling g mk a) (Vm.Alike.refl U.vm) qK, qD⟩, fun U hU hW => ⟨rfl, by rw [hU], fun k q h => by simp at h, va_K.moved hW.alike hKc, ⟨fun i j p q h => by simp at h, fun k q h => by simp at h⟩⟩⟩ rfl hn hsize rfl (lv_room hroom) hd hf) hS (fun q _ h => hA1 q h) hA1 (fun r u t H1 locs1 ht hvm hw hB hz1 hk1 hS1 => ?_)
  refine kk r H1 locs1 hw (hP.kept (fun k q hq => hk1 q.1 (hP k q hq).lt (fun h => ?_))) hS1
  rcases h with ⟨k, e, h⟩ | h
  · simp at h
  · have := (hP k q hq).lt
    omega
end BDR
/-- the world of a Pairing -/
abbrev bd_PW (d : ClassId) (h qb qm qf qs qr : Nat) (g m f b r : Nat → Nat) (al se dr mn : Nat) : va_W :=
  [(h, .inr (1, [.ref qb, .ref qm, .ref qf, .ref qs, .ref qr, .int (nI al), .int (nI se), .int (nI dr), .int (nI mn)])), (qb, .inl (d, 10, .inl (bd_nA g))), (qm, .inl (d, 10, .inl (bd_eA m))), (qf, .inl (d, 10, .inl (bd_eA f))), (qs, .inl (d, 10, .inl (bd_eA b))), (qr, .inl (d, 10, .inl (bd_eA r)))]
end
section
/-! PAIRING: see, along, meeting, turn against the model -/
theorem bd_along_lt {m b : Nat → Nat} {t : Nat} : ∀ (k : Nat) (f : Nat → Nat) (dr u a : Nat) (f' : Nat → Nat) (dr' : Nat), dr < 1024 → bd_along m b t k f dr u a = some (f', dr') → dr' < 1024
  | 0, _, _, _, _, _, _, _, h => by simp [bd_along] at h
  | k + 1, f, dr, u, a, f', dr', hd, h => by
    unfold bd_along at h
    by_cases c1 : b u = t
    · rw [if_pos c1] at h
      cases Option.some.inj h
      exact hd
    · rw [if_neg c1] at h
      by_cases c2 : b u < 10 ∧ m u < 10 ∧ b (m u) < 10 ∧ bd_up f u a (m u) < 10
      · rw [if_pos c2] at h
        exact bd_along_lt k _ _ _ _ _ _ (bd_or_lt (n := 10) hd (bd_or_lt (n := 10) (bd_pw_lt c2.1) (bd_pw_lt c2.2.2.1))) h
      · rw [if_neg c2] at h; cases h
theorem bd_see_lt {v se mn : Nat} {r : Nat → Nat} {se' : Nat} {r' : Nat → Nat} {mn' : Nat} (hv : v < 10) (hs : se < 1024) (h : bd_see v se r mn = some (se', r', mn')) : se' < 1024 := by
  unfold bd_see at h
  by_cases c1 : se.testBit v = true
  · rw [if_pos c1] at h; cases Option.some.inj h; exact hs
  · rw [if_neg c1] at h
    by_cases c2 : mn < 10
    · rw [if_pos c2] at h; cases Option.some.inj h; exact bd_or_lt (n := 10) hs (bd_pw_lt hv)
    · rw [if_neg c2] at h; cases h
set_option maxHeartbeats 4000000 in
set_option maxRecDepth 100000 in
theorem metX1_see (l : Launch) (D : va_G) (d : ClassId) (h qb qm qf qs qr : Nat) (g mt fr bs ro : Nat → Nat) (al se dr mn : Nat) (v : Nat) (hv : v < 10) (hse : se < 1024) (se' : Nat) (ro' : Nat → Nat) (mn' : Nat) (hrun : bd_see v se ro mn = some (se', ro', mn')) : bd_Cv l yX1_see cX1_see 2 ({ frames := 0, cells := 0, slots := 0, locals := 0 }) D [(d, .int)] [.ref h, .int (nI v)] (bd_PW d h qb qm qf qs qr g mt fr bs ro al se dr mn) (fun _ : Unit => True) (fun _ => bd_PW d h qb qm qf qs qr g mt fr bs ro' al se' dr mn') := by
  intro sz
  refine bd_start (Qc := fun A => va_Qv (fun _ : Unit => True) (fun u t => bd_Post D [(d, .int)] A ((fun _ => bd_PW d h qb qm qf qs qr g mt fr bs ro' al se' dr mn') u) t) A) (by decide) (Nat.le_of_ble_eq_true rfl) ?_
  intro p e s m below meth c A ls hx hb hr hml hts hown hlocks hin hA hK hP hD hl
  have hS : va_S A s.heap s.heap [] := va_S.rf
  have hl : lv_has ls 2 [(0, .ref h), (1, .int (nI v))] := hl
  refine lv_aload_n hx hb dX1_see_0 rfl (lv_at hl 0 rfl) ?_
  refine va_get (D := D) (ci := 1) (v := .int (nI se)) (C := RX1) (T := TX1) (N := 9) hx hb hts in_X1 hown hK hP 0 rfl rfl 6 (by decide) (hts _ q33) (fun _ h9 => h9) rfl dX1_see_1 ?_
  refine lv_iload_n hx hb dX1_see_4 rfl (lv_at hl 1 rfl) ?_
  refine bd_ishr hx hb dX1_see_5 (bd_31' hse) (Nat.lt_of_lt_of_le hv (by decide)) ?_
  refine lv_iconst (v := nI 1) hx hb dX1_see_6 (by decide) ?_
  refine bd_iand1 hx hb dX1_see_7 (bd_31' hse) ?_
  refine lv_iconst (v := nI 1) hx hb dX1_see_8 (by decide) ?_
  by_cases ht : se.testBit v = true
  · refine lv_icmp_ne (tgt := 13) hx hb dX1_see_9 (by decide) (fun c_ => absurd (bd_b1 ht) c_) (fun _ => ?_)
    rw [bd_see, if_pos ht] at hrun
    cases Option.some.inj hrun
    exact bd_vret hx hb hr hlocks () trivial hK hP hD hS dX1_see_12
  · refine lv_icmp_ne (tgt := 13) hx hb dX1_see_9 (by decide) (fun _ => ?_) (fun c_ => absurd c_ (bd_b0 ht))
    have hmn : mn < 10 := Classical.byContradiction fun q => by rw [bd_see, if_neg ht, if_neg q] at hrun; cases hrun
    rw [bd_see, if_neg ht, if_pos hmn] at hrun
    cases Option.some.inj hrun
    refine lv_aload_n hx hb dX1_see_13 rfl (lv_at hl 0 rfl) ?_
    refine lv_dup hx hb dX1_see_14 rfl ?_
    refine va_get (D := D) (ci := 1) (v := .int (nI se)) (C := RX1) (T := TX1) (N := 9) hx hb hts in_X1 hown hK hP 0 rfl rfl 6 (by decide) (hts _ q33) (fun _ h9 => h9) rfl dX1_see_15 ?_
    refine lv_iconst (v := nI 1) hx hb dX1_see_18 (by decide) ?_
    refine lv_iload_n hx hb dX1_see_19 rfl (lv_at hl 1 rfl) ?_
    refine bd_ishl hx hb dX1_see_20 (Nat.lt_of_lt_of_le hv (by decide)) ?_
    refine bd_ior hx hb dX1_see_21 ?_
    refine va_put (D := D) (ci := 1) (v := .int (nI (se ||| (2 ^ v)))) (ty := .int) (C := RX1) (T := TX1) (N := 9) hx hb hts in_X1 tyX1 tyX1_ok nmX1 hown hK hP hD hS 0 rfl rfl 6 (by decide) (hts _ q33) (fun _ h9 => h9) rfl (by decide +kernel) rfl rfl (Nat.le_of_ble_eq_true rfl) dX1_see_22 (fun H locs hP hD hS => ?_)
    have hP : va_P D bdCl (bd_PW d h qb qm qf qs qr g mt fr bs ro al (se ||| (2 ^ v)) dr mn) H := hP
    have hD : va_D A (bd_PW d h qb qm qf qs qr g mt fr bs ro al (se ||| (2 ^ v)) dr mn) := hD
    refine lv_aload_n hx hb dX1_see_25 rfl (lv_at hl 0 rfl) ?_
    refine va_get (D := D) (ci := 1) (v := .ref qr) (C := RX1) (T := TX1) (N := 9) hx hb hts in_X1 hown hK hP 0 rfl rfl 4 (by decide) (hts _ q31) (fun _ h9 => h9) rfl dX1_see_26 ?_
    refine lv_aload_n hx hb dX1_see_29 rfl (lv_at hl 0 rfl) ?_
    refine lv_dup hx hb dX1_see_30 rfl ?_
    refine va_get (D := D) (ci := 1) (v := .int (nI mn)) (C := RX1) (T := TX1) (N := 9) hx hb hts in_X1 hown hK hP 0 rfl rfl 8 (by decide) (hts _ q35) (fun _ h9 => h9) rfl dX1_see_31 ?_
    refine lv_dup_x1 hx hb dX1_see_34 rfl rfl ?_
    refine lv_iconst (v := nI 1) hx hb dX1_see_35 (by decide) ?_
    refine bd_iadd hx hb dX1_see_36 ?_
    refine va_put (D := D) (ci := 1) (v := .int (nI (mn + 1))) (ty := .int) (C := RX1) (T := TX1) (N := 9) hx hb hts in_X1 tyX1 tyX1_ok nmX1 hown hK hP hD hS 0 rfl rfl 8 (by decide) (hts _ q35) (fun _ h9 => h9) rfl (by decide +kernel) rfl rfl (Nat.le_of_ble_eq_true rfl) dX1_see_37 (fun H locs hP hD hS => ?_)
    have hP : va_P D bdCl (bd_PW d h qb qm qf qs qr g mt fr bs ro al (se ||| (2 ^ v)) dr (mn + 1)) H := hP
    have hD : va_D A (bd_PW d h qb qm qf qs qr g mt fr bs ro al (se ||| (2 ^ v)) dr (mn + 1)) := hD
    refine lv_iload_n hx hb dX1_see_40 rfl (lv_at hl 1 rfl) ?_
    refine bd_astE (v := v) hx hb hK hP hD hS 5 0 rfl rfl (bd_eN_l hv).symm hmn dX1_see_41 (fun H locs hP hD hS => ?_)
    have hP : va_P D bdCl (bd_PW d h qb qm qf qs qr g mt fr bs (bd_up ro mn v) al (se ||| (2 ^ v)) dr (mn + 1)) H := hP
    have hD : va_D A (bd_PW d h qb qm qf qs qr g mt fr bs (bd_up ro mn v) al (se ||| (2 ^ v)) dr (mn + 1)) := hD
    exact bd_vret hx hb hr hlocks () trivial hK hP hD hS dX1_see_42
section WALK
variable {p : Program} {l : Launch} {e : Env} {R : Room} {s : State} {m : MethodId} {args : Array Value} {below : List Frame} {meth : Method} {c : Code} {cells slots : Nat} {Q : State → Prop} {D : va_G} {A : Nat → Prop} {H0 : Heap} {d : ClassId} {h qb qm qf qs qr : Nat}
set_option maxHeartbeats 4000000 in
set_option maxRecDepth 100000 in
theorem bd_along_lp (F : CallFix p m c cX1_along 6 s args lw_all RX1) (hK : va_K D bdCl [(d, .int)] s) {g mt bs ro : Nat → Nat} {al se mn t : Nat} (ht : t < 10) (fr' : Nat → Nat) (dr' : Nat) (kx : ∀ (H : Heap) (locs : List Loc) (ls : Array Slot), va_P D bdCl (bd_PW d h qb qm qf qs qr g mt fr' bs ro al se dr' mn) H → va_D A (bd_PW d h qb qm qf qs qr g mt fr' bs ro al se dr' mn) → va_S A H0 H locs → W p l e R s m args below meth c H locs cells slots Q (F0 m 85 ls [])) :
    ∀ (k : Nat) (fr : Nat → Nat) (dr u a : Nat), u < 10 → a < 10 → bd_along mt bs t k fr dr u a = some (fr', dr') → ∀ (H : Heap) (locs : List Loc) (ls : Array Slot), va_P D bdCl (bd_PW d h qb qm qf qs qr g mt fr bs ro al se dr mn) H → va_D A (bd_PW d h qb qm qf qs qr g mt fr bs ro al se dr mn) → va_S A H0 H locs → lv_has ls 6 [(0, .ref h), (2, .int (nI t)), (4, .int (nI u)), (5, .int (nI a))] → W p l e R s m args below meth c H locs cells slots Q (F0 m 6 ls []) := by
  obtain ⟨hx, hb, hml, hown, hts⟩ := id F
  intro k
  induction k with
  | zero => intro fr dr u a _ _ hrun; simp [bd_along] at hrun
  | succ k ih =>
    intro fr dr u a hu ha hrun H locs ls hP hD hS hl
    unfold bd_along at hrun
    by_cases c1 : bs u = t
    · have hbu : bs u < 10 := by rw [c1]; exact ht
      refine lv_aload_n hx hb dX1_along_6 rfl (lv_at hl 0 rfl) ?_
      refine va_get (D := D) (ci := 1) (v := .ref qs) (C := RX1) (T := TX1) (N := 9) hx hb hts in_X1 hown hK hP 0 rfl rfl 3 (by decide) (hts _ q30) (fun _ h9 => h9) rfl dX1_along_7 ?_
      refine lv_iload hx hb dX1_along_10 (lv_at hl 2 rfl) ?_
      refine bd_aldL hx hb hK hP 4 0 rfl rfl hu hbu dX1_along_12 ?_
      refine lv_iload_n hx hb dX1_along_13 rfl (lv_at hl 1 rfl) ?_
      refine lv_icmp_eq (tgt := 85) hx hb dX1_along_14 (by decide) (fun _ => ?_) (fun c_ => absurd (by rw [c1]) c_)
      rw [if_pos c1] at hrun
      cases Option.some.inj hrun
      exact kx H locs ls hP hD hS
    · rw [if_neg c1] at hrun
      by_cases c2 : bs u < 10 ∧ mt u < 10 ∧ bs (mt u) < 10 ∧ bd_up fr u a (mt u) < 10
      · rw [if_pos c2] at hrun
        obtain ⟨q1, q2, q3, q4⟩ := c2
        refine lv_aload_n hx hb dX1_along_6 rfl (lv_at hl 0 rfl) ?_
        refine va_get (D := D) (ci := 1) (v := .ref qs) (C := RX1) (T := TX1) (N := 9) hx hb hts in_X1 hown hK hP 0 rfl rfl 3 (by decide) (hts _ q30) (fun _ h9 => h9) rfl dX1_along_7 ?_
        refine lv_iload hx hb dX1_along_10 (lv_at hl 2 rfl) ?_
        refine bd_aldL hx hb hK hP 4 0 rfl rfl hu q1 dX1_along_12 ?_
        refine lv_iload_n hx hb dX1_along_13 rfl (lv_at hl 1 rfl) ?_
        refine lv_icmp_eq (tgt := 85) hx hb dX1_along_14 (by decide) (fun c_ => absurd c_ (fun q => c1 ((nI_eq (bd_31 q1) (bd_31 ht)).mp q))) (fun _ => ?_)
        refine lv_aload_n hx hb dX1_along_17 rfl (lv_at hl 0 rfl) ?_
        refine lv_dup hx hb dX1_along_18 rfl ?_
        refine va_get (D := D) (ci := 1) (v := .int (nI dr)) (C := RX1) (T := TX1) (N := 9) hx hb hts in_X1 hown hK hP 0 rfl rfl 7 (by decide) (hts _ q34) (fun _ h9 => h9) rfl dX1_along_19 ?_
        refine lv_iconst (v := nI 1) hx hb dX1_along_22 (by decide) ?_
        refine lv_aload_n hx hb dX1_along_23 rfl (lv_at hl 0 rfl) ?_
        refine va_get (D := D) (ci := 1) (v := .ref qs) (C := RX1) (T := TX1) (N := 9) hx hb hts in_X1 hown hK hP 0 rfl rfl 3 (by decide) (hts _ q30) (fun _ h9 => h9) rfl dX1_along_24 ?_
        refine lv_iload hx hb dX1_along_27 (lv_at hl 2 rfl) ?_
        refine bd_aldL hx hb hK hP 4 0 rfl rfl hu q1 dX1_along_29 ?_
        refine bd_ishl hx hb dX1_along_30 (Nat.lt_of_lt_of_le q1 (by decide)) ?_
        refine lv_iconst (v := nI 1) hx hb dX1_along_31 (by decide) ?_
        refine lv_aload_n hx hb dX1_along_32 rfl (lv_at hl 0 rfl) ?_
        refine va_get (D := D) (ci := 1) (v := .ref qs) (C := RX1) (T := TX1) (N := 9) hx hb hts in_X1 hown hK hP 0 rfl rfl 3 (by decide) (hts _ q30) (fun _ h9 => h9) rfl dX1_along_33 ?_
        refine lv_aload_n hx hb dX1_along_36 rfl (lv_at hl 0 rfl) ?_
        refine va_get (D := D) (ci := 1) (v := .ref qm) (C := RX1) (T := TX1) (N := 9) hx hb hts in_X1 hown hK hP 0 rfl rfl 1 (by decide) (hts _ q28) (fun _ h9 => h9) rfl dX1_along_37 ?_
        refine lv_iload hx hb dX1_along_40 (lv_at hl 2 rfl) ?_
        refine bd_aldL hx hb hK hP 2 0 rfl rfl hu q2 dX1_along_42 ?_
        refine bd_aldL hx hb hK hP 4 0 rfl rfl q2 q3 dX1_along_43 ?_
        refine bd_ishl hx hb dX1_along_44 (Nat.lt_of_lt_of_le q3 (by decide)) ?_
        refine bd_ior hx hb dX1_along_45 ?_
        refine bd_ior hx hb dX1_along_46 ?_
        refine va_put (D := D) (ci := 1) (v := .int (nI (dr ||| ((2 ^ (bs u)) ||| (2 ^ (bs (mt u))))))) (ty := .int) (C := RX1) (T := TX1) (N := 9) hx hb hts in_X1 tyX1 tyX1_ok nmX1 hown hK hP hD hS 0 rfl rfl 7 (by decide) (hts _ q34) (fun _ h9 => h9) rfl (by decide +kernel) rfl rfl (Nat.le_of_ble_eq_true rfl) dX1_along_47 (fun H locs hP hD hS => ?_)
        have hP : va_P D bdCl (bd_PW d h qb qm qf qs qr g mt fr bs ro al se (dr ||| ((2 ^ (bs u)) ||| (2 ^ (bs (mt u))))) mn) H := hP
        have hD : va_D A (bd_PW d h qb qm qf qs qr g mt fr bs ro al se (dr ||| ((2 ^ (bs u)) ||| (2 ^ (bs (mt u))))) mn) := hD
        refine lv_aload_n hx hb dX1_along_50 rfl (lv_at hl 0 rfl) ?_
        refine va_get (D := D) (ci := 1) (v := .ref qf) (C := RX1) (T := TX1) (N := 9) hx hb hts in_X1 hown hK hP 0 rfl rfl 2 (by decide) (hts _ q29) (fun _ h9 => h9) rfl dX1_along_51 ?_
        refine lv_iload hx hb dX1_along_54 (lv_at hl 2 rfl) ?_
        refine lv_iload hx hb dX1_along_56 (lv_at hl 3 rfl) ?_
        refine bd_astE (v := a) hx hb hK hP hD hS 3 0 rfl rfl (bd_eN_l ha).symm hu dX1_along_58 (fun H locs hP hD hS => ?_)
        have hP : va_P D bdCl (bd_PW d h qb qm qf qs qr g mt (bd_up fr u a) bs ro al se (dr ||| ((2 ^ (bs u)) ||| (2 ^ (bs (mt u))))) mn) H := hP
        have hD : va_D A (bd_PW d h qb qm qf qs qr g mt (bd_up fr u a) bs ro al se (dr ||| ((2 ^ (bs u)) ||| (2 ^ (bs (mt u))))) mn) := hD
        refine lv_aload_n hx hb dX1_along_59 rfl (lv_at hl 0 rfl) ?_
        refine va_get (D := D) (ci := 1) (v := .ref qm) (C := RX1) (T := TX1) (N := 9) hx hb hts in_X1 hown hK hP 0 rfl rfl 1 (by decide) (hts _ q28) (fun _ h9 => h9) rfl dX1_along_60 ?_
        refine lv_iload hx hb dX1_along_63 (lv_at hl 2 rfl) ?_
        refine bd_aldL hx hb hK hP 2 0 rfl rfl hu q2 dX1_along_65 ?_
        refine lv_istore (lv' := [(5, .int (nI (mt u))), (0, .ref h), (2, .int (nI t)), (4, .int (nI u))]) hx hb dX1_along_66 hl (by decide) rfl (fun ls hl => ?_)
        refine lv_aload_n hx hb dX1_along_68 rfl (lv_at hl 1 rfl) ?_
        refine va_get (D := D) (ci := 1) (v := .ref qf) (C := RX1) (T := TX1) (N := 9) hx hb hts in_X1 hown hK hP 0 rfl rfl 2 (by decide) (hts _ q29) (fun _ h9 => h9) rfl dX1_along_69 ?_
        refine lv_aload_n hx hb dX1_along_72 rfl (lv_at hl 1 rfl) ?_
        refine va_get (D := D) (ci := 1) (v := .ref qm) (C := RX1) (T := TX1) (N := 9) hx hb hts in_X1 hown hK hP 0 rfl rfl 1 (by decide) (hts _ q28) (fun _ h9 => h9) rfl dX1_along_73 ?_
        refine lv_iload hx hb dX1_along_76 (lv_at hl 3 rfl) ?_
        refine bd_aldL hx hb hK hP 2 0 rfl rfl hu q2 dX1_along_78 ?_
        refine bd_aldL hx hb hK hP 3 0 rfl rfl q2 q4 dX1_along_79 ?_
        refine lv_istore (lv' := [(4, .int (nI ((bd_up fr u a) (mt u)))), (5, .int (nI (mt u))), (0, .ref h), (2, .int (nI t))]) hx hb dX1_along_80 hl (by decide) rfl (fun ls hl => ?_)
        refine lv_goto (tgt := 6) hx hb dX1_along_82 (by decide) ?_
        exact ih _ _ _ _ q4 q2 hrun H locs ls hP hD hS (lv_sub hl [2, 3, 0, 1] rfl)
      · rw [if_neg c2] at hrun
        cases hrun
end WALK
set_option maxHeartbeats 4000000 in
set_option maxRecDepth 100000 in
theorem metX1_along (l : Launch) (D : va_G) (d : ClassId) (h qb qm qf qs qr : Nat) (g mt fr bs ro : Nat → Nat) (al se dr mn : Nat) (v t w : Nat) (hv : v < 10) (ht : t < 10) (hw : w < 10) (fr' : Nat → Nat) (dr' k : Nat) (hrun : bd_along mt bs t k fr dr v w = some (fr', dr')) : bd_Cv l yX1_along cX1_along 6 ({ frames := 0, cells := 0, slots := 0, locals := 0 }) D [(d, .int)] [.ref h, .int (nI v), .int (nI t), .int (nI w)] (bd_PW d h qb qm qf qs qr g mt fr bs ro al se dr mn) (fun _ : Unit => True) (fun _ => bd_PW d h qb qm qf qs qr g mt fr' bs ro al se dr' mn) := by
  intro sz
  refine bd_start (Qc := fun A => va_Qv (fun _ : Unit => True) (fun u t => bd_Post D [(d, .int)] A ((fun _ => bd_PW d h qb qm qf qs qr g mt fr' bs ro al se dr' mn) u) t) A) (by decide) (Nat.le_of_ble_eq_true rfl) ?_
  intro p e s m below meth c A ls hx hb hr hml hts hown hlocks hin hA hK hP hD hl
  have hS : va_S A s.heap s.heap [] := va_S.rf
  have hl : lv_has ls 6 [(0, .ref h), (1, .int (nI v)), (2, .int (nI t)), (3, .int (nI w))] := hl
  refine lv_iload_n hx hb dX1_along_0 rfl (lv_at hl 1 rfl) ?_
  refine lv_istore (lv' := [(4, .int (nI v)), (0, .ref h), (1, .int (nI v)), (2, .int (nI t)), (3, .int (nI w))]) hx hb dX1_along_1 hl (by decide) rfl (fun ls hl => ?_)
  refine lv_iload_n hx hb dX1_along_3 rfl (lv_at hl 4 rfl) ?_
  refine lv_istore (lv' := [(5, .int (nI w)), (4, .int (nI v)), (0, .ref h), (1, .int (nI v)), (2, .int (nI t)), (3, .int (nI w))]) hx hb dX1_along_4 hl (by decide) rfl (fun ls hl => ?_)
  exact bd_along_lp ⟨hx, hb, hml, hown, hts⟩ hK ht fr' dr' (fun H locs ls hP hD hS => bd_vret hx hb hr hlocks () trivial hK hP hD hS dX1_along_85) k fr dr v w hv hw hrun _ _ ls hP hD hS (lv_sub hl [2, 4, 1, 0] rfl)
end
section
/-! PAIRING: meeting, turn against the model -/
theorem bd_met1_lt {m f b : Nat → Nat} : ∀ (k a met r : Nat), met < 1024 → bd_met1 m f b k a met = some r → r < 1024
  | 0, _, _, _, _, h => by simp [bd_met1] at h
  | k + 1, a, met, r, hd, h => by
    unfold bd_met1 at h
    by_cases c1 : b a < 10
    · rw [if_pos c1] at h
      have hd2 : met ||| 2 ^ (b a) < 1024 := bd_or_lt (n := 10) hd (bd_pw_lt c1)
      by_cases c2 : m (b a) < 10
      · rw [if_pos c2] at h
        by_cases c3 : f (m (b a)) < 10
        · rw [if_pos c3] at h
          exact bd_met1_lt k _ _ _ hd2 h
        · rw [if_neg c3] at h; cases h
      · rw [if_neg c2] at h
        cases Option.some.inj h
        exact hd2
    · rw [if_neg c1] at h; cases h
theorem bd_met2_lt {m f b : Nat → Nat} {met : Nat} : ∀ (k u r : Nat), bd_met2 m f b met k u = some r → r < 10
  | 0, _, _, h => by simp [bd_met2] at h
  | k + 1, u, r, h => by
    unfold bd_met2 at h
    by_cases c1 : b u < 10
    · rw [if_pos c1] at h
      by_cases c2 : met.testBit (b u) = true
      · rw [if_pos c2] at h
        cases Option.some.inj h
        exact c1
      · rw [if_neg c2] at h
        by_cases c3 : m (b u) < 10 ∧ f (m (b u)) < 10
        · rw [if_pos c3] at h
          exact bd_met2_lt k _ _ h
        · rw [if_neg c3] at h; cases h
    · rw [if_neg c1] at h; cases h
section WALK
variable {p : Program} {l : Launch} {e : Env} {R : Room} {s : State} {m : MethodId} {args : Array Value} {below : List Frame} {meth : Method} {c : Code} {cells slots : Nat} {Q : State → Prop} {D : va_G} {A : Nat → Prop} {H0 : Heap} {d : ClassId} {h qb qm qf qs qr : Nat}
set_option maxHeartbeats 4000000 in
set_option maxRecDepth 100000 in
theorem bd_meet_lp1 (F : CallFix p m c cX1_meeting 6 s args lw_all RX1) (hK : va_K D bdCl [(d, .int)] s) {g mt fr bs ro : Nat → Nat} {al se dr mn w : Nat} {H : Heap} {locs : List Loc} (hP : va_P D bdCl (bd_PW d h qb qm qf qs qr g mt fr bs ro al se dr mn) H) (met' : Nat) (kx : ∀ (ls : Array Slot), lv_has ls 6 [(0, .ref h), (3, .int (nI met')), (5, .int (nI w))] → W p l e R s m args below meth c H locs cells slots Q (F0 m 55 ls [])) :
    ∀ (k a met : Nat), a < 10 → bd_met1 mt fr bs k a met = some met' → ∀ (ls : Array Slot), lv_has ls 6 [(0, .ref h), (3, .int (nI met)), (4, .int (nI a)), (5, .int (nI w))] → W p l e R s m args below meth c H locs cells slots Q (F0 m 8 ls []) := by
  obtain ⟨hx, hb, hml, hown, hts⟩ := id F
  intro k
  induction k with
  | zero => intro a met _ hrun; simp [bd_met1] at hrun
  | succ k ih =>
    intro a met ha hrun ls hl
    unfold bd_met1 at hrun
    by_cases c1 : bs a < 10
    · rw [if_pos c1] at hrun
      refine lv_aload_n hx hb dX1_meeting_8 rfl (lv_at hl 0 rfl) ?_
      refine va_get (D := D) (ci := 1) (v := .ref qs) (C := RX1) (T := TX1) (N := 9) hx hb hts in_X1 hown hK hP 0 rfl rfl 3 (by decide) (hts _ q30) (fun _ h9 => h9) rfl dX1_meeting_9 ?_
      refine lv_iload hx hb dX1_meeting_12 (lv_at hl 2 rfl) ?_
      refine bd_aldL hx hb hK hP 4 0 rfl rfl ha c1 dX1_meeting_14 ?_
      refine lv_istore (lv' := [(4, .int (nI (bs a))), (0, .ref h), (3, .int (nI met)), (5, .int (nI w))]) hx hb dX1_meeting_15 hl (by decide) rfl (fun ls hl => ?_)
      refine lv_iload_n hx hb dX1_meeting_17 rfl (lv_at hl 2 rfl) ?_
      refine lv_iconst (v := nI 1) hx hb dX1_meeting_18 (by decide) ?_
      refine lv_iload hx hb dX1_meeting_19 (lv_at hl 0 rfl) ?_
      refine bd_ishl hx hb dX1_meeting_21 (Nat.lt_of_lt_of_le c1 (by decide)) ?_
      refine bd_ior hx hb dX1_meeting_22 ?_
      refine lv_istore_n (lv' := [(3, .int (nI (met ||| (2 ^ (bs a))))), (4, .int (nI (bs a))), (0, .ref h), (5, .int (nI w))]) hx hb dX1_meeting_23 rfl hl (by decide) rfl (fun ls hl => ?_)
      by_cases c2 : mt (bs a) < 10
      · rw [if_pos c2] at hrun
        by_cases c3 : fr (mt (bs a)) < 10
        · rw [if_pos c3] at hrun
          refine lv_aload_n hx hb dX1_meeting_24 rfl (lv_at hl 2 rfl) ?_
          refine va_get (D := D) (ci := 1) (v := .ref qm) (C := RX1) (T := TX1) (N := 9) hx hb hts in_X1 hown hK hP 0 rfl rfl 1 (by decide) (hts _ q28) (fun _ h9 => h9) rfl dX1_meeting_25 ?_
          refine lv_iload hx hb dX1_meeting_28 (lv_at hl 1 rfl) ?_
          refine bd_aldL hx hb hK hP 2 0 rfl rfl c1 c2 dX1_meeting_30 ?_
          refine lv_iconst (v := -1) hx hb dX1_meeting_31 (by decide) ?_
          refine lv_icmp_ne (tgt := 38) hx hb dX1_meeting_32 (by decide) (fun _ => ?_) (fun c_ => absurd c_ (bd_nm1 (bd_31 c2)))
          refine lv_aload_n hx hb dX1_meeting_38 rfl (lv_at hl 2 rfl) ?_
          refine va_get (D := D) (ci := 1) (v := .ref qf) (C := RX1) (T := TX1) (N := 9) hx hb hts in_X1 hown hK hP 0 rfl rfl 2 (by decide) (hts _ q29) (fun _ h9 => h9) rfl dX1_meeting_39 ?_
          refine lv_aload_n hx hb dX1_meeting_42 rfl (lv_at hl 2 rfl) ?_
          refine va_get (D := D) (ci := 1) (v := .ref qm) (C := RX1) (T := TX1) (N := 9) hx hb hts in_X1 hown hK hP 0 rfl rfl 1 (by decide) (hts _ q28) (fun _ h9 => h9) rfl dX1_meeting_43 ?_
          refine lv_iload hx hb dX1_meeting_46 (lv_at hl 1 rfl) ?_
          refine bd_aldL hx hb hK hP 2 0 rfl rfl c1 c2 dX1_meeting_48 ?_
          refine bd_aldL hx hb hK hP 3 0 rfl rfl c2 c3 dX1_meeting_49 ?_
          refine lv_istore (lv' := [(4, .int (nI (fr (mt (bs a))))), (3, .int (nI (met ||| (2 ^ (bs a))))), (0, .ref h), (5, .int (nI w))]) hx hb dX1_meeting_50 hl (by decide) rfl (fun ls hl => ?_)
          refine lv_goto (tgt := 8) hx hb dX1_meeting_52 (by decide) ?_
          exact ih _ _ c3 hrun ls (lv_sub hl [2, 1, 0, 3] rfl)
        · rw [if_neg c3] at hrun
          cases hrun
      · rw [if_neg c2] at hrun
        cases Option.some.inj hrun
        refine lv_aload_n hx hb dX1_meeting_24 rfl (lv_at hl 2 rfl) ?_
        refine va_get (D := D) (ci := 1) (v := .ref qm) (C := RX1) (T := TX1) (N := 9) hx hb hts in_X1 hown hK hP 0 rfl rfl 1 (by decide) (hts _ q28) (fun _ h9 => h9) rfl dX1_meeting_25 ?_
        refine lv_iload hx hb dX1_meeting_28 (lv_at hl 1 rfl) ?_
        refine bd_aldE hx hb hK hP 2 0 rfl rfl c1 dX1_meeting_30 ?_
        refine lv_iconst (v := -1) hx hb dX1_meeting_31 (by decide) ?_
        refine lv_icmp_ne (tgt := 38) hx hb dX1_meeting_32 (by decide) (fun c_ => absurd (bd_eN_g c2) c_) (fun _ => ?_)
        refine lv_goto (tgt := 55) hx hb dX1_meeting_35 (by decide) ?_
        exact kx ls (lv_sub hl [2, 0, 3] rfl)
    · rw [if_neg c1] at hrun
      cases hrun
set_option maxHeartbeats 4000000 in
set_option maxRecDepth 100000 in
theorem bd_meet_lp2 (F : CallFix p m c cX1_meeting 6 s args lw_all RX1) (hK : va_K D bdCl [(d, .int)] s) {g mt fr bs ro : Nat → Nat} {al se dr mn met : Nat} (hmet : met < 1024) {H : Heap} {locs : List Loc} (hP : va_P D bdCl (bd_PW d h qb qm qf qs qr g mt fr bs ro al se dr mn) H) (t : Nat) (kx : ∀ (ls : Array Slot), W p l e R s m args below meth c H locs cells slots Q (F0 m 98 ls [.int (nI t)])) :
    ∀ (k u : Nat), u < 10 → bd_met2 mt fr bs met k u = some t → ∀ (ls : Array Slot), lv_has ls 6 [(0, .ref h), (3, .int (nI met)), (5, .int (nI u))] → W p l e R s m args below meth c H locs cells slots Q (F0 m 55 ls []) := by
  obtain ⟨hx, hb, hml, hown, hts⟩ := id F
  intro k
  induction k with
  | zero => intro u _ hrun; simp [bd_met2] at hrun
  | succ k ih =>
    intro u hu hrun ls hl
    unfold bd_met2 at hrun
    by_cases c1 : bs u < 10
    · rw [if_pos c1] at hrun
      refine lv_iload_n hx hb dX1_meeting_55 rfl (lv_at hl 1 rfl) ?_
      refine lv_aload_n hx hb dX1_meeting_56 rfl (lv_at hl 0 rfl) ?_
      refine va_get (D := D) (ci := 1) (v := .ref qs) (C := RX1) (T := TX1) (N := 9) hx hb hts in_X1 hown hK hP 0 rfl rfl 3 (by decide) (hts _ q30) (fun _ h9 => h9) rfl dX1_meeting_57 ?_
      refine lv_iload hx hb dX1_meeting_60 (lv_at hl 2 rfl) ?_
      refine bd_aldL hx hb hK hP 4 0 rfl rfl hu c1 dX1_meeting_62 ?_
      refine bd_ishr hx hb dX1_meeting_63 (bd_31' hmet) (Nat.lt_of_lt_of_le c1 (by decide)) ?_
      refine lv_iconst (v := nI 1) hx hb dX1_meeting_64 (by decide) ?_
      refine bd_iand1 hx hb dX1_meeting_65 (bd_31' hmet) ?_
      by_cases c2 : met.testBit (bs u) = true
      · rw [if_pos c2] at hrun
        cases Option.some.inj hrun
        refine lv_if_ne (tgt := 91) hx hb dX1_meeting_66 (by decide) (fun _ => ?_) (fun c_ => absurd c_ (bd_bnz c2))
        refine lv_aload_n hx hb dX1_meeting_91 rfl (lv_at hl 0 rfl) ?_
        refine va_get (D := D) (ci := 1) (v := .ref qs) (C := RX1) (T := TX1) (N := 9) hx hb hts in_X1 hown hK hP 0 rfl rfl 3 (by decide) (hts _ q30) (fun _ h9 => h9) rfl dX1_meeting_92 ?_
        refine lv_iload hx hb dX1_meeting_95 (lv_at hl 2 rfl) ?_
        refine bd_aldL hx hb hK hP 4 0 rfl rfl hu c1 dX1_meeting_97 ?_
        exact kx ls
      · rw [if_neg c2] at hrun
        by_cases c3 : mt (bs u) < 10 ∧ fr (mt (bs u)) < 10
        · rw [if_pos c3] at hrun
          refine lv_if_ne (tgt := 91) hx hb dX1_meeting_66 (by decide) (fun c_ => absurd (bd_bz c2) c_) (fun _ => ?_)
          refine lv_aload_n hx hb dX1_meeting_69 rfl (lv_at hl 0 rfl) ?_
          refine va_get (D := D) (ci := 1) (v := .ref qf) (C := RX1) (T := TX1) (N := 9) hx hb hts in_X1 hown hK hP 0 rfl rfl 2 (by decide) (hts _ q29) (fun _ h9 => h9) rfl dX1_meeting_70 ?_
          refine lv_aload_n hx hb dX1_meeting_73 rfl (lv_at hl 0 rfl) ?_
          refine va_get (D := D) (ci := 1) (v := .ref qm) (C := RX1) (T := TX1) (N := 9) hx hb hts in_X1 hown hK hP 0 rfl rfl 1 (by decide) (hts _ q28) (fun _ h9 => h9) rfl dX1_meeting_74 ?_
          refine lv_aload_n hx hb dX1_meeting_77 rfl (lv_at hl 0 rfl) ?_
          refine va_get (D := D) (ci := 1) (v := .ref qs) (C := RX1) (T := TX1) (N := 9) hx hb hts in_X1 hown hK hP 0 rfl rfl 3 (by decide) (hts _ q30) (fun _ h9 => h9) rfl dX1_meeting_78 ?_
          refine lv_iload hx hb dX1_meeting_81 (lv_at hl 2 rfl) ?_
          refine bd_aldL hx hb hK hP 4 0 rfl rfl hu c1 dX1_meeting_83 ?_
          refine bd_aldL hx hb hK hP 2 0 rfl rfl c1 c3.1 dX1_meeting_84 ?_
          refine bd_aldL hx hb hK hP 3 0 rfl rfl c3.1 c3.2 dX1_meeting_85 ?_
          refine lv_istore (lv' := [(5, .int (nI (fr (mt (bs u))))), (0, .ref h), (3, .int (nI met))]) hx hb dX1_meeting_86 hl (by decide) rfl (fun ls hl => ?_)
          refine lv_goto (tgt := 55) hx hb dX1_meeting_88 (by decide) ?_
          exact ih _ c3.2 hrun ls (lv_sub hl [1, 2, 0] rfl)
        · rw [if_neg c3] at hrun
          cases hrun
    · rw [if_neg c1] at hrun
      cases hrun
set_option maxHeartbeats 4000000 in
set_option maxRecDepth 100000 in
theorem bd_turn_lp (F : CallFix p m c cX1_turn 5 s args lw_all RX1) (hK : va_K D bdCl [(d, .int)] s) {g fr bs ro : Nat → Nat} {al se dr mn : Nat} (mt' : Nat → Nat) (kx : ∀ (H : Heap) (locs : List Loc) (ls : Array Slot), va_P D bdCl (bd_PW d h qb qm qf qs qr g mt' fr bs ro al se dr mn) H → va_D A (bd_PW d h qb qm qf qs qr g mt' fr bs ro al se dr mn) → va_S A H0 H locs → W p l e R s m args below meth c H locs cells slots Q (F0 m 42 ls [])) :
    ∀ (k : Nat) (mt : Nat → Nat) (v : Nat), bd_turn fr k mt v = some mt' → ∀ (H : Heap) (locs : List Loc) (ls : Array Slot), va_P D bdCl (bd_PW d h qb qm qf qs qr g mt fr bs ro al se dr mn) H → va_D A (bd_PW d h qb qm qf qs qr g mt fr bs ro al se dr mn) → va_S A H0 H locs → lv_has ls 5 [(0, .ref h), (2, .int (bd_eN v))] → W p l e R s m args below meth c H locs cells slots Q (F0 m 2 ls []) := by
  obtain ⟨hx, hb, hml, hown, hts⟩ := id F
  intro k
  induction k with
  | zero => intro mt v hrun; simp [bd_turn] at hrun
  | succ k ih =>
    intro mt v hrun H locs ls hP hD hS hl
    unfold bd_turn at hrun
    by_cases hv : v < 10
    · rw [if_pos hv] at hrun
      rw [bd_eN_l hv] at hl
      by_cases c2 : fr v < 10
      · rw [if_pos c2] at hrun
        refine lv_iload_n hx hb dX1_turn_2 rfl (lv_at hl 1 rfl) ?_
        refine lv_iconst (v := -1) hx hb dX1_turn_3 (by decide) ?_
        refine lv_icmp_eq (tgt := 42) hx hb dX1_turn_4 (by decide) (fun c_ => absurd c_ (bd_nm1 (bd_31 hv))) (fun _ => ?_)
        refine lv_aload_n hx hb dX1_turn_7 rfl (lv_at hl 0 rfl) ?_
        refine va_get (D := D) (ci := 1) (v := .ref qf) (C := RX1) (T := TX1) (N := 9) hx hb hts in_X1 hown hK hP 0 rfl rfl 2 (by decide) (hts _ q29) (fun _ h9 => h9) rfl dX1_turn_8 ?_
        refine lv_iload_n hx hb dX1_turn_11 rfl (lv_at hl 1 rfl) ?_
        refine bd_aldL hx hb hK hP 3 0 rfl rfl hv c2 dX1_turn_12 ?_
        refine lv_istore_n (lv' := [(3, .int (nI (fr v))), (0, .ref h), (2, .int (nI v))]) hx hb dX1_turn_13 rfl hl (by decide) rfl (fun ls hl => ?_)
        refine lv_aload_n hx hb dX1_turn_14 rfl (lv_at hl 1 rfl) ?_
        refine va_get (D := D) (ci := 1) (v := .ref qm) (C := RX1) (T := TX1) (N := 9) hx hb hts in_X1 hown hK hP 0 rfl rfl 1 (by decide) (hts _ q28) (fun _ h9 => h9) rfl dX1_turn_15 ?_
        refine lv_iload_n hx hb dX1_turn_18 rfl (lv_at hl 0 rfl) ?_
        refine bd_aldE hx hb hK hP 2 0 rfl rfl c2 dX1_turn_19 ?_
        refine lv_istore (lv' := [(4, .int (bd_eN (mt (fr v)))), (3, .int (nI (fr v))), (0, .ref h), (2, .int (nI v))]) hx hb dX1_turn_20 hl (by decide) rfl (fun ls hl => ?_)
        refine lv_aload_n hx hb dX1_turn_22 rfl (lv_at hl 2 rfl) ?_
        refine va_get (D := D) (ci := 1) (v := .ref qm) (C := RX1) (T := TX1) (N := 9) hx hb hts in_X1 hown hK hP 0 rfl rfl 1 (by decide) (hts _ q28) (fun _ h9 => h9) rfl dX1_turn_23 ?_
        refine lv_iload_n hx hb dX1_turn_26 rfl (lv_at hl 3 rfl) ?_
        refine lv_iload_n hx hb dX1_turn_27 rfl (lv_at hl 1 rfl) ?_
        refine bd_astE (v := fr v) hx hb hK hP hD hS 2 0 rfl rfl (bd_eN_l c2).symm hv dX1_turn_28 (fun H locs hP hD hS => ?_)
        have hP : va_P D bdCl (bd_PW d h qb qm qf qs qr g (bd_up mt v (fr v)) fr bs ro al se dr mn) H := hP
        have hD : va_D A (bd_PW d h qb qm qf qs qr g (bd_up mt v (fr v)) fr bs ro al se dr mn) := hD
        refine lv_aload_n hx hb dX1_turn_29 rfl (lv_at hl 2 rfl) ?_
        refine va_get (D := D) (ci := 1) (v := .ref qm) (C := RX1) (T := TX1) (N := 9) hx hb hts in_X1 hown hK hP 0 rfl rfl 1 (by decide) (hts _ q28) (fun _ h9 => h9) rfl dX1_turn_30 ?_
        refine lv_iload_n hx hb dX1_turn_33 rfl (lv_at hl 1 rfl) ?_
        refine lv_iload_n hx hb dX1_turn_34 rfl (lv_at hl 3 rfl) ?_
        refine bd_astE (v := v) hx hb hK hP hD hS 2 0 rfl rfl (bd_eN_l hv).symm c2 dX1_turn_35 (fun H locs hP hD hS => ?_)
        have hP : va_P D bdCl (bd_PW d h qb qm qf qs qr g (bd_up (bd_up mt v (fr v)) (fr v) v) fr bs ro al se dr mn) H := hP
        have hD : va_D A (bd_PW d h qb qm qf qs qr g (bd_up (bd_up mt v (fr v)) (fr v) v) fr bs ro al se dr mn) := hD
        refine lv_iload hx hb dX1_turn_36 (lv_at hl 0 rfl) ?_
        refine lv_istore_n (lv' := [(2, .int (bd_eN (mt (fr v)))), (4, .int (bd_eN (mt (fr v)))), (3, .int (nI (fr v))), (0, .ref h)]) hx hb dX1_turn_38 rfl hl (by decide) rfl (fun ls hl => ?_)
        refine lv_goto (tgt := 2) hx hb dX1_turn_39 (by decide) ?_
        exact ih _ _ hrun H locs ls hP hD hS (lv_sub hl [3, 0] rfl)
      · rw [if_neg c2] at hrun
        cases hrun
    · rw [if_neg hv] at hrun
      cases Option.some.inj hrun
      refine lv_iload_n hx hb dX1_turn_2 rfl (lv_at hl 1 rfl) ?_
      refine lv_iconst (v := -1) hx hb dX1_turn_3 (by decide) ?_
      refine lv_icmp_eq (tgt := 42) hx hb dX1_turn_4 (by decide) (fun _ => ?_) (fun c_ => absurd (bd_eN_g hv) c_)
      exact kx H locs ls hP hD hS
end WALK
set_option maxHeartbeats 4000000 in
set_option maxRecDepth 100000 in
theorem metX1_meeting (l : Launch) (D : va_G) (d : ClassId) (h qb qm qf qs qr : Nat) (g mt fr bs ro : Nat → Nat) (al se dr mn : Nat) (v w : Nat) (hv : v < 10) (hw : w < 10) (met t k1 k2 : Nat) (h1 : bd_met1 mt fr bs k1 v 0 = some met) (h2 : bd_met2 mt fr bs met k2 w = some t) : bd_Ci l yX1_meeting cX1_meeting 6 .int ({ frames := 0, cells := 0, slots := 0, locals := 0 }) D [(d, .int)] [.ref h, .int (nI v), .int (nI w)] (bd_PW d h qb qm qf qs qr g mt fr bs ro al se dr mn) (fun r (_ : Unit) => r = nI t) (fun _ => bd_PW d h qb qm qf qs qr g mt fr bs ro al se dr mn) := by
  intro sz
  refine bd_start (Qc := fun A => va_Qi (fun r (_ : Unit) => r = nI t) (fun u t => bd_Post D [(d, .int)] A ((fun _ => bd_PW d h qb qm qf qs qr g mt fr bs ro al se dr mn) u) t) A) (by decide) (Nat.le_of_ble_eq_true rfl) ?_
  intro p e s m below meth c A ls hx hb hr hml hts hown hlocks hin hA hK hP hD hl
  have hS : va_S A s.heap s.heap [] := va_S.rf
  have hl : lv_has ls 6 [(0, .ref h), (1, .int (nI v)), (2, .int (nI w))] := hl
  refine lv_iconst (v := nI 0) hx hb dX1_meeting_0 (by decide) ?_
  refine lv_istore_n (lv' := [(3, .int (nI 0)), (0, .ref h), (1, .int (nI v)), (2, .int (nI w))]) hx hb dX1_meeting_1 rfl hl (by decide) rfl (fun ls hl => ?_)
  refine lv_iload_n hx hb dX1_meeting_2 rfl (lv_at hl 2 rfl) ?_
  refine lv_istore (lv' := [(4, .int (nI v)), (3, .int (nI 0)), (0, .ref h), (1, .int (nI v)), (2, .int (nI w))]) hx hb dX1_meeting_3 hl (by decide) rfl (fun ls hl => ?_)
  refine lv_iload_n hx hb dX1_meeting_5 rfl (lv_at hl 4 rfl) ?_
  refine lv_istore (lv' := [(5, .int (nI w)), (4, .int (nI v)), (3, .int (nI 0)), (0, .ref h), (1, .int (nI v)), (2, .int (nI w))]) hx hb dX1_meeting_6 hl (by decide) rfl (fun ls hl => ?_)
  refine bd_meet_lp1 ⟨hx, hb, hml, hown, hts⟩ hK hP met (fun ls hl => ?_) k1 v 0 hv h1 ls (lv_sub hl [3, 2, 1, 0] rfl)
  exact bd_meet_lp2 ⟨hx, hb, hml, hown, hts⟩ hK (bd_met1_lt k1 v 0 met (by decide) h1) hP t (fun ls => bd_iret hx hb hr rfl hlocks () rfl hK hP hD hS dX1_meeting_98) k2 w hw h2 ls hl
set_option maxHeartbeats 4000000 in
set_option maxRecDepth 100000 in
theorem metX1_turn (l : Launch) (D : va_G) (d : ClassId) (h qb qm qf qs qr : Nat) (g mt fr bs ro : Nat → Nat) (al se dr mn : Nat) (w : Nat) (hw : w < 10) (mt' : Nat → Nat) (k : Nat) (hrun : bd_turn fr k mt w = some mt') : bd_Cv l yX1_turn cX1_turn 5 ({ frames := 0, cells := 0, slots := 0, locals := 0 }) D [(d, .int)] [.ref h, .int (nI w)] (bd_PW d h qb qm qf qs qr g mt fr bs ro al se dr mn) (fun _ : Unit => True) (fun _ => bd_PW d h qb qm qf qs qr g mt' fr bs ro al se dr mn) := by
  intro sz
  refine bd_start (Qc := fun A => va_Qv (fun _ : Unit => True) (fun u t => bd_Post D [(d, .int)] A ((fun _ => bd_PW d h qb qm qf qs qr g mt' fr bs ro al se dr mn) u) t) A) (by decide) (Nat.le_of_ble_eq_true rfl) ?_
  intro p e s m below meth c A ls hx hb hr hml hts hown hlocks hin hA hK hP hD hl
  have hS : va_S A s.heap s.heap [] := va_S.rf
  have hl : lv_has ls 5 [(0, .ref h), (1, .int (nI w))] := hl
  refine lv_iload_n hx hb dX1_turn_0 rfl (lv_at hl 1 rfl) ?_
  refine lv_istore_n (lv' := [(2, .int (nI w)), (0, .ref h), (1, .int (nI w))]) hx hb dX1_turn_1 rfl hl (by decide) rfl (fun ls hl => ?_)
  have hl := lv_sub hl (l' := [(0, .ref h), (2, .int (nI w))]) [1, 0] rfl
  rw [← bd_eN_l hw] at hl
  exact bd_turn_lp ⟨hx, hb, hml, hown, hts⟩ hK mt' (fun H locs ls hP hD hS => bd_vret hx hb hr hlocks () trivial hK hP hD hS dX1_turn_42) k mt w hrun _ _ ls hP hD hS hl
end
section
/-! PAIRING: draw -/
theorem bd_see_mn {v se mn : Nat} {r : Nat → Nat} {se' : Nat} {r' : Nat → Nat} {mn' : Nat} (hm : mn ≤ 10) (h : bd_see v se r mn = some (se', r', mn')) : mn' ≤ 10 := by
  unfold bd_see at h
  by_cases c1 : se.testBit v = true
  · rw [if_pos c1] at h; cases Option.some.inj h; exact hm
  · rw [if_neg c1] at h
    by_cases c2 : mn < 10
    · rw [if_pos c2] at h; cases Option.some.inj h; omega
    · rw [if_neg c2] at h; cases h
theorem bd_dl_lt {t dr : Nat} : ∀ (k : Nat) (b : Nat → Nat) (se : Nat) (r : Nat → Nat) (mn : Nat) (b' : Nat → Nat) (se' : Nat) (r' : Nat → Nat) (mn' : Nat), se < 1024 → mn ≤ 10 → bd_dl t dr k b se r mn = some (b', se', r', mn') → se' < 1024 ∧ mn' ≤ 10
  | 0, b, se, r, mn, b', se', r', mn', h1, h2, h => by
    unfold bd_dl at h; cases Option.some.inj h; exact ⟨h1, h2⟩
  | k + 1, b, se, r, mn, b', se', r', mn', h1, h2, h => by
    unfold bd_dl at h
    by_cases c1 : b (9 - k) < 10
    · rw [if_pos c1] at h
      by_cases c2 : dr.testBit (b (9 - k)) = true
      · rw [if_pos c2] at h
        obtain ⟨⟨s1, r1, m1⟩, e1, e2⟩ := Option.bind_eq_some_iff.mp h
        exact bd_dl_lt k _ _ _ _ _ _ _ _ (bd_see_lt (by omega) h1 e1) (bd_see_mn h2 e1) e2
      · rw [if_neg c2] at h
        exact bd_dl_lt k _ _ _ _ _ _ _ _ h1 h2 h
    · rw [if_neg c1] at h; cases h
theorem bd_draw_lt {m : Nat → Nat} {v w : Nat} {f b r : Nat → Nat} {se dr mn : Nat} {f' b' r' : Nat → Nat} {se' dr' mn' : Nat} (h1 : se < 1024) (h2 : mn ≤ 10) (h : bd_draw m v w (f, b, r, se, dr, mn) = some (f', b', r', se', dr', mn')) : se' < 1024 ∧ mn' ≤ 10 := by
  unfold bd_draw at h
  obtain ⟨met, e1, h⟩ := Option.bind_eq_some_iff.mp h
  obtain ⟨t, e2, h⟩ := Option.bind_eq_some_iff.mp h
  obtain ⟨q1, e3, h⟩ := Option.bind_eq_some_iff.mp h
  obtain ⟨q2, e4, h⟩ := Option.bind_eq_some_iff.mp h
  obtain ⟨⟨b1, s1, r1, m1⟩, e5, h⟩ := Option.bind_eq_some_iff.mp h
  cases Option.some.inj h
  exact bd_dl_lt _ _ _ _ _ _ _ _ _ h1 h2 e5
section WALK
variable {p : Program} {l : Launch} {e : Env} {R : Room} {s : State} {m : MethodId} {args : Array Value} {below : List Frame} {meth : Method} {c : Code} {cells slots : Nat} {Q : State → Prop} {D : va_G} {A : Nat → Prop} {H0 : Heap} {d : ClassId} {h qb qm qf qs qr : Nat}
set_option maxHeartbeats 4000000 in
set_option maxRecDepth 100000 in
theorem bd_draw_lp (F : CallFix p m c cX1_draw 5 s args lw_all RX1) (hRf : 1 ≤ R.frames ∧ 21 ≤ R.locals) (hf : cells ≤ R.cells ∧ slots ≤ R.slots) (hA : ∀ q, H0.size ≤ q → A q) (hK : va_K D bdCl [(d, .int)] s) {g mt fr : Nat → Nat} {al dr t : Nat} (ht : t < 10) (hdr : dr < 1024) (bs' : Nat → Nat) (se' : Nat) (ro' : Nat → Nat) (mn' : Nat) (kx : ∀ (H : Heap) (locs : List Loc) (ls : Array Slot), va_P D bdCl (bd_PW d h qb qm qf qs qr g mt fr bs' ro' al se' dr mn') H → va_D A (bd_PW d h qb qm qf qs qr g mt fr bs' ro' al se' dr mn') → va_S A H0 H locs → W p l e R s m args below meth c H locs cells slots Q (F0 m 74 ls [])) :
    ∀ (k u : Nat) (bs : Nat → Nat) (se : Nat) (ro : Nat → Nat) (mn : Nat), u + k = 10 → se < 1024 → bd_dl t dr k bs se ro mn = some (bs', se', ro', mn') → ∀ (H : Heap) (locs : List Loc) (ls : Array Slot), va_P D bdCl (bd_PW d h qb qm qf qs qr g mt fr bs ro al se dr mn) H → va_D A (bd_PW d h qb qm qf qs qr g mt fr bs ro al se dr mn) → va_S A H0 H locs → lv_has ls 5 [(0, .ref h), (3, .int (nI t)), (4, .int (nI u))] → W p l e R s m args below meth c H locs cells slots Q (F0 m 29 ls []) := by
  obtain ⟨hx, hb, hml, hown, hts⟩ := id F
  intro k
  induction k with
  | zero =>
    intro u bs se ro mn hu _ hrun H locs ls hP hD hS hl
    unfold bd_dl at hrun
    cases Option.some.inj hrun
    refine lv_iload hx hb dX1_draw_29 (lv_at hl 2 rfl) ?_
    refine lv_bipush (v := nI 10) hx hb dX1_draw_31 (by decide) ?_
    refine lv_icmp_ge (tgt := 74) hx hb dX1_draw_33 (by decide) (fun _ => ?_) (fun c_ => absurd (nI_le (show 10 ≤ u by omega) (by omega)) c_)
    exact kx H locs ls hP hD hS
  | succ k ih =>
    intro u bs se ro mn hk hse hrun H locs ls hP hD hS hl
    have hu : u < 10 := by omega
    unfold bd_dl at hrun
    rw [show 9 - k = u by omega] at hrun
    refine lv_iload hx hb dX1_draw_29 (lv_at hl 2 rfl) ?_
    refine lv_bipush (v := nI 10) hx hb dX1_draw_31 (by decide) ?_
    refine lv_icmp_ge (tgt := 74) hx hb dX1_draw_33 (by decide) (fun c_ => absurd c_ (nI_ge hu (by decide))) (fun _ => ?_)
    by_cases c1 : bs u < 10
    · rw [if_pos c1] at hrun
      refine lv_aload_n hx hb dX1_draw_36 rfl (lv_at hl 0 rfl) ?_
      refine va_get (D := D) (ci := 1) (v := .int (nI dr)) (C := RX1) (T := TX1) (N := 9) hx hb hts in_X1 hown hK hP 0 rfl rfl 7 (by decide) (hts _ q34) (fun _ h9 => h9) rfl dX1_draw_37 ?_
      refine lv_aload_n hx hb dX1_draw_40 rfl (lv_at hl 0 rfl) ?_
      refine va_get (D := D) (ci := 1) (v := .ref qs) (C := RX1) (T := TX1) (N := 9) hx hb hts in_X1 hown hK hP 0 rfl rfl 3 (by decide) (hts _ q30) (fun _ h9 => h9) rfl dX1_draw_41 ?_
      refine lv_iload hx hb dX1_draw_44 (lv_at hl 2 rfl) ?_
      refine bd_aldL hx hb hK hP 4 0 rfl rfl hu c1 dX1_draw_46 ?_
      refine bd_ishr hx hb dX1_draw_47 (bd_31' hdr) (Nat.lt_of_lt_of_le c1 (by decide)) ?_
      refine lv_iconst (v := nI 1) hx hb dX1_draw_48 (by decide) ?_
      refine bd_iand1 hx hb dX1_draw_49 (bd_31' hdr) ?_
      refine lv_iconst (v := nI 1) hx hb dX1_draw_50 (by decide) ?_
      by_cases c2 : dr.testBit (bs u) = true
      · rw [if_pos c2] at hrun
        obtain ⟨⟨se1, ro1, mn1⟩, e1, hrun⟩ := Option.bind_eq_some_iff.mp hrun
        refine lv_icmp_ne (tgt := 68) hx hb dX1_draw_51 (by decide) (fun c_ => absurd (bd_b1 c2) c_) (fun _ => ?_)
        refine lv_aload_n hx hb dX1_draw_54 rfl (lv_at hl 0 rfl) ?_
        refine va_get (D := D) (ci := 1) (v := .ref qs) (C := RX1) (T := TX1) (N := 9) hx hb hts in_X1 hown hK hP 0 rfl rfl 3 (by decide) (hts _ q30) (fun _ h9 => h9) rfl dX1_draw_55 ?_
        refine lv_iload hx hb dX1_draw_58 (lv_at hl 2 rfl) ?_
        refine lv_iload_n hx hb dX1_draw_60 rfl (lv_at hl 1 rfl) ?_
        refine bd_astE (v := t) hx hb hK hP hD hS 4 0 rfl rfl (bd_eN_l ht).symm hu dX1_draw_61 (fun H locs hP hD hS => ?_)
        have hP : va_P D bdCl (bd_PW d h qb qm qf qs qr g mt fr (bd_up bs u t) ro al se dr mn) H := hP
        have hD : va_D A (bd_PW d h qb qm qf qs qr g mt fr (bd_up bs u t) ro al se dr mn) := hD
        refine lv_aload_n hx hb dX1_draw_62 rfl (lv_at hl 0 rfl) ?_
        refine lv_iload hx hb dX1_draw_63 (lv_at hl 2 rfl) ?_
        refine bd_callv (wr := []) (rest := []) ⟨hx, hb, hml, hown, hts⟩ (metX1_see l D d h qb qm qf qs qr g mt fr (bd_up bs u t) ro al se dr mn u hu hse se1 ro1 mn1 e1 _) (cwV 1 hts (lw_V q113 q115 qs5 q11 q116) rfl rfl rfl (by decide +kernel) ⟨hRf.1, hRf.2⟩) hK hP hD hS hA [0, 1, 2, 3, 4, 5] [] [0] rfl rfl rfl rfl rfl rfl (by decide) (ci := 1) (q0 := 0) rfl rfl rfl hl.1 rfl (Nat.le_of_ble_eq_true rfl) dX1_draw_65 hf (fun u_ H locs hw_ hP hD hS => ?_)
        have hP : va_P D bdCl (bd_PW d h qb qm qf qs qr g mt fr (bd_up bs u t) ro1 al se1 dr mn1) H := hP
        have hD : va_D A (bd_PW d h qb qm qf qs qr g mt fr (bd_up bs u t) ro1 al se1 dr mn1) := hD
        refine lv_iinc (v := nI (u + 1)) (lv' := [(4, .int (nI (u + 1))), (0, .ref h), (3, .int (nI t))]) hx hb dX1_draw_68 hl (k := 2) rfl (nI_1 _) (by decide) rfl (fun ls hl => ?_)
        refine lv_goto (tgt := 29) hx hb dX1_draw_71 (by decide) ?_
        exact ih (u + 1) _ _ _ _ (by omega) (bd_see_lt hu hse e1) hrun H locs ls hP hD hS (lv_sub hl [1, 2, 0] rfl)
      · rw [if_neg c2] at hrun
        refine lv_icmp_ne (tgt := 68) hx hb dX1_draw_51 (by decide) (fun _ => ?_) (fun c_ => absurd c_ (bd_b0 c2))
        refine lv_iinc (v := nI (u + 1)) (lv' := [(4, .int (nI (u + 1))), (0, .ref h), (3, .int (nI t))]) hx hb dX1_draw_68 hl (k := 2) rfl (nI_1 _) (by decide) rfl (fun ls hl => ?_)
        refine lv_goto (tgt := 29) hx hb dX1_draw_71 (by decide) ?_
        exact ih (u + 1) _ _ _ _ (by omega) hse hrun H locs ls hP hD hS (lv_sub hl [1, 2, 0] rfl)
    · rw [if_neg c1] at hrun
      cases hrun
end WALK
set_option maxHeartbeats 4000000 in
set_option maxRecDepth 100000 in
theorem metX1_draw (l : Launch) (D : va_G) (d : ClassId) (h qb qm qf qs qr : Nat) (g mt fr bs ro : Nat → Nat) (al se dr mn : Nat) (v w : Nat) (hv : v < 10) (hw : w < 10) (hse : se < 1024) (fr' bs' ro' : Nat → Nat) (se' dr' mn' : Nat) (hrun : bd_draw mt v w (fr, bs, ro, se, dr, mn) = some (fr', bs', ro', se', dr', mn')) : bd_Cv l yX1_draw cX1_draw 5 ({ frames := 1, cells := 0, slots := 0, locals := 25 }) D [(d, .int)] [.ref h, .int (nI v), .int (nI w)] (bd_PW d h qb qm qf qs qr g mt fr bs ro al se dr mn) (fun _ : Unit => True) (fun _ => bd_PW d h qb qm qf qs qr g mt fr' bs' ro' al se' dr' mn') := by
  unfold bd_draw at hrun
  obtain ⟨met, e1, hrun⟩ := Option.bind_eq_some_iff.mp hrun
  obtain ⟨t, e2, hrun⟩ := Option.bind_eq_some_iff.mp hrun
  obtain ⟨⟨fr1, dr1⟩, e3, hrun⟩ := Option.bind_eq_some_iff.mp hrun
  obtain ⟨⟨fr2, dr2⟩, e4, hrun⟩ := Option.bind_eq_some_iff.mp hrun
  obtain ⟨⟨bs1, se1, ro1, mn1⟩, e5, hrun⟩ := Option.bind_eq_some_iff.mp hrun
  cases Option.some.inj hrun
  dsimp only at e1 e2 e3 e4 e5 hrun
  have ht : t < 10 := bd_met2_lt _ _ _ e2
  intro sz
  refine bd_start (Qc := fun A => va_Qv (fun _ : Unit => True) (fun u t => bd_Post D [(d, .int)] A ((fun _ => bd_PW d h qb qm qf qs qr g mt fr2 bs1 ro1 al se1 dr2 mn1) u) t) A) (by decide) (Nat.le_of_ble_eq_true rfl) ?_
  intro p e s m below meth c A ls hx hb hr hml hts hown hlocks hin hA hK hP hD hl
  have hS : va_S A s.heap s.heap [] := va_S.rf
  have hl : lv_has ls 5 [(0, .ref h), (1, .int (nI v)), (2, .int (nI w))] := hl
  refine lv_aload_n hx hb dX1_draw_0 rfl (lv_at hl 0 rfl) ?_
  refine lv_iload_n hx hb dX1_draw_1 rfl (lv_at hl 1 rfl) ?_
  refine lv_iload_n hx hb dX1_draw_2 rfl (lv_at hl 2 rfl) ?_
  refine bd_calli (wr := []) (rest := []) ⟨hx, hb, hml, hown, hts⟩ (metX1_meeting l D d h qb qm qf qs qr g mt fr bs ro al se dr mn v w hv hw met t 11 11 e1 e2 _) (cwV 2 hts (lw_V q105 q107 qs3 q11 q108) rfl rfl rfl (by decide +kernel) ⟨Nat.le_of_ble_eq_true rfl, Nat.le_of_ble_eq_true rfl⟩) hK hP hD hS hA [0, 1, 2, 3, 4, 5] [] [0] rfl rfl rfl rfl rfl rfl (by decide) (ci := 1) (q0 := 0) rfl rfl rfl hl.1 rfl (Nat.le_of_ble_eq_true rfl) dX1_draw_3 ⟨Nat.le_refl _, Nat.le_refl _⟩ (fun r_ u_ H locs hw_ hP hD hS => ?_)
  subst hw_
  have hP : va_P D bdCl (bd_PW d h qb qm qf qs qr g mt fr bs ro al se dr mn) H := hP
  have hD : va_D A (bd_PW d h qb qm qf qs qr g mt fr bs ro al se dr mn) := hD
  refine lv_istore_n (lv' := [(3, .int (nI t)), (0, .ref h), (1, .int (nI v)), (2, .int (nI w))]) hx hb dX1_draw_6 rfl hl (by decide) rfl (fun ls hl => ?_)
  refine lv_aload_n hx hb dX1_draw_7 rfl (lv_at hl 1 rfl) ?_
  refine lv_iconst (v := nI 0) hx hb dX1_draw_8 (by decide) ?_
  refine va_put (D := D) (ci := 1) (v := .int (nI 0)) (ty := .int) (C := RX1) (T := TX1) (N := 9) hx hb hts in_X1 tyX1 tyX1_ok nmX1 hown hK hP hD hS 0 rfl rfl 7 (by decide) (hts _ q34) (fun _ h9 => h9) rfl (by decide +kernel) rfl rfl (Nat.le_of_ble_eq_true rfl) dX1_draw_9 (fun H locs hP hD hS => ?_)
  have hP : va_P D bdCl (bd_PW d h qb qm qf qs qr g mt fr bs ro al se 0 mn) H := hP
  have hD : va_D A (bd_PW d h qb qm qf qs qr g mt fr bs ro al se 0 mn) := hD
  refine lv_aload_n hx hb dX1_draw_12 rfl (lv_at hl 1 rfl) ?_
  refine lv_iload_n hx hb dX1_draw_13 rfl (lv_at hl 2 rfl) ?_
  refine lv_iload_n hx hb dX1_draw_14 rfl (lv_at hl 0 rfl) ?_
  refine lv_iload_n hx hb dX1_draw_15 rfl (lv_at hl 3 rfl) ?_
  refine bd_callv (wr := []) (rest := []) ⟨hx, hb, hml, hown, hts⟩ (metX1_along l D d h qb qm qf qs qr g mt fr bs ro al se 0 mn v t w hv ht hw fr1 dr1 11 e3 _) (cwV 3 hts (lw_V q109 q111 qs4 q11 q112) rfl rfl rfl (by decide +kernel) ⟨Nat.le_of_ble_eq_true rfl, Nat.le_of_ble_eq_true rfl⟩) hK hP hD hS hA [0, 1, 2, 3, 4, 5] [] [0] rfl rfl rfl rfl rfl rfl (by decide) (ci := 1) (q0 := 0) rfl rfl rfl hl.1 rfl (Nat.le_of_ble_eq_true rfl) dX1_draw_16 ⟨Nat.le_refl _, Nat.le_refl _⟩ (fun u_ H locs hw_ hP hD hS => ?_)
  have hP : va_P D bdCl (bd_PW d h qb qm qf qs qr g mt fr1 bs ro al se dr1 mn) H := hP
  have hD : va_D A (bd_PW d h qb qm qf qs qr g mt fr1 bs ro al se dr1 mn) := hD
  refine lv_aload_n hx hb dX1_draw_19 rfl (lv_at hl 1 rfl) ?_
  refine lv_iload_n hx hb dX1_draw_20 rfl (lv_at hl 3 rfl) ?_
  refine lv_iload_n hx hb dX1_draw_21 rfl (lv_at hl 0 rfl) ?_
  refine lv_iload_n hx hb dX1_draw_22 rfl (lv_at hl 2 rfl) ?_
  refine bd_callv (wr := []) (rest := []) ⟨hx, hb, hml, hown, hts⟩ (metX1_along l D d h qb qm qf qs qr g mt fr1 bs ro al se dr1 mn w t v hw ht hv fr2 dr2 11 e4 _) (cwV 3 hts (lw_V q109 q111 qs4 q11 q112) rfl rfl rfl (by decide +kernel) ⟨Nat.le_of_ble_eq_true rfl, Nat.le_of_ble_eq_true rfl⟩) hK hP hD hS hA [0, 1, 2, 3, 4, 5] [] [0] rfl rfl rfl rfl rfl rfl (by decide) (ci := 1) (q0 := 0) rfl rfl rfl hl.1 rfl (Nat.le_of_ble_eq_true rfl) dX1_draw_23 ⟨Nat.le_refl _, Nat.le_refl _⟩ (fun u_ H locs hw_ hP hD hS => ?_)
  have hP : va_P D bdCl (bd_PW d h qb qm qf qs qr g mt fr2 bs ro al se dr2 mn) H := hP
  have hD : va_D A (bd_PW d h qb qm qf qs qr g mt fr2 bs ro al se dr2 mn) := hD
  refine lv_iconst (v := nI 0) hx hb dX1_draw_26 (by decide) ?_
  refine lv_istore (lv' := [(4, .int (nI 0)), (3, .int (nI t)), (0, .ref h), (1, .int (nI v)), (2, .int (nI w))]) hx hb dX1_draw_27 hl (by decide) rfl (fun ls hl => ?_)
  exact bd_draw_lp ⟨hx, hb, hml, hown, hts⟩ ⟨Nat.le_of_ble_eq_true rfl, Nat.le_of_ble_eq_true rfl⟩ ⟨Nat.le_refl _, Nat.le_refl _⟩ hA hK ht (bd_along_lt _ _ _ _ _ _ _ (bd_along_lt _ _ _ _ _ _ _ (by decide) e3) e4) bs1 se1 ro1 mn1 (fun H locs ls hP hD hS => bd_vret hx hb hr hlocks () trivial hK hP hD hS dX1_draw_74) 10 0 bs se ro mn rfl hse e5 H locs ls hP hD hS (lv_sub hl [2, 1, 0] rfl)
end
section
/-! PAIRING: path -/
section PBC
variable {g : Nat → Nat} {al : Nat} {mt : Nat → Nat} {rt v w : Nat} {fr bs ro : Nat → Nat} {se dr mn : Nat}
theorem bd_pb_1 (h : ¬ (g v &&& al).testBit w = true) : bd_pb g al mt rt v w (fr, bs, ro, se, dr, mn) = some ((fr, bs, ro, se, dr, mn), false) := by
  unfold bd_pb; rw [if_neg h]
theorem bd_pb_2 (h : (g v &&& al).testBit w = true) (h2 : ¬ (bs v < 10 ∧ bs w < 10)) : bd_pb g al mt rt v w (fr, bs, ro, se, dr, mn) = none := by
  unfold bd_pb; rw [if_pos h]; dsimp only; rw [if_neg h2]
theorem bd_pb_3 (h : (g v &&& al).testBit w = true) (h2 : bs v < 10 ∧ bs w < 10) (h3 : bs v = bs w ∨ mt v = w) : bd_pb g al mt rt v w (fr, bs, ro, se, dr, mn) = some ((fr, bs, ro, se, dr, mn), false) := by
  unfold bd_pb; rw [if_pos h]; dsimp only; rw [if_pos h2, if_pos h3]
theorem bd_pb_4 (h : (g v &&& al).testBit w = true) (h2 : bs v < 10 ∧ bs w < 10) (h3 : ¬ (bs v = bs w ∨ mt v = w)) (h4 : w = rt ∨ (mt w < 10 ∧ fr (mt w) < 10)) : bd_pb g al mt rt v w (fr, bs, ro, se, dr, mn) = (bd_draw mt v w (fr, bs, ro, se, dr, mn)).map (fun q => (q, false)) := by
  unfold bd_pb; rw [if_pos h]; dsimp only; rw [if_pos h2, if_neg h3, if_pos h4]
theorem bd_pb_5 (h : (g v &&& al).testBit w = true) (h2 : bs v < 10 ∧ bs w < 10) (h3 : ¬ (bs v = bs w ∨ mt v = w)) (h4 : ¬ (w = rt ∨ (mt w < 10 ∧ fr (mt w) < 10))) (h5 : fr w < 10) : bd_pb g al mt rt v w (fr, bs, ro, se, dr, mn) = some ((fr, bs, ro, se, dr, mn), false) := by
  unfold bd_pb; rw [if_pos h]; dsimp only; rw [if_pos h2, if_neg h3, if_neg h4, if_pos h5]
theorem bd_pb_6 (h : (g v &&& al).testBit w = true) (h2 : bs v < 10 ∧ bs w < 10) (h3 : ¬ (bs v = bs w ∨ mt v = w)) (h4 : ¬ (w = rt ∨ (mt w < 10 ∧ fr (mt w) < 10))) (h5 : ¬ fr w < 10) (h6 : mt w < 10) : bd_pb g al mt rt v w (fr, bs, ro, se, dr, mn) = (bd_see (mt w) se ro mn).map (fun q => ((bd_up fr w v, bs, q.2.1, q.1, dr, q.2.2), false)) := by
  unfold bd_pb; rw [if_pos h]; dsimp only; rw [if_pos h2, if_neg h3, if_neg h4, if_neg h5, if_pos h6]
theorem bd_pb_7 (h : (g v &&& al).testBit w = true) (h2 : bs v < 10 ∧ bs w < 10) (h3 : ¬ (bs v = bs w ∨ mt v = w)) (h4 : ¬ (w = rt ∨ (mt w < 10 ∧ fr (mt w) < 10))) (h5 : ¬ fr w < 10) (h6 : ¬ mt w < 10) : bd_pb g al mt rt v w (fr, bs, ro, se, dr, mn) = some ((bd_up fr w v, bs, ro, se, dr, mn), true) := by
  unfold bd_pb; rw [if_pos h]; dsimp only; rw [if_pos h2, if_neg h3, if_neg h4, if_neg h5, if_neg h6]
end PBC
def bd_rv (res : Option Nat) : Int32 := match res with
  | some w => nI w
  | none => -1
theorem bd_eN_ne {k w : Nat} (hw : w < 10) (h : k ≠ w) : ¬ bd_eN k = nI w := by
  by_cases c : k < 10
  · rw [bd_eN_l c]
    exact fun q => h ((nI_eq (bd_31 c) (bd_31 hw)).mp q)
  · rw [bd_eN_g c]
    exact fun q => bd_nm1 (bd_31 hw) q.symm
section WALK
variable {p : Program} {l : Launch} {e : Env} {R : Room} {s : State} {m : MethodId} {args : Array Value} {below : List Frame} {meth : Method} {c : Code} {cells slots : Nat} {Q : State → Prop} {D : va_G} {A : Nat → Prop} {H0 : Heap} {d : ClassId} {h qb qm qf qs qr : Nat}
set_option maxHeartbeats 4000000 in
set_option maxRecDepth 100000 in
theorem bd_path_in (F : CallFix p m c cX1_path 5 s args lw_all RX1) (hRf : 2 ≤ R.frames ∧ 49 ≤ R.locals) (hf : cells ≤ R.cells ∧ slots ≤ R.slots) (hA : ∀ q, H0.size ≤ q → A q) (hK : va_K D bdCl [(d, .int)] s) {g mt : Nat → Nat} {al rt i v : Nat} (hrt : rt < 10) (hv : v < 10) (fr' bs' ro' : Nat → Nat) (se' dr' mn' : Nat) (res : Option Nat)
    (kx : ∀ (H : Heap) (locs : List Loc) (ls : Array Slot), va_P D bdCl (bd_PW d h qb qm qf qs qr g mt fr' bs' ro' al se' dr' mn') H → va_D A (bd_PW d h qb qm qf qs qr g mt fr' bs' ro' al se' dr' mn') → va_S A H0 H locs → lv_has ls 5 [(0, .ref h), (1, .int (nI rt)), (2, .int (nI i))] → se' < 1024 → mn' ≤ 10 → (res = none → W p l e R s m args below meth c H locs cells slots Q (F0 m 216 ls [])) ∧ (∀ w', res = some w' → w' < 10 → W p l e R s m args below meth c H locs cells slots Q (F0 m 198 ls [.int (nI w')]))) :
    ∀ (k w : Nat) (fr bs ro : Nat → Nat) (se dr mn : Nat), w + k = 10 → se < 1024 → mn ≤ 10 → bd_pw g al mt rt v k (fr, bs, ro, se, dr, mn) = some ((fr', bs', ro', se', dr', mn'), res) → ∀ (H : Heap) (locs : List Loc) (ls : Array Slot), va_P D bdCl (bd_PW d h qb qm qf qs qr g mt fr bs ro al se dr mn) H → va_D A (bd_PW d h qb qm qf qs qr g mt fr bs ro al se dr mn) → va_S A H0 H locs → lv_has ls 5 [(0, .ref h), (1, .int (nI rt)), (2, .int (nI i)), (3, .int (nI v)), (4, .int (nI w))] → W p l e R s m args below meth c H locs cells slots Q (F0 m 67 ls []) := by
  obtain ⟨hx, hb, hml, hown, hts⟩ := id F
  intro k
  induction k with
  | zero =>
    intro w fr bs ro se dr mn hu hse hmn hrun H locs ls hP hD hS hl
    unfold bd_pw at hrun
    cases Option.some.inj hrun
    refine lv_iload hx hb dX1_path_67 (lv_at hl 4 rfl) ?_
    refine lv_bipush (v := nI 10) hx hb dX1_path_69 (by decide) ?_
    refine lv_icmp_ge (tgt := 216) hx hb dX1_path_71 (by decide) (fun _ => ?_) (fun c_ => absurd (nI_le (show 10 ≤ w by omega) (by omega)) c_)
    exact (kx H locs ls hP hD hS (lv_sub hl [0, 1, 2] rfl) hse hmn).1 rfl
  | succ k ih =>
    intro w fr bs ro se dr mn hk hse hmn hrun H locs ls hP hD hS hl
    have hw : w < 10 := by omega
    unfold bd_pw at hrun
    rw [show 9 - k = w by omega] at hrun
    obtain ⟨⟨⟨fr1, bs1, ro1, se1, dr1, mn1⟩, bo⟩, hpb, hrun⟩ := Option.bind_eq_some_iff.mp hrun
    dsimp only at hrun
    have nxt : bo = false → se1 < 1024 → mn1 ≤ 10 → ∀ (H : Heap) (locs : List Loc) (ls : Array Slot), va_P D bdCl (bd_PW d h qb qm qf qs qr g mt fr1 bs1 ro1 al se1 dr1 mn1) H → va_D A (bd_PW d h qb qm qf qs qr g mt fr1 bs1 ro1 al se1 dr1 mn1) → va_S A H0 H locs → lv_has ls 5 [(0, .ref h), (1, .int (nI rt)), (2, .int (nI i)), (3, .int (nI v)), (4, .int (nI w))] → W p l e R s m args below meth c H locs cells slots Q (F0 m 210 ls []) := by
      intro hbo hse hmn H locs ls hP hD hS hl
      rw [hbo, if_neg (by decide)] at hrun
      refine lv_iinc (v := nI (w + 1)) (lv' := [(4, .int (nI (w + 1))), (0, .ref h), (1, .int (nI rt)), (2, .int (nI i)), (3, .int (nI v))]) hx hb dX1_path_210 hl (k := 4) rfl (nI_1 _) (by decide) rfl (fun ls hl => ?_)
      refine lv_goto (tgt := 67) hx hb dX1_path_213 (by decide) ?_
      exact ih (w + 1) _ _ _ _ _ _ (by omega) hse hmn hrun H locs ls hP hD hS (lv_sub hl [1, 2, 3, 4, 0] rfl)
    refine lv_iload hx hb dX1_path_67 (lv_at hl 4 rfl) ?_
    refine lv_bipush (v := nI 10) hx hb dX1_path_69 (by decide) ?_
    refine lv_icmp_ge (tgt := 216) hx hb dX1_path_71 (by decide) (fun c_ => absurd c_ (nI_ge hw (by decide))) (fun _ => ?_)
    refine lv_aload_n hx hb dX1_path_74 rfl (lv_at hl 0 rfl) ?_
    refine va_get (D := D) (ci := 1) (v := .ref qb) (C := RX1) (T := TX1) (N := 9) hx hb hts in_X1 hown hK hP 0 rfl rfl 0 (by decide) (hts _ q27) (fun _ h9 => h9) rfl dX1_path_75 ?_
    refine lv_iload_n hx hb dX1_path_78 rfl (lv_at hl 3 rfl) ?_
    refine bd_aldN hx hb hK hP 1 0 rfl rfl hv (by decide) dX1_path_79 ?_
    refine lv_aload_n hx hb dX1_path_80 rfl (lv_at hl 0 rfl) ?_
    refine va_get (D := D) (ci := 1) (v := .int (nI al)) (C := RX1) (T := TX1) (N := 9) hx hb hts in_X1 hown hK hP 0 rfl rfl 5 (by decide) (hts _ q32) (fun _ h9 => h9) rfl dX1_path_81 ?_
    refine bd_iand hx hb dX1_path_84 ?_
    refine lv_iconst (v := nI 1) hx hb dX1_path_85 (by decide) ?_
    refine lv_iload hx hb dX1_path_86 (lv_at hl 4 rfl) ?_
    refine bd_ishl hx hb dX1_path_88 (Nat.lt_of_lt_of_le hw (by decide)) ?_
    refine bd_iand hx hb dX1_path_89 ?_
    by_cases c1 : (g v &&& al).testBit w = true
    · refine lv_if_eq (tgt := 210) hx hb dX1_path_90 (by decide) (fun c_ => absurd c_ (bd_and2n (by omega) c1)) (fun _ => ?_)
      by_cases c2 : bs v < 10 ∧ bs w < 10
      · refine lv_aload_n hx hb dX1_path_93 rfl (lv_at hl 0 rfl) ?_
        refine va_get (D := D) (ci := 1) (v := .ref qs) (C := RX1) (T := TX1) (N := 9) hx hb hts in_X1 hown hK hP 0 rfl rfl 3 (by decide) (hts _ q30) (fun _ h9 => h9) rfl dX1_path_94 ?_
        refine lv_iload_n hx hb dX1_path_97 rfl (lv_at hl 3 rfl) ?_
        refine bd_aldL hx hb hK hP 4 0 rfl rfl hv c2.1 dX1_path_98 ?_
        refine lv_aload_n hx hb dX1_path_99 rfl (lv_at hl 0 rfl) ?_
        refine va_get (D := D) (ci := 1) (v := .ref qs) (C := RX1) (T := TX1) (N := 9) hx hb hts in_X1 hown hK hP 0 rfl rfl 3 (by decide) (hts _ q30) (fun _ h9 => h9) rfl dX1_path_100 ?_
        refine lv_iload hx hb dX1_path_103 (lv_at hl 4 rfl) ?_
        refine bd_aldL hx hb hK hP 4 0 rfl rfl hw c2.2 dX1_path_105 ?_
        by_cases c3 : bs v = bs w
        · rw [bd_pb_3 c1 c2 (Or.inl c3)] at hpb
          cases Option.some.inj hpb
          refine lv_icmp_eq (tgt := 210) hx hb dX1_path_106 (by decide) (fun _ => ?_) (fun c_ => absurd (by rw [c3]) c_)
          exact nxt rfl hse hmn H locs ls hP hD hS (lv_sub hl [0, 1, 2, 3, 4] rfl)
        · refine lv_icmp_eq (tgt := 210) hx hb dX1_path_106 (by decide) (fun c_ => absurd c_ (fun q => c3 ((nI_eq (bd_31 c2.1) (bd_31 c2.2)).mp q))) (fun _ => ?_)
          refine lv_aload_n hx hb dX1_path_109 rfl (lv_at hl 0 rfl) ?_
          refine va_get (D := D) (ci := 1) (v := .ref qm) (C := RX1) (T := TX1) (N := 9) hx hb hts in_X1 hown hK hP 0 rfl rfl 1 (by decide) (hts _ q28) (fun _ h9 => h9) rfl dX1_path_110 ?_
          refine lv_iload_n hx hb dX1_path_113 rfl (lv_at hl 3 rfl) ?_
          refine bd_aldE hx hb hK hP 2 0 rfl rfl hv dX1_path_114 ?_
          refine lv_iload hx hb dX1_path_115 (lv_at hl 4 rfl) ?_
          by_cases c4 : mt v = w
          · rw [bd_pb_3 c1 c2 (Or.inr c4)] at hpb
            cases Option.some.inj hpb
            refine lv_icmp_ne (tgt := 123) hx hb dX1_path_117 (by decide) (fun c_ => absurd (by rw [c4]; exact bd_eN_l hw) c_) (fun _ => ?_)
            refine lv_goto (tgt := 210) hx hb dX1_path_120 (by decide) ?_
            exact nxt rfl hse hmn H locs ls hP hD hS (lv_sub hl [0, 1, 2, 3, 4] rfl)
          · refine lv_icmp_ne (tgt := 123) hx hb dX1_path_117 (by decide) (fun _ => ?_) (fun c_ => absurd c_ (bd_eN_ne hw c4))
            have h3 : ¬ (bs v = bs w ∨ mt v = w) := fun q => q.elim c3 c4
            refine lv_iload hx hb dX1_path_123 (lv_at hl 4 rfl) ?_
            refine lv_iload_n hx hb dX1_path_125 rfl (lv_at hl 1 rfl) ?_
            by_cases c5 : w = rt
            · refine lv_icmp_eq (tgt := 156) hx hb dX1_path_126 (by decide) (fun _ => ?_) (fun c_ => absurd (by rw [c5]) c_)
              rw [bd_pb_4 c1 c2 h3 (Or.inl c5)] at hpb
              obtain ⟨⟨fr2, bs2, ro2, se2, dr2, mn2⟩, e1, e2⟩ := Option.map_eq_some_iff.mp hpb
              cases e2
              refine lv_aload_n hx hb dX1_path_156 rfl (lv_at hl 0 rfl) ?_
              refine lv_iload_n hx hb dX1_path_157 rfl (lv_at hl 3 rfl) ?_
              refine lv_iload hx hb dX1_path_158 (lv_at hl 4 rfl) ?_
              refine bd_callv (wr := []) (rest := []) ⟨hx, hb, hml, hown, hts⟩ (metX1_draw l D d h qb qm qf qs qr g mt fr bs ro al se dr mn v w hv hw hse fr1 bs1 ro1 se1 dr1 mn1 e1 _) (cwV 2 hts (lw_V q101 q103 qs2 q11 q104) rfl rfl rfl (by decide +kernel) ⟨hRf.1, hRf.2⟩) hK hP hD hS hA [0, 1, 2, 3, 4, 5] [] [0] rfl rfl rfl rfl rfl rfl (by decide) (ci := 1) (q0 := 0) rfl rfl rfl hl.1 rfl (Nat.le_of_ble_eq_true rfl) dX1_path_160 hf (fun u_ H locs hw_ hP hD hS => ?_)
              have hP : va_P D bdCl (bd_PW d h qb qm qf qs qr g mt fr1 bs1 ro1 al se1 dr1 mn1) H := hP
              have hD : va_D A (bd_PW d h qb qm qf qs qr g mt fr1 bs1 ro1 al se1 dr1 mn1) := hD
              refine lv_goto (tgt := 210) hx hb dX1_path_163 (by decide) ?_
              exact nxt rfl (bd_draw_lt hse hmn e1).1 (bd_draw_lt hse hmn e1).2 H locs ls hP hD hS (lv_sub hl [0, 1, 2, 3, 4] rfl)
            · refine lv_icmp_eq (tgt := 156) hx hb dX1_path_126 (by decide) (fun c_ => absurd c_ (fun q => c5 ((nI_eq (bd_31 hw) (bd_31 hrt)).mp q))) (fun _ => ?_)
              by_cases c6 : mt w < 10
              · refine lv_aload_n hx hb dX1_path_129 rfl (lv_at hl 0 rfl) ?_
                refine va_get (D := D) (ci := 1) (v := .ref qm) (C := RX1) (T := TX1) (N := 9) hx hb hts in_X1 hown hK hP 0 rfl rfl 1 (by decide) (hts _ q28) (fun _ h9 => h9) rfl dX1_path_130 ?_
                refine lv_iload hx hb dX1_path_133 (lv_at hl 4 rfl) ?_
                refine bd_aldL hx hb hK hP 2 0 rfl rfl hw c6 dX1_path_135 ?_
                refine lv_iconst (v := -1) hx hb dX1_path_136 (by decide) ?_
                refine lv_icmp_eq (tgt := 166) hx hb dX1_path_137 (by decide) (fun c_ => absurd c_ (bd_nm1 (bd_31 c6))) (fun _ => ?_)
                refine lv_aload_n hx hb dX1_path_140 rfl (lv_at hl 0 rfl) ?_
                refine va_get (D := D) (ci := 1) (v := .ref qf) (C := RX1) (T := TX1) (N := 9) hx hb hts in_X1 hown hK hP 0 rfl rfl 2 (by decide) (hts _ q29) (fun _ h9 => h9) rfl dX1_path_141 ?_
                refine lv_aload_n hx hb dX1_path_144 rfl (lv_at hl 0 rfl) ?_
                refine va_get (D := D) (ci := 1) (v := .ref qm) (C := RX1) (T := TX1) (N := 9) hx hb hts in_X1 hown hK hP 0 rfl rfl 1 (by decide) (hts _ q28) (fun _ h9 => h9) rfl dX1_path_145 ?_
                refine lv_iload hx hb dX1_path_148 (lv_at hl 4 rfl) ?_
                refine bd_aldL hx hb hK hP 2 0 rfl rfl hw c6 dX1_path_150 ?_
                refine bd_aldE hx hb hK hP 3 0 rfl rfl c6 dX1_path_151 ?_
                refine lv_iconst (v := -1) hx hb dX1_path_152 (by decide) ?_
                by_cases c7 : fr (mt w) < 10
                · refine lv_icmp_eq (tgt := 166) hx hb dX1_path_153 (by decide) (fun c_ => absurd c_ (by rw [bd_eN_l c7]; exact bd_nm1 (bd_31 c7))) (fun _ => ?_)
                  rw [bd_pb_4 c1 c2 h3 (Or.inr ⟨c6, c7⟩)] at hpb
                  obtain ⟨⟨fr2, bs2, ro2, se2, dr2, mn2⟩, e1, e2⟩ := Option.map_eq_some_iff.mp hpb
                  cases e2
                  refine lv_aload_n hx hb dX1_path_156 rfl (lv_at hl 0 rfl) ?_
                  refine lv_iload_n hx hb dX1_path_157 rfl (lv_at hl 3 rfl) ?_
                  refine lv_iload hx hb dX1_path_158 (lv_at hl 4 rfl) ?_
                  refine bd_callv (wr := []) (rest := []) ⟨hx, hb, hml, hown, hts⟩ (metX1_draw l D d h qb qm qf qs qr g mt fr bs ro al se dr mn v w hv hw hse fr1 bs1 ro1 se1 dr1 mn1 e1 _) (cwV 2 hts (lw_V q101 q103 qs2 q11 q104) rfl rfl rfl (by decide +kernel) ⟨hRf.1, hRf.2⟩) hK hP hD hS hA [0, 1, 2, 3, 4, 5] [] [0] rfl rfl rfl rfl rfl rfl (by decide) (ci := 1) (q0 := 0) rfl rfl rfl hl.1 rfl (Nat.le_of_ble_eq_true rfl) dX1_path_160 hf (fun u_ H locs hw_ hP hD hS => ?_)
                  have hP : va_P D bdCl (bd_PW d h qb qm qf qs qr g mt fr1 bs1 ro1 al se1 dr1 mn1) H := hP
                  have hD : va_D A (bd_PW d h qb qm qf qs qr g mt fr1 bs1 ro1 al se1 dr1 mn1) := hD
                  refine lv_goto (tgt := 210) hx hb dX1_path_163 (by decide) ?_
                  exact nxt rfl (bd_draw_lt hse hmn e1).1 (bd_draw_lt hse hmn e1).2 H locs ls hP hD hS (lv_sub hl [0, 1, 2, 3, 4] rfl)
                · refine lv_icmp_eq (tgt := 166) hx hb dX1_path_153 (by decide) (fun _ => ?_) (fun c_ => absurd (bd_eN_g c7) c_)
                  have h4 : ¬ (w = rt ∨ (mt w < 10 ∧ fr (mt w) < 10)) := fun q => q.elim c5 (fun z => c7 z.2)
                  refine lv_aload_n hx hb dX1_path_166 rfl (lv_at hl 0 rfl) ?_
                  refine va_get (D := D) (ci := 1) (v := .ref qf) (C := RX1) (T := TX1) (N := 9) hx hb hts in_X1 hown hK hP 0 rfl rfl 2 (by decide) (hts _ q29) (fun _ h9 => h9) rfl dX1_path_167 ?_
                  refine lv_iload hx hb dX1_path_170 (lv_at hl 4 rfl) ?_
                  refine bd_aldE hx hb hK hP 3 0 rfl rfl hw dX1_path_172 ?_
                  refine lv_iconst (v := -1) hx hb dX1_path_173 (by decide) ?_
                  by_cases c8 : fr w < 10
                  · rw [bd_pb_5 c1 c2 h3 h4 c8] at hpb
                    cases Option.some.inj hpb
                    refine lv_icmp_ne (tgt := 210) hx hb dX1_path_174 (by decide) (fun _ => ?_) (fun c_ => absurd c_ (by rw [bd_eN_l c8]; exact bd_nm1 (bd_31 c8)))
                    exact nxt rfl hse hmn H locs ls hP hD hS (lv_sub hl [0, 1, 2, 3, 4] rfl)
                  · refine lv_icmp_ne (tgt := 210) hx hb dX1_path_174 (by decide) (fun c_ => absurd (bd_eN_g c8) c_) (fun _ => ?_)
                    refine lv_aload_n hx hb dX1_path_177 rfl (lv_at hl 0 rfl) ?_
                    refine va_get (D := D) (ci := 1) (v := .ref qf) (C := RX1) (T := TX1) (N := 9) hx hb hts in_X1 hown hK hP 0 rfl rfl 2 (by decide) (hts _ q29) (fun _ h9 => h9) rfl dX1_path_178 ?_
                    refine lv_iload hx hb dX1_path_181 (lv_at hl 4 rfl) ?_
                    refine lv_iload_n hx hb dX1_path_183 rfl (lv_at hl 3 rfl) ?_
                    refine bd_astE (v := v) hx hb hK hP hD hS 3 0 rfl rfl (bd_eN_l hv).symm hw dX1_path_184 (fun H locs hP hD hS => ?_)
                    have hP : va_P D bdCl (bd_PW d h qb qm qf qs qr g mt (bd_up fr w v) bs ro al se dr mn) H := hP
                    have hD : va_D A (bd_PW d h qb qm qf qs qr g mt (bd_up fr w v) bs ro al se dr mn) := hD
                    refine lv_aload_n hx hb dX1_path_185 rfl (lv_at hl 0 rfl) ?_
                    refine va_get (D := D) (ci := 1) (v := .ref qm) (C := RX1) (T := TX1) (N := 9) hx hb hts in_X1 hown hK hP 0 rfl rfl 1 (by decide) (hts _ q28) (fun _ h9 => h9) rfl dX1_path_186 ?_
                    refine lv_iload hx hb dX1_path_189 (lv_at hl 4 rfl) ?_
                    refine bd_aldL hx hb hK hP 2 0 rfl rfl hw c6 dX1_path_191 ?_
                    refine lv_iconst (v := -1) hx hb dX1_path_192 (by decide) ?_
                    rw [bd_pb_6 c1 c2 h3 h4 c8 c6] at hpb
                    obtain ⟨⟨se2, ro2, mn2⟩, e1, e2⟩ := Option.map_eq_some_iff.mp hpb
                    cases e2
                    refine lv_icmp_ne (tgt := 199) hx hb dX1_path_193 (by decide) (fun _ => ?_) (fun c_ => absurd c_ (bd_nm1 (bd_31 c6)))
                    refine lv_aload_n hx hb dX1_path_199 rfl (lv_at hl 0 rfl) ?_
                    refine lv_aload_n hx hb dX1_path_200 rfl (lv_at hl 0 rfl) ?_
                    refine va_get (D := D) (ci := 1) (v := .ref qm) (C := RX1) (T := TX1) (N := 9) hx hb hts in_X1 hown hK hP 0 rfl rfl 1 (by decide) (hts _ q28) (fun _ h9 => h9) rfl dX1_path_201 ?_
                    refine lv_iload hx hb dX1_path_204 (lv_at hl 4 rfl) ?_
                    refine bd_aldL hx hb hK hP 2 0 rfl rfl hw c6 dX1_path_206 ?_
                    refine bd_callv (wr := []) (rest := []) ⟨hx, hb, hml, hown, hts⟩ (metX1_see l D d h qb qm qf qs qr g mt (bd_up fr w v) bs ro al se dr mn (mt w) c6 hse se2 ro2 mn2 e1 _) (cwV 1 hts (lw_V q113 q115 qs5 q11 q116) rfl rfl rfl (by decide +kernel) ⟨Nat.le_of_succ_le hRf.1, Nat.le_trans (by decide) hRf.2⟩) hK hP hD hS hA [0, 1, 2, 3, 4, 5] [] [0] rfl rfl rfl rfl rfl rfl (by decide) (ci := 1) (q0 := 0) rfl rfl rfl hl.1 rfl (Nat.le_of_ble_eq_true rfl) dX1_path_207 hf (fun u_ H locs hw_ hP hD hS => ?_)
                    have hP : va_P D bdCl (bd_PW d h qb qm qf qs qr g mt (bd_up fr w v) bs ro2 al se2 dr mn2) H := hP
                    have hD : va_D A (bd_PW d h qb qm qf qs qr g mt (bd_up fr w v) bs ro2 al se2 dr mn2) := hD
                    exact nxt rfl (bd_see_lt c6 hse e1) (bd_see_mn hmn e1) H locs ls hP hD hS (lv_sub hl [0, 1, 2, 3, 4] rfl)
              · refine lv_aload_n hx hb dX1_path_129 rfl (lv_at hl 0 rfl) ?_
                refine va_get (D := D) (ci := 1) (v := .ref qm) (C := RX1) (T := TX1) (N := 9) hx hb hts in_X1 hown hK hP 0 rfl rfl 1 (by decide) (hts _ q28) (fun _ h9 => h9) rfl dX1_path_130 ?_
                refine lv_iload hx hb dX1_path_133 (lv_at hl 4 rfl) ?_
                refine bd_aldE hx hb hK hP 2 0 rfl rfl hw dX1_path_135 ?_
                refine lv_iconst (v := -1) hx hb dX1_path_136 (by decide) ?_
                refine lv_icmp_eq (tgt := 166) hx hb dX1_path_137 (by decide) (fun _ => ?_) (fun c_ => absurd (bd_eN_g c6) c_)
                have h4 : ¬ (w = rt ∨ (mt w < 10 ∧ fr (mt w) < 10)) := fun q => q.elim c5 (fun z => c6 z.1)
                refine lv_aload_n hx hb dX1_path_166 rfl (lv_at hl 0 rfl) ?_
                refine va_get (D := D) (ci := 1) (v := .ref qf) (C := RX1) (T := TX1) (N := 9) hx hb hts in_X1 hown hK hP 0 rfl rfl 2 (by decide) (hts _ q29) (fun _ h9 => h9) rfl dX1_path_167 ?_
                refine lv_iload hx hb dX1_path_170 (lv_at hl 4 rfl) ?_
                refine bd_aldE hx hb hK hP 3 0 rfl rfl hw dX1_path_172 ?_
                refine lv_iconst (v := -1) hx hb dX1_path_173 (by decide) ?_
                by_cases c8 : fr w < 10
                · rw [bd_pb_5 c1 c2 h3 h4 c8] at hpb
                  cases Option.some.inj hpb
                  refine lv_icmp_ne (tgt := 210) hx hb dX1_path_174 (by decide) (fun _ => ?_) (fun c_ => absurd c_ (by rw [bd_eN_l c8]; exact bd_nm1 (bd_31 c8)))
                  exact nxt rfl hse hmn H locs ls hP hD hS (lv_sub hl [0, 1, 2, 3, 4] rfl)
                · refine lv_icmp_ne (tgt := 210) hx hb dX1_path_174 (by decide) (fun c_ => absurd (bd_eN_g c8) c_) (fun _ => ?_)
                  refine lv_aload_n hx hb dX1_path_177 rfl (lv_at hl 0 rfl) ?_
                  refine va_get (D := D) (ci := 1) (v := .ref qf) (C := RX1) (T := TX1) (N := 9) hx hb hts in_X1 hown hK hP 0 rfl rfl 2 (by decide) (hts _ q29) (fun _ h9 => h9) rfl dX1_path_178 ?_
                  refine lv_iload hx hb dX1_path_181 (lv_at hl 4 rfl) ?_
                  refine lv_iload_n hx hb dX1_path_183 rfl (lv_at hl 3 rfl) ?_
                  refine bd_astE (v := v) hx hb hK hP hD hS 3 0 rfl rfl (bd_eN_l hv).symm hw dX1_path_184 (fun H locs hP hD hS => ?_)
                  have hP : va_P D bdCl (bd_PW d h qb qm qf qs qr g mt (bd_up fr w v) bs ro al se dr mn) H := hP
                  have hD : va_D A (bd_PW d h qb qm qf qs qr g mt (bd_up fr w v) bs ro al se dr mn) := hD
                  refine lv_aload_n hx hb dX1_path_185 rfl (lv_at hl 0 rfl) ?_
                  refine va_get (D := D) (ci := 1) (v := .ref qm) (C := RX1) (T := TX1) (N := 9) hx hb hts in_X1 hown hK hP 0 rfl rfl 1 (by decide) (hts _ q28) (fun _ h9 => h9) rfl dX1_path_186 ?_
                  refine lv_iload hx hb dX1_path_189 (lv_at hl 4 rfl) ?_
                  refine bd_aldE hx hb hK hP 2 0 rfl rfl hw dX1_path_191 ?_
                  refine lv_iconst (v := -1) hx hb dX1_path_192 (by decide) ?_
                  rw [bd_pb_7 c1 c2 h3 h4 c8 c6] at hpb
                  cases Option.some.inj hpb
                  rw [if_pos rfl] at hrun
                  cases Option.some.inj hrun
                  refine lv_icmp_ne (tgt := 199) hx hb dX1_path_193 (by decide) (fun c_ => absurd (bd_eN_g c6) c_) (fun _ => ?_)
                  refine lv_iload hx hb dX1_path_196 (lv_at hl 4 rfl) ?_
                  exact (kx H locs ls hP hD hS (lv_sub hl [0, 1, 2] rfl) hse hmn).2 w rfl hw
      · rw [bd_pb_2 c1 c2] at hpb
        cases hpb
    · rw [bd_pb_1 c1] at hpb
      cases Option.some.inj hpb
      refine lv_if_eq (tgt := 210) hx hb dX1_path_90 (by decide) (fun _ => ?_) (fun c_ => absurd (bd_and2z c1) c_)
      exact nxt rfl hse hmn H locs ls hP hD hS (lv_sub hl [0, 1, 2, 3, 4] rfl)
set_option maxHeartbeats 4000000 in
set_option maxRecDepth 100000 in
theorem bd_path_out (F : CallFix p m c cX1_path 5 s args lw_all RX1) (hRf : 2 ≤ R.frames ∧ 49 ≤ R.locals) (hf : cells ≤ R.cells ∧ slots ≤ R.slots) (hA : ∀ q, H0.size ≤ q → A q) (hK : va_K D bdCl [(d, .int)] s) {g mt : Nat → Nat} {al rt : Nat} (hrt : rt < 10) (fr' bs' ro' : Nat → Nat) (se' dr' mn' : Nat) (res : Option Nat)
    (kx : ∀ (H : Heap) (locs : List Loc) (ls : Array Slot), va_P D bdCl (bd_PW d h qb qm qf qs qr g mt fr' bs' ro' al se' dr' mn') H → va_D A (bd_PW d h qb qm qf qs qr g mt fr' bs' ro' al se' dr' mn') → va_S A H0 H locs → (res = none → W p l e R s m args below meth c H locs cells slots Q (F0 m 222 ls [])) ∧ (∀ w', res = some w' → w' < 10 → W p l e R s m args below meth c H locs cells slots Q (F0 m 198 ls [.int (nI w')]))) :
    ∀ (k i : Nat) (fr bs ro : Nat → Nat) (se dr mn : Nat), i ≤ 10 → se < 1024 → mn ≤ 10 → bd_pk g al mt rt k i (fr, bs, ro, se, dr, mn) = some ((fr', bs', ro', se', dr', mn'), res) → ∀ (H : Heap) (locs : List Loc) (ls : Array Slot), va_P D bdCl (bd_PW d h qb qm qf qs qr g mt fr bs ro al se dr mn) H → va_D A (bd_PW d h qb qm qf qs qr g mt fr bs ro al se dr mn) → va_S A H0 H locs → lv_has ls 5 [(0, .ref h), (1, .int (nI rt)), (2, .int (nI i))] → W p l e R s m args below meth c H locs cells slots Q (F0 m 49 ls []) := by
  obtain ⟨hx, hb, hml, hown, hts⟩ := id F
  intro k
  induction k with
  | zero => intro i fr bs ro se dr mn _ _ _ hrun; simp [bd_pk] at hrun
  | succ k ih =>
    intro i fr bs ro se dr mn hi hse hmn hrun H locs ls hP hD hS hl
    unfold bd_pk at hrun
    dsimp only at hrun
    refine lv_iload_n hx hb dX1_path_49 rfl (lv_at hl 2 rfl) ?_
    refine lv_aload_n hx hb dX1_path_50 rfl (lv_at hl 0 rfl) ?_
    refine va_get (D := D) (ci := 1) (v := .int (nI mn)) (C := RX1) (T := TX1) (N := 9) hx hb hts in_X1 hown hK hP 0 rfl rfl 8 (by decide) (hts _ q35) (fun _ h9 => h9) rfl dX1_path_51 ?_
    by_cases c1 : i < mn
    · rw [if_pos c1] at hrun
      refine lv_icmp_ge (tgt := 222) hx hb dX1_path_54 (by decide) (fun c_ => absurd c_ (nI_ge c1 (by omega))) (fun _ => ?_)
      by_cases c2 : i < 10 ∧ ro i < 10
      · rw [if_pos c2] at hrun
        obtain ⟨⟨⟨fr1, bs1, ro1, se1, dr1, mn1⟩, r1⟩, e1, hrun⟩ := Option.bind_eq_some_iff.mp hrun
        refine lv_aload_n hx hb dX1_path_57 rfl (lv_at hl 0 rfl) ?_
        refine va_get (D := D) (ci := 1) (v := .ref qr) (C := RX1) (T := TX1) (N := 9) hx hb hts in_X1 hown hK hP 0 rfl rfl 4 (by decide) (hts _ q31) (fun _ h9 => h9) rfl dX1_path_58 ?_
        refine lv_iload_n hx hb dX1_path_61 rfl (lv_at hl 2 rfl) ?_
        refine bd_aldL hx hb hK hP 5 0 rfl rfl c2.1 c2.2 dX1_path_62 ?_
        refine lv_istore_n (lv' := [(3, .int (nI (ro i))), (0, .ref h), (1, .int (nI rt)), (2, .int (nI i))]) hx hb dX1_path_63 rfl hl (by decide) rfl (fun ls hl => ?_)
        refine lv_iconst (v := nI 0) hx hb dX1_path_64 (by decide) ?_
        refine lv_istore (lv' := [(4, .int (nI 0)), (3, .int (nI (ro i))), (0, .ref h), (1, .int (nI rt)), (2, .int (nI i))]) hx hb dX1_path_65 hl (by decide) rfl (fun ls hl => ?_)
        refine bd_path_in F hRf hf hA hK (i := i) (v := ro i) hrt c2.2 fr1 bs1 ro1 se1 dr1 mn1 r1 (fun H locs ls hP hD hS hl hse hmn => ⟨fun q => ?_, fun w' q hw' => ?_⟩) 10 0 fr bs ro se dr mn rfl hse hmn e1 H locs ls hP hD hS (lv_sub hl [2, 3, 4, 1, 0] rfl)
        · rw [q] at hrun
          refine lv_iinc (v := nI (i + 1)) (lv' := [(2, .int (nI (i + 1))), (0, .ref h), (1, .int (nI rt))]) hx hb dX1_path_216 hl (k := 2) rfl (nI_1 _) (by decide) rfl (fun ls hl => ?_)
          refine lv_goto (tgt := 49) hx hb dX1_path_219 (by decide) ?_
          exact ih (i + 1) _ _ _ _ _ _ (by omega) hse hmn hrun H locs ls hP hD hS (lv_sub hl [1, 2, 0] rfl)
        · rw [q] at hrun
          cases Option.some.inj hrun
          exact (kx H locs ls hP hD hS).2 w' rfl hw'
      · rw [if_neg c2] at hrun
        cases hrun
    · rw [if_neg c1] at hrun
      cases Option.some.inj hrun
      refine lv_icmp_ge (tgt := 222) hx hb dX1_path_54 (by decide) (fun _ => ?_) (fun c_ => absurd (nI_le (by omega) (by omega)) c_)
      exact (kx H locs ls hP hD hS).1 rfl
set_option maxHeartbeats 4000000 in
set_option maxRecDepth 100000 in
theorem bd_path_init (F : CallFix p m c cX1_path 5 s args lw_all RX1) (hK : va_K D bdCl [(d, .int)] s) {g mt ro : Nat → Nat} {al se dr mn rt : Nat} (kx : ∀ (H : Heap) (locs : List Loc) (ls : Array Slot), va_P D bdCl (bd_PW d h qb qm qf qs qr g mt (fun _ => 10) (fun j => j) ro al se dr mn) H → va_D A (bd_PW d h qb qm qf qs qr g mt (fun _ => 10) (fun j => j) ro al se dr mn) → va_S A H0 H locs → lv_has ls 5 [(0, .ref h), (1, .int (nI rt))] → W p l e R s m args below meth c H locs cells slots Q (F0 m 28 ls [])) :
    ∀ (k u : Nat) (fr bs : Nat → Nat), u + k = 10 → (∀ j, j < u → fr j = 10 ∧ bs j = j) → ∀ (H : Heap) (locs : List Loc) (ls : Array Slot), va_P D bdCl (bd_PW d h qb qm qf qs qr g mt fr bs ro al se dr mn) H → va_D A (bd_PW d h qb qm qf qs qr g mt fr bs ro al se dr mn) → va_S A H0 H locs → lv_has ls 5 [(0, .ref h), (1, .int (nI rt)), (2, .int (nI u))] → W p l e R s m args below meth c H locs cells slots Q (F0 m 2 ls []) := by
  obtain ⟨hx, hb, hml, hown, hts⟩ := id F
  intro k
  induction k with
  | zero =>
    intro u fr bs hu hI H locs ls hP hD hS hl
    refine lv_iload_n hx hb dX1_path_2 rfl (lv_at hl 2 rfl) ?_
    refine lv_bipush (v := nI 10) hx hb dX1_path_3 (by decide) ?_
    refine lv_icmp_ge (tgt := 28) hx hb dX1_path_5 (by decide) (fun _ => ?_) (fun c_ => absurd (nI_le (show 10 ≤ u by omega) (by omega)) c_)
    have hP1 := bd_P_ext (f' := bd_eA (fun _ => 10)) hP 3 rfl (fun j hj => by show bd_eN (fr j) = bd_eN 10; rw [(hI j (by omega)).1])
    have hP2 := bd_P_ext (f' := bd_eA (fun j => j)) hP1 4 rfl (fun j hj => by show bd_eN (bs j) = bd_eN j; rw [(hI j (by omega)).2])
    have hD1 := bd_D_ext hD 3 (.inl (d, 10, .inl (bd_eA (fun _ => 10)))) rfl
    have hD2 := bd_D_ext hD1 4 (.inl (d, 10, .inl (bd_eA (fun j => j)))) rfl
    exact kx H locs ls hP2 hD2 hS (lv_sub hl [0, 1] rfl)
  | succ k ih =>
    intro u fr bs hk hI H locs ls hP hD hS hl
    have hu : u < 10 := by omega
    refine lv_iload_n hx hb dX1_path_2 rfl (lv_at hl 2 rfl) ?_
    refine lv_bipush (v := nI 10) hx hb dX1_path_3 (by decide) ?_
    refine lv_icmp_ge (tgt := 28) hx hb dX1_path_5 (by decide) (fun c_ => absurd c_ (nI_ge hu (by decide))) (fun _ => ?_)
    refine lv_aload_n hx hb dX1_path_8 rfl (lv_at hl 0 rfl) ?_
    refine va_get (D := D) (ci := 1) (v := .ref qf) (C := RX1) (T := TX1) (N := 9) hx hb hts in_X1 hown hK hP 0 rfl rfl 2 (by decide) (hts _ q29) (fun _ h9 => h9) rfl dX1_path_9 ?_
    refine lv_iload_n hx hb dX1_path_12 rfl (lv_at hl 2 rfl) ?_
    refine lv_iconst (v := -1) hx hb dX1_path_13 (by decide) ?_
    refine bd_astE (v := 10) hx hb hK hP hD hS 3 0 rfl rfl (bd_eN_g (by decide)).symm hu dX1_path_14 (fun H locs hP hD hS => ?_)
    have hP : va_P D bdCl (bd_PW d h qb qm qf qs qr g mt (bd_up fr u 10) bs ro al se dr mn) H := hP
    have hD : va_D A (bd_PW d h qb qm qf qs qr g mt (bd_up fr u 10) bs ro al se dr mn) := hD
    refine lv_aload_n hx hb dX1_path_15 rfl (lv_at hl 0 rfl) ?_
    refine va_get (D := D) (ci := 1) (v := .ref qs) (C := RX1) (T := TX1) (N := 9) hx hb hts in_X1 hown hK hP 0 rfl rfl 3 (by decide) (hts _ q30) (fun _ h9 => h9) rfl dX1_path_16 ?_
    refine lv_iload_n hx hb dX1_path_19 rfl (lv_at hl 2 rfl) ?_
    refine lv_iload_n hx hb dX1_path_20 rfl (lv_at hl 2 rfl) ?_
    refine bd_astE (v := u) hx hb hK hP hD hS 4 0 rfl rfl (bd_eN_l hu).symm hu dX1_path_21 (fun H locs hP hD hS => ?_)
    have hP : va_P D bdCl (bd_PW d h qb qm qf qs qr g mt (bd_up fr u 10) (bd_up bs u u) ro al se dr mn) H := hP
    have hD : va_D A (bd_PW d h qb qm qf qs qr g mt (bd_up fr u 10) (bd_up bs u u) ro al se dr mn) := hD
    refine lv_iinc (v := nI (u + 1)) (lv' := [(2, .int (nI (u + 1))), (0, .ref h), (1, .int (nI rt))]) hx hb dX1_path_22 hl (k := 2) rfl (nI_1 _) (by decide) rfl (fun ls hl => ?_)
    refine lv_goto (tgt := 2) hx hb dX1_path_25 (by decide) ?_
    exact ih (u + 1) _ _ (by omega) (fun j hj => by
      by_cases e : j = u
      · rw [e, bd_up_s, bd_up_s]; exact ⟨rfl, rfl⟩
      · rw [bd_up_n e, bd_up_n e]; exact hI j (by omega)) H locs ls hP hD hS (lv_sub hl [1, 2, 0] rfl)
end WALK
set_option maxHeartbeats 4000000 in
set_option maxRecDepth 100000 in
theorem metX1_path (l : Launch) (D : va_G) (d : ClassId) (h qb qm qf qs qr : Nat) (g mt fr bs ro : Nat → Nat) (al se dr mn : Nat) (rt : Nat) (hrt : rt < 10) (fr' bs' ro' : Nat → Nat) (se' dr' mn' : Nat) (res : Option Nat) (hrun : bd_path g al mt rt (fr, bs, ro, se, dr, mn) = some ((fr', bs', ro', se', dr', mn'), res)) : bd_Ci l yX1_path cX1_path 5 .int ({ frames := 2, cells := 0, slots := 0, locals := 49 }) D [(d, .int)] [.ref h, .int (nI rt)] (bd_PW d h qb qm qf qs qr g mt fr bs ro al se dr mn) (fun r (_ : Unit) => r = bd_rv res ∧ ∀ w, res = some w → w < 10) (fun _ => bd_PW d h qb qm qf qs qr g mt fr' bs' ro' al se' dr' mn') := by
  intro sz
  refine bd_start (Qc := fun A => va_Qi (fun r (_ : Unit) => r = bd_rv res ∧ ∀ w, res = some w → w < 10) (fun u t => bd_Post D [(d, .int)] A ((fun _ => bd_PW d h qb qm qf qs qr g mt fr' bs' ro' al se' dr' mn') u) t) A) (by decide) (Nat.le_of_ble_eq_true rfl) ?_
  intro p e s m below meth c A ls hx hb hr hml hts hown hlocks hin hA hK hP hD hl
  have hS : va_S A s.heap s.heap [] := va_S.rf
  have hl : lv_has ls 5 [(0, .ref h), (1, .int (nI rt))] := hl
  refine lv_iconst (v := nI 0) hx hb dX1_path_0 (by decide) ?_
  refine lv_istore_n (lv' := [(2, .int (nI 0)), (0, .ref h), (1, .int (nI rt))]) hx hb dX1_path_1 rfl hl (by decide) rfl (fun ls hl => ?_)
  refine bd_path_init ⟨hx, hb, hml, hown, hts⟩ hK (fun H locs ls hP hD hS hl => ?_) 10 0 fr bs rfl (fun j hj => absurd hj (by omega)) _ _ ls hP hD hS (lv_sub hl [1, 2, 0] rfl)
  refine lv_aload_n hx hb dX1_path_28 rfl (lv_at hl 0 rfl) ?_
  refine lv_iconst (v := nI 1) hx hb dX1_path_29 (by decide) ?_
  refine lv_iload_n hx hb dX1_path_30 rfl (lv_at hl 1 rfl) ?_
  refine bd_ishl hx hb dX1_path_31 (Nat.lt_of_lt_of_le hrt (by decide)) ?_
  refine va_put (D := D) (ci := 1) (v := .int (nI (2 ^ rt))) (ty := .int) (C := RX1) (T := TX1) (N := 9) hx hb hts in_X1 tyX1 tyX1_ok nmX1 hown hK hP hD hS 0 rfl rfl 6 (by decide) (hts _ q33) (fun _ h9 => h9) rfl (by decide +kernel) rfl rfl (Nat.le_of_ble_eq_true rfl) dX1_path_32 (fun H locs hP hD hS => ?_)
  have hP : va_P D bdCl (bd_PW d h qb qm qf qs qr g mt (fun _ => 10) (fun j => j) ro al (2 ^ rt) dr mn) H := hP
  have hD : va_D A (bd_PW d h qb qm qf qs qr g mt (fun _ => 10) (fun j => j) ro al (2 ^ rt) dr mn) := hD
  refine lv_aload_n hx hb dX1_path_35 rfl (lv_at hl 0 rfl) ?_
  refine va_get (D := D) (ci := 1) (v := .ref qr) (C := RX1) (T := TX1) (N := 9) hx hb hts in_X1 hown hK hP 0 rfl rfl 4 (by decide) (hts _ q31) (fun _ h9 => h9) rfl dX1_path_36 ?_
  refine lv_iconst (v := nI 0) hx hb dX1_path_39 (by decide) ?_
  refine lv_iload_n hx hb dX1_path_40 rfl (lv_at hl 1 rfl) ?_
  refine bd_astE (v := rt) hx hb hK hP hD hS 5 0 rfl rfl (bd_eN_l hrt).symm (by decide) dX1_path_41 (fun H locs hP hD hS => ?_)
  have hP : va_P D bdCl (bd_PW d h qb qm qf qs qr g mt (fun _ => 10) (fun j => j) (bd_up ro 0 rt) al (2 ^ rt) dr mn) H := hP
  have hD : va_D A (bd_PW d h qb qm qf qs qr g mt (fun _ => 10) (fun j => j) (bd_up ro 0 rt) al (2 ^ rt) dr mn) := hD
  refine lv_aload_n hx hb dX1_path_42 rfl (lv_at hl 0 rfl) ?_
  refine lv_iconst (v := nI 1) hx hb dX1_path_43 (by decide) ?_
  refine va_put (D := D) (ci := 1) (v := .int (nI 1)) (ty := .int) (C := RX1) (T := TX1) (N := 9) hx hb hts in_X1 tyX1 tyX1_ok nmX1 hown hK hP hD hS 0 rfl rfl 8 (by decide) (hts _ q35) (fun _ h9 => h9) rfl (by decide +kernel) rfl rfl (Nat.le_of_ble_eq_true rfl) dX1_path_44 (fun H locs hP hD hS => ?_)
  have hP : va_P D bdCl (bd_PW d h qb qm qf qs qr g mt (fun _ => 10) (fun j => j) (bd_up ro 0 rt) al (2 ^ rt) dr 1) H := hP
  have hD : va_D A (bd_PW d h qb qm qf qs qr g mt (fun _ => 10) (fun j => j) (bd_up ro 0 rt) al (2 ^ rt) dr 1) := hD
  refine lv_iconst (v := nI 0) hx hb dX1_path_47 (by decide) ?_
  refine lv_istore_n (lv' := [(2, .int (nI 0)), (0, .ref h), (1, .int (nI rt))]) hx hb dX1_path_48 rfl hl (by decide) rfl (fun ls hl => ?_)
  refine bd_path_out ⟨hx, hb, hml, hown, hts⟩ ⟨Nat.le_of_ble_eq_true rfl, Nat.le_of_ble_eq_true rfl⟩ ⟨Nat.le_refl _, Nat.le_refl _⟩ hA hK hrt fr' bs' ro' se' dr' mn' res (fun H locs ls hP hD hS => ⟨fun q => ?_, fun w' q hw' => ?_⟩) 11 0 _ _ _ _ dr 1 (by omega) (bd_pw_lt hrt) (by omega) hrun H locs ls hP hD hS (lv_sub hl [1, 2, 0] rfl)
  · refine lv_iconst (v := -1) hx hb dX1_path_222 (by decide) ?_
    exact bd_iret hx hb hr rfl hlocks () ⟨by rw [q]; rfl, fun w z => by rw [q] at z; cases z⟩ hK hP hD hS dX1_path_223
  · exact bd_iret hx hb hr rfl hlocks () ⟨by rw [q]; rfl, fun w z => by rw [q] at z; cases z; exact hw'⟩ hK hP hD hS dX1_path_198
end
section
/-! PAIRING: most and the constructor -/
section WALK
variable {p : Program} {l : Launch} {e : Env} {R : Room} {s : State} {m : MethodId} {args : Array Value} {below : List Frame} {meth : Method} {c : Code} {cells slots : Nat} {Q : State → Prop} {D : va_G} {A : Nat → Prop} {H0 : Heap} {d : ClassId} {h qb qm qf qs qr : Nat}
set_option maxHeartbeats 4000000 in
set_option maxRecDepth 100000 in
theorem bd_most_init (F : CallFix p m c cX1_most 5 s args lw_all RX1) (hK : va_K D bdCl [(d, .int)] s) {g fr bs ro : Nat → Nat} {al se dr mn : Nat} (kx : ∀ (H : Heap) (locs : List Loc) (ls : Array Slot), va_P D bdCl (bd_PW d h qb qm qf qs qr g (fun _ => 10) fr bs ro al se dr mn) H → va_D A (bd_PW d h qb qm qf qs qr g (fun _ => 10) fr bs ro al se dr mn) → va_S A H0 H locs → lv_has ls 5 [(0, .ref h), (1, .int (nI al)), (2, .int (nI 0))] → W p l e R s m args below meth c H locs cells slots Q (F0 m 28 ls [])) :
    ∀ (k u : Nat) (mt : Nat → Nat), u + k = 10 → (∀ j, j < u → mt j = 10) → ∀ (H : Heap) (locs : List Loc) (ls : Array Slot), va_P D bdCl (bd_PW d h qb qm qf qs qr g mt fr bs ro al se dr mn) H → va_D A (bd_PW d h qb qm qf qs qr g mt fr bs ro al se dr mn) → va_S A H0 H locs → lv_has ls 5 [(0, .ref h), (1, .int (nI al)), (2, .int (nI 0)), (3, .int (nI u))] → W p l e R s m args below meth c H locs cells slots Q (F0 m 9 ls []) := by
  obtain ⟨hx, hb, hml, hown, hts⟩ := id F
  intro k
  induction k with
  | zero =>
    intro u mt hu hI H locs ls hP hD hS hl
    refine lv_iload_n hx hb dX1_most_9 rfl (lv_at hl 3 rfl) ?_
    refine lv_bipush (v := nI 10) hx hb dX1_most_10 (by decide) ?_
    refine lv_icmp_ge (tgt := 28) hx hb dX1_most_12 (by decide) (fun _ => ?_) (fun c_ => absurd (nI_le (show 10 ≤ u by omega) (by omega)) c_)
    have hP1 := bd_P_ext (f' := bd_eA (fun _ => 10)) hP 2 rfl (fun j hj => by show bd_eN (mt j) = bd_eN 10; rw [hI j (by omega)])
    have hD1 := bd_D_ext hD 2 (.inl (d, 10, .inl (bd_eA (fun _ => 10)))) rfl
    exact kx H locs ls hP1 hD1 hS (lv_sub hl [0, 1, 2] rfl)
  | succ k ih =>
    intro u mt hk hI H locs ls hP hD hS hl
    have hu : u < 10 := by omega
    refine lv_iload_n hx hb dX1_most_9 rfl (lv_at hl 3 rfl) ?_
    refine lv_bipush (v := nI 10) hx hb dX1_most_10 (by decide) ?_
    refine lv_icmp_ge (tgt := 28) hx hb dX1_most_12 (by decide) (fun c_ => absurd c_ (nI_ge hu (by decide))) (fun _ => ?_)
    refine lv_aload_n hx hb dX1_most_15 rfl (lv_at hl 0 rfl) ?_
    refine va_get (D := D) (ci := 1) (v := .ref qm) (C := RX1) (T := TX1) (N := 9) hx hb hts in_X1 hown hK hP 0 rfl rfl 1 (by decide) (hts _ q28) (fun _ h9 => h9) rfl dX1_most_16 ?_
    refine lv_iload_n hx hb dX1_most_19 rfl (lv_at hl 3 rfl) ?_
    refine lv_iconst (v := -1) hx hb dX1_most_20 (by decide) ?_
    refine bd_astE (v := 10) hx hb hK hP hD hS 2 0 rfl rfl (bd_eN_g (by decide)).symm hu dX1_most_21 (fun H locs hP hD hS => ?_)
    have hP : va_P D bdCl (bd_PW d h qb qm qf qs qr g (bd_up mt u 10) fr bs ro al se dr mn) H := hP
    have hD : va_D A (bd_PW d h qb qm qf qs qr g (bd_up mt u 10) fr bs ro al se dr mn) := hD
    refine lv_iinc (v := nI (u + 1)) (lv' := [(3, .int (nI (u + 1))), (0, .ref h), (1, .int (nI al)), (2, .int (nI 0))]) hx hb dX1_most_22 hl (k := 3) rfl (nI_1 _) (by decide) rfl (fun ls hl => ?_)
    refine lv_goto (tgt := 9) hx hb dX1_most_25 (by decide) ?_
    exact ih (u + 1) _ (by omega) (fun j hj => by
      by_cases e : j = u
      · rw [e, bd_up_s]
      · rw [bd_up_n e]; exact hI j (by omega)) H locs ls hP hD hS (lv_sub hl [1, 2, 3, 0] rfl)
set_option maxHeartbeats 4000000 in
set_option maxRecDepth 100000 in
theorem bd_most_lp (F : CallFix p m c cX1_most 5 s args lw_all RX1) (hRf : 3 ≤ R.frames ∧ 73 ≤ R.locals) (hf : cells ≤ R.cells ∧ slots ≤ R.slots) (hA : ∀ q, H0.size ≤ q → A q) (hK : va_K D bdCl [(d, .int)] s) {g : Nat → Nat} {al : Nat} (hal : al < 1024) (mt' fr' bs' ro' : Nat → Nat) (se' dr' mn' n' : Nat)
    (kx : ∀ (H : Heap) (locs : List Loc) (ls : Array Slot), va_P D bdCl (bd_PW d h qb qm qf qs qr g mt' fr' bs' ro' al se' dr' mn') H → va_D A (bd_PW d h qb qm qf qs qr g mt' fr' bs' ro' al se' dr' mn') → va_S A H0 H locs → lv_has ls 5 [(2, .int (nI n'))] → W p l e R s m args below meth c H locs cells slots Q (F0 m 86 ls [])) :
    ∀ (k v : Nat) (mt fr bs ro : Nat → Nat) (se dr mn n : Nat), v + k = 10 → bd_ml g al k mt (fr, bs, ro, se, dr, mn) n = some (mt', (fr', bs', ro', se', dr', mn'), n') → ∀ (H : Heap) (locs : List Loc) (ls : Array Slot), va_P D bdCl (bd_PW d h qb qm qf qs qr g mt fr bs ro al se dr mn) H → va_D A (bd_PW d h qb qm qf qs qr g mt fr bs ro al se dr mn) → va_S A H0 H locs → lv_has ls 5 [(0, .ref h), (1, .int (nI al)), (2, .int (nI n)), (3, .int (nI v))] → W p l e R s m args below meth c H locs cells slots Q (F0 m 30 ls []) := by
  obtain ⟨hx, hb, hml, hown, hts⟩ := id F
  intro k
  induction k with
  | zero =>
    intro v mt fr bs ro se dr mn n hu hrun H locs ls hP hD hS hl
    unfold bd_ml at hrun
    cases Option.some.inj hrun
    refine lv_iload_n hx hb dX1_most_30 rfl (lv_at hl 3 rfl) ?_
    refine lv_bipush (v := nI 10) hx hb dX1_most_31 (by decide) ?_
    refine lv_icmp_ge (tgt := 86) hx hb dX1_most_33 (by decide) (fun _ => ?_) (fun c_ => absurd (nI_le (show 10 ≤ v by omega) (by omega)) c_)
    exact kx H locs ls hP hD hS (lv_sub hl [2] rfl)
  | succ k ih =>
    intro v mt fr bs ro se dr mn n hk hrun H locs ls hP hD hS hl
    have hv : v < 10 := by omega
    unfold bd_ml at hrun
    rw [show 9 - k = v by omega] at hrun
    refine lv_iload_n hx hb dX1_most_30 rfl (lv_at hl 3 rfl) ?_
    refine lv_bipush (v := nI 10) hx hb dX1_most_31 (by decide) ?_
    refine lv_icmp_ge (tgt := 86) hx hb dX1_most_33 (by decide) (fun c_ => absurd c_ (nI_ge hv (by decide))) (fun _ => ?_)
    refine lv_iload_n hx hb dX1_most_36 rfl (lv_at hl 1 rfl) ?_
    refine lv_iload_n hx hb dX1_most_37 rfl (lv_at hl 3 rfl) ?_
    refine bd_ishr hx hb dX1_most_38 (bd_31' hal) (Nat.lt_of_lt_of_le hv (by decide)) ?_
    refine lv_iconst (v := nI 1) hx hb dX1_most_39 (by decide) ?_
    refine bd_iand1 hx hb dX1_most_40 (bd_31' hal) ?_
    refine lv_iconst (v := nI 1) hx hb dX1_most_41 (by decide) ?_
    by_cases c1 : al.testBit v = true
    · refine lv_icmp_ne (tgt := 80) hx hb dX1_most_42 (by decide) (fun c_ => absurd (bd_b1 c1) c_) (fun _ => ?_)
      refine lv_aload_n hx hb dX1_most_45 rfl (lv_at hl 0 rfl) ?_
      refine va_get (D := D) (ci := 1) (v := .ref qm) (C := RX1) (T := TX1) (N := 9) hx hb hts in_X1 hown hK hP 0 rfl rfl 1 (by decide) (hts _ q28) (fun _ h9 => h9) rfl dX1_most_46 ?_
      refine lv_iload_n hx hb dX1_most_49 rfl (lv_at hl 3 rfl) ?_
      refine bd_aldE hx hb hK hP 2 0 rfl rfl hv dX1_most_50 ?_
      refine lv_iconst (v := -1) hx hb dX1_most_51 (by decide) ?_
      by_cases c2 : mt v < 10
      · rw [if_neg (fun q => q.2 c2)] at hrun
        refine lv_icmp_ne (tgt := 80) hx hb dX1_most_52 (by decide) (fun _ => ?_) (fun c_ => absurd c_ (by rw [bd_eN_l c2]; exact bd_nm1 (bd_31 c2)))
        refine lv_iinc (v := nI (v + 1)) (lv' := [(3, .int (nI (v + 1))), (0, .ref h), (1, .int (nI al)), (2, .int (nI n))]) hx hb dX1_most_80 hl (k := 3) rfl (nI_1 _) (by decide) rfl (fun ls hl => ?_)
        refine lv_goto (tgt := 30) hx hb dX1_most_83 (by decide) ?_
        exact ih (v + 1) _ _ _ _ _ _ _ _ (by omega) hrun H locs ls hP hD hS (lv_sub hl [1, 2, 3, 0] rfl)
      · rw [if_pos ⟨c1, c2⟩] at hrun
        obtain ⟨⟨⟨fr1, bs1, ro1, se1, dr1, mn1⟩, res⟩, e1, hrun⟩ := Option.bind_eq_some_iff.mp hrun
        refine lv_icmp_ne (tgt := 80) hx hb dX1_most_52 (by decide) (fun c_ => absurd (bd_eN_g c2) c_) (fun _ => ?_)
        refine lv_aload_n hx hb dX1_most_55 rfl (lv_at hl 0 rfl) ?_
        refine lv_iload_n hx hb dX1_most_56 rfl (lv_at hl 3 rfl) ?_
        cases res with
        | none =>
          replace hrun : bd_ml g al k mt (fr1, bs1, ro1, se1, dr1, mn1) n = _ := hrun
          refine bd_calli (wr := []) (rest := []) ⟨hx, hb, hml, hown, hts⟩ (metX1_path l D d h qb qm qf qs qr g mt fr bs ro al se dr mn v hv fr1 bs1 ro1 se1 dr1 mn1 none e1 _) (cwV 1 hts (lw_V q97 q99 qs1 q11 q100) rfl rfl rfl (by decide +kernel) ⟨hRf.1, hRf.2⟩) hK hP hD hS hA [0, 1, 2, 3, 4, 5] [] [0] rfl rfl rfl rfl rfl rfl (by decide) (ci := 1) (q0 := 0) rfl rfl rfl hl.1 rfl (Nat.le_of_ble_eq_true rfl) dX1_most_57 hf (fun r_ u_ H locs hw_ hP hD hS => ?_)
          have hw1 : r_ = -1 := hw_.1
          have hw2 := hw_.2
          subst hw1
          have hP : va_P D bdCl (bd_PW d h qb qm qf qs qr g mt fr1 bs1 ro1 al se1 dr1 mn1) H := hP
          have hD : va_D A (bd_PW d h qb qm qf qs qr g mt fr1 bs1 ro1 al se1 dr1 mn1) := hD
          refine lv_istore (lv' := [(4, .int (-1)), (0, .ref h), (1, .int (nI al)), (2, .int (nI n)), (3, .int (nI v))]) hx hb dX1_most_60 hl (by decide) rfl (fun ls hl => ?_)
          refine lv_iload hx hb dX1_most_62 (lv_at hl 0 rfl) ?_
          refine lv_iconst (v := -1) hx hb dX1_most_64 (by decide) ?_
          refine lv_icmp_ne (tgt := 71) hx hb dX1_most_65 (by decide) (fun c_ => absurd rfl c_) (fun _ => ?_)
          refine lv_goto (tgt := 80) hx hb dX1_most_68 (by decide) ?_
          refine lv_iinc (v := nI (v + 1)) (lv' := [(3, .int (nI (v + 1))), (4, .int (-1)), (0, .ref h), (1, .int (nI al)), (2, .int (nI n))]) hx hb dX1_most_80 hl (k := 4) rfl (nI_1 _) (by decide) rfl (fun ls hl => ?_)
          refine lv_goto (tgt := 30) hx hb dX1_most_83 (by decide) ?_
          exact ih (v + 1) _ _ _ _ _ _ _ _ (by omega) hrun H locs ls hP hD hS (lv_sub hl [2, 3, 4, 0] rfl)
        | some w =>
          replace hrun : (bd_turn fr1 11 mt w).bind (fun m1 => bd_ml g al k m1 (fr1, bs1, ro1, se1, dr1, mn1) (n + 1)) = _ := hrun
          obtain ⟨mt1, e2, hrun⟩ := Option.bind_eq_some_iff.mp hrun
          refine bd_calli (wr := []) (rest := []) ⟨hx, hb, hml, hown, hts⟩ (metX1_path l D d h qb qm qf qs qr g mt fr bs ro al se dr mn v hv fr1 bs1 ro1 se1 dr1 mn1 (some w) e1 _) (cwV 1 hts (lw_V q97 q99 qs1 q11 q100) rfl rfl rfl (by decide +kernel) ⟨hRf.1, hRf.2⟩) hK hP hD hS hA [0, 1, 2, 3, 4, 5] [] [0] rfl rfl rfl rfl rfl rfl (by decide) (ci := 1) (q0 := 0) rfl rfl rfl hl.1 rfl (Nat.le_of_ble_eq_true rfl) dX1_most_57 hf (fun r_ u_ H locs hw_ hP hD hS => ?_)
          have hw1 : r_ = nI w := hw_.1
          have hw2 := hw_.2
          subst hw1
          have hP : va_P D bdCl (bd_PW d h qb qm qf qs qr g mt fr1 bs1 ro1 al se1 dr1 mn1) H := hP
          have hD : va_D A (bd_PW d h qb qm qf qs qr g mt fr1 bs1 ro1 al se1 dr1 mn1) := hD
          have hw := hw2 w rfl
          refine lv_istore (lv' := [(4, .int (nI w)), (0, .ref h), (1, .int (nI al)), (2, .int (nI n)), (3, .int (nI v))]) hx hb dX1_most_60 hl (by decide) rfl (fun ls hl => ?_)
          refine lv_iload hx hb dX1_most_62 (lv_at hl 0 rfl) ?_
          refine lv_iconst (v := -1) hx hb dX1_most_64 (by decide) ?_
          refine lv_icmp_ne (tgt := 71) hx hb dX1_most_65 (by decide) (fun _ => ?_) (fun c_ => absurd c_ (bd_nm1 (bd_31 hw)))
          refine lv_aload_n hx hb dX1_most_71 rfl (lv_at hl 1 rfl) ?_
          refine lv_iload hx hb dX1_most_72 (lv_at hl 0 rfl) ?_
          refine bd_callv (wr := []) (rest := []) ⟨hx, hb, hml, hown, hts⟩ (metX1_turn l D d h qb qm qf qs qr g mt fr1 bs1 ro1 al se1 dr1 mn1 w hw mt1 11 e2 _) (cwV 1 hts (lw_V q117 q119 qs6 q11 q120) rfl rfl rfl (by decide +kernel) ⟨Nat.le_trans (by decide) hRf.1, Nat.le_trans (by decide) hRf.2⟩) hK hP hD hS hA [0, 1, 2, 3, 4, 5] [] [0] rfl rfl rfl rfl rfl rfl (by decide) (ci := 1) (q0 := 0) rfl rfl rfl hl.1 rfl (Nat.le_of_ble_eq_true rfl) dX1_most_74 hf (fun u_ H locs hw_ hP hD hS => ?_)
          have hP : va_P D bdCl (bd_PW d h qb qm qf qs qr g mt1 fr1 bs1 ro1 al se1 dr1 mn1) H := hP
          have hD : va_D A (bd_PW d h qb qm qf qs qr g mt1 fr1 bs1 ro1 al se1 dr1 mn1) := hD
          refine lv_iinc (v := nI (n + 1)) (lv' := [(2, .int (nI (n + 1))), (4, .int (nI w)), (0, .ref h), (1, .int (nI al)), (3, .int (nI v))]) hx hb dX1_most_77 hl (k := 3) rfl (nI_1 _) (by decide) rfl (fun ls hl => ?_)
          refine lv_iinc (v := nI (v + 1)) (lv' := [(3, .int (nI (v + 1))), (2, .int (nI (n + 1))), (4, .int (nI w)), (0, .ref h), (1, .int (nI al))]) hx hb dX1_most_80 hl (k := 4) rfl (nI_1 _) (by decide) rfl (fun ls hl => ?_)
          refine lv_goto (tgt := 30) hx hb dX1_most_83 (by decide) ?_
          exact ih (v + 1) _ _ _ _ _ _ _ _ (by omega) hrun H locs ls hP hD hS (lv_sub hl [3, 4, 1, 0] rfl)
    · rw [if_neg (fun q => c1 q.1)] at hrun
      refine lv_icmp_ne (tgt := 80) hx hb dX1_most_42 (by decide) (fun _ => ?_) (fun c_ => absurd c_ (bd_b0 c1))
      refine lv_iinc (v := nI (v + 1)) (lv' := [(3, .int (nI (v + 1))), (0, .ref h), (1, .int (nI al)), (2, .int (nI n))]) hx hb dX1_most_80 hl (k := 3) rfl (nI_1 _) (by decide) rfl (fun ls hl => ?_)
      refine lv_goto (tgt := 30) hx hb dX1_most_83 (by decide) ?_
      exact ih (v + 1) _ _ _ _ _ _ _ _ (by omega) hrun H locs ls hP hD hS (lv_sub hl [1, 2, 3, 0] rfl)
end WALK
set_option maxHeartbeats 4000000 in
set_option maxRecDepth 100000 in
theorem metX1_most (l : Launch) (D : va_G) (d : ClassId) (h qb qm qf qs qr : Nat) (g mt fr bs ro : Nat → Nat) (al se dr mn : Nat) (al0 : Nat) (hal : al < 1024) (mt' fr' bs' ro' : Nat → Nat) (se' dr' mn' n' : Nat) (hrun : bd_most g al (fr, bs, ro, se, dr, mn) = some (mt', (fr', bs', ro', se', dr', mn'), n')) : bd_Ci l yX1_most cX1_most 5 .int ({ frames := 3, cells := 0, slots := 0, locals := 73 }) D [(d, .int)] [.ref h, .int (nI al)] (bd_PW d h qb qm qf qs qr g mt fr bs ro al0 se dr mn) (fun r (_ : Unit) => r = nI n') (fun _ => bd_PW d h qb qm qf qs qr g mt' fr' bs' ro' al se' dr' mn') := by
  intro sz
  refine bd_start (Qc := fun A => va_Qi (fun r (_ : Unit) => r = nI n') (fun u t => bd_Post D [(d, .int)] A ((fun _ => bd_PW d h qb qm qf qs qr g mt' fr' bs' ro' al se' dr' mn') u) t) A) (by decide) (Nat.le_of_ble_eq_true rfl) ?_
  intro p e s m below meth c A ls hx hb hr hml hts hown hlocks hin hA hK hP hD hl
  have hS : va_S A s.heap s.heap [] := va_S.rf
  have hl : lv_has ls 5 [(0, .ref h), (1, .int (nI al))] := hl
  refine lv_aload_n hx hb dX1_most_0 rfl (lv_at hl 0 rfl) ?_
  refine lv_iload_n hx hb dX1_most_1 rfl (lv_at hl 1 rfl) ?_
  refine va_put (D := D) (ci := 1) (v := .int (nI al)) (ty := .int) (C := RX1) (T := TX1) (N := 9) hx hb hts in_X1 tyX1 tyX1_ok nmX1 hown hK hP hD hS 0 rfl rfl 5 (by decide) (hts _ q32) (fun _ h9 => h9) rfl (by decide +kernel) rfl rfl (Nat.le_of_ble_eq_true rfl) dX1_most_2 (fun H locs hP hD hS => ?_)
  have hP : va_P D bdCl (bd_PW d h qb qm qf qs qr g mt fr bs ro al se dr mn) H := hP
  have hD : va_D A (bd_PW d h qb qm qf qs qr g mt fr bs ro al se dr mn) := hD
  refine lv_iconst (v := nI 0) hx hb dX1_most_5 (by decide) ?_
  refine lv_istore_n (lv' := [(2, .int (nI 0)), (0, .ref h), (1, .int (nI al))]) hx hb dX1_most_6 rfl hl (by decide) rfl (fun ls hl => ?_)
  refine lv_iconst (v := nI 0) hx hb dX1_most_7 (by decide) ?_
  refine lv_istore_n (lv' := [(3, .int (nI 0)), (2, .int (nI 0)), (0, .ref h), (1, .int (nI al))]) hx hb dX1_most_8 rfl hl (by decide) rfl (fun ls hl => ?_)
  refine bd_most_init ⟨hx, hb, hml, hown, hts⟩ hK (fun H locs ls hP hD hS hl => ?_) 10 0 mt rfl (fun j hj => absurd hj (by omega)) H locs ls hP hD hS (lv_sub hl [2, 3, 1, 0] rfl)
  refine lv_iconst (v := nI 0) hx hb dX1_most_28 (by decide) ?_
  refine lv_istore_n (lv' := [(3, .int (nI 0)), (0, .ref h), (1, .int (nI al)), (2, .int (nI 0))]) hx hb dX1_most_29 rfl hl (by decide) rfl (fun ls hl => ?_)
  refine bd_most_lp ⟨hx, hb, hml, hown, hts⟩ ⟨Nat.le_of_ble_eq_true rfl, Nat.le_of_ble_eq_true rfl⟩ ⟨Nat.le_refl _, Nat.le_refl _⟩ hA hK hal mt' fr' bs' ro' se' dr' mn' n' (fun H locs ls hP hD hS hl => ?_) 10 0 _ fr bs ro se dr mn 0 rfl hrun H locs ls hP hD hS (lv_sub hl [1, 2, 3, 0] rfl)
  refine lv_iload_n hx hb dX1_most_86 rfl (lv_at hl 0 rfl) ?_
  exact bd_iret hx hb hr rfl hlocks () rfl hK hP hD hS dX1_most_87
theorem bd_same {D : va_G} {cl : List vw_C} {d cA : ClassId} {s : State} {tys : List (ClassId × FieldType)} (hK : va_K D cl tys s) {ty : FieldType} (hty : ty = .int ∨ ty = .boolean) (i j : Nat) (hi : tys[i]? = some (d, ty)) (hj : tys[j]? = some (cA, ty)) : cA = d := by
  have h1 := (hK.2 i _ hi).2
  have h2 := (hK.2 j _ hj).2
  rcases hty with rfl | rfl
  · exact Option.some.inj (h2.symm.trans h1)
  · exact Option.some.inj (h2.symm.trans h1)
set_option maxHeartbeats 4000000 in
set_option maxRecDepth 100000 in
theorem metX1_init (l : Launch) (D : va_G) (d : ClassId) (h qb : Nat) (g : Nat → Nat) (sz : Nat) : Met l yX1_init (ws_ yX1_init cX1_init 2 none) ({ frames := 1, cells := 4, slots := 40, locals := 12 }) (va_Pc [.ref h, .ref qb] (bd_Pre D [(d, .int)] ([(h, .inr (1, [.null, .null, .null, .null, .null, .int 0, .int 0, .int 0, .int 0])), (qb, .inl (d, 10, .inl (bd_nA g)))]) sz)) (va_Qv (fun _ : Nat × Nat × Nat × Nat => True) (fun u t => bd_Post D [(d, .int)] (va_A ([(h, .inr (1, [.null, .null, .null, .null, .null, .int 0, .int 0, .int 0, .int 0])), (qb, .inl (d, 10, .inl (bd_nA g)))]) sz) (bd_PW d h qb u.1 u.2.1 u.2.2.1 u.2.2.2 g (fun _ => 0) (fun _ => 0) (fun _ => 0) (fun _ => 0) 0 0 0 0) t) (va_A ([(h, .inr (1, [.null, .null, .null, .null, .null, .int 0, .int 0, .int 0, .int 0])), (qb, .inl (d, 10, .inl (bd_nA g)))]) sz)) 4 40 (va_A ([(h, .inr (1, [.null, .null, .null, .null, .null, .int 0, .int 0, .int 0, .int 0])), (qb, .inl (d, 10, .inl (bd_nA g)))]) sz) := by
  refine bd_start (Qc := fun A => va_Qv (fun _ : Nat × Nat × Nat × Nat => True) (fun u t => bd_Post D [(d, .int)] A (bd_PW d h qb u.1 u.2.1 u.2.2.1 u.2.2.2 g (fun _ => 0) (fun _ => 0) (fun _ => 0) (fun _ => 0) 0 0 0 0) t) A) (by decide) (Nat.le_of_ble_eq_true rfl) ?_
  intro p e s m below meth c A ls hx hb hr hml hts hown hlocks hin hA hK hP hD hl
  have hS : va_S A s.heap s.heap [] := va_S.rf
  have hl : lv_has ls 2 [(0, .ref h), (1, .ref qb)] := hl
  refine lv_aload_n hx hb dX1_init_0 rfl (lv_at hl 0 rfl) ?_
  refine W.objInit hx hb hown (hts _ q26) (hts _ q19) (hts _ q20) rfl (by rw [hml]; exact hl.1) rfl dX1_init_1 (Nat.le_of_ble_eq_true rfl) (Nat.le_of_ble_eq_true rfl) ?_
  refine W.eq (g2 := F0 m 4 ls []) rfl ?_
  refine lv_aload_n hx hb dX1_init_4 rfl (lv_at hl 0 rfl) ?_
  refine lv_bipush (v := nI 10) hx hb dX1_init_5 (by decide) ?_
  refine va_newa (atype := .int) (a0 := (10, .inl (bd_eA (fun _ => 0)))) hx hb (hts _ q55) (ty := .int) rfl hK hP hD hS hA (fun cA => rfl) (by decide) (N' := 10) (by decide) (by decide) (Nat.le_of_ble_eq_true rfl) (Nat.le_of_ble_eq_true rfl) dX1_init_7 (fun qm cA H hK1 hP hD hS => ?_)
  obtain rfl : d = cA := (bd_same hK1 (Or.inl rfl) 0 1 rfl rfl).symm
  have hP : va_P D bdCl ([(h, .inr (1, [.null, .null, .null, .null, .null, .int 0, .int 0, .int 0, .int 0])), (qb, .inl (d, 10, .inl (bd_nA g))), (qm, .inl (d, 10, .inl (bd_eA (fun _ => 0))))]) H := hP
  have hD : va_D A ([(h, .inr (1, [.null, .null, .null, .null, .null, .int 0, .int 0, .int 0, .int 0])), (qb, .inl (d, 10, .inl (bd_nA g))), (qm, .inl (d, 10, .inl (bd_eA (fun _ => 0))))]) := hD
  refine va_putF (D := D) (ci := 1) (v := .ref qm) (ty := .array .int) (C := RX1) (T := TX1) (N := 9) hx hb hts in_X1 tyX1 tyX1_ok nmX1 hown hK hP hD hS 0 rfl rfl 1 (by decide) (hts _ q28) (fun _ h9 => h9) rfl hin rfl (by decide +kernel) rfl rfl (Nat.le_of_ble_eq_true rfl) dX1_init_9 (fun H locs hP hD hS => ?_)
  have hP : va_P D bdCl ([(h, .inr (1, [.null, .ref qm, .null, .null, .null, .int 0, .int 0, .int 0, .int 0])), (qb, .inl (d, 10, .inl (bd_nA g))), (qm, .inl (d, 10, .inl (bd_eA (fun _ => 0))))]) H := hP
  have hD : va_D A ([(h, .inr (1, [.null, .ref qm, .null, .null, .null, .int 0, .int 0, .int 0, .int 0])), (qb, .inl (d, 10, .inl (bd_nA g))), (qm, .inl (d, 10, .inl (bd_eA (fun _ => 0))))]) := hD
  refine lv_aload_n hx hb dX1_init_12 rfl (lv_at hl 0 rfl) ?_
  refine lv_bipush (v := nI 10) hx hb dX1_init_13 (by decide) ?_
  refine va_newa (atype := .int) (a0 := (10, .inl (bd_eA (fun _ => 0)))) hx hb (hts _ q55) (ty := .int) rfl hK hP hD hS hA (fun cA => rfl) (by decide) (N' := 10) (by decide) (by decide) (Nat.le_of_ble_eq_true rfl) (Nat.le_of_ble_eq_true rfl) dX1_init_15 (fun qf cA H hK1 hP hD hS => ?_)
  obtain rfl : d = cA := (bd_same hK1 (Or.inl rfl) 0 1 rfl rfl).symm
  have hP : va_P D bdCl ([(h, .inr (1, [.null, .ref qm, .null, .null, .null, .int 0, .int 0, .int 0, .int 0])), (qb, .inl (d, 10, .inl (bd_nA g))), (qm, .inl (d, 10, .inl (bd_eA (fun _ => 0)))), (qf, .inl (d, 10, .inl (bd_eA (fun _ => 0))))]) H := hP
  have hD : va_D A ([(h, .inr (1, [.null, .ref qm, .null, .null, .null, .int 0, .int 0, .int 0, .int 0])), (qb, .inl (d, 10, .inl (bd_nA g))), (qm, .inl (d, 10, .inl (bd_eA (fun _ => 0)))), (qf, .inl (d, 10, .inl (bd_eA (fun _ => 0))))]) := hD
  refine va_putF (D := D) (ci := 1) (v := .ref qf) (ty := .array .int) (C := RX1) (T := TX1) (N := 9) hx hb hts in_X1 tyX1 tyX1_ok nmX1 hown hK hP hD hS 0 rfl rfl 2 (by decide) (hts _ q29) (fun _ h9 => h9) rfl hin rfl (by decide +kernel) rfl rfl (Nat.le_of_ble_eq_true rfl) dX1_init_17 (fun H locs hP hD hS => ?_)
  have hP : va_P D bdCl ([(h, .inr (1, [.null, .ref qm, .ref qf, .null, .null, .int 0, .int 0, .int 0, .int 0])), (qb, .inl (d, 10, .inl (bd_nA g))), (qm, .inl (d, 10, .inl (bd_eA (fun _ => 0)))), (qf, .inl (d, 10, .inl (bd_eA (fun _ => 0))))]) H := hP
  have hD : va_D A ([(h, .inr (1, [.null, .ref qm, .ref qf, .null, .null, .int 0, .int 0, .int 0, .int 0])), (qb, .inl (d, 10, .inl (bd_nA g))), (qm, .inl (d, 10, .inl (bd_eA (fun _ => 0)))), (qf, .inl (d, 10, .inl (bd_eA (fun _ => 0))))]) := hD
  refine lv_aload_n hx hb dX1_init_20 rfl (lv_at hl 0 rfl) ?_
  refine lv_bipush (v := nI 10) hx hb dX1_init_21 (by decide) ?_
  refine va_newa (atype := .int) (a0 := (10, .inl (bd_eA (fun _ => 0)))) hx hb (hts _ q55) (ty := .int) rfl hK hP hD hS hA (fun cA => rfl) (by decide) (N' := 10) (by decide) (by decide) (Nat.le_of_ble_eq_true rfl) (Nat.le_of_ble_eq_true rfl) dX1_init_23 (fun qs cA H hK1 hP hD hS => ?_)
  obtain rfl : d = cA := (bd_same hK1 (Or.inl rfl) 0 1 rfl rfl).symm
  have hP : va_P D bdCl ([(h, .inr (1, [.null, .ref qm, .ref qf, .null, .null, .int 0, .int 0, .int 0, .int 0])), (qb, .inl (d, 10, .inl (bd_nA g))), (qm, .inl (d, 10, .inl (bd_eA (fun _ => 0)))), (qf, .inl (d, 10, .inl (bd_eA (fun _ => 0)))), (qs, .inl (d, 10, .inl (bd_eA (fun _ => 0))))]) H := hP
  have hD : va_D A ([(h, .inr (1, [.null, .ref qm, .ref qf, .null, .null, .int 0, .int 0, .int 0, .int 0])), (qb, .inl (d, 10, .inl (bd_nA g))), (qm, .inl (d, 10, .inl (bd_eA (fun _ => 0)))), (qf, .inl (d, 10, .inl (bd_eA (fun _ => 0)))), (qs, .inl (d, 10, .inl (bd_eA (fun _ => 0))))]) := hD
  refine va_putF (D := D) (ci := 1) (v := .ref qs) (ty := .array .int) (C := RX1) (T := TX1) (N := 9) hx hb hts in_X1 tyX1 tyX1_ok nmX1 hown hK hP hD hS 0 rfl rfl 3 (by decide) (hts _ q30) (fun _ h9 => h9) rfl hin rfl (by decide +kernel) rfl rfl (Nat.le_of_ble_eq_true rfl) dX1_init_25 (fun H locs hP hD hS => ?_)
  have hP : va_P D bdCl ([(h, .inr (1, [.null, .ref qm, .ref qf, .ref qs, .null, .int 0, .int 0, .int 0, .int 0])), (qb, .inl (d, 10, .inl (bd_nA g))), (qm, .inl (d, 10, .inl (bd_eA (fun _ => 0)))), (qf, .inl (d, 10, .inl (bd_eA (fun _ => 0)))), (qs, .inl (d, 10, .inl (bd_eA (fun _ => 0))))]) H := hP
  have hD : va_D A ([(h, .inr (1, [.null, .ref qm, .ref qf, .ref qs, .null, .int 0, .int 0, .int 0, .int 0])), (qb, .inl (d, 10, .inl (bd_nA g))), (qm, .inl (d, 10, .inl (bd_eA (fun _ => 0)))), (qf, .inl (d, 10, .inl (bd_eA (fun _ => 0)))), (qs, .inl (d, 10, .inl (bd_eA (fun _ => 0))))]) := hD
  refine lv_aload_n hx hb dX1_init_28 rfl (lv_at hl 0 rfl) ?_
  refine lv_bipush (v := nI 10) hx hb dX1_init_29 (by decide) ?_
  refine va_newa (atype := .int) (a0 := (10, .inl (bd_eA (fun _ => 0)))) hx hb (hts _ q55) (ty := .int) rfl hK hP hD hS hA (fun cA => rfl) (by decide) (N' := 10) (by decide) (by decide) (Nat.le_of_ble_eq_true rfl) (Nat.le_of_ble_eq_true rfl) dX1_init_31 (fun qr cA H hK1 hP hD hS => ?_)
  obtain rfl : d = cA := (bd_same hK1 (Or.inl rfl) 0 1 rfl rfl).symm
  have hP : va_P D bdCl ([(h, .inr (1, [.null, .ref qm, .ref qf, .ref qs, .null, .int 0, .int 0, .int 0, .int 0])), (qb, .inl (d, 10, .inl (bd_nA g))), (qm, .inl (d, 10, .inl (bd_eA (fun _ => 0)))), (qf, .inl (d, 10, .inl (bd_eA (fun _ => 0)))), (qs, .inl (d, 10, .inl (bd_eA (fun _ => 0)))), (qr, .inl (d, 10, .inl (bd_eA (fun _ => 0))))]) H := hP
  have hD : va_D A ([(h, .inr (1, [.null, .ref qm, .ref qf, .ref qs, .null, .int 0, .int 0, .int 0, .int 0])), (qb, .inl (d, 10, .inl (bd_nA g))), (qm, .inl (d, 10, .inl (bd_eA (fun _ => 0)))), (qf, .inl (d, 10, .inl (bd_eA (fun _ => 0)))), (qs, .inl (d, 10, .inl (bd_eA (fun _ => 0)))), (qr, .inl (d, 10, .inl (bd_eA (fun _ => 0))))]) := hD
  refine va_putF (D := D) (ci := 1) (v := .ref qr) (ty := .array .int) (C := RX1) (T := TX1) (N := 9) hx hb hts in_X1 tyX1 tyX1_ok nmX1 hown hK hP hD hS 0 rfl rfl 4 (by decide) (hts _ q31) (fun _ h9 => h9) rfl hin rfl (by decide +kernel) rfl rfl (Nat.le_of_ble_eq_true rfl) dX1_init_33 (fun H locs hP hD hS => ?_)
  have hP : va_P D bdCl ([(h, .inr (1, [.null, .ref qm, .ref qf, .ref qs, .ref qr, .int 0, .int 0, .int 0, .int 0])), (qb, .inl (d, 10, .inl (bd_nA g))), (qm, .inl (d, 10, .inl (bd_eA (fun _ => 0)))), (qf, .inl (d, 10, .inl (bd_eA (fun _ => 0)))), (qs, .inl (d, 10, .inl (bd_eA (fun _ => 0)))), (qr, .inl (d, 10, .inl (bd_eA (fun _ => 0))))]) H := hP
  have hD : va_D A ([(h, .inr (1, [.null, .ref qm, .ref qf, .ref qs, .ref qr, .int 0, .int 0, .int 0, .int 0])), (qb, .inl (d, 10, .inl (bd_nA g))), (qm, .inl (d, 10, .inl (bd_eA (fun _ => 0)))), (qf, .inl (d, 10, .inl (bd_eA (fun _ => 0)))), (qs, .inl (d, 10, .inl (bd_eA (fun _ => 0)))), (qr, .inl (d, 10, .inl (bd_eA (fun _ => 0))))]) := hD
  refine lv_aload_n hx hb dX1_init_36 rfl (lv_at hl 0 rfl) ?_
  refine lv_aload_n hx hb dX1_init_37 rfl (lv_at hl 1 rfl) ?_
  refine va_putF (D := D) (ci := 1) (v := .ref qb) (ty := .array .int) (C := RX1) (T := TX1) (N := 9) hx hb hts in_X1 tyX1 tyX1_ok nmX1 hown hK hP hD hS 0 rfl rfl 0 (by decide) (hts _ q27) (fun _ h9 => h9) rfl hin rfl (by decide +kernel) rfl rfl (Nat.le_of_ble_eq_true rfl) dX1_init_38 (fun H locs hP hD hS => ?_)
  have hP : va_P D bdCl ([(h, .inr (1, [.ref qb, .ref qm, .ref qf, .ref qs, .ref qr, .int 0, .int 0, .int 0, .int 0])), (qb, .inl (d, 10, .inl (bd_nA g))), (qm, .inl (d, 10, .inl (bd_eA (fun _ => 0)))), (qf, .inl (d, 10, .inl (bd_eA (fun _ => 0)))), (qs, .inl (d, 10, .inl (bd_eA (fun _ => 0)))), (qr, .inl (d, 10, .inl (bd_eA (fun _ => 0))))]) H := hP
  have hD : va_D A ([(h, .inr (1, [.ref qb, .ref qm, .ref qf, .ref qs, .ref qr, .int 0, .int 0, .int 0, .int 0])), (qb, .inl (d, 10, .inl (bd_nA g))), (qm, .inl (d, 10, .inl (bd_eA (fun _ => 0)))), (qf, .inl (d, 10, .inl (bd_eA (fun _ => 0)))), (qs, .inl (d, 10, .inl (bd_eA (fun _ => 0)))), (qr, .inl (d, 10, .inl (bd_eA (fun _ => 0))))]) := hD
  refine W.widen (k := 4) (n := 40) (Nat.le_of_ble_eq_true rfl) (Nat.le_of_ble_eq_true rfl) ?_
  exact bd_vret (wf := fun u : Nat × Nat × Nat × Nat => bd_PW d h qb u.1 u.2.1 u.2.2.1 u.2.2.2 g (fun _ => 0) (fun _ => 0) (fun _ => 0) (fun _ => 0) 0 0 0 0) hx hb hr hlocks (qm, qf, qs, qr) trivial hK hP hD hS dX1_init_41
end
section
/-! BONDDESK: below, places, tie, cut, all, most, always -/
/-- the world of a BondDesk -/
abbrev bd_DW (d : ClassId) (hd qp h qb qm qf qs qr n : Nat) (pa g m f b r : Nat → Nat) (al se dr mn : Nat) : va_W :=
  (hd, .inr (0, [.ref qb, .ref qp, .ref h, .int (nI n)])) :: (qp, .inl (d, 10, .inl (bd_eA pa))) :: bd_PW d h qb qm qf qs qr g m f b r al se dr mn
/-- what of it nobody sees: partner, mate, the search's state, alive -/
abbrev bd_Hd : Type := (Nat → Nat) × (Nat → Nat) × bd_S × Nat
abbrev bd_DX (d : ClassId) (hd qp h qb qm qf qs qr n : Nat) (g : Nat → Nat) (u : bd_Hd) : va_W := bd_DW d hd qp h qb qm qf qs qr n u.1 g u.2.1 u.2.2.1.1 u.2.2.1.2.1 u.2.2.1.2.2.1 u.2.2.2 u.2.2.1.2.2.2.1 u.2.2.1.2.2.2.2.1 u.2.2.1.2.2.2.2.2
def bd_lo (a : Int32) : Nat := a.toBitVec.toNat % 2 ^ 31
theorem bd_lo_lt (a : Int32) : bd_lo a < 2 ^ 31 := Nat.mod_lt _ (by decide)
theorem bd_lo_and (a : Int32) : a &&& 2147483647 = nI (bd_lo a) := pk_and a 31 (by decide)
def bd_tie (g : Nat → Nat) (v w : Nat) : Nat → Nat := bd_up (bd_up g v (g v ||| 2 ^ w)) w ((bd_up g v (g v ||| 2 ^ w)) w ||| 2 ^ v)
def bd_cut (g : Nat → Nat) (v w : Nat) : Nat → Nat := bd_up (bd_up g v (bd_clr (g v) w)) w (bd_clr ((bd_up g v (bd_clr (g v) w)) w) v)
theorem bd_all_lt {n : Nat} (h : n ≤ 10) : 2 ^ n - 1 < 1024 := by
  have : 2 ^ n ≤ 2 ^ 10 := Nat.pow_le_pow_right (by decide) h
  have h2 : 0 < 2 ^ n := Nat.two_pow_pos n
  omega
/-- always: k places left -/
def bd_alw (N : Nat → Nat) (n : Nat) : Nat → Nat → Nat
  | 0, acc => acc
  | k + 1, acc => bd_alw N n k (if N (bd_clr (2 ^ n - 1) (n - (k + 1))) < N (2 ^ n - 1) then acc ||| 2 ^ (n - (k + 1)) else acc)
theorem bd_nu_b (e : Nat → Nat → Bool) : ∀ (k S : Nat), bd_nu e k S ≤ k
  | 0, _ => Nat.le_refl _
  | k + 1, S => by
    unfold bd_nu
    have ih := bd_nu_b e k
    by_cases c : S.testBit (9 - k) = true
    · rw [if_pos c]
      exact bd_fold_le _ _ (Nat.le_succ_of_le (ih _)) (fun b _ _ => Nat.succ_le_succ (ih _))
    · rw [if_neg c]
      exact Nat.le_succ_of_le (ih _)
set_option maxHeartbeats 4000000 in
set_option maxRecDepth 100000 in
theorem metX0_below (l : Launch) (D : va_G) (a : Int32) (k : Nat) (hk0 : 0 < k) (hk : k < 2 ^ 31) : bd_Ci l yX0_below cX0_below 2 .int ({ frames := 0, cells := 0, slots := 0, locals := 0 }) D [] [.int a, .int (nI k)] [] (fun r (_ : Unit) => r = nI (bd_lo a % k)) (fun _ => []) := by
  intro sz
  refine bd_start (Qc := fun A => va_Qi (fun r (_ : Unit) => r = nI (bd_lo a % k)) (fun u t => bd_Post D [] A ((fun _ => []) u) t) A) (by decide) (Nat.le_of_ble_eq_true rfl) ?_
  intro p e s m below meth c A ls hx hb hr hml hts hown hlocks hin hA hK hP hD hl
  have hS : va_S A s.heap s.heap [] := va_S.rf
  have hl : lv_has ls 2 [(0, .int a), (1, .int (nI k))] := hl
  refine lv_iload_n hx hb dX0_below_0 rfl (lv_at hl 0 rfl) ?_
  refine lv_ldc hx hb hown (hts _ q76) dX0_below_1 ?_
  refine lv_iand hx hb dX0_below_3 ?_
  refine bd_top (bd_lo_and a) ?_
  refine lv_iload_n hx hb dX0_below_4 rfl (lv_at hl 1 rfl) ?_
  refine lv_irem hx hb dX0_below_5 (nI_ne0 hk0 hk) ?_
  refine bd_top (pk_rem (bd_lo_lt a) hk0 hk) ?_
  exact bd_iret hx hb hr rfl hlocks () rfl hK hP hD hS dX0_below_6
section WALK
variable {p : Program} {l : Launch} {e : Env} {R : Room} {s : State} {m : MethodId} {args : Array Value} {below : List Frame} {meth : Method} {c : Code} {cells slots : Nat} {Q : State → Prop} {D : va_G} {A : Nat → Prop} {H0 : Heap} {d : ClassId} {hd qp h qb qm qf qs qr : Nat}
set_option maxHeartbeats 4000000 in
set_option maxRecDepth 100000 in
theorem bd_places_lp (F : CallFix p m c cX0_places 3 s args lw_all RX0) (hK : va_K D bdCl [(d, .int)] s) {n : Nat} {pa mt fr bs ro : Nat → Nat} {al se dr mn : Nat} (kx : ∀ (H : Heap) (locs : List Loc) (ls : Array Slot), va_P D bdCl (bd_DW d hd qp h qb qm qf qs qr n pa (fun _ => 0) mt fr bs ro al se dr mn) H → va_D A (bd_DW d hd qp h qb qm qf qs qr n pa (fun _ => 0) mt fr bs ro al se dr mn) → va_S A H0 H locs → W p l e R s m args below meth c H locs cells slots Q (F0 m 33 ls [])) :
    ∀ (k u : Nat) (g : Nat → Nat), u + k = 10 → (∀ j, j < u → g j = 0) → ∀ (H : Heap) (locs : List Loc) (ls : Array Slot), va_P D bdCl (bd_DW d hd qp h qb qm qf qs qr n pa g mt fr bs ro al se dr mn) H → va_D A (bd_DW d hd qp h qb qm qf qs qr n pa g mt fr bs ro al se dr mn) → va_S A H0 H locs → lv_has ls 3 [(0, .ref hd), (2, .int (nI u))] → W p l e R s m args below meth c H locs cells slots Q (F0 m 14 ls []) := by
  obtain ⟨hx, hb, hml, hown, hts⟩ := id F
  intro k
  induction k with
  | zero =>
    intro u g hu hI H locs ls hP hD hS hl
    refine lv_iload_n hx hb dX0_places_14 rfl (lv_at hl 1 rfl) ?_
    refine lv_bipush (v := nI 10) hx hb dX0_places_15 (by decide) ?_
    refine lv_icmp_ge (tgt := 33) hx hb dX0_places_17 (by decide) (fun _ => ?_) (fun c_ => absurd (nI_le (show 10 ≤ u by omega) (by omega)) c_)
    have hP1 := bd_P_ext (f' := bd_nA (fun _ => 0)) hP 3 rfl (fun j hj => by show nI (g j) = nI 0; rw [hI j (by omega)])
    have hD1 := bd_D_ext hD 3 (.inl (d, 10, .inl (bd_nA (fun _ => 0)))) rfl
    exact kx H locs ls hP1 hD1 hS
  | succ k ih =>
    intro u g hk hI H locs ls hP hD hS hl
    have hu : u < 10 := by omega
    refine lv_iload_n hx hb dX0_places_14 rfl (lv_at hl 1 rfl) ?_
    refine lv_bipush (v := nI 10) hx hb dX0_places_15 (by decide) ?_
    refine lv_icmp_ge (tgt := 33) hx hb dX0_places_17 (by decide) (fun c_ => absurd c_ (nI_ge hu (by decide))) (fun _ => ?_)
    refine lv_aload_n hx hb dX0_places_20 rfl (lv_at hl 0 rfl) ?_
    refine va_get (D := D) (ci := 0) (v := .ref qb) (C := RX0) (T := TX0) (N := 4) hx hb hts in_X0 hown hK hP 0 rfl rfl 0 (by decide) (hts _ q56) (fun _ h9 => h9) rfl dX0_places_21 ?_
    refine lv_iload_n hx hb dX0_places_24 rfl (lv_at hl 1 rfl) ?_
    refine lv_iconst (v := nI 0) hx hb dX0_places_25 (by decide) ?_
    refine bd_astN (v := 0) hx hb hK hP hD hS 3 0 rfl rfl hu (by decide) dX0_places_26 (fun H locs hP hD hS => ?_)
    have hP : va_P D bdCl (bd_DW d hd qp h qb qm qf qs qr n pa (bd_up g u 0) mt fr bs ro al se dr mn) H := hP
    have hD : va_D A (bd_DW d hd qp h qb qm qf qs qr n pa (bd_up g u 0) mt fr bs ro al se dr mn) := hD
    refine lv_iinc (v := nI (u + 1)) (lv' := [(2, .int (nI (u + 1))), (0, .ref hd)]) hx hb dX0_places_27 hl (k := 1) rfl (nI_1 _) (by decide) rfl (fun ls hl => ?_)
    refine lv_goto (tgt := 14) hx hb dX0_places_30 (by decide) ?_
    exact ih (u + 1) _ (by omega) (fun j hj => by
      by_cases e : j = u
      · rw [e, bd_up_s]
      · rw [bd_up_n e]; exact hI j (by omega)) H locs ls hP hD hS (lv_sub hl [1, 0] rfl)
end WALK
set_option maxHeartbeats 4000000 in
set_option maxRecDepth 100000 in
theorem metX0_places (l : Launch) (D : va_G) (d : ClassId) (hd qp h qb qm qf qs qr n : Nat) (pa g mt fr bs ro : Nat → Nat) (al se dr mn : Nat) (a : Int32) : bd_Cv l yX0_places cX0_places 3 ({ frames := 1, cells := 0, slots := 0, locals := 21 }) D [(d, .int)] [.ref hd, .int a] (bd_DW d hd qp h qb qm qf qs qr n pa g mt fr bs ro al se dr mn) (fun _ : Unit => True) (fun _ => bd_DW d hd qp h qb qm qf qs qr (1 + bd_lo a % 10) pa (fun _ => 0) mt fr bs ro al se dr mn) := by
  intro sz
  refine bd_start (Qc := fun A => va_Qv (fun _ : Unit => True) (fun u t => bd_Post D [(d, .int)] A ((fun _ => bd_DW d hd qp h qb qm qf qs qr (1 + bd_lo a % 10) pa (fun _ => 0) mt fr bs ro al se dr mn) u) t) A) (by decide) (Nat.le_of_ble_eq_true rfl) ?_
  intro p e s m below meth c A ls hx hb hr hml hts hown hlocks hin hA hK hP hD hl
  have hS : va_S A s.heap s.heap [] := va_S.rf
  have hl : lv_has ls 3 [(0, .ref hd), (1, .int a)] := hl
  refine lv_aload_n hx hb dX0_places_0 rfl (lv_at hl 0 rfl) ?_
  refine lv_iconst (v := nI 1) hx hb dX0_places_1 (by decide) ?_
  refine lv_iload_n hx hb dX0_places_2 rfl (lv_at hl 1 rfl) ?_
  refine lv_bipush (v := nI 10) hx hb dX0_places_3 (by decide) ?_
  refine bd_calls (rest := [.int (nI 1), .ref hd]) ⟨hx, hb, hml, hown, hts⟩ (metX0_below l D a 10 (by decide) (by decide) _) (va_cwS 2 hts (lw_S q73 q74 q10 q75) rfl rfl rfl (by decide +kernel) ⟨Nat.le_of_ble_eq_true rfl, Nat.le_of_ble_eq_true rfl⟩) hK hP hS hA rfl hl.1 rfl (Nat.le_of_ble_eq_true rfl) dX0_places_5 ⟨Nat.le_refl _, Nat.le_refl _⟩ (fun r_ H locs hw_ hP hS => ?_)
  subst hw_
  refine bd_iadd hx hb dX0_places_8 ?_
  refine va_put (D := D) (ci := 0) (v := .int (nI (1 + (bd_lo a % 10)))) (ty := .int) (C := RX0) (T := TX0) (N := 4) hx hb hts in_X0 tyX0 tyX0_ok nmX0 hown hK hP hD hS 0 rfl rfl 3 (by decide) (hts _ q59) (fun _ h9 => h9) rfl (by decide +kernel) rfl rfl (Nat.le_of_ble_eq_true rfl) dX0_places_9 (fun H locs hP hD hS => ?_)
  have hP : va_P D bdCl (bd_DW d hd qp h qb qm qf qs qr (1 + (bd_lo a % 10)) pa g mt fr bs ro al se dr mn) H := hP
  have hD : va_D A (bd_DW d hd qp h qb qm qf qs qr (1 + (bd_lo a % 10)) pa g mt fr bs ro al se dr mn) := hD
  refine lv_iconst (v := nI 0) hx hb dX0_places_12 (by decide) ?_
  refine lv_istore_n (lv' := [(2, .int (nI 0)), (0, .ref hd), (1, .int a)]) hx hb dX0_places_13 rfl hl (by decide) rfl (fun ls hl => ?_)
  exact bd_places_lp ⟨hx, hb, hml, hown, hts⟩ hK (fun H locs ls hP hD hS => bd_vret hx hb hr hlocks () trivial hK hP hD hS dX0_places_33) 10 0 g rfl (fun j hj => absurd hj (by omega)) H locs ls hP hD hS (lv_sub hl [1, 0] rfl)
set_option maxHeartbeats 4000000 in
set_option maxRecDepth 100000 in
theorem metX0_tie (l : Launch) (D : va_G) (d : ClassId) (hd qp h qb qm qf qs qr n : Nat) (pa g mt fr bs ro : Nat → Nat) (al se dr mn : Nat) (hn0 : 0 < n) (hn : n ≤ 10) (a a2 : Int32) : bd_Ci l yX0_tie cX0_tie 5 .boolean ({ frames := 1, cells := 0, slots := 0, locals := 21 }) D [(d, .int)] [.ref hd, .int a, .int a2] (bd_DW d hd qp h qb qm qf qs qr n pa g mt fr bs ro al se dr mn) (fun r (_ : Unit) => r = if bd_lo a % n = bd_lo a2 % n then nI 0 else nI 1) (fun _ => bd_DW d hd qp h qb qm qf qs qr n pa (if bd_lo a % n = bd_lo a2 % n then g else bd_tie g (bd_lo a % n) (bd_lo a2 % n)) mt fr bs ro al se dr mn) := by
  intro sz
  refine bd_start (Qc := fun A => va_Qi (fun r (_ : Unit) => r = if bd_lo a % n = bd_lo a2 % n then nI 0 else nI 1) (fun u t => bd_Post D [(d, .int)] A ((fun _ => bd_DW d hd qp h qb qm qf qs qr n pa (if bd_lo a % n = bd_lo a2 % n then g else bd_tie g (bd_lo a % n) (bd_lo a2 % n)) mt fr bs ro al se dr mn) u) t) A) (by decide) (Nat.le_of_ble_eq_true rfl) ?_
  intro p e s m below meth c A ls hx hb hr hml hts hown hlocks hin hA hK hP hD hl
  have hS : va_S A s.heap s.heap [] := va_S.rf
  have hl : lv_has ls 5 [(0, .ref hd), (1, .int a), (2, .int a2)] := hl
  obtain ⟨v, ev⟩ : ∃ v, v = bd_lo a % n := ⟨_, rfl⟩
  obtain ⟨w, ew⟩ : ∃ w, w = bd_lo a2 % n := ⟨_, rfl⟩
  have hv : v < 10 := by rw [ev]; exact Nat.lt_of_lt_of_le (Nat.mod_lt _ hn0) hn
  have hw : w < 10 := by rw [ew]; exact Nat.lt_of_lt_of_le (Nat.mod_lt _ hn0) hn
  rw [← ev, ← ew]
  refine lv_iload_n hx hb dX0_tie_0 rfl (lv_at hl 1 rfl) ?_
  refine lv_aload_n hx hb dX0_tie_1 rfl (lv_at hl 0 rfl) ?_
  refine va_get (D := D) (ci := 0) (v := .int (nI n)) (C := RX0) (T := TX0) (N := 4) hx hb hts in_X0 hown hK hP 0 rfl rfl 3 (by decide) (hts _ q59) (fun _ h9 => h9) rfl dX0_tie_2 ?_
  refine bd_calls (rest := []) ⟨hx, hb, hml, hown, hts⟩ (metX0_below l D a n hn0 (Nat.lt_of_le_of_lt hn (by decide)) _) (va_cwS 2 hts (lw_S q73 q74 q10 q75) rfl rfl rfl (by decide +kernel) ⟨Nat.le_of_ble_eq_true rfl, Nat.le_of_ble_eq_true rfl⟩) hK hP hS hA rfl hl.1 rfl (Nat.le_of_ble_eq_true rfl) dX0_tie_5 ⟨Nat.le_refl _, Nat.le_refl _⟩ (fun r_ H locs hw_ hP hS => ?_)
  subst hw_
  rw [← ev]
  refine lv_istore_n (lv' := [(3, .int (nI v)), (0, .ref hd), (1, .int a), (2, .int a2)]) hx hb dX0_tie_8 rfl hl (by decide) rfl (fun ls hl => ?_)
  refine lv_iload_n hx hb dX0_tie_9 rfl (lv_at hl 3 rfl) ?_
  refine lv_aload_n hx hb dX0_tie_10 rfl (lv_at hl 1 rfl) ?_
  refine va_get (D := D) (ci := 0) (v := .int (nI n)) (C := RX0) (T := TX0) (N := 4) hx hb hts in_X0 hown hK hP 0 rfl rfl 3 (by decide) (hts _ q59) (fun _ h9 => h9) rfl dX0_tie_11 ?_
  refine bd_calls (rest := []) ⟨hx, hb, hml, hown, hts⟩ (metX0_below l D a2 n hn0 (Nat.lt_of_le_of_lt hn (by decide)) _) (va_cwS 2 hts (lw_S q73 q74 q10 q75) rfl rfl rfl (by decide +kernel) ⟨Nat.le_of_ble_eq_true rfl, Nat.le_of_ble_eq_true rfl⟩) hK hP hS hA rfl hl.1 rfl (Nat.le_of_ble_eq_true rfl) dX0_tie_14 ⟨Nat.le_refl _, Nat.le_refl _⟩ (fun r_ H locs hw_ hP hS => ?_)
  subst hw_
  rw [← ew]
  refine lv_istore (lv' := [(4, .int (nI w)), (3, .int (nI v)), (0, .ref hd), (1, .int a), (2, .int a2)]) hx hb dX0_tie_17 hl (by decide) rfl (fun ls hl => ?_)
  refine lv_iload_n hx hb dX0_tie_19 rfl (lv_at hl 1 rfl) ?_
  refine lv_iload hx hb dX0_tie_20 (lv_at hl 0 rfl) ?_
  by_cases c1 : v = w
  · refine lv_icmp_ne (tgt := 27) hx hb dX0_tie_22 (by decide) (fun c_ => absurd (by rw [c1]) c_) (fun _ => ?_)
    have hP : va_P D bdCl (bd_DW d hd qp h qb qm qf qs qr n pa (if v = w then g else bd_tie g v w) mt fr bs ro al se dr mn) H := by rw [if_pos c1]; exact hP
    have hD : va_D A (bd_DW d hd qp h qb qm qf qs qr n pa (if v = w then g else bd_tie g v w) mt fr bs ro al se dr mn) := by rw [if_pos c1]; exact hD
    refine lv_iconst (v := nI 0) hx hb dX0_tie_25 (by decide) ?_
    exact bd_iret hx hb hr rfl hlocks () (by rw [if_pos c1]) hK hP hD hS dX0_tie_26
  · refine lv_icmp_ne (tgt := 27) hx hb dX0_tie_22 (by decide) (fun _ => ?_) (fun c_ => absurd c_ (fun q => c1 ((nI_eq (bd_31 hv) (bd_31 hw)).mp q)))
    refine lv_aload_n hx hb dX0_tie_27 rfl (lv_at hl 2 rfl) ?_
    refine va_get (D := D) (ci := 0) (v := .ref qb) (C := RX0) (T := TX0) (N := 4) hx hb hts in_X0 hown hK hP 0 rfl rfl 0 (by decide) (hts _ q56) (fun _ h9 => h9) rfl dX0_tie_28 ?_
    refine lv_iload_n hx hb dX0_tie_31 rfl (lv_at hl 1 rfl) ?_
    refine lv_dup2_11 hx hb dX0_tie_32 rfl rfl ?_
    refine bd_aldN hx hb hK hP 3 0 rfl rfl hv (by decide) dX0_tie_33 ?_
    refine lv_iconst (v := nI 1) hx hb dX0_tie_34 (by decide) ?_
    refine lv_iload hx hb dX0_tie_35 (lv_at hl 0 rfl) ?_
    refine bd_ishl hx hb dX0_tie_37 (Nat.lt_of_lt_of_le hw (by decide)) ?_
    refine bd_ior hx hb dX0_tie_38 ?_
    refine bd_astN (v := (g v) ||| (2 ^ w)) hx hb hK hP hD hS 3 0 rfl rfl hv (by decide) dX0_tie_39 (fun H locs hP hD hS => ?_)
    have hP : va_P D bdCl (bd_DW d hd qp h qb qm qf qs qr n pa (bd_up g v ((g v) ||| (2 ^ w))) mt fr bs ro al se dr mn) H := hP
    have hD : va_D A (bd_DW d hd qp h qb qm qf qs qr n pa (bd_up g v ((g v) ||| (2 ^ w))) mt fr bs ro al se dr mn) := hD
    refine lv_aload_n hx hb dX0_tie_40 rfl (lv_at hl 2 rfl) ?_
    refine va_get (D := D) (ci := 0) (v := .ref qb) (C := RX0) (T := TX0) (N := 4) hx hb hts in_X0 hown hK hP 0 rfl rfl 0 (by decide) (hts _ q56) (fun _ h9 => h9) rfl dX0_tie_41 ?_
    refine lv_iload hx hb dX0_tie_44 (lv_at hl 0 rfl) ?_
    refine lv_dup2_11 hx hb dX0_tie_46 rfl rfl ?_
    refine bd_aldN hx hb hK hP 3 0 rfl rfl hw (by decide) dX0_tie_47 ?_
    refine lv_iconst (v := nI 1) hx hb dX0_tie_48 (by decide) ?_
    refine lv_iload_n hx hb dX0_tie_49 rfl (lv_at hl 1 rfl) ?_
    refine bd_ishl hx hb dX0_tie_50 (Nat.lt_of_lt_of_le hv (by decide)) ?_
    refine bd_ior hx hb dX0_tie_51 ?_
    refine bd_astN (v := ((bd_up g v ((g v) ||| (2 ^ w))) w) ||| (2 ^ v)) hx hb hK hP hD hS 3 0 rfl rfl hw (by decide) dX0_tie_52 (fun H locs hP hD hS => ?_)
    have hP : va_P D bdCl (bd_DW d hd qp h qb qm qf qs qr n pa (bd_up (bd_up g v ((g v) ||| (2 ^ w))) w (((bd_up g v ((g v) ||| (2 ^ w))) w) ||| (2 ^ v))) mt fr bs ro al se dr mn) H := hP
    have hD : va_D A (bd_DW d hd qp h qb qm qf qs qr n pa (bd_up (bd_up g v ((g v) ||| (2 ^ w))) w (((bd_up g v ((g v) ||| (2 ^ w))) w) ||| (2 ^ v))) mt fr bs ro al se dr mn) := hD
    refine lv_iconst (v := nI 1) hx hb dX0_tie_53 (by decide) ?_
    have hP : va_P D bdCl (bd_DW d hd qp h qb qm qf qs qr n pa (if v = w then g else bd_tie g v w) mt fr bs ro al se dr mn) H := by rw [if_neg c1]; exact hP
    have hD : va_D A (bd_DW d hd qp h qb qm qf qs qr n pa (if v = w then g else bd_tie g v w) mt fr bs ro al se dr mn) := by rw [if_neg c1]; exact hD
    exact bd_iret hx hb hr rfl hlocks () (by rw [if_neg c1]) hK hP hD hS dX0_tie_54
set_option maxHeartbeats 4000000 in
set_option maxRecDepth 100000 in
theorem metX0_cut (l : Launch) (D : va_G) (d : ClassId) (hd qp h qb qm qf qs qr n : Nat) (pa g mt fr bs ro : Nat → Nat) (al se dr mn : Nat) (hn0 : 0 < n) (hn : n ≤ 10) (a a2 : Int32) : bd_Cv l yX0_cut cX0_cut 5 ({ frames := 1, cells := 0, slots := 0, locals := 21 }) D [(d, .int)] [.ref hd, .int a, .int a2] (bd_DW d hd qp h qb qm qf qs qr n pa g mt fr bs ro al se dr mn) (fun _ : Unit => True) (fun _ => bd_DW d hd qp h qb qm qf qs qr n pa (bd_cut g (bd_lo a % n) (bd_lo a2 % n)) mt fr bs ro al se dr mn) := by
  intro sz
  refine bd_start (Qc := fun A => va_Qv (fun _ : Unit => True) (fun u t => bd_Post D [(d, .int)] A ((fun _ => bd_DW d hd qp h qb qm qf qs qr n pa (bd_cut g (bd_lo a % n) (bd_lo a2 % n)) mt fr bs ro al se dr mn) u) t) A) (by decide) (Nat.le_of_ble_eq_true rfl) ?_
  intro p e s m below meth c A ls hx hb hr hml hts hown hlocks hin hA hK hP hD hl
  have hS : va_S A s.heap s.heap [] := va_S.rf
  have hl : lv_has ls 5 [(0, .ref hd), (1, .int a), (2, .int a2)] := hl
  obtain ⟨v, ev⟩ : ∃ v, v = bd_lo a % n := ⟨_, rfl⟩
  obtain ⟨w, ew⟩ : ∃ w, w = bd_lo a2 % n := ⟨_, rfl⟩
  have hv : v < 10 := by rw [ev]; exact Nat.lt_of_lt_of_le (Nat.mod_lt _ hn0) hn
  have hw : w < 10 := by rw [ew]; exact Nat.lt_of_lt_of_le (Nat.mod_lt _ hn0) hn
  rw [← ev, ← ew]
  refine lv_iload_n hx hb dX0_cut_0 rfl (lv_at hl 1 rfl) ?_
  refine lv_aload_n hx hb dX0_cut_1 rfl (lv_at hl 0 rfl) ?_
  refine va_get (D := D) (ci := 0) (v := .int (nI n)) (C := RX0) (T := TX0) (N := 4) hx hb hts in_X0 hown hK hP 0 rfl rfl 3 (by decide) (hts _ q59) (fun _ h9 => h9) rfl dX0_cut_2 ?_
  refine bd_calls (rest := []) ⟨hx, hb, hml, hown, hts⟩ (metX0_below l D a n hn0 (Nat.lt_of_le_of_lt hn (by decide)) _) (va_cwS 2 hts (lw_S q73 q74 q10 q75) rfl rfl rfl (by decide +kernel) ⟨Nat.le_of_ble_eq_true rfl, Nat.le_of_ble_eq_true rfl⟩) hK hP hS hA rfl hl.1 rfl (Nat.le_of_ble_eq_true rfl) dX0_cut_5 ⟨Nat.le_refl _, Nat.le_refl _⟩ (fun r_ H locs hw_ hP hS => ?_)
  subst hw_
  rw [← ev]
  refine lv_istore_n (lv' := [(3, .int (nI v)), (0, .ref hd), (1, .int a), (2, .int a2)]) hx hb dX0_cut_8 rfl hl (by decide) rfl (fun ls hl => ?_)
  refine lv_iload_n hx hb dX0_cut_9 rfl (lv_at hl 3 rfl) ?_
  refine lv_aload_n hx hb dX0_cut_10 rfl (lv_at hl 1 rfl) ?_
  refine va_get (D := D) (ci := 0) (v := .int (nI n)) (C := RX0) (T := TX0) (N := 4) hx hb hts in_X0 hown hK hP 0 rfl rfl 3 (by decide) (hts _ q59) (fun _ h9 => h9) rfl dX0_cut_11 ?_
  refine bd_calls (rest := []) ⟨hx, hb, hml, hown, hts⟩ (metX0_below l D a2 n hn0 (Nat.lt_of_le_of_lt hn (by decide)) _) (va_cwS 2 hts (lw_S q73 q74 q10 q75) rfl rfl rfl (by decide +kernel) ⟨Nat.le_of_ble_eq_true rfl, Nat.le_of_ble_eq_true rfl⟩) hK hP hS hA rfl hl.1 rfl (Nat.le_of_ble_eq_true rfl) dX0_cut_14 ⟨Nat.le_refl _, Nat.le_refl _⟩ (fun r_ H locs hw_ hP hS => ?_)
  subst hw_
  rw [← ew]
  refine lv_istore (lv' := [(4, .int (nI w)), (3, .int (nI v)), (0, .ref hd), (1, .int a), (2, .int a2)]) hx hb dX0_cut_17 hl (by decide) rfl (fun ls hl => ?_)
  refine lv_aload_n hx hb dX0_cut_19 rfl (lv_at hl 2 rfl) ?_
  refine va_get (D := D) (ci := 0) (v := .ref qb) (C := RX0) (T := TX0) (N := 4) hx hb hts in_X0 hown hK hP 0 rfl rfl 0 (by decide) (hts _ q56) (fun _ h9 => h9) rfl dX0_cut_20 ?_
  refine lv_iload_n hx hb dX0_cut_23 rfl (lv_at hl 1 rfl) ?_
  refine lv_dup2_11 hx hb dX0_cut_24 rfl rfl ?_
  refine bd_aldN hx hb hK hP 3 0 rfl rfl hv (by decide) dX0_cut_25 ?_
  refine lv_iconst (v := nI 1) hx hb dX0_cut_26 (by decide) ?_
  refine lv_iload hx hb dX0_cut_27 (lv_at hl 0 rfl) ?_
  refine bd_ishl hx hb dX0_cut_29 (Nat.lt_of_lt_of_le hw (by decide)) ?_
  refine lv_iconst (v := -1) hx hb dX0_cut_30 (by decide) ?_
  refine lv_ixor hx hb dX0_cut_31 ?_
  refine bd_iclr hx hb dX0_cut_32 ?_
  refine bd_astN (v := bd_clr (g v) w) hx hb hK hP hD hS 3 0 rfl rfl hv (by decide) dX0_cut_33 (fun H locs hP hD hS => ?_)
  have hP : va_P D bdCl (bd_DW d hd qp h qb qm qf qs qr n pa (bd_up g v (bd_clr (g v) w)) mt fr bs ro al se dr mn) H := hP
  have hD : va_D A (bd_DW d hd qp h qb qm qf qs qr n pa (bd_up g v (bd_clr (g v) w)) mt fr bs ro al se dr mn) := hD
  refine lv_aload_n hx hb dX0_cut_34 rfl (lv_at hl 2 rfl) ?_
  refine va_get (D := D) (ci := 0) (v := .ref qb) (C := RX0) (T := TX0) (N := 4) hx hb hts in_X0 hown hK hP 0 rfl rfl 0 (by decide) (hts _ q56) (fun _ h9 => h9) rfl dX0_cut_35 ?_
  refine lv_iload hx hb dX0_cut_38 (lv_at hl 0 rfl) ?_
  refine lv_dup2_11 hx hb dX0_cut_40 rfl rfl ?_
  refine bd_aldN hx hb hK hP 3 0 rfl rfl hw (by decide) dX0_cut_41 ?_
  refine lv_iconst (v := nI 1) hx hb dX0_cut_42 (by decide) ?_
  refine lv_iload_n hx hb dX0_cut_43 rfl (lv_at hl 1 rfl) ?_
  refine bd_ishl hx hb dX0_cut_44 (Nat.lt_of_lt_of_le hv (by decide)) ?_
  refine lv_iconst (v := -1) hx hb dX0_cut_45 (by decide) ?_
  refine lv_ixor hx hb dX0_cut_46 ?_
  refine bd_iclr hx hb dX0_cut_47 ?_
  refine bd_astN (v := bd_clr ((bd_up g v (bd_clr (g v) w)) w) v) hx hb hK hP hD hS 3 0 rfl rfl hw (by decide) dX0_cut_48 (fun H locs hP hD hS => ?_)
  have hP : va_P D bdCl (bd_DW d hd qp h qb qm qf qs qr n pa (bd_up (bd_up g v (bd_clr (g v) w)) w (bd_clr ((bd_up g v (bd_clr (g v) w)) w) v)) mt fr bs ro al se dr mn) H := hP
  have hD : va_D A (bd_DW d hd qp h qb qm qf qs qr n pa (bd_up (bd_up g v (bd_clr (g v) w)) w (bd_clr ((bd_up g v (bd_clr (g v) w)) w) v)) mt fr bs ro al se dr mn) := hD
  exact bd_vret hx hb hr hlocks () trivial hK hP hD hS dX0_cut_49
set_option maxHeartbeats 4000000 in
set_option maxRecDepth 100000 in
theorem metX0_all (l : Launch) (D : va_G) (d : ClassId) (hd qp h qb qm qf qs qr n : Nat) (pa g mt fr bs ro : Nat → Nat) (al se dr mn : Nat) (hn : n ≤ 10) : bd_Ci l yX0_all cX0_all 1 .int ({ frames := 0, cells := 0, slots := 0, locals := 0 }) D [(d, .int)] [.ref hd] (bd_DW d hd qp h qb qm qf qs qr n pa g mt fr bs ro al se dr mn) (fun r (_ : Unit) => r = nI (2 ^ n - 1)) (fun _ => bd_DW d hd qp h qb qm qf qs qr n pa g mt fr bs ro al se dr mn) := by
  intro sz
  refine bd_start (Qc := fun A => va_Qi (fun r (_ : Unit) => r = nI (2 ^ n - 1)) (fun u t => bd_Post D [(d, .int)] A ((fun _ => bd_DW d hd qp h qb qm qf qs qr n pa g mt fr bs ro al se dr mn) u) t) A) (by decide) (Nat.le_of_ble_eq_true rfl) ?_
  intro p e s m below meth c A ls hx hb hr hml hts hown hlocks hin hA hK hP hD hl
  have hS : va_S A s.heap s.heap [] := va_S.rf
  have hl : lv_has ls 1 [(0, .ref hd)] := hl
  refine lv_iconst (v := nI 1) hx hb dX0_all_0 (by decide) ?_
  refine lv_aload_n hx hb dX0_all_1 rfl (lv_at hl 0 rfl) ?_
  refine va_get (D := D) (ci := 0) (v := .int (nI n)) (C := RX0) (T := TX0) (N := 4) hx hb hts in_X0 hown hK hP 0 rfl rfl 3 (by decide) (hts _ q59) (fun _ h9 => h9) rfl dX0_all_2 ?_
  refine bd_ishl hx hb dX0_all_5 (Nat.lt_of_lt_of_le (Nat.lt_succ_of_le hn) (by decide)) ?_
  refine lv_iconst (v := nI 1) hx hb dX0_all_6 (by decide) ?_
  refine bd_isub hx hb dX0_all_7 (Nat.two_pow_pos n) ?_
  exact bd_iret hx hb hr rfl hlocks () rfl hK hP hD hS dX0_all_8
set_option maxHeartbeats 4000000 in
set_option maxRecDepth 100000 in
theorem metX0_most (l : Launch) (D : va_G) (d : ClassId) (hd qp h qb qm qf qs qr n : Nat) (pa g mt fr bs ro : Nat → Nat) (al se dr mn : Nat) (hg : ∀ x y, x < 10 → y < 10 → (g x).testBit y = (g y).testBit x) (hn : n ≤ 10) : bd_Ci l yX0_most cX0_most 1 .int ({ frames := 4, cells := 0, slots := 0, locals := 97 }) D [(d, .int)] [.ref hd] (bd_DW d hd qp h qb qm qf qs qr n pa g mt fr bs ro al se dr mn) (fun r (u : bd_Hd) => r = nI (bd_nu (fun a b => (g a).testBit b) 10 (2 ^ n - 1)) ∧ u.1 = pa) (bd_DX d hd qp h qb qm qf qs qr n g) := by
  intro sz
  refine bd_start (Qc := fun A => va_Qi (fun r (u : bd_Hd) => r = nI (bd_nu (fun a b => (g a).testBit b) 10 (2 ^ n - 1)) ∧ u.1 = pa) (fun u t => bd_Post D [(d, .int)] A ((bd_DX d hd qp h qb qm qf qs qr n g) u) t) A) (by decide) (Nat.le_of_ble_eq_true rfl) ?_
  intro p e s m below meth c A ls hx hb hr hml hts hown hlocks hin hA hK hP hD hl
  have hS : va_S A s.heap s.heap [] := va_S.rf
  have hl : lv_has ls 1 [(0, .ref hd)] := hl
  refine lv_aload_n hx hb dX0_most_0 rfl (lv_at hl 0 rfl) ?_
  refine va_get (D := D) (ci := 0) (v := .ref h) (C := RX0) (T := TX0) (N := 4) hx hb hts in_X0 hown hK hP 0 rfl rfl 2 (by decide) (hts _ q58) (fun _ h9 => h9) rfl dX0_most_1 ?_
  refine lv_aload_n hx hb dX0_most_4 rfl (lv_at hl 0 rfl) ?_
  refine bd_calli (wr := []) (rest := [.ref h]) ⟨hx, hb, hml, hown, hts⟩ (metX0_all l D d hd qp h qb qm qf qs qr n pa g mt fr bs ro al se dr mn hn _) (cwV 0 hts (lw_V q89 q91 qs0 q10 q92) rfl rfl rfl (by decide +kernel) ⟨Nat.le_of_ble_eq_true rfl, Nat.le_of_ble_eq_true rfl⟩) hK hP hD hS hA [0, 1, 2, 3, 4, 5, 6, 7] [] [0] rfl rfl rfl rfl rfl rfl (by decide) (ci := 0) (q0 := 0) rfl rfl rfl hl.1 rfl (Nat.le_of_ble_eq_true rfl) dX0_most_5 ⟨Nat.le_refl _, Nat.le_refl _⟩ (fun r_ u_ H locs hw_ hP hD hS => ?_)
  subst hw_
  have hP : va_P D bdCl (bd_DW d hd qp h qb qm qf qs qr n pa g mt fr bs ro al se dr mn) H := hP
  have hD : va_D A (bd_DW d hd qp h qb qm qf qs qr n pa g mt fr bs ro al se dr mn) := hD
  obtain ⟨mt', ⟨fr', bs', ro', se', dr', mn'⟩, e1⟩ := bd_most_run (al := 2 ^ n - 1) hg (fr, bs, ro, se, dr, mn)
  refine bd_calli (wr := [(hd, .inr (0, [.ref qb, .ref qp, .ref h, .int (nI n)])), (qp, .inl (d, 10, .inl (bd_eA pa)))]) (rest := []) ⟨hx, hb, hml, hown, hts⟩ (metX1_most l D d h qb qm qf qs qr g mt fr bs ro (2 ^ n - 1) se dr mn al (bd_all_lt hn) mt' fr' bs' ro' se' dr' mn' _ e1 _) (cwV 1 hts (lw_V q93 q94 q95 q11 q96) rfl rfl rfl (by decide +kernel) ⟨Nat.le_of_ble_eq_true rfl, Nat.le_of_ble_eq_true rfl⟩) hK hP hD hS hA [2, 3, 4, 5, 6, 7] [0, 1] [0] rfl rfl rfl rfl rfl rfl (by decide) (ci := 1) (q0 := 0) rfl rfl rfl hl.1 rfl (Nat.le_of_ble_eq_true rfl) dX0_most_8 ⟨Nat.le_refl _, Nat.le_refl _⟩ (fun r_ u_ H locs hw_ hP hD hS => ?_)
  subst hw_
  have hP : va_P D bdCl (bd_DW d hd qp h qb qm qf qs qr n pa g mt' fr' bs' ro' (2 ^ n - 1) se' dr' mn') H := hP
  have hD : va_D A (bd_DW d hd qp h qb qm qf qs qr n pa g mt' fr' bs' ro' (2 ^ n - 1) se' dr' mn') := hD
  exact bd_iret (wf := bd_DX d hd qp h qb qm qf qs qr n g) hx hb hr rfl hlocks (pa, mt', (fr', bs', ro', se', dr', mn'), 2 ^ n - 1) ⟨rfl, rfl⟩ hK hP hD hS dX0_most_11
end
section
/-! BONDDESK: always, partner -/
theorem bd_sub1 {x wa : Nat} (h : x + 1 = wa) : nI x = nI wa - nI 1 := by
  rw [← h, pk_sub (by omega)]
  rfl
theorem bd_sub1' {x wa : Nat} (hx : x < 2 ^ 30) (hwa : wa < 2 ^ 30) (h : ¬ x + 1 = wa) : ¬ nI x = nI wa - nI 1 := fun q => by
  have h1 := pk_sub_toInt (a := wa) (b := 1) hwa (by decide)
  rw [← q, nI_toInt (by omega)] at h1
  omega
theorem bd_dec {wa : Nat} (h : 0 < wa) : nI wa + Int32.ofInt (-1) = nI (wa - 1) := sb_m1 h
/-- partner, inner loop: k places left; what is left, how many are wanted, the partners -/
def bd_dpi (N : Nat → Nat) (gv n v : Nat) : Nat → Nat → Nat → (Nat → Nat) → Nat × Nat × (Nat → Nat)
  | 0, left, wa, pa => (left, wa, pa)
  | k + 1, left, wa, pa => if pa v < 10 then (left, wa, pa) else
      if (left &&& gv).testBit (n - (k + 1)) = true ∧ N (bd_clr left (n - (k + 1))) + 1 = wa then
        bd_dpi N gv n v k (bd_clr left (n - (k + 1))) (wa - 1) (bd_up (bd_up pa v (n - (k + 1))) (n - (k + 1)) v)
      else bd_dpi N gv n v k left wa pa
/-- partner, outer loop -/
def bd_dpo (N : Nat → Nat) (g : Nat → Nat) (n : Nat) : Nat → Nat → Nat → (Nat → Nat) → (Nat → Nat)
  | 0, _, _, pa => pa
  | k + 1, left, wa, pa => if left.testBit (n - (k + 1)) = true then
      bd_dpo N g n k (bd_dpi N (g (n - (k + 1))) n (n - (k + 1)) n (bd_clr left (n - (k + 1))) wa pa).1 (bd_dpi N (g (n - (k + 1))) n (n - (k + 1)) n (bd_clr left (n - (k + 1))) wa pa).2.1 (bd_dpi N (g (n - (k + 1))) n (n - (k + 1)) n (bd_clr left (n - (k + 1))) wa pa).2.2
      else bd_dpo N g n k left wa pa
section WALK
variable {p : Program} {l : Launch} {e : Env} {R : Room} {s : State} {m : MethodId} {args : Array Value} {below : List Frame} {meth : Method} {c : Code} {cells slots : Nat} {Q : State → Prop} {D : va_G} {A : Nat → Prop} {H0 : Heap} {d : ClassId} {hd qp h qb qm qf qs qr : Nat}
set_option maxHeartbeats 4000000 in
set_option maxRecDepth 100000 in
theorem bd_always_lp (F : CallFix p m c cX0_always 4 s args lw_all RX0) (hRf : 4 ≤ R.frames ∧ 97 ≤ R.locals) (hf : cells ≤ R.cells ∧ slots ≤ R.slots) (hA : ∀ q, H0.size ≤ q → A q) (hK : va_K D bdCl [(d, .int)] s) {g : Nat → Nat} {n : Nat} (hg : ∀ x y, x < 10 → y < 10 → (g x).testBit y = (g y).testBit x) (hn : n ≤ 10) (fin : Nat) (kx : ∀ (pa mt fr bs ro : Nat → Nat) (al se dr mn : Nat) (H : Heap) (locs : List Loc) (ls : Array Slot), va_P D bdCl (bd_DW d hd qp h qb qm qf qs qr n pa g mt fr bs ro al se dr mn) H → va_D A (bd_DW d hd qp h qb qm qf qs qr n pa g mt fr bs ro al se dr mn) → va_S A H0 H locs → lv_has ls 4 [(2, .int (nI fin))] → W p l e R s m args below meth c H locs cells slots Q (F0 m 50 ls [])) :
    ∀ (k v acc : Nat) (pa mt fr bs ro : Nat → Nat) (al se dr mn : Nat), v + k = n → bd_alw (bd_nu (fun a b => (g a).testBit b) 10) n k acc = fin → ∀ (H : Heap) (locs : List Loc) (ls : Array Slot), va_P D bdCl (bd_DW d hd qp h qb qm qf qs qr n pa g mt fr bs ro al se dr mn) H → va_D A (bd_DW d hd qp h qb qm qf qs qr n pa g mt fr bs ro al se dr mn) → va_S A H0 H locs → lv_has ls 4 [(0, .ref hd), (1, .int (nI (bd_nu (fun a b => (g a).testBit b) 10 (2 ^ n - 1)))), (2, .int (nI acc)), (3, .int (nI v))] → W p l e R s m args below meth c H locs cells slots Q (F0 m 9 ls []) := by
  obtain ⟨hx, hb, hml, hown, hts⟩ := id F
  intro k
  induction k with
  | zero =>
    intro v acc pa mt fr bs ro al se dr mn hu hrun H locs ls hP hD hS hl
    have hrun : acc = fin := hrun
    subst hrun
    refine lv_iload_n hx hb dX0_always_9 rfl (lv_at hl 3 rfl) ?_
    refine lv_aload_n hx hb dX0_always_10 rfl (lv_at hl 0 rfl) ?_
    refine va_get (D := D) (ci := 0) (v := .int (nI n)) (C := RX0) (T := TX0) (N := 4) hx hb hts in_X0 hown hK hP 0 rfl rfl 3 (by decide) (hts _ q59) (fun _ h9 => h9) rfl dX0_always_11 ?_
    refine lv_icmp_ge (tgt := 50) hx hb dX0_always_14 (by decide) (fun _ => ?_) (fun c_ => absurd (nI_le (show n ≤ v by omega) (by omega)) c_)
    exact kx _ _ _ _ _ _ _ _ _ H locs ls hP hD hS (lv_sub hl [2] rfl)
  | succ k ih =>
    intro v acc pa mt fr bs ro al se dr mn hk hrun H locs ls hP hD hS hl
    have hvn : v < n := by omega
    have hv : v < 10 := by omega
    unfold bd_alw at hrun
    rw [show n - (k + 1) = v by omega] at hrun
    refine lv_iload_n hx hb dX0_always_9 rfl (lv_at hl 3 rfl) ?_
    refine lv_aload_n hx hb dX0_always_10 rfl (lv_at hl 0 rfl) ?_
    refine va_get (D := D) (ci := 0) (v := .int (nI n)) (C := RX0) (T := TX0) (N := 4) hx hb hts in_X0 hown hK hP 0 rfl rfl 3 (by decide) (hts _ q59) (fun _ h9 => h9) rfl dX0_always_11 ?_
    refine lv_icmp_ge (tgt := 50) hx hb dX0_always_14 (by decide) (fun c_ => absurd c_ (nI_ge hvn (by omega))) (fun _ => ?_)
    refine lv_aload_n hx hb dX0_always_17 rfl (lv_at hl 0 rfl) ?_
    refine va_get (D := D) (ci := 0) (v := .ref h) (C := RX0) (T := TX0) (N := 4) hx hb hts in_X0 hown hK hP 0 rfl rfl 2 (by decide) (hts _ q58) (fun _ h9 => h9) rfl dX0_always_18 ?_
    refine lv_aload_n hx hb dX0_always_21 rfl (lv_at hl 0 rfl) ?_
    refine bd_calli (wr := []) (rest := [.ref h]) ⟨hx, hb, hml, hown, hts⟩ (metX0_all l D d hd qp h qb qm qf qs qr n pa g mt fr bs ro al se dr mn hn _) (cwV 0 hts (lw_V q89 q91 qs0 q10 q92) rfl rfl rfl (by decide +kernel) ⟨Nat.le_trans (by decide) hRf.1, Nat.le_trans (by decide) hRf.2⟩) hK hP hD hS hA [0, 1, 2, 3, 4, 5, 6, 7] [] [0] rfl rfl rfl rfl rfl rfl (by decide) (ci := 0) (q0 := 0) rfl rfl rfl hl.1 rfl (Nat.le_of_ble_eq_true rfl) dX0_always_22 hf (fun r_ u_ H locs hw_ hP hD hS => ?_)
    subst hw_
    have hP : va_P D bdCl (bd_DW d hd qp h qb qm qf qs qr n pa g mt fr bs ro al se dr mn) H := hP
    have hD : va_D A (bd_DW d hd qp h qb qm qf qs qr n pa g mt fr bs ro al se dr mn) := hD
    refine lv_iconst (v := nI 1) hx hb dX0_always_25 (by decide) ?_
    refine lv_iload_n hx hb dX0_always_26 rfl (lv_at hl 3 rfl) ?_
    refine bd_ishl hx hb dX0_always_27 (Nat.lt_of_lt_of_le hv (by decide)) ?_
    refine lv_iconst (v := -1) hx hb dX0_always_28 (by decide) ?_
    refine lv_ixor hx hb dX0_always_29 ?_
    refine bd_iclr hx hb dX0_always_30 ?_
    obtain ⟨mt1, ⟨fr1, bs1, ro1, se1, dr1, mn1⟩, e1⟩ := bd_most_run (al := bd_clr (2 ^ n - 1) v) hg (fr, bs, ro, se, dr, mn)
    refine bd_calli (wr := [(hd, .inr (0, [.ref qb, .ref qp, .ref h, .int (nI n)])), (qp, .inl (d, 10, .inl (bd_eA pa)))]) (rest := []) ⟨hx, hb, hml, hown, hts⟩ (metX1_most l D d h qb qm qf qs qr g mt fr bs ro (bd_clr (2 ^ n - 1) v) se dr mn al (bd_clr_lt (bd_all_lt hn)) mt1 fr1 bs1 ro1 se1 dr1 mn1 _ e1 _) (cwV 1 hts (lw_V q93 q94 q95 q11 q96) rfl rfl rfl (by decide +kernel) ⟨hRf.1, hRf.2⟩) hK hP hD hS hA [2, 3, 4, 5, 6, 7] [0, 1] [0] rfl rfl rfl rfl rfl rfl (by decide) (ci := 1) (q0 := 0) rfl rfl rfl hl.1 rfl (Nat.le_of_ble_eq_true rfl) dX0_always_31 hf (fun r_ u_ H locs hw_ hP hD hS => ?_)
    subst hw_
    have hP : va_P D bdCl (bd_DW d hd qp h qb qm qf qs qr n pa g mt1 fr1 bs1 ro1 (bd_clr (2 ^ n - 1) v) se1 dr1 mn1) H := hP
    have hD : va_D A (bd_DW d hd qp h qb qm qf qs qr n pa g mt1 fr1 bs1 ro1 (bd_clr (2 ^ n - 1) v) se1 dr1 mn1) := hD
    refine lv_iload_n hx hb dX0_always_34 rfl (lv_at hl 1 rfl) ?_
    have hb1 := bd_nu_b (fun a b => (g a).testBit b) 10 (2 ^ n - 1)
    have hb2 := bd_nu_b (fun a b => (g a).testBit b) 10 (bd_clr (2 ^ n - 1) v)
    by_cases c1 : bd_nu (fun a b => (g a).testBit b) 10 (bd_clr (2 ^ n - 1) v) < bd_nu (fun a b => (g a).testBit b) 10 (2 ^ n - 1)
    · rw [if_pos c1] at hrun
      refine lv_icmp_ge (tgt := 44) hx hb dX0_always_35 (by decide) (fun c_ => absurd c_ (nI_ge c1 (by omega))) (fun _ => ?_)
      refine lv_iload_n hx hb dX0_always_38 rfl (lv_at hl 2 rfl) ?_
      refine lv_iconst (v := nI 1) hx hb dX0_always_39 (by decide) ?_
      refine lv_iload_n hx hb dX0_always_40 rfl (lv_at hl 3 rfl) ?_
      refine bd_ishl hx hb dX0_always_41 (Nat.lt_of_lt_of_le hv (by decide)) ?_
      refine bd_ior hx hb dX0_always_42 ?_
      refine lv_istore_n (lv' := [(2, .int (nI (acc ||| (2 ^ v)))), (0, .ref hd), (1, .int (nI (bd_nu (fun a b => (g a).testBit b) 10 (2 ^ n - 1)))), (3, .int (nI v))]) hx hb dX0_always_43 rfl hl (by decide) rfl (fun ls hl => ?_)
      refine lv_iinc (v := nI (v + 1)) (lv' := [(3, .int (nI (v + 1))), (2, .int (nI (acc ||| (2 ^ v)))), (0, .ref hd), (1, .int (nI (bd_nu (fun a b => (g a).testBit b) 10 (2 ^ n - 1))))]) hx hb dX0_always_44 hl (k := 3) rfl (nI_1 _) (by decide) rfl (fun ls hl => ?_)
      refine lv_goto (tgt := 9) hx hb dX0_always_47 (by decide) ?_
      exact ih (v + 1) _ _ _ _ _ _ _ _ _ _ (by omega) hrun H locs ls hP hD hS (lv_sub hl [2, 3, 1, 0] rfl)
    · rw [if_neg c1] at hrun
      refine lv_icmp_ge (tgt := 44) hx hb dX0_always_35 (by decide) (fun _ => ?_) (fun c_ => absurd (nI_le (by omega) (by omega)) c_)
      refine lv_iinc (v := nI (v + 1)) (lv' := [(3, .int (nI (v + 1))), (0, .ref hd), (1, .int (nI (bd_nu (fun a b => (g a).testBit b) 10 (2 ^ n - 1)))), (2, .int (nI acc))]) hx hb dX0_always_44 hl (k := 3) rfl (nI_1 _) (by decide) rfl (fun ls hl => ?_)
      refine lv_goto (tgt := 9) hx hb dX0_always_47 (by decide) ?_
      exact ih (v + 1) _ _ _ _ _ _ _ _ _ _ (by omega) hrun H locs ls hP hD hS (lv_sub hl [1, 2, 3, 0] rfl)
set_option maxHeartbeats 4000000 in
set_option maxRecDepth 100000 in
theorem bd_partner_l1 (F : CallFix p m c cX0_partner 6 s args lw_all RX0) (hK : va_K D bdCl [(d, .int)] s) {g mt fr bs ro : Nat → Nat} {n al se dr mn left wa : Nat} {a : Int32} (hn : n ≤ 10) (kx : ∀ (pa : Nat → Nat) (H : Heap) (locs : List Loc) (ls : Array Slot), (∀ j, j < n → pa j = 10) → va_P D bdCl (bd_DW d hd qp h qb qm qf qs qr n pa g mt fr bs ro al se dr mn) H → va_D A (bd_DW d hd qp h qb qm qf qs qr n pa g mt fr bs ro al se dr mn) → va_S A H0 H locs → lv_has ls 6 [(0, .ref hd), (1, .int a), (2, .int (nI left)), (3, .int (nI wa))] → W p l e R s m args below meth c H locs cells slots Q (F0 m 36 ls [])) :
    ∀ (k v : Nat) (pa : Nat → Nat), v + k = n → (∀ j, j < v → pa j = 10) → ∀ (H : Heap) (locs : List Loc) (ls : Array Slot), va_P D bdCl (bd_DW d hd qp h qb qm qf qs qr n pa g mt fr bs ro al se dr mn) H → va_D A (bd_DW d hd qp h qb qm qf qs qr n pa g mt fr bs ro al se dr mn) → va_S A H0 H locs → lv_has ls 6 [(0, .ref hd), (1, .int a), (2, .int (nI left)), (3, .int (nI wa)), (4, .int (nI v))] → W p l e R s m args below meth c H locs cells slots Q (F0 m 13 ls []) := by
  obtain ⟨hx, hb, hml, hown, hts⟩ := id F
  intro k
  induction k with
  | zero =>
    intro v pa hu hI H locs ls hP hD hS hl
    refine lv_iload hx hb dX0_partner_13 (lv_at hl 4 rfl) ?_
    refine lv_aload_n hx hb dX0_partner_15 rfl (lv_at hl 0 rfl) ?_
    refine va_get (D := D) (ci := 0) (v := .int (nI n)) (C := RX0) (T := TX0) (N := 4) hx hb hts in_X0 hown hK hP 0 rfl rfl 3 (by decide) (hts _ q59) (fun _ h9 => h9) rfl dX0_partner_16 ?_
    refine lv_icmp_ge (tgt := 36) hx hb dX0_partner_19 (by decide) (fun _ => ?_) (fun c_ => absurd (nI_le (show n ≤ v by omega) (by omega)) c_)
    exact kx pa H locs ls (fun j hj => hI j (by omega)) hP hD hS (lv_sub hl [0, 1, 2, 3] rfl)
  | succ k ih =>
    intro v pa hk hI H locs ls hP hD hS hl
    have hvn : v < n := by omega
    have hv : v < 10 := by omega
    refine lv_iload hx hb dX0_partner_13 (lv_at hl 4 rfl) ?_
    refine lv_aload_n hx hb dX0_partner_15 rfl (lv_at hl 0 rfl) ?_
    refine va_get (D := D) (ci := 0) (v := .int (nI n)) (C := RX0) (T := TX0) (N := 4) hx hb hts in_X0 hown hK hP 0 rfl rfl 3 (by decide) (hts _ q59) (fun _ h9 => h9) rfl dX0_partner_16 ?_
    refine lv_icmp_ge (tgt := 36) hx hb dX0_partner_19 (by decide) (fun c_ => absurd c_ (nI_ge hvn (by omega))) (fun _ => ?_)
    refine lv_aload_n hx hb dX0_partner_22 rfl (lv_at hl 0 rfl) ?_
    refine va_get (D := D) (ci := 0) (v := .ref qp) (C := RX0) (T := TX0) (N := 4) hx hb hts in_X0 hown hK hP 0 rfl rfl 1 (by decide) (hts _ q57) (fun _ h9 => h9) rfl dX0_partner_23 ?_
    refine lv_iload hx hb dX0_partner_26 (lv_at hl 4 rfl) ?_
    refine lv_iconst (v := -1) hx hb dX0_partner_28 (by decide) ?_
    refine bd_astE (v := 10) hx hb hK hP hD hS 1 0 rfl rfl (bd_eN_g (by decide)).symm hv dX0_partner_29 (fun H locs hP hD hS => ?_)
    have hP : va_P D bdCl (bd_DW d hd qp h qb qm qf qs qr n (bd_up pa v 10) g mt fr bs ro al se dr mn) H := hP
    have hD : va_D A (bd_DW d hd qp h qb qm qf qs qr n (bd_up pa v 10) g mt fr bs ro al se dr mn) := hD
    refine lv_iinc (v := nI (v + 1)) (lv' := [(4, .int (nI (v + 1))), (0, .ref hd), (1, .int a), (2, .int (nI left)), (3, .int (nI wa))]) hx hb dX0_partner_30 hl (k := 4) rfl (nI_1 _) (by decide) rfl (fun ls hl => ?_)
    refine lv_goto (tgt := 13) hx hb dX0_partner_33 (by decide) ?_
    exact ih (v + 1) _ (by omega) (fun j hj => by
      by_cases e : j = v
      · rw [e, bd_up_s]
      · rw [bd_up_n e]; exact hI j (by omega)) H locs ls hP hD hS (lv_sub hl [1, 2, 3, 4, 0] rfl)
set_option maxHeartbeats 4000000 in
set_option maxRecDepth 100000 in
theorem bd_partner_in (F : CallFix p m c cX0_partner 6 s args lw_all RX0) (hRf : 4 ≤ R.frames ∧ 97 ≤ R.locals) (hf : cells ≤ R.cells ∧ slots ≤ R.slots) (hA : ∀ q, H0.size ≤ q → A q) (hK : va_K D bdCl [(d, .int)] s) {g : Nat → Nat} {n v : Nat} {a : Int32} (hg : ∀ x y, x < 10 → y < 10 → (g x).testBit y = (g y).testBit x) (hn : n ≤ 10) (hvn : v < n) (left' wa' : Nat) (pa' : Nat → Nat) (kx : ∀ (mt fr bs ro : Nat → Nat) (al se dr mn : Nat) (H : Heap) (locs : List Loc) (ls : Array Slot), left' < 1024 → wa' ≤ 10 → va_P D bdCl (bd_DW d hd qp h qb qm qf qs qr n pa' g mt fr bs ro al se dr mn) H → va_D A (bd_DW d hd qp h qb qm qf qs qr n pa' g mt fr bs ro al se dr mn) → va_S A H0 H locs → lv_has ls 6 [(0, .ref hd), (1, .int a), (2, .int (nI left')), (3, .int (nI wa')), (4, .int (nI v))] → W p l e R s m args below meth c H locs cells slots Q (F0 m 166 ls [])) :
    ∀ (k w left wa : Nat) (pa mt fr bs ro : Nat → Nat) (al se dr mn : Nat), w + k = n → left < 1024 → wa ≤ 10 → bd_dpi (bd_nu (fun a b => (g a).testBit b) 10) (g v) n v k left wa pa = (left', wa', pa') → ∀ (H : Heap) (locs : List Loc) (ls : Array Slot), va_P D bdCl (bd_DW d hd qp h qb qm qf qs qr n pa g mt fr bs ro al se dr mn) H → va_D A (bd_DW d hd qp h qb qm qf qs qr n pa g mt fr bs ro al se dr mn) → va_S A H0 H locs → lv_has ls 6 [(0, .ref hd), (1, .int a), (2, .int (nI left)), (3, .int (nI wa)), (4, .int (nI v)), (5, .int (nI w))] → W p l e R s m args below meth c H locs cells slots Q (F0 m 72 ls []) := by
  obtain ⟨hx, hb, hml, hown, hts⟩ := id F
  have hv : v < 10 := by omega
  intro k
  induction k with
  | zero =>
    intro w left wa pa mt fr bs ro al se dr mn hu hleft hwa hrun H locs ls hP hD hS hl
    unfold bd_dpi at hrun
    cases hrun
    refine lv_iload hx hb dX0_partner_72 (lv_at hl 5 rfl) ?_
    refine lv_aload_n hx hb dX0_partner_74 rfl (lv_at hl 0 rfl) ?_
    refine va_get (D := D) (ci := 0) (v := .int (nI n)) (C := RX0) (T := TX0) (N := 4) hx hb hts in_X0 hown hK hP 0 rfl rfl 3 (by decide) (hts _ q59) (fun _ h9 => h9) rfl dX0_partner_75 ?_
    refine lv_icmp_ge (tgt := 166) hx hb dX0_partner_78 (by decide) (fun _ => ?_) (fun c_ => absurd (nI_le (show n ≤ w by omega) (by omega)) c_)
    exact kx _ _ _ _ _ _ _ _ H locs ls hleft hwa hP hD hS (lv_sub hl [0, 1, 2, 3, 4] rfl)
  | succ k ih =>
    intro w left wa pa mt fr bs ro al se dr mn hk hleft hwa hrun H locs ls hP hD hS hl
    have hwn : w < n := by omega
    have hw : w < 10 := by omega
    unfold bd_dpi at hrun
    rw [show n - (k + 1) = w by omega] at hrun
    refine lv_iload hx hb dX0_partner_72 (lv_at hl 5 rfl) ?_
    refine lv_aload_n hx hb dX0_partner_74 rfl (lv_at hl 0 rfl) ?_
    refine va_get (D := D) (ci := 0) (v := .int (nI n)) (C := RX0) (T := TX0) (N := 4) hx hb hts in_X0 hown hK hP 0 rfl rfl 3 (by decide) (hts _ q59) (fun _ h9 => h9) rfl dX0_partner_75 ?_
    refine lv_icmp_ge (tgt := 166) hx hb dX0_partner_78 (by decide) (fun c_ => absurd c_ (nI_ge hwn (by omega))) (fun _ => ?_)
    refine lv_aload_n hx hb dX0_partner_81 rfl (lv_at hl 0 rfl) ?_
    refine va_get (D := D) (ci := 0) (v := .ref qp) (C := RX0) (T := TX0) (N := 4) hx hb hts in_X0 hown hK hP 0 rfl rfl 1 (by decide) (hts _ q57) (fun _ h9 => h9) rfl dX0_partner_82 ?_
    refine lv_iload hx hb dX0_partner_85 (lv_at hl 4 rfl) ?_
    refine bd_aldE hx hb hK hP 1 0 rfl rfl hv dX0_partner_87 ?_
    refine lv_iconst (v := -1) hx hb dX0_partner_88 (by decide) ?_
    by_cases c1 : pa v < 10
    · rw [if_pos c1] at hrun
      cases hrun
      refine lv_icmp_ne (tgt := 166) hx hb dX0_partner_89 (by decide) (fun _ => ?_) (fun c_ => absurd c_ (by rw [bd_eN_l c1]; exact bd_nm1 (bd_31 c1)))
      exact kx _ _ _ _ _ _ _ _ H locs ls hleft hwa hP hD hS (lv_sub hl [0, 1, 2, 3, 4] rfl)
    · rw [if_neg c1] at hrun
      refine lv_icmp_ne (tgt := 166) hx hb dX0_partner_89 (by decide) (fun c_ => absurd (bd_eN_g c1) c_) (fun _ => ?_)
      refine lv_iload_n hx hb dX0_partner_92 rfl (lv_at hl 2 rfl) ?_
      refine lv_aload_n hx hb dX0_partner_93 rfl (lv_at hl 0 rfl) ?_
      refine va_get (D := D) (ci := 0) (v := .ref qb) (C := RX0) (T := TX0) (N := 4) hx hb hts in_X0 hown hK hP 0 rfl rfl 0 (by decide) (hts _ q56) (fun _ h9 => h9) rfl dX0_partner_94 ?_
      refine lv_iload hx hb dX0_partner_97 (lv_at hl 4 rfl) ?_
      refine bd_aldN hx hb hK hP 3 0 rfl rfl hv (by decide) dX0_partner_99 ?_
      refine bd_iand hx hb dX0_partner_100 ?_
      refine lv_iconst (v := nI 1) hx hb dX0_partner_101 (by decide) ?_
      refine lv_iload hx hb dX0_partner_102 (lv_at hl 5 rfl) ?_
      refine bd_ishl hx hb dX0_partner_104 (Nat.lt_of_lt_of_le hw (by decide)) ?_
      refine bd_iand hx hb dX0_partner_105 ?_
      by_cases c2 : (left &&& g v).testBit w = true
      · refine lv_if_eq (tgt := 160) hx hb dX0_partner_106 (by decide) (fun c_ => absurd c_ (bd_and2n (by omega) c2)) (fun _ => ?_)
        refine lv_aload_n hx hb dX0_partner_109 rfl (lv_at hl 0 rfl) ?_
        refine va_get (D := D) (ci := 0) (v := .ref h) (C := RX0) (T := TX0) (N := 4) hx hb hts in_X0 hown hK hP 0 rfl rfl 2 (by decide) (hts _ q58) (fun _ h9 => h9) rfl dX0_partner_110 ?_
        refine lv_iload_n hx hb dX0_partner_113 rfl (lv_at hl 2 rfl) ?_
        refine lv_iconst (v := nI 1) hx hb dX0_partner_114 (by decide) ?_
        refine lv_iload hx hb dX0_partner_115 (lv_at hl 5 rfl) ?_
        refine bd_ishl hx hb dX0_partner_117 (Nat.lt_of_lt_of_le hw (by decide)) ?_
        refine lv_iconst (v := -1) hx hb dX0_partner_118 (by decide) ?_
        refine lv_ixor hx hb dX0_partner_119 ?_
        refine bd_iclr hx hb dX0_partner_120 ?_
        obtain ⟨mt2, ⟨fr2, bs2, ro2, se2, dr2, mn2⟩, e2⟩ := bd_most_run (al := bd_clr left w) hg (fr, bs, ro, se, dr, mn)
        refine bd_calli (wr := [(hd, .inr (0, [.ref qb, .ref qp, .ref h, .int (nI n)])), (qp, .inl (d, 10, .inl (bd_eA pa)))]) (rest := []) ⟨hx, hb, hml, hown, hts⟩ (metX1_most l D d h qb qm qf qs qr g mt fr bs ro (bd_clr left w) se dr mn al (bd_clr_lt hleft) mt2 fr2 bs2 ro2 se2 dr2 mn2 _ e2 _) (cwV 1 hts (lw_V q93 q94 q95 q11 q96) rfl rfl rfl (by decide +kernel) ⟨hRf.1, hRf.2⟩) hK hP hD hS hA [2, 3, 4, 5, 6, 7] [0, 1] [0] rfl rfl rfl rfl rfl rfl (by decide) (ci := 1) (q0 := 0) rfl rfl rfl hl.1 rfl (Nat.le_of_ble_eq_true rfl) dX0_partner_121 hf (fun r_ u_ H locs hw_ hP hD hS => ?_)
        subst hw_
        have hP : va_P D bdCl (bd_DW d hd qp h qb qm qf qs qr n pa g mt2 fr2 bs2 ro2 (bd_clr left w) se2 dr2 mn2) H := hP
        have hD : va_D A (bd_DW d hd qp h qb qm qf qs qr n pa g mt2 fr2 bs2 ro2 (bd_clr left w) se2 dr2 mn2) := hD
        have hb2 := bd_nu_b (fun a b => (g a).testBit b) 10 (bd_clr left w)
        refine lv_iload_n hx hb dX0_partner_124 rfl (lv_at hl 3 rfl) ?_
        refine lv_iconst (v := nI 1) hx hb dX0_partner_125 (by decide) ?_
        refine lv_isub hx hb dX0_partner_126 ?_
        by_cases c3 : bd_nu (fun a b => (g a).testBit b) 10 (bd_clr left w) + 1 = wa
        · rw [if_pos ⟨c2, c3⟩] at hrun
          refine lv_icmp_ne (tgt := 160) hx hb dX0_partner_127 (by decide) (fun c_ => absurd (bd_sub1 c3) c_) (fun _ => ?_)
          refine lv_aload_n hx hb dX0_partner_130 rfl (lv_at hl 0 rfl) ?_
          refine va_get (D := D) (ci := 0) (v := .ref qp) (C := RX0) (T := TX0) (N := 4) hx hb hts in_X0 hown hK hP 0 rfl rfl 1 (by decide) (hts _ q57) (fun _ h9 => h9) rfl dX0_partner_131 ?_
          refine lv_iload hx hb dX0_partner_134 (lv_at hl 4 rfl) ?_
          refine lv_iload hx hb dX0_partner_136 (lv_at hl 5 rfl) ?_
          refine bd_astE (v := w) hx hb hK hP hD hS 1 0 rfl rfl (bd_eN_l hw).symm hv dX0_partner_138 (fun H locs hP hD hS => ?_)
          have hP : va_P D bdCl (bd_DW d hd qp h qb qm qf qs qr n (bd_up pa v w) g mt2 fr2 bs2 ro2 (bd_clr left w) se2 dr2 mn2) H := hP
          have hD : va_D A (bd_DW d hd qp h qb qm qf qs qr n (bd_up pa v w) g mt2 fr2 bs2 ro2 (bd_clr left w) se2 dr2 mn2) := hD
          refine lv_aload_n hx hb dX0_partner_139 rfl (lv_at hl 0 rfl) ?_
          refine va_get (D := D) (ci := 0) (v := .ref qp) (C := RX0) (T := TX0) (N := 4) hx hb hts in_X0 hown hK hP 0 rfl rfl 1 (by decide) (hts _ q57) (fun _ h9 => h9) rfl dX0_partner_140 ?_
          refine lv_iload hx hb dX0_partner_143 (lv_at hl 5 rfl) ?_
          refine lv_iload hx hb dX0_partner_145 (lv_at hl 4 rfl) ?_
          refine bd_astE (v := v) hx hb hK hP hD hS 1 0 rfl rfl (bd_eN_l hv).symm hw dX0_partner_147 (fun H locs hP hD hS => ?_)
          have hP : va_P D bdCl (bd_DW d hd qp h qb qm qf qs qr n (bd_up (bd_up pa v w) w v) g mt2 fr2 bs2 ro2 (bd_clr left w) se2 dr2 mn2) H := hP
          have hD : va_D A (bd_DW d hd qp h qb qm qf qs qr n (bd_up (bd_up pa v w) w v) g mt2 fr2 bs2 ro2 (bd_clr left w) se2 dr2 mn2) := hD
          refine lv_iload_n hx hb dX0_partner_148 rfl (lv_at hl 2 rfl) ?_
          refine lv_iconst (v := nI 1) hx hb dX0_partner_149 (by decide) ?_
          refine lv_iload hx hb dX0_partner_150 (lv_at hl 5 rfl) ?_
          refine bd_ishl hx hb dX0_partner_152 (Nat.lt_of_lt_of_le hw (by decide)) ?_
          refine lv_iconst (v := -1) hx hb dX0_partner_153 (by decide) ?_
          refine lv_ixor hx hb dX0_partner_154 ?_
          refine bd_iclr hx hb dX0_partner_155 ?_
          refine lv_istore_n (lv' := [(2, .int (nI (bd_clr left w))), (0, .ref hd), (1, .int a), (3, .int (nI wa)), (4, .int (nI v)), (5, .int (nI w))]) hx hb dX0_partner_156 rfl hl (by decide) rfl (fun ls hl => ?_)
          refine lv_iinc (v := nI (wa - 1)) (lv' := [(3, .int (nI (wa - 1))), (2, .int (nI (bd_clr left w))), (0, .ref hd), (1, .int a), (4, .int (nI v)), (5, .int (nI w))]) hx hb dX0_partner_157 hl (k := 3) rfl (bd_dec (by omega)) (by decide) rfl (fun ls hl => ?_)
          refine lv_iinc (v := nI (w + 1)) (lv' := [(5, .int (nI (w + 1))), (3, .int (nI (wa - 1))), (2, .int (nI (bd_clr left w))), (0, .ref hd), (1, .int a), (4, .int (nI v))]) hx hb dX0_partner_160 hl (k := 5) rfl (nI_1 _) (by decide) rfl (fun ls hl => ?_)
          refine lv_goto (tgt := 72) hx hb dX0_partner_163 (by decide) ?_
          exact ih (w + 1) _ _ _ _ _ _ _ _ _ _ _ (by omega) (bd_clr_lt hleft) (by omega) hrun H locs ls hP hD hS (lv_sub hl [3, 4, 2, 1, 5, 0] rfl)
        · rw [if_neg (fun q => c3 q.2)] at hrun
          refine lv_icmp_ne (tgt := 160) hx hb dX0_partner_127 (by decide) (fun _ => ?_) (fun c_ => absurd c_ (bd_sub1' (by omega) (by omega) c3))
          refine lv_iinc (v := nI (w + 1)) (lv' := [(5, .int (nI (w + 1))), (0, .ref hd), (1, .int a), (2, .int (nI left)), (3, .int (nI wa)), (4, .int (nI v))]) hx hb dX0_partner_160 hl (k := 5) rfl (nI_1 _) (by decide) rfl (fun ls hl => ?_)
          refine lv_goto (tgt := 72) hx hb dX0_partner_163 (by decide) ?_
          exact ih (w + 1) _ _ _ _ _ _ _ _ _ _ _ (by omega) hleft hwa hrun H locs ls hP hD hS (lv_sub hl [1, 2, 3, 4, 5, 0] rfl)
      · rw [if_neg (fun q => c2 q.1)] at hrun
        refine lv_if_eq (tgt := 160) hx hb dX0_partner_106 (by decide) (fun _ => ?_) (fun c_ => absurd (bd_and2z c2) c_)
        refine lv_iinc (v := nI (w + 1)) (lv' := [(5, .int (nI (w + 1))), (0, .ref hd), (1, .int a), (2, .int (nI left)), (3, .int (nI wa)), (4, .int (nI v))]) hx hb dX0_partner_160 hl (k := 5) rfl (nI_1 _) (by decide) rfl (fun ls hl => ?_)
        refine lv_goto (tgt := 72) hx hb dX0_partner_163 (by decide) ?_
        exact ih (w + 1) _ _ _ _ _ _ _ _ _ _ _ (by omega) hleft hwa hrun H locs ls hP hD hS (lv_sub hl [1, 2, 3, 4, 5, 0] rfl)
set_option maxHeartbeats 4000000 in
set_option maxRecDepth 100000 in
theorem bd_partner_out (F : CallFix p m c cX0_partner 6 s args lw_all RX0) (hRf : 4 ≤ R.frames ∧ 97 ≤ R.locals) (hf : cells ≤ R.cells ∧ slots ≤ R.slots) (hA : ∀ q, H0.size ≤ q → A q) (hK : va_K D bdCl [(d, .int)] s) {g : Nat → Nat} {n : Nat} {a : Int32} (hg : ∀ x y, x < 10 → y < 10 → (g x).testBit y = (g y).testBit x) (hn : n ≤ 10) (fin : Nat → Nat) (kx : ∀ (mt fr bs ro : Nat → Nat) (al se dr mn : Nat) (H : Heap) (locs : List Loc) (ls : Array Slot), va_P D bdCl (bd_DW d hd qp h qb qm qf qs qr n fin g mt fr bs ro al se dr mn) H → va_D A (bd_DW d hd qp h qb qm qf qs qr n fin g mt fr bs ro al se dr mn) → va_S A H0 H locs → lv_has ls 6 [(0, .ref hd), (1, .int a)] → W p l e R s m args below meth c H locs cells slots Q (F0 m 172 ls [])) :
    ∀ (k v left wa : Nat) (pa mt fr bs ro : Nat → Nat) (al se dr mn : Nat), v + k = n → left < 1024 → wa ≤ 10 → bd_dpo (bd_nu (fun a b => (g a).testBit b) 10) g n k left wa pa = fin → ∀ (H : Heap) (locs : List Loc) (ls : Array Slot), va_P D bdCl (bd_DW d hd qp h qb qm qf qs qr n pa g mt fr bs ro al se dr mn) H → va_D A (bd_DW d hd qp h qb qm qf qs qr n pa g mt fr bs ro al se dr mn) → va_S A H0 H locs → lv_has ls 6 [(0, .ref hd), (1, .int a), (2, .int (nI left)), (3, .int (nI wa)), (4, .int (nI v))] → W p l e R s m args below meth c H locs cells slots Q (F0 m 39 ls []) := by
  obtain ⟨hx, hb, hml, hown, hts⟩ := id F
  intro k
  induction k with
  | zero =>
    intro v left wa pa mt fr bs ro al se dr mn hu hleft hwa hrun H locs ls hP hD hS hl
    have hrun : pa = fin := hrun
    subst hrun
    refine lv_iload hx hb dX0_partner_39 (lv_at hl 4 rfl) ?_
    refine lv_aload_n hx hb dX0_partner_41 rfl (lv_at hl 0 rfl) ?_
    refine va_get (D := D) (ci := 0) (v := .int (nI n)) (C := RX0) (T := TX0) (N := 4) hx hb hts in_X0 hown hK hP 0 rfl rfl 3 (by decide) (hts _ q59) (fun _ h9 => h9) rfl dX0_partner_42 ?_
    refine lv_icmp_ge (tgt := 172) hx hb dX0_partner_45 (by decide) (fun _ => ?_) (fun c_ => absurd (nI_le (show n ≤ v by omega) (by omega)) c_)
    exact kx _ _ _ _ _ _ _ _ H locs ls hP hD hS (lv_sub hl [0, 1] rfl)
  | succ k ih =>
    intro v left wa pa mt fr bs ro al se dr mn hk hleft hwa hrun H locs ls hP hD hS hl
    have hvn : v < n := by omega
    have hv : v < 10 := by omega
    unfold bd_dpo at hrun
    rw [show n - (k + 1) = v by omega] at hrun
    refine lv_iload hx hb dX0_partner_39 (lv_at hl 4 rfl) ?_
    refine lv_aload_n hx hb dX0_partner_41 rfl (lv_at hl 0 rfl) ?_
    refine va_get (D := D) (ci := 0) (v := .int (nI n)) (C := RX0) (T := TX0) (N := 4) hx hb hts in_X0 hown hK hP 0 rfl rfl 3 (by decide) (hts _ q59) (fun _ h9 => h9) rfl dX0_partner_42 ?_
    refine lv_icmp_ge (tgt := 172) hx hb dX0_partner_45 (by decide) (fun c_ => absurd c_ (nI_ge hvn (by omega))) (fun _ => ?_)
    refine lv_iload_n hx hb dX0_partner_48 rfl (lv_at hl 2 rfl) ?_
    refine lv_iload hx hb dX0_partner_49 (lv_at hl 4 rfl) ?_
    refine bd_ishr hx hb dX0_partner_51 (bd_31' hleft) (Nat.lt_of_lt_of_le hv (by decide)) ?_
    refine lv_iconst (v := nI 1) hx hb dX0_partner_52 (by decide) ?_
    refine bd_iand1 hx hb dX0_partner_53 (bd_31' hleft) ?_
    by_cases c1 : left.testBit v = true
    · rw [if_pos c1] at hrun
      refine lv_if_ne (tgt := 60) hx hb dX0_partner_54 (by decide) (fun _ => ?_) (fun c_ => absurd c_ (bd_bnz c1))
      refine lv_iload_n hx hb dX0_partner_60 rfl (lv_at hl 2 rfl) ?_
      refine lv_iconst (v := nI 1) hx hb dX0_partner_61 (by decide) ?_
      refine lv_iload hx hb dX0_partner_62 (lv_at hl 4 rfl) ?_
      refine bd_ishl hx hb dX0_partner_64 (Nat.lt_of_lt_of_le hv (by decide)) ?_
      refine lv_iconst (v := -1) hx hb dX0_partner_65 (by decide) ?_
      refine lv_ixor hx hb dX0_partner_66 ?_
      refine bd_iclr hx hb dX0_partner_67 ?_
      refine lv_istore_n (lv' := [(2, .int (nI (bd_clr left v))), (0, .ref hd), (1, .int a), (3, .int (nI wa)), (4, .int (nI v))]) hx hb dX0_partner_68 rfl hl (by decide) rfl (fun ls hl => ?_)
      refine lv_iconst (v := nI 0) hx hb dX0_partner_69 (by decide) ?_
      refine lv_istore (lv' := [(5, .int (nI 0)), (2, .int (nI (bd_clr left v))), (0, .ref hd), (1, .int a), (3, .int (nI wa)), (4, .int (nI v))]) hx hb dX0_partner_70 hl (by decide) rfl (fun ls hl => ?_)
      obtain ⟨left1, wa1, pa1, e1⟩ : ∃ left1 wa1 pa1, bd_dpi (bd_nu (fun a b => (g a).testBit b) 10) (g v) n v n (bd_clr left v) wa pa = (left1, wa1, pa1) := ⟨_, _, _, rfl⟩
      rw [e1] at hrun
      refine bd_partner_in F hRf hf hA hK hg hn hvn left1 wa1 pa1 (fun mt fr bs ro al se dr mn H locs ls hleft hwa hP hD hS hl => ?_) n 0 _ _ pa mt fr bs ro al se dr mn (by omega) (bd_clr_lt hleft) hwa e1 H locs ls hP hD hS (lv_sub hl [2, 3, 1, 4, 5, 0] rfl)
      refine lv_iinc (v := nI (v + 1)) (lv' := [(4, .int (nI (v + 1))), (0, .ref hd), (1, .int a), (2, .int (nI left1)), (3, .int (nI wa1))]) hx hb dX0_partner_166 hl (k := 4) rfl (nI_1 _) (by decide) rfl (fun ls hl => ?_)
      refine lv_goto (tgt := 39) hx hb dX0_partner_169 (by decide) ?_
      exact ih (v + 1) _ _ _ _ _ _ _ _ _ _ _ (by omega) hleft hwa hrun H locs ls hP hD hS (lv_sub hl [1, 2, 3, 4, 0] rfl)
    · rw [if_neg c1] at hrun
      refine lv_if_ne (tgt := 60) hx hb dX0_partner_54 (by decide) (fun c_ => absurd (bd_bz c1) c_) (fun _ => ?_)
      refine lv_goto (tgt := 166) hx hb dX0_partner_57 (by decide) ?_
      refine lv_iinc (v := nI (v + 1)) (lv' := [(4, .int (nI (v + 1))), (0, .ref hd), (1, .int a), (2, .int (nI left)), (3, .int (nI wa))]) hx hb dX0_partner_166 hl (k := 4) rfl (nI_1 _) (by decide) rfl (fun ls hl => ?_)
      refine lv_goto (tgt := 39) hx hb dX0_partner_169 (by decide) ?_
      exact ih (v + 1) _ _ _ _ _ _ _ _ _ _ _ (by omega) hleft hwa hrun H locs ls hP hD hS (lv_sub hl [1, 2, 3, 4, 0] rfl)
end WALK
set_option maxHeartbeats 4000000 in
set_option maxRecDepth 100000 in
theorem metX0_always (l : Launch) (D : va_G) (d : ClassId) (hd qp h qb qm qf qs qr n : Nat) (pa g mt fr bs ro : Nat → Nat) (al se dr mn : Nat) (hg : ∀ x y, x < 10 → y < 10 → (g x).testBit y = (g y).testBit x) (hn : n ≤ 10) : bd_Ci l yX0_always cX0_always 4 .int ({ frames := 5, cells := 0, slots := 0, locals := 117 }) D [(d, .int)] [.ref hd] (bd_DW d hd qp h qb qm qf qs qr n pa g mt fr bs ro al se dr mn) (fun r (_ : bd_Hd) => r = nI (bd_alw (bd_nu (fun a b => (g a).testBit b) 10) n n 0)) (bd_DX d hd qp h qb qm qf qs qr n g) := by
  intro sz
  refine bd_start (Qc := fun A => va_Qi (fun r (_ : bd_Hd) => r = nI (bd_alw (bd_nu (fun a b => (g a).testBit b) 10) n n 0)) (fun u t => bd_Post D [(d, .int)] A ((bd_DX d hd qp h qb qm qf qs qr n g) u) t) A) (by decide) (Nat.le_of_ble_eq_true rfl) ?_
  intro p e s m below meth c A ls hx hb hr hml hts hown hlocks hin hA hK hP hD hl
  have hS : va_S A s.heap s.heap [] := va_S.rf
  have hl : lv_has ls 4 [(0, .ref hd)] := hl
  refine lv_aload_n hx hb dX0_always_0 rfl (lv_at hl 0 rfl) ?_
  refine bd_calli (wr := []) (rest := []) ⟨hx, hb, hml, hown, hts⟩ (metX0_most l D d hd qp h qb qm qf qs qr n pa g mt fr bs ro al se dr mn hg hn _) (cwV 0 hts (lw_V q125 q86 q87 q10 q88) rfl rfl rfl (by decide +kernel) ⟨Nat.le_of_ble_eq_true rfl, Nat.le_of_ble_eq_true rfl⟩) hK hP hD hS hA [0, 1, 2, 3, 4, 5, 6, 7] [] [0] rfl rfl rfl rfl rfl rfl (by decide) (ci := 0) (q0 := 0) rfl rfl rfl hl.1 rfl (Nat.le_of_ble_eq_true rfl) dX0_always_1 ⟨Nat.le_refl _, Nat.le_refl _⟩ (fun r_ u_ H locs hw_ hP hD hS => ?_)
  obtain ⟨pa0, mt0, ⟨fr0, bs0, ro0, se0, dr0, mn0⟩, al0⟩ := u_
  obtain ⟨hw1, -⟩ := hw_
  subst hw1
  have hP : va_P D bdCl (bd_DW d hd qp h qb qm qf qs qr n pa0 g mt0 fr0 bs0 ro0 al0 se0 dr0 mn0) H := hP
  have hD : va_D A (bd_DW d hd qp h qb qm qf qs qr n pa0 g mt0 fr0 bs0 ro0 al0 se0 dr0 mn0) := hD
  refine lv_istore_n (lv' := [(1, .int (nI (bd_nu (fun a b => (g a).testBit b) 10 (2 ^ n - 1)))), (0, .ref hd)]) hx hb dX0_always_4 rfl hl (by decide) rfl (fun ls hl => ?_)
  refine lv_iconst (v := nI 0) hx hb dX0_always_5 (by decide) ?_
  refine lv_istore_n (lv' := [(2, .int (nI 0)), (1, .int (nI (bd_nu (fun a b => (g a).testBit b) 10 (2 ^ n - 1)))), (0, .ref hd)]) hx hb dX0_always_6 rfl hl (by decide) rfl (fun ls hl => ?_)
  refine lv_iconst (v := nI 0) hx hb dX0_always_7 (by decide) ?_
  refine lv_istore_n (lv' := [(3, .int (nI 0)), (2, .int (nI 0)), (1, .int (nI (bd_nu (fun a b => (g a).testBit b) 10 (2 ^ n - 1)))), (0, .ref hd)]) hx hb dX0_always_8 rfl hl (by decide) rfl (fun ls hl => ?_)
  refine bd_always_lp ⟨hx, hb, hml, hown, hts⟩ ⟨Nat.le_of_ble_eq_true rfl, Nat.le_of_ble_eq_true rfl⟩ ⟨Nat.le_refl _, Nat.le_refl _⟩ hA hK hg hn _ (fun pa mt fr bs ro al se dr mn H locs ls hP hD hS hl => ?_) n 0 0 _ _ _ _ _ _ _ _ _ (by omega) rfl H locs ls hP hD hS (lv_sub hl [3, 2, 1, 0] rfl)
  refine lv_iload_n hx hb dX0_always_50 rfl (lv_at hl 0 rfl) ?_
  exact bd_iret (wf := bd_DX d hd qp h qb qm qf qs qr n g) hx hb hr rfl hlocks (pa, mt, (fr, bs, ro, se, dr, mn), al) rfl hK hP hD hS dX0_always_51
set_option maxHeartbeats 4000000 in
set_option maxRecDepth 100000 in
theorem metX0_partner (l : Launch) (D : va_G) (d : ClassId) (hd qp h qb qm qf qs qr n : Nat) (pa g mt fr bs ro : Nat → Nat) (al se dr mn : Nat) (hg : ∀ x y, x < 10 → y < 10 → (g x).testBit y = (g y).testBit x) (hn : n ≤ 10) (hn0 : 0 < n) (a : Int32) : bd_Ci l yX0_partner cX0_partner 6 .int ({ frames := 5, cells := 0, slots := 0, locals := 117 }) D [(d, .int)] [.ref hd, .int a] (bd_DW d hd qp h qb qm qf qs qr n pa g mt fr bs ro al se dr mn) (fun r (_ : bd_Hd) => ∃ pa1 : Nat → Nat, (∀ j, j < n → pa1 j = 10) ∧ r = bd_eN (bd_dpo (bd_nu (fun a b => (g a).testBit b) 10) g n n (2 ^ n - 1) (bd_nu (fun a b => (g a).testBit b) 10 (2 ^ n - 1)) pa1 (bd_lo a % n))) (bd_DX d hd qp h qb qm qf qs qr n g) := by
  intro sz
  refine bd_start (Qc := fun A => va_Qi (fun r (_ : bd_Hd) => ∃ pa1 : Nat → Nat, (∀ j, j < n → pa1 j = 10) ∧ r = bd_eN (bd_dpo (bd_nu (fun a b => (g a).testBit b) 10) g n n (2 ^ n - 1) (bd_nu (fun a b => (g a).testBit b) 10 (2 ^ n - 1)) pa1 (bd_lo a % n))) (fun u t => bd_Post D [(d, .int)] A ((bd_DX d hd qp h qb qm qf qs qr n g) u) t) A) (by decide) (Nat.le_of_ble_eq_true rfl) ?_
  intro p e s m below meth c A ls hx hb hr hml hts hown hlocks hin hA hK hP hD hl
  have hS : va_S A s.heap s.heap [] := va_S.rf
  have hl : lv_has ls 6 [(0, .ref hd), (1, .int a)] := hl
  refine lv_aload_n hx hb dX0_partner_0 rfl (lv_at hl 0 rfl) ?_
  refine bd_calli (wr := []) (rest := []) ⟨hx, hb, hml, hown, hts⟩ (metX0_all l D d hd qp h qb qm qf qs qr n pa g mt fr bs ro al se dr mn hn _) (cwV 0 hts (lw_V q89 q91 qs0 q10 q92) rfl rfl rfl (by decide +kernel) ⟨Nat.le_of_ble_eq_true rfl, Nat.le_of_ble_eq_true rfl⟩) hK hP hD hS hA [0, 1, 2, 3, 4, 5, 6, 7] [] [0] rfl rfl rfl rfl rfl rfl (by decide) (ci := 0) (q0 := 0) rfl rfl rfl hl.1 rfl (Nat.le_of_ble_eq_true rfl) dX0_partner_1 ⟨Nat.le_refl _, Nat.le_refl _⟩ (fun r_ u_ H locs hw_ hP hD hS => ?_)
  subst hw_
  have hP : va_P D bdCl (bd_DW d hd qp h qb qm qf qs qr n pa g mt fr bs ro al se dr mn) H := hP
  have hD : va_D A (bd_DW d hd qp h qb qm qf qs qr n pa g mt fr bs ro al se dr mn) := hD
  refine lv_istore_n (lv' := [(2, .int (nI (2 ^ n - 1))), (0, .ref hd), (1, .int a)]) hx hb dX0_partner_4 rfl hl (by decide) rfl (fun ls hl => ?_)
  refine lv_aload_n hx hb dX0_partner_5 rfl (lv_at hl 1 rfl) ?_
  refine bd_calli (wr := []) (rest := []) ⟨hx, hb, hml, hown, hts⟩ (metX0_most l D d hd qp h qb qm qf qs qr n pa g mt fr bs ro al se dr mn hg hn _) (cwV 0 hts (lw_V q125 q86 q87 q10 q88) rfl rfl rfl (by decide +kernel) ⟨Nat.le_of_ble_eq_true rfl, Nat.le_of_ble_eq_true rfl⟩) hK hP hD hS hA [0, 1, 2, 3, 4, 5, 6, 7] [] [0] rfl rfl rfl rfl rfl rfl (by decide) (ci := 0) (q0 := 0) rfl rfl rfl hl.1 rfl (Nat.le_of_ble_eq_true rfl) dX0_partner_6 ⟨Nat.le_refl _, Nat.le_refl _⟩ (fun r_ u_ H locs hw_ hP hD hS => ?_)
  obtain ⟨pa0, mt0, ⟨fr0, bs0, ro0, se0, dr0, mn0⟩, al0⟩ := u_
  obtain ⟨hw1, -⟩ := hw_
  subst hw1
  have hP : va_P D bdCl (bd_DW d hd qp h qb qm qf qs qr n pa0 g mt0 fr0 bs0 ro0 al0 se0 dr0 mn0) H := hP
  have hD : va_D A (bd_DW d hd qp h qb qm qf qs qr n pa0 g mt0 fr0 bs0 ro0 al0 se0 dr0 mn0) := hD
  refine lv_istore_n (lv' := [(3, .int (nI (bd_nu (fun a b => (g a).testBit b) 10 (2 ^ n - 1)))), (2, .int (nI (2 ^ n - 1))), (0, .ref hd), (1, .int a)]) hx hb dX0_partner_9 rfl hl (by decide) rfl (fun ls hl => ?_)
  refine lv_iconst (v := nI 0) hx hb dX0_partner_10 (by decide) ?_
  refine lv_istore (lv' := [(4, .int (nI 0)), (3, .int (nI (bd_nu (fun a b => (g a).testBit b) 10 (2 ^ n - 1)))), (2, .int (nI (2 ^ n - 1))), (0, .ref hd), (1, .int a)]) hx hb dX0_partner_11 hl (by decide) rfl (fun ls hl => ?_)
  refine bd_partner_l1 ⟨hx, hb, hml, hown, hts⟩ hK hn (fun pa1 H locs ls hpa hP hD hS hl => ?_) n 0 pa0 (by omega) (fun j hj => absurd hj (by omega)) H locs ls hP hD hS (lv_sub hl [3, 4, 2, 1, 0] rfl)
  refine lv_iconst (v := nI 0) hx hb dX0_partner_36 (by decide) ?_
  refine lv_istore (lv' := [(4, .int (nI 0)), (0, .ref hd), (1, .int a), (2, .int (nI (2 ^ n - 1))), (3, .int (nI (bd_nu (fun a b => (g a).testBit b) 10 (2 ^ n - 1))))]) hx hb dX0_partner_37 hl (by decide) rfl (fun ls hl => ?_)
  refine bd_partner_out ⟨hx, hb, hml, hown, hts⟩ ⟨Nat.le_of_ble_eq_true rfl, Nat.le_of_ble_eq_true rfl⟩ ⟨Nat.le_refl _, Nat.le_refl _⟩ hA hK hg hn _ (fun mt fr bs ro al se dr mn H locs ls hP hD hS hl => ?_) n 0 _ _ _ _ _ _ _ _ _ _ _ (by omega) (bd_all_lt hn) (bd_nu_b _ 10 _) rfl H locs ls hP hD hS (lv_sub hl [1, 2, 3, 4, 0] rfl)
  refine lv_aload_n hx hb dX0_partner_172 rfl (lv_at hl 0 rfl) ?_
  refine va_get (D := D) (ci := 0) (v := .ref qp) (C := RX0) (T := TX0) (N := 4) hx hb hts in_X0 hown hK hP 0 rfl rfl 1 (by decide) (hts _ q57) (fun _ h9 => h9) rfl dX0_partner_173 ?_
  refine lv_iload_n hx hb dX0_partner_176 rfl (lv_at hl 1 rfl) ?_
  refine lv_aload_n hx hb dX0_partner_177 rfl (lv_at hl 0 rfl) ?_
  refine va_get (D := D) (ci := 0) (v := .int (nI n)) (C := RX0) (T := TX0) (N := 4) hx hb hts in_X0 hown hK hP 0 rfl rfl 3 (by decide) (hts _ q59) (fun _ h9 => h9) rfl dX0_partner_178 ?_
  refine bd_calls (rest := [.ref qp]) ⟨hx, hb, hml, hown, hts⟩ (metX0_below l D a n hn0 (Nat.lt_of_le_of_lt hn (by decide)) _) (va_cwS 2 hts (lw_S q73 q74 q10 q75) rfl rfl rfl (by decide +kernel) ⟨Nat.le_of_ble_eq_true rfl, Nat.le_of_ble_eq_true rfl⟩) hK hP hS hA rfl hl.1 rfl (Nat.le_of_ble_eq_true rfl) dX0_partner_181 ⟨Nat.le_refl _, Nat.le_refl _⟩ (fun r_ H locs hw_ hP hS => ?_)
  subst hw_
  refine bd_aldE hx hb hK hP 1 0 rfl rfl (Nat.lt_of_lt_of_le (Nat.mod_lt _ hn0) hn) dX0_partner_184 ?_
  exact bd_iret (wf := bd_DX d hd qp h qb qm qf qs qr n g) hx hb hr rfl hlocks (bd_dpo (bd_nu (fun a b => (g a).testBit b) 10) g n n (2 ^ n - 1) (bd_nu (fun a b => (g a).testBit b) 10 (2 ^ n - 1)) pa1, mt, (fr, bs, ro, se, dr, mn), al) ⟨pa1, hpa, rfl⟩ hK hP hD hS dX0_partner_185
end
section
/-! CONSTRUCTORS; the world of a BondDeskModel -/
abbrev bd_DI (d : ClassId) (hd : Nat) (u : Nat × Nat × Nat × Nat × Nat × Nat × Nat) : va_W := bd_DW d hd u.1 u.2.1 u.2.2.1 u.2.2.2.1 u.2.2.2.2.1 u.2.2.2.2.2.1 u.2.2.2.2.2.2 2 (fun _ => 0) (fun _ => 0) (fun _ => 0) (fun _ => 0) (fun _ => 0) (fun _ => 0) 0 0 0 0
set_option maxHeartbeats 4000000 in
set_option maxRecDepth 100000 in
theorem metX0_init (l : Launch) (D : va_G) (hd : Nat) (sz : Nat) : Met l yX0_init (ws_ yX0_init cX0_init 1 none) ({ frames := 2, cells := 7, slots := 69, locals := 33 }) (va_Pc [.ref hd] (bd_Pre D [] ([(hd, .inr (0, [.null, .null, .null, .int 0]))]) sz)) (va_Qv (fun _ : ClassId × Nat × Nat × Nat × Nat × Nat × Nat × Nat => True) (fun u t => bd_Post D [(u.1, .int)] (va_A ([(hd, .inr (0, [.null, .null, .null, .int 0]))]) sz) (bd_DI u.1 hd u.2) t) (va_A ([(hd, .inr (0, [.null, .null, .null, .int 0]))]) sz)) 7 69 (va_A ([(hd, .inr (0, [.null, .null, .null, .int 0]))]) sz) := by
  refine bd_start (Qc := fun A => va_Qv (fun _ : ClassId × Nat × Nat × Nat × Nat × Nat × Nat × Nat => True) (fun u t => bd_Post D [(u.1, .int)] A (bd_DI u.1 hd u.2) t) A) (by decide) (Nat.le_of_ble_eq_true rfl) ?_
  intro p e s m below meth c A ls hx hb hr hml hts hown hlocks hin hA hK hP hD hl
  have hS : va_S A s.heap s.heap [] := va_S.rf
  have hl : lv_has ls 1 [(0, .ref hd)] := hl
  refine lv_aload_n hx hb dX0_init_0 rfl (lv_at hl 0 rfl) ?_
  refine W.objInit hx hb hown (hts _ q18) (hts _ q19) (hts _ q20) rfl (by rw [hml]; exact hl.1) rfl dX0_init_1 (Nat.le_of_ble_eq_true rfl) (Nat.le_of_ble_eq_true rfl) ?_
  refine W.eq (g2 := F0 m 4 ls []) rfl ?_
  refine lv_aload_n hx hb dX0_init_4 rfl (lv_at hl 0 rfl) ?_
  refine lv_bipush (v := nI 10) hx hb dX0_init_5 (by decide) ?_
  refine va_newa (atype := .int) (a0 := (10, .inl (bd_nA (fun _ => 0)))) hx hb (hts _ q55) (ty := .int) rfl hK hP hD hS hA (fun cA => rfl) (by decide) (N' := 10) (by decide) (by decide) (Nat.le_of_ble_eq_true rfl) (Nat.le_of_ble_eq_true rfl) dX0_init_7 (fun qb d H hK1 hP hD hS => ?_)
  have hK : va_K D bdCl [(d, .int)] s := hK1
  have hP : va_P D bdCl ([(hd, .inr (0, [.null, .null, .null, .int 0])), (qb, .inl (d, 10, .inl (bd_nA (fun _ => 0))))]) H := hP
  have hD : va_D A ([(hd, .inr (0, [.null, .null, .null, .int 0])), (qb, .inl (d, 10, .inl (bd_nA (fun _ => 0))))]) := hD
  refine va_putF (D := D) (ci := 0) (v := .ref qb) (ty := .array .int) (C := RX0) (T := TX0) (N := 4) hx hb hts in_X0 tyX0 tyX0_ok nmX0 hown hK hP hD hS 0 rfl rfl 0 (by decide) (hts _ q56) (fun _ h9 => h9) rfl hin rfl (by decide +kernel) rfl rfl (Nat.le_of_ble_eq_true rfl) dX0_init_9 (fun H locs hP hD hS => ?_)
  have hP : va_P D bdCl ([(hd, .inr (0, [.ref qb, .null, .null, .int 0])), (qb, .inl (d, 10, .inl (bd_nA (fun _ => 0))))]) H := hP
  have hD : va_D A ([(hd, .inr (0, [.ref qb, .null, .null, .int 0])), (qb, .inl (d, 10, .inl (bd_nA (fun _ => 0))))]) := hD
  refine lv_aload_n hx hb dX0_init_12 rfl (lv_at hl 0 rfl) ?_
  refine lv_bipush (v := nI 10) hx hb dX0_init_13 (by decide) ?_
  refine va_newa (atype := .int) (a0 := (10, .inl (bd_eA (fun _ => 0)))) hx hb (hts _ q55) (ty := .int) rfl hK hP hD hS hA (fun cA => rfl) (by decide) (N' := 10) (by decide) (by decide) (Nat.le_of_ble_eq_true rfl) (Nat.le_of_ble_eq_true rfl) dX0_init_15 (fun qp cA H hK1 hP hD hS => ?_)
  obtain rfl : d = cA := (bd_same hK1 (Or.inl rfl) 0 1 rfl rfl).symm
  have hP : va_P D bdCl ([(hd, .inr (0, [.ref qb, .null, .null, .int 0])), (qb, .inl (d, 10, .inl (bd_nA (fun _ => 0)))), (qp, .inl (d, 10, .inl (bd_eA (fun _ => 0))))]) H := hP
  have hD : va_D A ([(hd, .inr (0, [.ref qb, .null, .null, .int 0])), (qb, .inl (d, 10, .inl (bd_nA (fun _ => 0)))), (qp, .inl (d, 10, .inl (bd_eA (fun _ => 0))))]) := hD
  refine va_putF (D := D) (ci := 0) (v := .ref qp) (ty := .array .int) (C := RX0) (T := TX0) (N := 4) hx hb hts in_X0 tyX0 tyX0_ok nmX0 hown hK hP hD hS 0 rfl rfl 1 (by decide) (hts _ q57) (fun _ h9 => h9) rfl hin rfl (by decide +kernel) rfl rfl (Nat.le_of_ble_eq_true rfl) dX0_init_17 (fun H locs hP hD hS => ?_)
  have hP : va_P D bdCl ([(hd, .inr (0, [.ref qb, .ref qp, .null, .int 0])), (qb, .inl (d, 10, .inl (bd_nA (fun _ => 0)))), (qp, .inl (d, 10, .inl (bd_eA (fun _ => 0))))]) H := hP
  have hD : va_D A ([(hd, .inr (0, [.ref qb, .ref qp, .null, .int 0])), (qb, .inl (d, 10, .inl (bd_nA (fun _ => 0)))), (qp, .inl (d, 10, .inl (bd_eA (fun _ => 0))))]) := hD
  refine lv_aload_n hx hb dX0_init_20 rfl (lv_at hl 0 rfl) ?_
  refine va_new (ci := 1) (fs := [.null, .null, .null, .null, .null, .int 0, .int 0, .int 0, .int 0]) (C := RX1) (T := TX1) (N := 9) hx hb hts in_X1 tyX1 tyX1_ok hown (hts _ q21) (hts _ q22) (hts _ q11) hK hP hD hS hA rfl (fun j hj => by rcases (show j = 0 ∨ j = 1 ∨ j = 2 ∨ j = 3 ∨ j = 4 ∨ j = 5 ∨ j = 6 ∨ j = 7 ∨ j = 8 by omega) with rfl | rfl | rfl | rfl | rfl | rfl | rfl | rfl | rfl <;> rfl) (Nat.le_of_ble_eq_true rfl) (Nat.le_of_ble_eq_true rfl) dX0_init_21 (fun h H hP hD hS => ?_)
  have hP : va_P D bdCl ([(hd, .inr (0, [.ref qb, .ref qp, .null, .int 0])), (qb, .inl (d, 10, .inl (bd_nA (fun _ => 0)))), (qp, .inl (d, 10, .inl (bd_eA (fun _ => 0)))), (h, .inr (1, [.null, .null, .null, .null, .null, .int 0, .int 0, .int 0, .int 0]))]) H := hP
  have hD : va_D A ([(hd, .inr (0, [.ref qb, .ref qp, .null, .int 0])), (qb, .inl (d, 10, .inl (bd_nA (fun _ => 0)))), (qp, .inl (d, 10, .inl (bd_eA (fun _ => 0)))), (h, .inr (1, [.null, .null, .null, .null, .null, .int 0, .int 0, .int 0, .int 0]))]) := hD
  refine lv_dup hx hb dX0_init_24 rfl ?_
  refine lv_aload_n hx hb dX0_init_25 rfl (lv_at hl 0 rfl) ?_
  refine va_get (D := D) (ci := 0) (v := .ref qb) (C := RX0) (T := TX0) (N := 4) hx hb hts in_X0 hown hK hP 0 rfl rfl 0 (by decide) (hts _ q56) (fun _ h9 => h9) rfl dX0_init_26 ?_
  have hPc := hP.sub (ws' := [(h, .inr (1, [.null, .null, .null, .null, .null, .int 0, .int 0, .int 0, .int 0])), (qb, .inl (d, 10, .inl (bd_nA (fun _ => 0))))]) [3, 1] rfl
  have hDc := hD.sub (ws' := [(h, .inr (1, [.null, .null, .null, .null, .null, .int 0, .int 0, .int 0, .int 0])), (qb, .inl (d, 10, .inl (bd_nA (fun _ => 0))))]) [3, 1] (by decide) rfl
  have hFc := va_free (wc := [(h, .inr (1, [.null, .null, .null, .null, .null, .int 0, .int 0, .int 0, .int 0])), (qb, .inl (d, 10, .inl (bd_nA (fun _ => 0))))]) hD hS hA [3, 1] rfl
  refine va_callv (va_runI (As := [.ref qb]) (rest := [.ref h, .ref hd]) ⟨hx, hb, hml, hown, hts⟩ (metX1_init l D d h qb (fun _ => 0) H.size) (cwI 1 hts (lw_meth q25) rfl rfl rfl (hts _ q11) (hts _ q23) (hts _ q24) rfl (by decide +kernel) ⟨Nat.le_of_ble_eq_true rfl, Nat.le_of_ble_eq_true rfl⟩) ⟨fun a U g mk q => by obtain ⟨q0, q1, qP, qK, qD⟩ := q; exact ⟨q0, q1, qP, va_K.moved (u := U) (U := U.calling g mk a) (Vm.Alike.refl U.vm) qK, qD⟩, fun U hU hW => ⟨rfl, by rw [hU], by rw [hU]; exact hPc, va_K.moved hW.alike hK, hDc.weaken (fun _ _ _ _ => trivial)⟩⟩ rfl rfl hl.1 rfl (lv_room (Nat.le_of_ble_eq_true rfl)) dX0_init_29 ⟨Nat.le_of_ble_eq_true rfl, Nat.le_of_ble_eq_true rfl⟩) hS (fun q _ h => hFc q h) hFc (fun u t H1 locs ht hvm hw1 hB hz1 hk1 hS => ?_)
  obtain ⟨qm, qf, qs, qr⟩ := u
  obtain ⟨hP1, hK1, hD1⟩ := hB
  rw [ht] at hP1
  obtain ⟨hP, hD⟩ := va_join (wr := [(hd, .inr (0, [.ref qb, .ref qp, .null, .int 0])), (qp, .inl (d, 10, .inl (bd_eA (fun _ => 0))))]) (w1 := bd_PW d h qb qm qf qs qr (fun _ => 0) (fun _ => 0) (fun _ => 0) (fun _ => 0) (fun _ => 0) 0 0 0 0) hP hD [3, 1] [0, 2] rfl rfl (by decide) (by decide) hk1 hFc hP1 hD1
  generalize H1 = H at hP hS ⊢
  have hP : va_P D bdCl ((hd, .inr (0, [.ref qb, .ref qp, .null, .int 0])) :: (qp, .inl (d, 10, .inl (bd_eA (fun _ => 0)))) :: bd_PW d h qb qm qf qs qr (fun _ => 0) (fun _ => 0) (fun _ => 0) (fun _ => 0) (fun _ => 0) 0 0 0 0) H := hP
  have hD : va_D A ((hd, .inr (0, [.ref qb, .ref qp, .null, .int 0])) :: (qp, .inl (d, 10, .inl (bd_eA (fun _ => 0)))) :: bd_PW d h qb qm qf qs qr (fun _ => 0) (fun _ => 0) (fun _ => 0) (fun _ => 0) (fun _ => 0) 0 0 0 0) := hD
  refine va_putF (D := D) (ci := 0) (v := .ref h) (ty := .object "BondDesk$Pairing") (C := RX0) (T := TX0) (N := 4) hx hb hts in_X0 tyX0 tyX0_ok nmX0 hown hK hP hD hS 0 rfl rfl 2 (by decide) (hts _ q58) (fun _ h9 => h9) rfl hin rfl (by decide +kernel) rfl rfl (Nat.le_of_ble_eq_true rfl) dX0_init_32 (fun H locs hP hD hS => ?_)
  have hP : va_P D bdCl ((hd, .inr (0, [.ref qb, .ref qp, .ref h, .int 0])) :: (qp, .inl (d, 10, .inl (bd_eA (fun _ => 0)))) :: bd_PW d h qb qm qf qs qr (fun _ => 0) (fun _ => 0) (fun _ => 0) (fun _ => 0) (fun _ => 0) 0 0 0 0) H := hP
  have hD : va_D A ((hd, .inr (0, [.ref qb, .ref qp, .ref h, .int 0])) :: (qp, .inl (d, 10, .inl (bd_eA (fun _ => 0)))) :: bd_PW d h qb qm qf qs qr (fun _ => 0) (fun _ => 0) (fun _ => 0) (fun _ => 0) (fun _ => 0) 0 0 0 0) := hD
  refine lv_aload_n hx hb dX0_init_35 rfl (lv_at hl 0 rfl) ?_
  refine lv_iconst (v := nI 2) hx hb dX0_init_36 (by decide) ?_
  refine va_put (D := D) (ci := 0) (v := .int (nI 2)) (ty := .int) (C := RX0) (T := TX0) (N := 4) hx hb hts in_X0 tyX0 tyX0_ok nmX0 hown hK hP hD hS 0 rfl rfl 3 (by decide) (hts _ q59) (fun _ h9 => h9) rfl (by decide +kernel) rfl rfl (Nat.le_of_ble_eq_true rfl) dX0_init_37 (fun H locs hP hD hS => ?_)
  have hP : va_P D bdCl ((hd, .inr (0, [.ref qb, .ref qp, .ref h, .int (nI 2)])) :: (qp, .inl (d, 10, .inl (bd_eA (fun _ => 0)))) :: bd_PW d h qb qm qf qs qr (fun _ => 0) (fun _ => 0) (fun _ => 0) (fun _ => 0) (fun _ => 0) 0 0 0 0) H := hP
  have hD : va_D A ((hd, .inr (0, [.ref qb, .ref qp, .ref h, .int (nI 2)])) :: (qp, .inl (d, 10, .inl (bd_eA (fun _ => 0)))) :: bd_PW d h qb qm qf qs qr (fun _ => 0) (fun _ => 0) (fun _ => 0) (fun _ => 0) (fun _ => 0) 0 0 0 0) := hD
  refine W.widen (k := 7) (n := 69) (Nat.le_of_ble_eq_true rfl) (Nat.le_of_ble_eq_true rfl) ?_
  exact W.vret hx hb hr (fun t ht hW => ⟨⟨(d, qp, h, qb, qm, qf, qs, qr), rfl, trivial, by rw [ht]; exact hP, va_K.moved hW.alike hK, hD⟩, hS.F ht⟩) hS.2.2 dX0_init_40
def bd_z (b : Bool) : Int32 := if b = true then 1 else 0
def bd_upB (f : Nat → Bool) (k : Nat) (v : Bool) : Nat → Bool := fun j => if j = k then v else f j
theorem bd_upB_s (f : Nat → Bool) (k : Nat) (v : Bool) : bd_upB f k v k = v := by simp [bd_upB]
theorem bd_upB_n {f : Nat → Bool} {k j : Nat} {v : Bool} (h : j ≠ k) : bd_upB f k v j = f j := by simp [bd_upB, h]
theorem bd_up_zA (f : Nat → Bool) (k : Nat) (v : Bool) : upd (bd_zA f) k (bd_z v) = bd_zA (bd_upB f k v) := by
  funext j
  unfold upd bd_zA bd_upB bd_z
  by_cases e : j = k
  · simp [e]
  · simp [e]
theorem bd_nar_z (v : Bool) : vp_nar .boolean (bd_z v) = bd_z v := by cases v <;> rfl
theorem bd_z_n {b : Bool} (h : b = true) : ¬ bd_z b = 0 := by rw [h]; decide
theorem bd_z_z {b : Bool} (h : ¬ b = true) : bd_z b = 0 := by
  cases b with
  | false => rfl
  | true => exact absurd rfl h
/-- the world of a BondDeskModel -/
abbrev bd_MW (d dz : ClassId) (hm qz qt n : Nat) (bo : Nat → Bool) (be : Nat → Nat) (kn : Int32) : va_W :=
  [(hm, .inr (2, [.ref qz, .int (nI n), .ref qt, .int kn])), (qz, .inl (dz, 100, .inl (bd_zA bo))), (qt, .inl (d, 1024, .inl (bd_nA be)))]
section BDZ
variable {p : Program} {l : Launch} {e : Env} {R : Room} {s : State} {m : MethodId} {args : Array Value} {below : List Frame} {meth : Method} {c : Code} {H : Heap} {locs : List Loc} {cells slots : Nat} {Q : State → Prop}
variable {cc : ByteArray} {pc : Nat} {ls : Array Slot} {rest : List Value} {D : va_G} {cl : List vw_C} {A : Nat → Prop} {a : Nat} {tys : List (ClassId × FieldType)} {ws : va_W} {H0 : Heap}
theorem bd_aldZ (hx : p.tables.exec = Jvm.exec) (hb : c.code = cc) (hK : va_K D cl tys s) (hP : va_P D cl ws H) (q0 t0 : Nat) {cA : ClassId} {f : Nat → Bool} (ha : ws[q0]? = some (a, .inl (cA, 100, .inl (bd_zA f)))) (ht : tys[t0]? = some (cA, .boolean)) {i : Nat} (hi : i < 100) (hd : decode cc pc = .ok (.baload, 1))
    (kk : W p l e R s m args below meth c H locs cells slots Q (F0 m (pc + 1) ls (.int (bd_z (f i)) :: rest))) : W p l e R s m args below meth c H locs cells slots Q (F0 m pc ls (.int (nI i) :: .ref a :: rest)) := by
  refine va_zald hx hb hK hP q0 t0 ha ht (vp_in_nI hi (by decide)) hd (bd_top ?_ kk)
  rw [nI_clamp (Nat.lt_trans hi (by decide))]
  rfl
theorem bd_astZ (hx : p.tables.exec = Jvm.exec) (hb : c.code = cc) (hK : va_K D cl tys s) (hP : va_P D cl ws H) (hD : va_D A ws) (hS : va_S A H0 H locs) (q0 t0 : Nat) {cA : ClassId} {f : Nat → Bool} (ha : ws[q0]? = some (a, .inl (cA, 100, .inl (bd_zA f)))) (ht : tys[t0]? = some (cA, .boolean)) {i : Nat} {v : Bool} {x : Int32} (hv : x = bd_z v) (hi : i < 100) (hd : decode cc pc = .ok (.bastore, 1))
    (kk : ∀ (H1 : Heap) (locs1 : List Loc), va_P D cl (ws.set q0 (a, .inl (cA, 100, .inl (bd_zA (bd_upB f i v))))) H1 → va_D A (ws.set q0 (a, .inl (cA, 100, .inl (bd_zA (bd_upB f i v))))) → va_S A H0 H1 locs1 → W p l e R s m args below meth c H1 locs1 cells slots Q (F0 m (pc + 1) ls rest)) : W p l e R s m args below meth c H locs cells slots Q (F0 m pc ls (.int x :: .int (nI i) :: .ref a :: rest)) := by
  refine va_zast hx hb hK hP hD hS q0 t0 ha ht (vp_in_nI hi (by decide)) hd (fun H1 locs1 h1 h2 h3 => ?_)
  rw [nI_clamp (Nat.lt_trans hi (by decide)), hv, bd_nar_z, bd_up_zA] at h1 h2
  exact kk H1 locs1 h1 h2 h3
end BDZ
set_option maxHeartbeats 4000000 in
set_option maxRecDepth 100000 in
theorem metX2_init (l : Launch) (D : va_G) (hm : Nat) (sz : Nat) : Met l yX2_init (ws_ yX2_init cX2_init 1 none) ({ frames := 1, cells := 2, slots := 1124, locals := 12 }) (va_Pc [.ref hm] (bd_Pre D [] ([(hm, .inr (2, [.null, .int 0, .null, .int 0]))]) sz)) (va_Qv (fun _ : ClassId × ClassId × Nat × Nat => True) (fun u t => bd_Post D [(u.1, .int), (u.2.1, .boolean)] (va_A ([(hm, .inr (2, [.null, .int 0, .null, .int 0]))]) sz) (bd_MW u.1 u.2.1 hm u.2.2.1 u.2.2.2 2 (fun _ => false) (fun _ => 0) 0) t) (va_A ([(hm, .inr (2, [.null, .int 0, .null, .int 0]))]) sz)) 2 1124 (va_A ([(hm, .inr (2, [.null, .int 0, .null, .int 0]))]) sz) := by
  refine bd_start (Qc := fun A => va_Qv (fun _ : ClassId × ClassId × Nat × Nat => True) (fun u t => bd_Post D [(u.1, .int), (u.2.1, .boolean)] A (bd_MW u.1 u.2.1 hm u.2.2.1 u.2.2.2 2 (fun _ => false) (fun _ => 0) 0) t) A) (by decide) (Nat.le_of_ble_eq_true rfl) ?_
  intro p e s m below meth c A ls hx hb hr hml hts hown hlocks hin hA hK hP hD hl
  have hS : va_S A s.heap s.heap [] := va_S.rf
  have hl : lv_has ls 1 [(0, .ref hm)] := hl
  refine lv_aload_n hx hb dX2_init_0 rfl (lv_at hl 0 rfl) ?_
  refine W.objInit hx hb hown (hts _ q135) (hts _ q19) (hts _ q20) rfl (by rw [hml]; exact hl.1) rfl dX2_init_1 (Nat.le_of_ble_eq_true rfl) (Nat.le_of_ble_eq_true rfl) ?_
  refine W.eq (g2 := F0 m 4 ls []) rfl ?_
  refine lv_aload_n hx hb dX2_init_4 rfl (lv_at hl 0 rfl) ?_
  refine lv_bipush (v := nI 100) hx hb dX2_init_5 (by decide) ?_
  refine va_newa (atype := .boolean) (a0 := (100, .inl (bd_zA (fun _ => false)))) hx hb (hts _ q149) (ty := .boolean) rfl hK hP hD hS hA (fun cA => rfl) (by decide) (N' := 100) (by decide) (by decide) (Nat.le_of_ble_eq_true rfl) (Nat.le_of_ble_eq_true rfl) dX2_init_7 (fun qz dz H hK1 hP hD hS => ?_)
  have hK : va_K D bdCl [(dz, .boolean)] s := hK1
  have hP : va_P D bdCl ([(hm, .inr (2, [.null, .int 0, .null, .int 0])), (qz, .inl (dz, 100, .inl (bd_zA (fun _ => false))))]) H := hP
  have hD : va_D A ([(hm, .inr (2, [.null, .int 0, .null, .int 0])), (qz, .inl (dz, 100, .inl (bd_zA (fun _ => false))))]) := hD
  refine va_putF (D := D) (ci := 2) (v := .ref qz) (ty := .array .boolean) (C := RX2) (T := TX2) (N := 4) hx hb hts in_X2 tyX2 tyX2_ok nmX2 hown hK hP hD hS 0 rfl rfl 0 (by decide) (hts _ q136) (fun _ h9 => h9) rfl hin rfl (by decide +kernel) rfl rfl (Nat.le_of_ble_eq_true rfl) dX2_init_9 (fun H locs hP hD hS => ?_)
  have hP : va_P D bdCl ([(hm, .inr (2, [.ref qz, .int 0, .null, .int 0])), (qz, .inl (dz, 100, .inl (bd_zA (fun _ => false))))]) H := hP
  have hD : va_D A ([(hm, .inr (2, [.ref qz, .int 0, .null, .int 0])), (qz, .inl (dz, 100, .inl (bd_zA (fun _ => false))))]) := hD
  refine lv_aload_n hx hb dX2_init_12 rfl (lv_at hl 0 rfl) ?_
  refine lv_iconst (v := nI 2) hx hb dX2_init_13 (by decide) ?_
  refine va_put (D := D) (ci := 2) (v := .int (nI 2)) (ty := .int) (C := RX2) (T := TX2) (N := 4) hx hb hts in_X2 tyX2 tyX2_ok nmX2 hown hK hP hD hS 0 rfl rfl 1 (by decide) (hts _ q137) (fun _ h9 => h9) rfl (by decide +kernel) rfl rfl (Nat.le_of_ble_eq_true rfl) dX2_init_14 (fun H locs hP hD hS => ?_)
  have hP : va_P D bdCl ([(hm, .inr (2, [.ref qz, .int (nI 2), .null, .int 0])), (qz, .inl (dz, 100, .inl (bd_zA (fun _ => false))))]) H := hP
  have hD : va_D A ([(hm, .inr (2, [.ref qz, .int (nI 2), .null, .int 0])), (qz, .inl (dz, 100, .inl (bd_zA (fun _ => false))))]) := hD
  refine lv_aload_n hx hb dX2_init_17 rfl (lv_at hl 0 rfl) ?_
  refine lv_sipush (v := nI 1024) hx hb dX2_init_18 (by decide) ?_
  refine va_newa (atype := .int) (a0 := (1024, .inl (bd_nA (fun _ => 0)))) hx hb (hts _ q55) (ty := .int) rfl hK hP hD hS hA (fun cA => rfl) (by decide) (N' := 1024) (by decide) (by decide) (Nat.le_of_ble_eq_true rfl) (Nat.le_of_ble_eq_true rfl) dX2_init_21 (fun qt d H hK1 hP hD hS => ?_)
  have hK : va_K D bdCl [(d, .int), (dz, .boolean)] s := hK1.sub [1, 0] rfl
  have hP : va_P D bdCl ([(hm, .inr (2, [.ref qz, .int (nI 2), .null, .int 0])), (qz, .inl (dz, 100, .inl (bd_zA (fun _ => false)))), (qt, .inl (d, 1024, .inl (bd_nA (fun _ => 0))))]) H := hP
  have hD : va_D A ([(hm, .inr (2, [.ref qz, .int (nI 2), .null, .int 0])), (qz, .inl (dz, 100, .inl (bd_zA (fun _ => false)))), (qt, .inl (d, 1024, .inl (bd_nA (fun _ => 0))))]) := hD
  refine va_putF (D := D) (ci := 2) (v := .ref qt) (ty := .array .int) (C := RX2) (T := TX2) (N := 4) hx hb hts in_X2 tyX2 tyX2_ok nmX2 hown hK hP hD hS 0 rfl rfl 2 (by decide) (hts _ q138) (fun _ h9 => h9) rfl hin rfl (by decide +kernel) rfl rfl (Nat.le_of_ble_eq_true rfl) dX2_init_23 (fun H locs hP hD hS => ?_)
  have hP : va_P D bdCl ([(hm, .inr (2, [.ref qz, .int (nI 2), .ref qt, .int 0])), (qz, .inl (dz, 100, .inl (bd_zA (fun _ => false)))), (qt, .inl (d, 1024, .inl (bd_nA (fun _ => 0))))]) H := hP
  have hD : va_D A ([(hm, .inr (2, [.ref qz, .int (nI 2), .ref qt, .int 0])), (qz, .inl (dz, 100, .inl (bd_zA (fun _ => false)))), (qt, .inl (d, 1024, .inl (bd_nA (fun _ => 0))))]) := hD
  refine W.widen (k := 2) (n := 1124) (Nat.le_of_ble_eq_true rfl) (Nat.le_of_ble_eq_true rfl) ?_
  exact W.vret hx hb hr (fun t ht hW => ⟨⟨(d, dz, qz, qt), rfl, trivial, by rw [ht]; exact hP, va_K.moved hW.alike hK, hD⟩, hS.F ht⟩) hS.2.2 dX2_init_26
end
section
/-! THE DP: nu by its least place; reckon's inner loop; partner on both sides -/
theorem bd_clr_le (S a : Nat) : bd_clr S a ≤ S := by
  have : bd_clr S a = S &&& bd_clr S a := by
    apply Nat.eq_of_testBit_eq
    intro i
    rw [Nat.testBit_and, bd_clr_bit]
    cases S.testBit i <;> simp
  rw [this]
  exact Nat.and_le_left
theorem bd_clr_lt1 {S a : Nat} (h : S.testBit a = true) : bd_clr S a < S := by
  refine Nat.lt_of_le_of_ne (bd_clr_le S a) (fun e => ?_)
  have := bd_clr_bit S a a
  rw [e, h] at this
  simp at this
theorem bd_bits_lt {S n x : Nat} (h : S < 2 ^ n) (hx : S.testBit x = true) : x < n := by
  refine Classical.byContradiction fun q => ?_
  have h2 : S < 2 ^ x := Nat.lt_of_lt_of_le h (Nat.pow_le_pow_right (by decide) (by omega))
  rw [Nat.testBit_lt_two_pow h2] at hx
  cases hx
theorem bd_fold_eq {P : Nat → Prop} [DecidablePred P] {F : Nat → Nat} : ∀ (l : List Nat) (z : Nat), l.foldl (fun acc b => if P b then max acc (F b) else acc) z = z ∨ ∃ b ∈ l, P b ∧ l.foldl (fun acc b => if P b then max acc (F b) else acc) z = F b
  | [], z => Or.inl rfl
  | a :: l, z => by
    rcases bd_fold_eq (P := P) (F := F) l (if P a then max z (F a) else z) with h | ⟨b, h1, h2, h3⟩
    · by_cases c : P a
      · rcases Nat.le_total z (F a) with q | q
        · refine Or.inr ⟨a, by simp, c, ?_⟩
          rw [List.foldl_cons, h, if_pos c, Nat.max_eq_right q]
        · refine Or.inl ?_
          rw [List.foldl_cons, h, if_pos c, Nat.max_eq_left q]
      · refine Or.inl ?_
        rw [List.foldl_cons, h, if_neg c]
    · exact Or.inr ⟨b, List.mem_cons_of_mem _ h1, h2, by rw [List.foldl_cons]; exact h3⟩
section DP
variable {e : Nat → Nat → Bool}
theorem bd_nu_succ (k S : Nat) (h : S.testBit (9 - k) = true) : bd_nu e (k + 1) S = (List.range 10).foldl (fun acc b => if (9 - k < b ∧ S.testBit b = true ∧ e (9 - k) b = true) then max acc (bd_nu e k (bd_clr (bd_clr S (9 - k)) b) + 1) else acc) (bd_nu e k (bd_clr S (9 - k))) := if_pos h
theorem bd_nu_skip (k S : Nat) : ∀ j, k + j ≤ 10 → (∀ x, 10 - (k + j) ≤ x → x < 10 - k → ¬ S.testBit x = true) → bd_nu e (k + j) S = bd_nu e k S
  | 0, _, _ => rfl
  | j + 1, hj, h => by
    have ih := bd_nu_skip k S j (by omega) (fun x h1 h2 => h x (by omega) h2)
    have h1 : bd_nu e ((k + j) + 1) S = bd_nu e (k + j) S := if_neg (h (9 - (k + j)) (by omega) (by omega))
    exact h1.trans ih
theorem bd_nu_low {S a : Nat} (ha : a ≤ 10) (h : ∀ x, x < a → ¬ S.testBit x = true) : bd_nu e 10 S = bd_nu e (10 - a) S := by
  have := bd_nu_skip (e := e) (10 - a) S a (by omega) (fun x _ h2 => h x (by omega))
  rw [show 10 - a + a = 10 by omega] at this
  exact this
theorem bd_nu_parts {S a : Nat} (ha : a < 10) (hS : S.testBit a = true) (hlow : ∀ x, x < a → ¬ S.testBit x = true) :
    bd_nu e 10 (bd_clr S a) ≤ bd_nu e 10 S ∧ (∀ b, a < b → b < 10 → S.testBit b = true → e a b = true → bd_nu e 10 (bd_clr (bd_clr S a) b) + 1 ≤ bd_nu e 10 S) ∧
    (bd_nu e 10 S = bd_nu e 10 (bd_clr S a) ∨ ∃ b, a < b ∧ b < 10 ∧ S.testBit b = true ∧ e a b = true ∧ bd_nu e 10 S = bd_nu e 10 (bd_clr (bd_clr S a) b) + 1) := by
  have l1 : ∀ x, x < a + 1 → ¬ (bd_clr S a).testBit x = true := fun x hx q => by
    rw [bd_clr_bit] at q
    simp at q
    exact hlow x (by omega) q.1
  have l2 : ∀ b x, x < a + 1 → ¬ (bd_clr (bd_clr S a) b).testBit x = true := fun b x hx q => by
    rw [bd_clr_bit] at q
    simp at q
    exact l1 x hx q.1
  rw [bd_nu_low (e := e) (S := S) (a := a) (by omega) hlow, bd_nu_low (e := e) (S := bd_clr S a) (a := a + 1) (by omega) l1]
  have e2 : ∀ b, bd_nu e 10 (bd_clr (bd_clr S a) b) = bd_nu e (10 - (a + 1)) (bd_clr (bd_clr S a) b) := fun b => bd_nu_low (by omega) (l2 b)
  simp only [e2]
  obtain ⟨k, hk⟩ : ∃ k, 10 - (a + 1) = k := ⟨_, rfl⟩
  have ek : 10 - a = k + 1 := by omega
  have ea : 9 - k = a := by omega
  rw [ek, hk, bd_nu_succ k S (by rw [ea]; exact hS), ea]
  refine ⟨bd_fold_ge _ _, fun b h1 h2 h3 h4 => ?_, ?_⟩
  · exact bd_fold_in (P := fun b => a < b ∧ S.testBit b = true ∧ e a b = true) (F := fun b => bd_nu e k (bd_clr (bd_clr S a) b) + 1) _ _ b (by simpa using h2) ⟨h1, h3, h4⟩
  · rcases bd_fold_eq (P := fun b => a < b ∧ S.testBit b = true ∧ e a b = true) (F := fun b => bd_nu e k (bd_clr (bd_clr S a) b) + 1) (List.range 10) (bd_nu e k (bd_clr S a)) with h | ⟨b, h1, h2, h3⟩
    · exact Or.inl h
    · exact Or.inr ⟨b, h2.1, by simpa using h1, h2.2.1, h2.2.2, h3⟩
end DP
theorem bd_nu_congr {e e' : Nat → Nat → Bool} (h : ∀ a b, a < 10 → b < 10 → e a b = e' a b) : ∀ k S, k ≤ 10 → bd_nu e k S = bd_nu e' k S
  | 0, _, _ => rfl
  | k + 1, S, hk => by
    have ih := fun T => bd_nu_congr h k T (by omega)
    have hle : ∀ (e e' : Nat → Nat → Bool), (∀ a b, a < 10 → b < 10 → e a b = e' a b) → (∀ T, bd_nu e k T = bd_nu e' k T) → S.testBit (9 - k) = true → bd_nu e (k + 1) S ≤ bd_nu e' (k + 1) S := by
      intro e e' h ih c
      unfold bd_nu
      rw [if_pos c, if_pos c]
      refine bd_fold_le _ _ ?_ (fun b hb hP => ?_)
      · rw [ih]; exact bd_fold_ge _ _
      · rw [ih]
        have hb10 : b < 10 := by simpa using hb
        exact bd_fold_in (P := fun b => 9 - k < b ∧ S.testBit b = true ∧ e' (9 - k) b = true) (F := fun b => bd_nu e' k (bd_clr (bd_clr S (9 - k)) b) + 1) _ _ b hb ⟨hP.1, hP.2.1, by rw [← h _ _ (by omega) hb10]; exact hP.2.2⟩
    by_cases c : S.testBit (9 - k) = true
    · exact Nat.le_antisymm (hle e e' h ih c) (hle e' e (fun a b ha hb => (h a b ha hb).symm) (fun T => (ih T).symm) c)
    · unfold bd_nu
      rw [if_neg c, if_neg c]
      exact ih S
/-- reckon, inner loop: k places left -/
def bd_rk (N : Nat → Nat) (e : Nat → Nat → Bool) (rest a n : Nat) : Nat → Nat → Nat
  | 0, m => m
  | k + 1, m => bd_rk N e rest a n k (if (rest.testBit (n - (k + 1)) = true ∧ e a (n - (k + 1)) = true) ∧ m < N (bd_clr rest (n - (k + 1))) + 1 then N (bd_clr rest (n - (k + 1))) + 1 else m)
theorem bd_rk_spec {N : Nat → Nat} {e : Nat → Nat → Bool} {rest a n : Nat} : ∀ (k m : Nat), k ≤ n → m ≤ bd_rk N e rest a n k m ∧ (∀ b, n - k ≤ b → b < n → rest.testBit b = true → e a b = true → N (bd_clr rest b) + 1 ≤ bd_rk N e rest a n k m) ∧
    (bd_rk N e rest a n k m = m ∨ ∃ b, n - k ≤ b ∧ b < n ∧ rest.testBit b = true ∧ e a b = true ∧ bd_rk N e rest a n k m = N (bd_clr rest b) + 1)
  | 0, m, _ => ⟨Nat.le_refl _, fun b h1 h2 => absurd h1 (by omega), Or.inl rfl⟩
  | k + 1, m, hk => by
    obtain ⟨i1, i2, i3⟩ := bd_rk_spec (N := N) (e := e) (rest := rest) (a := a) (n := n) k (if (rest.testBit (n - (k + 1)) = true ∧ e a (n - (k + 1)) = true) ∧ m < N (bd_clr rest (n - (k + 1))) + 1 then N (bd_clr rest (n - (k + 1))) + 1 else m) (by omega)
    have hr : bd_rk N e rest a n (k + 1) m = bd_rk N e rest a n k (if (rest.testBit (n - (k + 1)) = true ∧ e a (n - (k + 1)) = true) ∧ m < N (bd_clr rest (n - (k + 1))) + 1 then N (bd_clr rest (n - (k + 1))) + 1 else m) := rfl
    rw [← hr] at i1 i2 i3
    by_cases c : (rest.testBit (n - (k + 1)) = true ∧ e a (n - (k + 1)) = true) ∧ m < N (bd_clr rest (n - (k + 1))) + 1
    · rw [if_pos c] at i1 i3
      refine ⟨by omega, fun b h1 h2 h3 h4 => ?_, ?_⟩
      · by_cases q : b = n - (k + 1)
        · rw [q]; exact i1
        · exact i2 b (by omega) h2 h3 h4
      · rcases i3 with q | ⟨b, q1, q2⟩
        · exact Or.inr ⟨n - (k + 1), by omega, by omega, c.1.1, c.1.2, q⟩
        · exact Or.inr ⟨b, by omega, q2⟩
    · rw [if_neg c] at i1 i3
      refine ⟨i1, fun b h1 h2 h3 h4 => ?_, ?_⟩
      · by_cases q : b = n - (k + 1)
        · have : ¬ m < N (bd_clr rest b) + 1 := fun z => c ⟨⟨by rw [← q]; exact h3, by rw [← q]; exact h4⟩, by rw [← q]; exact z⟩
          omega
        · exact i2 b (by omega) h2 h3 h4
      · rcases i3 with q | ⟨b, q1, q2⟩
        · exact Or.inl q
        · exact Or.inr ⟨b, by omega, q2⟩
theorem bd_rk_eq {e : Nat → Nat → Bool} {S a n : Nat} (hn : n ≤ 10) (hSn : S < 2 ^ n) (hS : S.testBit a = true) (hlow : ∀ x, x < a → ¬ S.testBit x = true) : bd_rk (bd_nu e 10) e (bd_clr S a) a n (n - (a + 1)) (bd_nu e 10 (bd_clr S a)) = bd_nu e 10 S := by
  have han := bd_bits_lt hSn hS
  obtain ⟨p1, p2, p3⟩ := bd_nu_parts (e := e) (by omega) hS hlow
  obtain ⟨r1, r2, r3⟩ := bd_rk_spec (N := bd_nu e 10) (e := e) (rest := bd_clr S a) (a := a) (n := n) (n - (a + 1)) (bd_nu e 10 (bd_clr S a)) (by omega)
  have hbit : ∀ b, a < b → ((bd_clr S a).testBit b = true ↔ S.testBit b = true) := fun b hb => by
    rw [bd_clr_bit]
    simp
    omega
  refine Nat.le_antisymm ?_ ?_
  · rcases r3 with q | ⟨b, q1, q2, q3, q4, q5⟩
    · rw [q]; exact p1
    · rw [q5]; exact p2 b (by omega) (by omega) ((hbit b (by omega)).mp q3) q4
  · rcases p3 with q | ⟨b, q1, q2, q3, q4, q5⟩
    · rw [q]; exact r1
    · rw [q5]; exact r2 b (by omega) (bd_bits_lt hSn q3) ((hbit b q1).mpr q3) q4
/-! partner of the reference -/
def bd_mpi (N : Nat → Nat) (e : Nat → Nat → Bool) (rest a set : Nat) : Nat → Nat → Nat
  | 0, pick => pick
  | k + 1, pick => bd_mpi N e rest a set k (if (rest.testBit (a + (k + 1)) = true ∧ e a (a + (k + 1)) = true) ∧ N (bd_clr rest (a + (k + 1))) + 1 = N set then a + (k + 1) else pick)
def bd_mpo (N : Nat → Nat) (e : Nat → Nat → Bool) (n : Nat) : Nat → Nat → Nat → Nat
  | 0, _, _ => 10
  | k + 1, set, asked => if set.testBit (n - (k + 1)) = true then
      (if bd_mpi N e (bd_clr set (n - (k + 1))) (n - (k + 1)) set (n - 1 - (n - (k + 1))) 10 < 10 then
        (if n - (k + 1) = asked then bd_mpi N e (bd_clr set (n - (k + 1))) (n - (k + 1)) set (n - 1 - (n - (k + 1))) 10
         else if bd_mpi N e (bd_clr set (n - (k + 1))) (n - (k + 1)) set (n - 1 - (n - (k + 1))) 10 = asked then n - (k + 1)
         else bd_mpo N e n k (bd_clr (bd_clr set (n - (k + 1))) (bd_mpi N e (bd_clr set (n - (k + 1))) (n - (k + 1)) set (n - 1 - (n - (k + 1))) 10)) asked)
       else (if n - (k + 1) = asked then 10 else bd_mpo N e n k (bd_clr set (n - (k + 1))) asked))
      else bd_mpo N e n k set asked
theorem bd_mpi_spec {N : Nat → Nat} {e : Nat → Nat → Bool} {rest a set : Nat} {C : Nat → Prop} (hC : ∀ b, C b ↔ ((rest.testBit b = true ∧ e a b = true) ∧ N (bd_clr rest b) + 1 = N set)) : ∀ (k pick : Nat), (∃ b, a < b ∧ b ≤ a + k ∧ C b ∧ (∀ b', a < b' → b' < b → ¬ C b') ∧ bd_mpi N e rest a set k pick = b) ∨ ((∀ b, a < b → b ≤ a + k → ¬ C b) ∧ bd_mpi N e rest a set k pick = pick)
  | 0, pick => Or.inr ⟨fun b h1 h2 => absurd h1 (by omega), rfl⟩
  | k + 1, pick => by
    have ih := bd_mpi_spec hC k (if (rest.testBit (a + (k + 1)) = true ∧ e a (a + (k + 1)) = true) ∧ N (bd_clr rest (a + (k + 1))) + 1 = N set then a + (k + 1) else pick)
    have hr : bd_mpi N e rest a set (k + 1) pick = bd_mpi N e rest a set k (if (rest.testBit (a + (k + 1)) = true ∧ e a (a + (k + 1)) = true) ∧ N (bd_clr rest (a + (k + 1))) + 1 = N set then a + (k + 1) else pick) := rfl
    rw [← hr] at ih
    rcases ih with ⟨b, h1, h2, h3, h4, h5⟩ | ⟨h1, h2⟩
    · exact Or.inl ⟨b, h1, by omega, h3, h4, h5⟩
    · by_cases c : (rest.testBit (a + (k + 1)) = true ∧ e a (a + (k + 1)) = true) ∧ N (bd_clr rest (a + (k + 1))) + 1 = N set
      · rw [if_pos c] at h2
        exact Or.inl ⟨a + (k + 1), by omega, Nat.le_refl _, (hC _).mpr c, fun b' q1 q2 => h1 b' q1 (by omega), h2⟩
      · rw [if_neg c] at h2
        refine Or.inr ⟨fun b q1 q2 => ?_, h2⟩
        by_cases q : b = a + (k + 1)
        · rw [q]; exact fun z => c ((hC _).mp z)
        · exact h1 b q1 (by omega)
theorem bd_dpi_stop {N : Nat → Nat} {gv n v : Nat} (k left wa : Nat) (pa : Nat → Nat) (h : pa v < 10) : bd_dpi N gv n v k left wa pa = (left, wa, pa) := by
  cases k with
  | zero => rfl
  | succ k => unfold bd_dpi; rw [if_pos h]
theorem bd_dpi_spec {N : Nat → Nat} {gv n v left wa : Nat} {pa : Nat → Nat} (hn : n ≤ 10) (hv : ¬ left.testBit v = true) (hpa : ¬ pa v < 10) {C : Nat → Prop} (hC : ∀ b, C b ↔ ((left &&& gv).testBit b = true ∧ N (bd_clr left b) + 1 = wa)) : ∀ (k : Nat), k ≤ n → (∃ b, n - k ≤ b ∧ b < n ∧ C b ∧ (∀ b', n - k ≤ b' → b' < b → ¬ C b') ∧ bd_dpi N gv n v k left wa pa = (bd_clr left b, wa - 1, bd_up (bd_up pa v b) b v)) ∨ ((∀ b, n - k ≤ b → b < n → ¬ C b) ∧ bd_dpi N gv n v k left wa pa = (left, wa, pa))
  | 0, _ => Or.inr ⟨fun b h1 h2 => absurd h1 (by omega), rfl⟩
  | k + 1, hk => by
    unfold bd_dpi
    rw [if_neg hpa]
    by_cases c : (left &&& gv).testBit (n - (k + 1)) = true ∧ N (bd_clr left (n - (k + 1))) + 1 = wa
    · rw [if_pos c]
      refine Or.inl ⟨n - (k + 1), Nat.le_refl _, by omega, (hC _).mpr c, fun b' q1 q2 => absurd q1 (by omega), bd_dpi_stop _ _ _ _ ?_⟩
      have hne : v ≠ n - (k + 1) := fun q => hv (by
        have := c.1
        rw [Nat.testBit_and] at this
        simp at this
        rw [q]; exact this.1)
      rw [bd_up_n hne, bd_up_s]
      omega
    · rw [if_neg c]
      rcases bd_dpi_spec hn hv hpa hC k (by omega) with ⟨b, h1, h2, h3, h4, h5⟩ | ⟨h1, h2⟩
      · refine Or.inl ⟨b, by omega, h2, h3, fun b' q1 q2 => ?_, h5⟩
        by_cases q : b' = n - (k + 1)
        · rw [q]; exact fun z => c ((hC _).mp z)
        · exact h4 b' (by omega) q2
      · refine Or.inr ⟨fun b q1 q2 => ?_, h2⟩
        by_cases q : b = n - (k + 1)
        · rw [q]; exact fun z => c ((hC _).mp z)
        · exact h1 b (by omega) q2
/-- what is settled stays -/
theorem bd_dpo_old {N : Nat → Nat} {g : Nat → Nat} {n : Nat} (hn : n ≤ 10) {asked : Nat} : ∀ (k left wa : Nat) (pa : Nat → Nat), k ≤ n → (∀ x, left.testBit x = true → ¬ pa x < 10) → ¬ left.testBit asked = true → bd_dpo N g n k left wa pa asked = pa asked
  | 0, _, _, _, _, _, _ => rfl
  | k + 1, left, wa, pa, hk, hf, ha => by
    unfold bd_dpo
    by_cases c : left.testBit (n - (k + 1)) = true
    · rw [if_pos c]
      have hav : asked ≠ n - (k + 1) := fun q => ha (by rw [q]; exact c)
      have hvr : ¬ (bd_clr left (n - (k + 1))).testBit (n - (k + 1)) = true := by rw [bd_clr_bit]; simp
      have hsub : ∀ x, (bd_clr left (n - (k + 1))).testBit x = true → left.testBit x = true ∧ x ≠ n - (k + 1) := fun x q => by rw [bd_clr_bit] at q; simpa using q
      rcases bd_dpi_spec (N := N) (gv := g (n - (k + 1))) (wa := wa) hn hvr (hf _ c) (fun _ => Iff.rfl) n (Nat.le_refl _) with ⟨b, h1, h2, h3, h4, h5⟩ | ⟨h1, h2⟩
      · rw [h5]
        have hb : (bd_clr left (n - (k + 1))).testBit b = true := by
          have := h3.1
          rw [Nat.testBit_and] at this
          simp at this
          exact this.1
        have hab : asked ≠ b := fun q => ha (by rw [q]; exact (hsub b hb).1)
        rw [bd_dpo_old hn k _ _ _ (by omega) (fun x q => ?_) (fun q => ?_)]
        · show bd_up (bd_up pa (n - (k + 1)) b) b (n - (k + 1)) asked = pa asked
          rw [bd_up_n hab, bd_up_n hav]
        · have q1 : (bd_clr left (n - (k + 1))).testBit x = true ∧ x ≠ b := by
            have q : (bd_clr (bd_clr left (n - (k + 1))) b).testBit x = true := q
            rw [bd_clr_bit] at q
            simpa using q
          have q2 := hsub x q1.1
          show ¬ bd_up (bd_up pa (n - (k + 1)) b) b (n - (k + 1)) x < 10
          rw [bd_up_n q1.2, bd_up_n q2.2]
          exact hf x q2.1
        · have q : (bd_clr (bd_clr left (n - (k + 1))) b).testBit asked = true := q
          rw [bd_clr_bit] at q
          simp at q
          exact ha (hsub _ q.1).1
      · rw [h2]
        exact bd_dpo_old hn k _ _ _ (by omega) (fun x q => hf x (hsub x q).1) (fun q => ha (hsub _ q).1)
    · rw [if_neg c]
      exact bd_dpo_old hn k left wa pa (by omega) hf ha
/-- both partners agree -/
theorem bd_partner_eq {e : Nat → Nat → Bool} {g : Nat → Nat} {n : Nat} (hn : n ≤ 10) (hge : ∀ a b, a < 10 → b < 10 → (g a).testBit b = e a b) {asked : Nat} : ∀ (k left : Nat) (pa : Nat → Nat), k ≤ n → (∀ x, left.testBit x = true → n - k ≤ x ∧ x < n) → (∀ x, left.testBit x = true → ¬ pa x < 10) → left.testBit asked = true → bd_eN (bd_dpo (bd_nu e 10) g n k left (bd_nu e 10 left) pa asked) = bd_eN (bd_mpo (bd_nu e 10) e n k left asked)
  | 0, left, pa, _, hr, _, ha => absurd (hr asked ha) (by omega)
  | k + 1, left, pa, hk, hr, hf, ha => by
    obtain ⟨v, hv⟩ : ∃ v, n - (k + 1) = v := ⟨_, rfl⟩
    unfold bd_dpo bd_mpo
    rw [hv]
    rw [hv] at hr
    by_cases c : left.testBit v = true
    · rw [if_pos c, if_pos c]
      have hlow : ∀ x, x < v → ¬ left.testBit x = true := fun x hx q => by
        have := (hr x q).1
        omega
      obtain ⟨p1, p2, p3⟩ := bd_nu_parts (e := e) (S := left) (a := v) (by omega) c hlow
      have hvr : ¬ (bd_clr left v).testBit v = true := by rw [bd_clr_bit]; simp
      have hsub : ∀ x, (bd_clr left v).testBit x = true → left.testBit x = true ∧ x ≠ v := fun x q => by rw [bd_clr_bit] at q; simpa using q
      obtain ⟨C, hC⟩ : ∃ C : Nat → Prop, ∀ b, C b ↔ (((bd_clr left v).testBit b = true ∧ e v b = true) ∧ bd_nu e 10 (bd_clr (bd_clr left v) b) + 1 = bd_nu e 10 left) := ⟨_, fun _ => Iff.rfl⟩
      have hC2 : ∀ b, C b ↔ ((bd_clr left v &&& g v).testBit b = true ∧ bd_nu e 10 (bd_clr (bd_clr left v) b) + 1 = bd_nu e 10 left) := fun b => by
        rw [hC b, Nat.testBit_and]
        by_cases q : (bd_clr left v).testBit b = true
        · rw [← hge v b (by omega) (by have := (hr b (hsub b q).1).2; omega)]
          simp
        · simp [q]
      have hCr : ∀ b, C b → v < b ∧ b < n ∧ (bd_clr left v).testBit b = true := fun b q => by
        have q1 := ((hC b).mp q).1.1
        have q2 := hsub b q1
        have q3 := hr b q2.1
        exact ⟨by omega, q3.2, q1⟩
      have hd := bd_dpi_spec (N := bd_nu e 10) (gv := g v) (wa := bd_nu e 10 left) hn hvr (hf v c) hC2 n (Nat.le_refl _)
      have hm := bd_mpi_spec hC (n - 1 - v) 10
      rcases hd with ⟨b, h1, h2, h3, h4, h5⟩ | ⟨h1, h2⟩
      · have hb := hCr b h3
        have hmb : bd_mpi (bd_nu e 10) e (bd_clr left v) v left (n - 1 - v) 10 = b := by
          rcases hm with ⟨b2, i1, i2, i3, i4, i5⟩ | ⟨i1, -⟩
          · rw [i5]
            rcases Nat.lt_trichotomy b b2 with q | q | q
            · exact absurd h3 (i4 b hb.1 q)
            · exact q.symm
            · exact absurd i3 (h4 b2 (by omega) q)
          · exact absurd h3 (i1 b hb.1 (by omega))
        rw [hmb, h5, if_pos (by omega)]
        dsimp only
        have hne : v ≠ b := by omega
        have hfree : ∀ x, (bd_clr (bd_clr left v) b).testBit x = true → ¬ bd_up (bd_up pa v b) b v x < 10 := fun x q => by
          have q1 : (bd_clr left v).testBit x = true ∧ x ≠ b := by rw [bd_clr_bit] at q; simpa using q
          have q2 := hsub x q1.1
          rw [bd_up_n q1.2, bd_up_n q2.2]
          exact hf x q2.1
        have hw : bd_nu e 10 left - 1 = bd_nu e 10 (bd_clr (bd_clr left v) b) := by
          have := ((hC b).mp h3).2
          omega
        by_cases q1 : v = asked
        · rw [if_pos q1, bd_dpo_old hn k _ _ _ (by omega) hfree (fun q => ?_)]
          · rw [← q1, bd_up_n hne, bd_up_s]
          · rw [← q1, bd_clr_bit] at q
            simp at q
            exact hvr q.1
        · rw [if_neg q1]
          by_cases q2 : b = asked
          · rw [if_pos q2, bd_dpo_old hn k _ _ _ (by omega) hfree (fun q => ?_)]
            · rw [← q2, bd_up_s]
            · rw [← q2, bd_clr_bit] at q
              simp at q
          · rw [if_neg q2, hw]
            refine bd_partner_eq hn hge k _ _ (by omega) (fun x q => ?_) hfree ?_
            · have z1 : (bd_clr left v).testBit x = true ∧ x ≠ b := by rw [bd_clr_bit] at q; simpa using q
              have z2 := hsub x z1.1
              have z3 := hr x z2.1
              clear hm p3
              omega
            · rw [bd_clr_bit, bd_clr_bit]
              simp [ha]
              exact ⟨fun z => q1 z.symm, fun z => q2 z.symm⟩
      · have hmb : bd_mpi (bd_nu e 10) e (bd_clr left v) v left (n - 1 - v) 10 = 10 := by
          rcases hm with ⟨b2, i1, i2, i3, i4, i5⟩ | ⟨-, i1⟩
          · exact absurd i3 (h1 b2 (by omega) (by omega))
          · exact i1
        rw [hmb, h2, if_neg (by omega)]
        dsimp only
        have hw : bd_nu e 10 left = bd_nu e 10 (bd_clr left v) := by
          rcases p3 with q | ⟨b, q1, q2, q3, q4, q5⟩
          · exact q
          · refine absurd ((hC b).mpr ⟨⟨?_, q4⟩, q5.symm⟩) (h1 b (by omega) (hr b q3).2)
            rw [bd_clr_bit]
            simp [q3]
            omega
        by_cases q1 : v = asked
        · rw [if_pos q1, bd_dpo_old hn k _ _ _ (by omega) (fun x q => hf x (hsub x q).1) (by rw [← q1]; exact hvr)]
          rw [bd_eN_g (by rw [← q1]; exact hf v c), bd_eN_g (by omega)]
        · rw [if_neg q1, hw]
          refine bd_partner_eq hn hge k _ _ (by omega) (fun x q => ?_) (fun x q => hf x (hsub x q).1) ?_
          · have z2 := hsub x q
            have z3 := hr x z2.1
            clear hm p3
            omega
          · rw [bd_clr_bit]
            simp [ha]
            exact fun z => q1 z.symm
    · rw [if_neg c, if_neg c]
      refine bd_partner_eq hn hge k left pa (by omega) (fun x q => ?_) hf ha
      have := hr x q
      have : x ≠ v := fun z => c (by rw [← z]; exact q)
      omega
end
section
/-! BONDDESKMODEL: at, places, tie, cut -/
set_option maxHeartbeats 4000000 in
set_option maxRecDepth 100000 in
theorem metX2_at (l : Launch) (D : va_G) (d dz : ClassId) (hm qz qt n : Nat) (bo : Nat → Bool) (be : Nat → Nat) (kn : Int32) (hn0 : 0 < n) (hn : n ≤ 10) (a : Int32) : bd_Ci l yX2_at cX2_at 2 .int ({ frames := 0, cells := 0, slots := 0, locals := 0 }) D [(d, .int), (dz, .boolean)] [.ref hm, .int a] (bd_MW d dz hm qz qt n bo be kn) (fun r (_ : Unit) => r = nI (bd_lo a % n)) (fun _ => bd_MW d dz hm qz qt n bo be kn) := by
  intro sz
  refine bd_start (Qc := fun A => va_Qi (fun r (_ : Unit) => r = nI (bd_lo a % n)) (fun u t => bd_Post D [(d, .int), (dz, .boolean)] A ((fun _ => bd_MW d dz hm qz qt n bo be kn) u) t) A) (by decide) (Nat.le_of_ble_eq_true rfl) ?_
  intro p e s m below meth c A ls hx hb hr hml hts hown hlocks hin hA hK hP hD hl
  have hS : va_S A s.heap s.heap [] := va_S.rf
  have hl : lv_has ls 2 [(0, .ref hm), (1, .int a)] := hl
  refine lv_iload_n hx hb dX2_at_0 rfl (lv_at hl 1 rfl) ?_
  refine lv_ldc hx hb hown (hts _ q154) dX2_at_1 ?_
  refine lv_iand hx hb dX2_at_3 ?_
  refine bd_top (bd_lo_and a) ?_
  refine lv_aload_n hx hb dX2_at_4 rfl (lv_at hl 0 rfl) ?_
  refine va_get (D := D) (ci := 2) (v := .int (nI n)) (C := RX2) (T := TX2) (N := 4) hx hb hts in_X2 hown hK hP 0 rfl rfl 1 (by decide) (hts _ q137) (fun _ h9 => h9) rfl dX2_at_5 ?_
  refine lv_irem hx hb dX2_at_8 (nI_ne0 hn0 (by omega)) ?_
  refine bd_top (pk_rem (bd_lo_lt a) hn0 (by omega)) ?_
  exact bd_iret hx hb hr rfl hlocks () rfl hK hP hD hS dX2_at_9
section WALK
variable {p : Program} {l : Launch} {e : Env} {R : Room} {s : State} {m : MethodId} {args : Array Value} {below : List Frame} {meth : Method} {c : Code} {cells slots : Nat} {Q : State → Prop} {D : va_G} {A : Nat → Prop} {H0 : Heap} {d dz : ClassId} {hm qz qt : Nat}
set_option maxHeartbeats 4000000 in
set_option maxRecDepth 100000 in
theorem bd_mplaces_lp (F : CallFix p m c cX2_places 3 s args lw_all RX2) (hK : va_K D bdCl [(d, .int), (dz, .boolean)] s) {n : Nat} {be : Nat → Nat} {kn : Int32} (kx : ∀ (H : Heap) (locs : List Loc) (ls : Array Slot), va_P D bdCl (bd_MW d dz hm qz qt n (fun _ => false) be kn) H → va_D A (bd_MW d dz hm qz qt n (fun _ => false) be kn) → va_S A H0 H locs → lv_has ls 3 [(0, .ref hm)] → W p l e R s m args below meth c H locs cells slots Q (F0 m 34 ls [])) :
    ∀ (k u : Nat) (bo : Nat → Bool), u + k = 100 → (∀ j, j < u → bo j = false) → ∀ (H : Heap) (locs : List Loc) (ls : Array Slot), va_P D bdCl (bd_MW d dz hm qz qt n bo be kn) H → va_D A (bd_MW d dz hm qz qt n bo be kn) → va_S A H0 H locs → lv_has ls 3 [(0, .ref hm), (2, .int (nI u))] → W p l e R s m args below meth c H locs cells slots Q (F0 m 15 ls []) := by
  obtain ⟨hx, hb, hml, hown, hts⟩ := id F
  intro k
  induction k with
  | zero =>
    intro u bo hu hI H locs ls hP hD hS hl
    refine lv_iload_n hx hb dX2_places_15 rfl (lv_at hl 1 rfl) ?_
    refine lv_bipush (v := nI 100) hx hb dX2_places_16 (by decide) ?_
    refine lv_icmp_ge (tgt := 34) hx hb dX2_places_18 (by decide) (fun _ => ?_) (fun c_ => absurd (nI_le (show 100 ≤ u by omega) (by omega)) c_)
    have hP1 := bd_P_ext (f' := bd_zA (fun _ => false)) hP 1 rfl (fun j hj => by show bd_z (bo j) = bd_z false; rw [hI j (by omega)])
    have hD1 := bd_D_ext hD 1 (.inl (dz, 100, .inl (bd_zA (fun _ => false)))) rfl
    exact kx H locs ls hP1 hD1 hS (lv_sub hl [0] rfl)
  | succ k ih =>
    intro u bo hk hI H locs ls hP hD hS hl
    have hu : u < 100 := by omega
    refine lv_iload_n hx hb dX2_places_15 rfl (lv_at hl 1 rfl) ?_
    refine lv_bipush (v := nI 100) hx hb dX2_places_16 (by decide) ?_
    refine lv_icmp_ge (tgt := 34) hx hb dX2_places_18 (by decide) (fun c_ => absurd c_ (nI_ge hu (by decide))) (fun _ => ?_)
    refine lv_aload_n hx hb dX2_places_21 rfl (lv_at hl 0 rfl) ?_
    refine va_get (D := D) (ci := 2) (v := .ref qz) (C := RX2) (T := TX2) (N := 4) hx hb hts in_X2 hown hK hP 0 rfl rfl 0 (by decide) (hts _ q136) (fun _ h9 => h9) rfl dX2_places_22 ?_
    refine lv_iload_n hx hb dX2_places_25 rfl (lv_at hl 1 rfl) ?_
    refine lv_iconst (v := nI 0) hx hb dX2_places_26 (by decide) ?_
    refine bd_astZ (v := false) hx hb hK hP hD hS 1 1 rfl rfl (by decide) hu dX2_places_27 (fun H locs hP hD hS => ?_)
    have hP : va_P D bdCl (bd_MW d dz hm qz qt n (bd_upB bo u false) be kn) H := hP
    have hD : va_D A (bd_MW d dz hm qz qt n (bd_upB bo u false) be kn) := hD
    refine lv_iinc (v := nI (u + 1)) (lv' := [(2, .int (nI (u + 1))), (0, .ref hm)]) hx hb dX2_places_28 hl (k := 1) rfl (nI_1 _) (by decide) rfl (fun ls hl => ?_)
    refine lv_goto (tgt := 15) hx hb dX2_places_31 (by decide) ?_
    exact ih (u + 1) _ (by omega) (fun j hj => by
      by_cases e : j = u
      · rw [e, bd_upB_s]
      · rw [bd_upB_n e]; exact hI j (by omega)) H locs ls hP hD hS (lv_sub hl [1, 0] rfl)
end WALK
set_option maxHeartbeats 4000000 in
set_option maxRecDepth 100000 in
theorem metX2_places (l : Launch) (D : va_G) (d dz : ClassId) (hm qz qt n : Nat) (bo : Nat → Bool) (be : Nat → Nat) (kn : Int32) (a : Int32) : bd_Cv l yX2_places cX2_places 3 ({ frames := 0, cells := 0, slots := 0, locals := 0 }) D [(d, .int), (dz, .boolean)] [.ref hm, .int a] (bd_MW d dz hm qz qt n bo be kn) (fun _ : Unit => True) (fun _ => bd_MW d dz hm qz qt (1 + bd_lo a % 10) (fun _ => false) be (nI 0)) := by
  intro sz
  refine bd_start (Qc := fun A => va_Qv (fun _ : Unit => True) (fun u t => bd_Post D [(d, .int), (dz, .boolean)] A ((fun _ => bd_MW d dz hm qz qt (1 + bd_lo a % 10) (fun _ => false) be (nI 0)) u) t) A) (by decide) (Nat.le_of_ble_eq_true rfl) ?_
  intro p e s m below meth c A ls hx hb hr hml hts hown hlocks hin hA hK hP hD hl
  have hS : va_S A s.heap s.heap [] := va_S.rf
  have hl : lv_has ls 3 [(0, .ref hm), (1, .int a)] := hl
  refine lv_aload_n hx hb dX2_places_0 rfl (lv_at hl 0 rfl) ?_
  refine lv_iconst (v := nI 1) hx hb dX2_places_1 (by decide) ?_
  refine lv_iload_n hx hb dX2_places_2 rfl (lv_at hl 1 rfl) ?_
  refine lv_ldc hx hb hown (hts _ q154) dX2_places_3 ?_
  refine lv_iand hx hb dX2_places_5 ?_
  refine bd_top (bd_lo_and a) ?_
  refine lv_bipush (v := nI 10) hx hb dX2_places_6 (by decide) ?_
  refine lv_irem hx hb dX2_places_8 (nI_ne0 (by decide) (by decide)) ?_
  refine bd_top (pk_rem (bd_lo_lt a) (by decide) (by decide)) ?_
  refine bd_iadd hx hb dX2_places_9 ?_
  refine va_put (D := D) (ci := 2) (v := .int (nI (1 + (bd_lo a % 10)))) (ty := .int) (C := RX2) (T := TX2) (N := 4) hx hb hts in_X2 tyX2 tyX2_ok nmX2 hown hK hP hD hS 0 rfl rfl 1 (by decide) (hts _ q137) (fun _ h9 => h9) rfl (by decide +kernel) rfl rfl (Nat.le_of_ble_eq_true rfl) dX2_places_10 (fun H locs hP hD hS => ?_)
  have hP : va_P D bdCl (bd_MW d dz hm qz qt (1 + (bd_lo a % 10)) bo be kn) H := hP
  have hD : va_D A (bd_MW d dz hm qz qt (1 + (bd_lo a % 10)) bo be kn) := hD
  refine lv_iconst (v := nI 0) hx hb dX2_places_13 (by decide) ?_
  refine lv_istore_n (lv' := [(2, .int (nI 0)), (0, .ref hm), (1, .int a)]) hx hb dX2_places_14 rfl hl (by decide) rfl (fun ls hl => ?_)
  refine bd_mplaces_lp ⟨hx, hb, hml, hown, hts⟩ hK (fun H locs ls hP hD hS hl => ?_) 100 0 bo rfl (fun j hj => absurd hj (by omega)) H locs ls hP hD hS (lv_sub hl [1, 0] rfl)
  refine lv_aload_n hx hb dX2_places_34 rfl (lv_at hl 0 rfl) ?_
  refine lv_iconst (v := nI 0) hx hb dX2_places_35 (by decide) ?_
  refine va_put (D := D) (ci := 2) (v := .int (nI 0)) (ty := .boolean) (C := RX2) (T := TX2) (N := 4) hx hb hts in_X2 tyX2 tyX2_ok nmX2 hown hK hP hD hS 0 rfl rfl 3 (by decide) (hts _ q139) (fun _ h9 => h9) rfl (by decide +kernel) rfl rfl (Nat.le_of_ble_eq_true rfl) dX2_places_36 (fun H locs hP hD hS => ?_)
  have hP : va_P D bdCl (bd_MW d dz hm qz qt (1 + (bd_lo a % 10)) (fun _ => false) be (nI 0)) H := hP
  have hD : va_D A (bd_MW d dz hm qz qt (1 + (bd_lo a % 10)) (fun _ => false) be (nI 0)) := hD
  exact bd_vret hx hb hr hlocks () trivial hK hP hD hS dX2_places_39
def bd_mtie (bo : Nat → Bool) (v w : Nat) (b : Bool) : Nat → Bool := bd_upB (bd_upB bo ((10 * v) + w) b) ((10 * w) + v) b
set_option maxHeartbeats 4000000 in
set_option maxRecDepth 100000 in
theorem metX2_tie (l : Launch) (D : va_G) (d dz : ClassId) (hm qz qt n : Nat) (bo : Nat → Bool) (be : Nat → Nat) (kn : Int32) (hn0 : 0 < n) (hn : n ≤ 10) (a a2 : Int32) : bd_Ci l yX2_tie cX2_tie 5 .boolean ({ frames := 1, cells := 0, slots := 0, locals := 21 }) D [(d, .int), (dz, .boolean)] [.ref hm, .int a, .int a2] (bd_MW d dz hm qz qt n bo be kn) (fun r (_ : Unit) => r = if bd_lo a % n = bd_lo a2 % n then nI 0 else nI 1) (fun _ => bd_MW d dz hm qz qt n (if bd_lo a % n = bd_lo a2 % n then bo else bd_mtie bo (bd_lo a % n) (bd_lo a2 % n) true) be (if bd_lo a % n = bd_lo a2 % n then kn else nI 0)) := by
  intro sz
  refine bd_start (Qc := fun A => va_Qi (fun r (_ : Unit) => r = if bd_lo a % n = bd_lo a2 % n then nI 0 else nI 1) (fun u t => bd_Post D [(d, .int), (dz, .boolean)] A ((fun _ => bd_MW d dz hm qz qt n (if bd_lo a % n = bd_lo a2 % n then bo else bd_mtie bo (bd_lo a % n) (bd_lo a2 % n) true) be (if bd_lo a % n = bd_lo a2 % n then kn else nI 0)) u) t) A) (by decide) (Nat.le_of_ble_eq_true rfl) ?_
  intro p e s m below meth c A ls hx hb hr hml hts hown hlocks hin hA hK hP hD hl
  have hS : va_S A s.heap s.heap [] := va_S.rf
  have hl : lv_has ls 5 [(0, .ref hm), (1, .int a), (2, .int a2)] := hl
  obtain ⟨v, ev⟩ : ∃ v, v = bd_lo a % n := ⟨_, rfl⟩
  obtain ⟨w, ew⟩ : ∃ w, w = bd_lo a2 % n := ⟨_, rfl⟩
  have hv : v < 10 := by rw [ev]; exact Nat.lt_of_lt_of_le (Nat.mod_lt _ hn0) hn
  have hw : w < 10 := by rw [ew]; exact Nat.lt_of_lt_of_le (Nat.mod_lt _ hn0) hn
  rw [← ev, ← ew]
  refine lv_aload_n hx hb dX2_tie_0 rfl (lv_at hl 0 rfl) ?_
  refine lv_iload_n hx hb dX2_tie_1 rfl (lv_at hl 1 rfl) ?_
  refine bd_calli (wr := []) (rest := []) ⟨hx, hb, hml, hown, hts⟩ (metX2_at l D d dz hm qz qt n bo be kn hn0 hn a _) (cwV 1 hts (lw_V q159 q161 qs7 q12 q162) rfl rfl rfl (by decide +kernel) ⟨Nat.le_of_ble_eq_true rfl, Nat.le_of_ble_eq_true rfl⟩) hK hP hD hS hA [0, 1, 2] [] [0, 1] rfl rfl rfl rfl rfl rfl (by decide) (ci := 2) (q0 := 0) rfl rfl rfl hl.1 rfl (Nat.le_of_ble_eq_true rfl) dX2_tie_2 ⟨Nat.le_refl _, Nat.le_refl _⟩ (fun r_ u_ H locs hw_ hP hD hS => ?_)
  subst hw_
  rw [← ev]
  have hP : va_P D bdCl (bd_MW d dz hm qz qt n bo be kn) H := hP
  have hD : va_D A (bd_MW d dz hm qz qt n bo be kn) := hD
  refine lv_istore_n (lv' := [(3, .int (nI v)), (0, .ref hm), (1, .int a), (2, .int a2)]) hx hb dX2_tie_5 rfl hl (by decide) rfl (fun ls hl => ?_)
  refine lv_aload_n hx hb dX2_tie_6 rfl (lv_at hl 1 rfl) ?_
  refine lv_iload_n hx hb dX2_tie_7 rfl (lv_at hl 3 rfl) ?_
  refine bd_calli (wr := []) (rest := []) ⟨hx, hb, hml, hown, hts⟩ (metX2_at l D d dz hm qz qt n bo be kn hn0 hn a2 _) (cwV 1 hts (lw_V q159 q161 qs7 q12 q162) rfl rfl rfl (by decide +kernel) ⟨Nat.le_of_ble_eq_true rfl, Nat.le_of_ble_eq_true rfl⟩) hK hP hD hS hA [0, 1, 2] [] [0, 1] rfl rfl rfl rfl rfl rfl (by decide) (ci := 2) (q0 := 0) rfl rfl rfl hl.1 rfl (Nat.le_of_ble_eq_true rfl) dX2_tie_8 ⟨Nat.le_refl _, Nat.le_refl _⟩ (fun r_ u_ H locs hw_ hP hD hS => ?_)
  subst hw_
  rw [← ew]
  have hP : va_P D bdCl (bd_MW d dz hm qz qt n bo be kn) H := hP
  have hD : va_D A (bd_MW d dz hm qz qt n bo be kn) := hD
  refine lv_istore (lv' := [(4, .int (nI w)), (3, .int (nI v)), (0, .ref hm), (1, .int a), (2, .int a2)]) hx hb dX2_tie_11 hl (by decide) rfl (fun ls hl => ?_)
  refine lv_iload_n hx hb dX2_tie_13 rfl (lv_at hl 1 rfl) ?_
  refine lv_iload hx hb dX2_tie_14 (lv_at hl 0 rfl) ?_
  by_cases c1 : v = w
  · refine lv_icmp_ne (tgt := 21) hx hb dX2_tie_16 (by decide) (fun c_ => absurd (by rw [c1]) c_) (fun _ => ?_)
    have hP : va_P D bdCl (bd_MW d dz hm qz qt n (if v = w then bo else bd_mtie bo v w true) be (if v = w then kn else nI 0)) H := by rw [if_pos c1, if_pos c1]; exact hP
    have hD : va_D A (bd_MW d dz hm qz qt n (if v = w then bo else bd_mtie bo v w true) be (if v = w then kn else nI 0)) := by rw [if_pos c1, if_pos c1]; exact hD
    refine lv_iconst (v := nI 0) hx hb dX2_tie_19 (by decide) ?_
    exact bd_iret hx hb hr rfl hlocks () (by rw [if_pos c1]) hK hP hD hS dX2_tie_20
  · refine lv_icmp_ne (tgt := 21) hx hb dX2_tie_16 (by decide) (fun _ => ?_) (fun c_ => absurd c_ (fun q => c1 ((nI_eq (bd_31 hv) (bd_31 hw)).mp q)))
    refine lv_aload_n hx hb dX2_tie_21 rfl (lv_at hl 2 rfl) ?_
    refine va_get (D := D) (ci := 2) (v := .ref qz) (C := RX2) (T := TX2) (N := 4) hx hb hts in_X2 hown hK hP 0 rfl rfl 0 (by decide) (hts _ q136) (fun _ h9 => h9) rfl dX2_tie_22 ?_
    refine lv_bipush (v := nI 10) hx hb dX2_tie_25 (by decide) ?_
    refine lv_iload_n hx hb dX2_tie_27 rfl (lv_at hl 1 rfl) ?_
    refine bd_imul hx hb dX2_tie_28 ?_
    refine lv_iload hx hb dX2_tie_29 (lv_at hl 0 rfl) ?_
    refine bd_iadd hx hb dX2_tie_31 ?_
    refine lv_iconst (v := nI 1) hx hb dX2_tie_32 (by decide) ?_
    refine bd_astZ (v := true) hx hb hK hP hD hS 1 1 rfl rfl (by decide) (show 10 * v + w < 100 by omega) dX2_tie_33 (fun H locs hP hD hS => ?_)
    have hP : va_P D bdCl (bd_MW d dz hm qz qt n (bd_upB bo ((10 * v) + w) true) be kn) H := hP
    have hD : va_D A (bd_MW d dz hm qz qt n (bd_upB bo ((10 * v) + w) true) be kn) := hD
    refine lv_aload_n hx hb dX2_tie_34 rfl (lv_at hl 2 rfl) ?_
    refine va_get (D := D) (ci := 2) (v := .ref qz) (C := RX2) (T := TX2) (N := 4) hx hb hts in_X2 hown hK hP 0 rfl rfl 0 (by decide) (hts _ q136) (fun _ h9 => h9) rfl dX2_tie_35 ?_
    refine lv_bipush (v := nI 10) hx hb dX2_tie_38 (by decide) ?_
    refine lv_iload hx hb dX2_tie_40 (lv_at hl 0 rfl) ?_
    refine bd_imul hx hb dX2_tie_42 ?_
    refine lv_iload_n hx hb dX2_tie_43 rfl (lv_at hl 1 rfl) ?_
    refine bd_iadd hx hb dX2_tie_44 ?_
    refine lv_iconst (v := nI 1) hx hb dX2_tie_45 (by decide) ?_
    refine bd_astZ (v := true) hx hb hK hP hD hS 1 1 rfl rfl (by decide) (show 10 * w + v < 100 by omega) dX2_tie_46 (fun H locs hP hD hS => ?_)
    have hP : va_P D bdCl (bd_MW d dz hm qz qt n (bd_upB (bd_upB bo ((10 * v) + w) true) ((10 * w) + v) true) be kn) H := hP
    have hD : va_D A (bd_MW d dz hm qz qt n (bd_upB (bd_upB bo ((10 * v) + w) true) ((10 * w) + v) true) be kn) := hD
    refine lv_aload_n hx hb dX2_tie_47 rfl (lv_at hl 2 rfl) ?_
    refine lv_iconst (v := nI 0) hx hb dX2_tie_48 (by decide) ?_
    refine va_put (D := D) (ci := 2) (v := .int (nI 0)) (ty := .boolean) (C := RX2) (T := TX2) (N := 4) hx hb hts in_X2 tyX2 tyX2_ok nmX2 hown hK hP hD hS 0 rfl rfl 3 (by decide) (hts _ q139) (fun _ h9 => h9) rfl (by decide +kernel) rfl rfl (Nat.le_of_ble_eq_true rfl) dX2_tie_49 (fun H locs hP hD hS => ?_)
    have hP : va_P D bdCl (bd_MW d dz hm qz qt n (bd_upB (bd_upB bo ((10 * v) + w) true) ((10 * w) + v) true) be (nI 0)) H := hP
    have hD : va_D A (bd_MW d dz hm qz qt n (bd_upB (bd_upB bo ((10 * v) + w) true) ((10 * w) + v) true) be (nI 0)) := hD
    refine lv_iconst (v := nI 1) hx hb dX2_tie_52 (by decide) ?_
    have hP : va_P D bdCl (bd_MW d dz hm qz qt n (if v = w then bo else bd_mtie bo v w true) be (if v = w then kn else nI 0)) H := by rw [if_neg c1, if_neg c1]; exact hP
    have hD : va_D A (bd_MW d dz hm qz qt n (if v = w then bo else bd_mtie bo v w true) be (if v = w then kn else nI 0)) := by rw [if_neg c1, if_neg c1]; exact hD
    exact bd_iret hx hb hr rfl hlocks () (by rw [if_neg c1]) hK hP hD hS dX2_tie_53
set_option maxHeartbeats 4000000 in
set_option maxRecDepth 100000 in
theorem metX2_cut (l : Launch) (D : va_G) (d dz : ClassId) (hm qz qt n : Nat) (bo : Nat → Bool) (be : Nat → Nat) (kn : Int32) (hn0 : 0 < n) (hn : n ≤ 10) (a a2 : Int32) : bd_Cv l yX2_cut cX2_cut 5 ({ frames := 1, cells := 0, slots := 0, locals := 21 }) D [(d, .int), (dz, .boolean)] [.ref hm, .int a, .int a2] (bd_MW d dz hm qz qt n bo be kn) (fun _ : Unit => True) (fun _ => bd_MW d dz hm qz qt n (bd_mtie bo (bd_lo a % n) (bd_lo a2 % n) false) be (nI 0)) := by
  intro sz
  refine bd_start (Qc := fun A => va_Qv (fun _ : Unit => True) (fun u t => bd_Post D [(d, .int), (dz, .boolean)] A ((fun _ => bd_MW d dz hm qz qt n (bd_mtie bo (bd_lo a % n) (bd_lo a2 % n) false) be (nI 0)) u) t) A) (by decide) (Nat.le_of_ble_eq_true rfl) ?_
  intro p e s m below meth c A ls hx hb hr hml hts hown hlocks hin hA hK hP hD hl
  have hS : va_S A s.heap s.heap [] := va_S.rf
  have hl : lv_has ls 5 [(0, .ref hm), (1, .int a), (2, .int a2)] := hl
  obtain ⟨v, ev⟩ : ∃ v, v = bd_lo a % n := ⟨_, rfl⟩
  obtain ⟨w, ew⟩ : ∃ w, w = bd_lo a2 % n := ⟨_, rfl⟩
  have hv : v < 10 := by rw [ev]; exact Nat.lt_of_lt_of_le (Nat.mod_lt _ hn0) hn
  have hw : w < 10 := by rw [ew]; exact Nat.lt_of_lt_of_le (Nat.mod_lt _ hn0) hn
  rw [← ev, ← ew]
  refine lv_aload_n hx hb dX2_cut_0 rfl (lv_at hl 0 rfl) ?_
  refine lv_iload_n hx hb dX2_cut_1 rfl (lv_at hl 1 rfl) ?_
  refine bd_calli (wr := []) (rest := []) ⟨hx, hb, hml, hown, hts⟩ (metX2_at l D d dz hm qz qt n bo be kn hn0 hn a _) (cwV 1 hts (lw_V q159 q161 qs7 q12 q162) rfl rfl rfl (by decide +kernel) ⟨Nat.le_of_ble_eq_true rfl, Nat.le_of_ble_eq_true rfl⟩) hK hP hD hS hA [0, 1, 2] [] [0, 1] rfl rfl rfl rfl rfl rfl (by decide) (ci := 2) (q0 := 0) rfl rfl rfl hl.1 rfl (Nat.le_of_ble_eq_true rfl) dX2_cut_2 ⟨Nat.le_refl _, Nat.le_refl _⟩ (fun r_ u_ H locs hw_ hP hD hS => ?_)
  subst hw_
  rw [← ev]
  have hP : va_P D bdCl (bd_MW d dz hm qz qt n bo be kn) H := hP
  have hD : va_D A (bd_MW d dz hm qz qt n bo be kn) := hD
  refine lv_istore_n (lv' := [(3, .int (nI v)), (0, .ref hm), (1, .int a), (2, .int a2)]) hx hb dX2_cut_5 rfl hl (by decide) rfl (fun ls hl => ?_)
  refine lv_aload_n hx hb dX2_cut_6 rfl (lv_at hl 1 rfl) ?_
  refine lv_iload_n hx hb dX2_cut_7 rfl (lv_at hl 3 rfl) ?_
  refine bd_calli (wr := []) (rest := []) ⟨hx, hb, hml, hown, hts⟩ (metX2_at l D d dz hm qz qt n bo be kn hn0 hn a2 _) (cwV 1 hts (lw_V q159 q161 qs7 q12 q162) rfl rfl rfl (by decide +kernel) ⟨Nat.le_of_ble_eq_true rfl, Nat.le_of_ble_eq_true rfl⟩) hK hP hD hS hA [0, 1, 2] [] [0, 1] rfl rfl rfl rfl rfl rfl (by decide) (ci := 2) (q0 := 0) rfl rfl rfl hl.1 rfl (Nat.le_of_ble_eq_true rfl) dX2_cut_8 ⟨Nat.le_refl _, Nat.le_refl _⟩ (fun r_ u_ H locs hw_ hP hD hS => ?_)
  subst hw_
  rw [← ew]
  have hP : va_P D bdCl (bd_MW d dz hm qz qt n bo be kn) H := hP
  have hD : va_D A (bd_MW d dz hm qz qt n bo be kn) := hD
  refine lv_istore (lv' := [(4, .int (nI w)), (3, .int (nI v)), (0, .ref hm), (1, .int a), (2, .int a2)]) hx hb dX2_cut_11 hl (by decide) rfl (fun ls hl => ?_)
  refine lv_aload_n hx hb dX2_cut_13 rfl (lv_at hl 2 rfl) ?_
  refine va_get (D := D) (ci := 2) (v := .ref qz) (C := RX2) (T := TX2) (N := 4) hx hb hts in_X2 hown hK hP 0 rfl rfl 0 (by decide) (hts _ q136) (fun _ h9 => h9) rfl dX2_cut_14 ?_
  refine lv_bipush (v := nI 10) hx hb dX2_cut_17 (by decide) ?_
  refine lv_iload_n hx hb dX2_cut_19 rfl (lv_at hl 1 rfl) ?_
  refine bd_imul hx hb dX2_cut_20 ?_
  refine lv_iload hx hb dX2_cut_21 (lv_at hl 0 rfl) ?_
  refine bd_iadd hx hb dX2_cut_23 ?_
  refine lv_iconst (v := nI 0) hx hb dX2_cut_24 (by decide) ?_
  refine bd_astZ (v := false) hx hb hK hP hD hS 1 1 rfl rfl (by decide) (show 10 * v + w < 100 by omega) dX2_cut_25 (fun H locs hP hD hS => ?_)
  have hP : va_P D bdCl (bd_MW d dz hm qz qt n (bd_upB bo ((10 * v) + w) false) be kn) H := hP
  have hD : va_D A (bd_MW d dz hm qz qt n (bd_upB bo ((10 * v) + w) false) be kn) := hD
  refine lv_aload_n hx hb dX2_cut_26 rfl (lv_at hl 2 rfl) ?_
  refine va_get (D := D) (ci := 2) (v := .ref qz) (C := RX2) (T := TX2) (N := 4) hx hb hts in_X2 hown hK hP 0 rfl rfl 0 (by decide) (hts _ q136) (fun _ h9 => h9) rfl dX2_cut_27 ?_
  refine lv_bipush (v := nI 10) hx hb dX2_cut_30 (by decide) ?_
  refine lv_iload hx hb dX2_cut_32 (lv_at hl 0 rfl) ?_
  refine bd_imul hx hb dX2_cut_34 ?_
  refine lv_iload_n hx hb dX2_cut_35 rfl (lv_at hl 1 rfl) ?_
  refine bd_iadd hx hb dX2_cut_36 ?_
  refine lv_iconst (v := nI 0) hx hb dX2_cut_37 (by decide) ?_
  refine bd_astZ (v := false) hx hb hK hP hD hS 1 1 rfl rfl (by decide) (show 10 * w + v < 100 by omega) dX2_cut_38 (fun H locs hP hD hS => ?_)
  have hP : va_P D bdCl (bd_MW d dz hm qz qt n (bd_upB (bd_upB bo ((10 * v) + w) false) ((10 * w) + v) false) be kn) H := hP
  have hD : va_D A (bd_MW d dz hm qz qt n (bd_upB (bd_upB bo ((10 * v) + w) false) ((10 * w) + v) false) be kn) := hD
  refine lv_aload_n hx hb dX2_cut_39 rfl (lv_at hl 2 rfl) ?_
  refine lv_iconst (v := nI 0) hx hb dX2_cut_40 (by decide) ?_
  refine va_put (D := D) (ci := 2) (v := .int (nI 0)) (ty := .boolean) (C := RX2) (T := TX2) (N := 4) hx hb hts in_X2 tyX2 tyX2_ok nmX2 hown hK hP hD hS 0 rfl rfl 3 (by decide) (hts _ q139) (fun _ h9 => h9) rfl (by decide +kernel) rfl rfl (Nat.le_of_ble_eq_true rfl) dX2_cut_41 (fun H locs hP hD hS => ?_)
  have hP : va_P D bdCl (bd_MW d dz hm qz qt n (bd_upB (bd_upB bo ((10 * v) + w) false) ((10 * w) + v) false) be (nI 0)) H := hP
  have hD : va_D A (bd_MW d dz hm qz qt n (bd_upB (bd_upB bo ((10 * v) + w) false) ((10 * w) + v) false) be (nI 0)) := hD
  exact bd_vret hx hb hr hlocks () trivial hK hP hD hS dX2_cut_44
end
section
/-! BONDDESKMODEL: reckon -/
theorem bd_zero {S : Nat} (h : S < 1024) (hb : ∀ x, x < 10 → ¬ S.testBit x = true) : S = 0 := by
  apply Nat.eq_of_testBit_eq
  intro i
  rw [Nat.zero_testBit]
  cases q : S.testBit i with
  | false => rfl
  | true => exact absurd q (hb i (bd_bits_lt (n := 10) h q))
theorem bd_nu_0 (e : Nat → Nat → Bool) : bd_nu e 10 0 = 0 := by
  rw [bd_nu_low (e := e) (S := 0) (a := 10) (by omega) (fun x _ => by simp)]
  rfl
theorem bd_rk_congr {N N' : Nat → Nat} {e : Nat → Nat → Bool} {rest a n : Nat} (h : ∀ b, N (bd_clr rest b) = N' (bd_clr rest b)) : ∀ k m, bd_rk N e rest a n k m = bd_rk N' e rest a n k m
  | 0, _ => rfl
  | k + 1, m => by
    unfold bd_rk
    rw [h, bd_rk_congr h k]
section WALK
variable {p : Program} {l : Launch} {e : Env} {R : Room} {s : State} {m : MethodId} {args : Array Value} {below : List Frame} {meth : Method} {c : Code} {cells slots : Nat} {Q : State → Prop} {D : va_G} {A : Nat → Prop} {H0 : Heap} {d dz : ClassId} {hm qz qt : Nat}
set_option maxHeartbeats 4000000 in
set_option maxRecDepth 100000 in
theorem bd_reckon_low (F : CallFix p m c cX2_reckon 6 s args lw_all RX2) {set : Nat} (hs : set < 1024) (hs0 : 0 < set) {H : Heap} {locs : List Loc} (kx : ∀ (a : Nat) (ls : Array Slot), a < 10 → set.testBit a = true → (∀ x, x < a → ¬ set.testBit x = true) → lv_has ls 6 [(0, .ref hm), (1, .int (nI set)), (2, .int (nI a))] → W p l e R s m args below meth c H locs cells slots Q (F0 m 49 ls [])) :
    ∀ (k a : Nat), a + k = 10 → (∀ x, x < a → ¬ set.testBit x = true) → ∀ (ls : Array Slot), lv_has ls 6 [(0, .ref hm), (1, .int (nI set)), (2, .int (nI a))] → W p l e R s m args below meth c H locs cells slots Q (F0 m 34 ls []) := by
  obtain ⟨hx, hb, hml, hown, hts⟩ := id F
  intro k
  induction k with
  | zero =>
    intro a ha hlow ls hl
    have := bd_zero hs (fun x hx => hlow x (by omega))
    omega
  | succ k ih =>
    intro a hk hlow ls hl
    have ha : a < 10 := by omega
    refine lv_iload_n hx hb dX2_reckon_34 rfl (lv_at hl 1 rfl) ?_
    refine lv_iload_n hx hb dX2_reckon_35 rfl (lv_at hl 2 rfl) ?_
    refine bd_ishr hx hb dX2_reckon_36 (bd_31' hs) (Nat.lt_of_lt_of_le ha (by decide)) ?_
    refine lv_iconst (v := nI 1) hx hb dX2_reckon_37 (by decide) ?_
    refine bd_iand1 hx hb dX2_reckon_38 (bd_31' hs) ?_
    by_cases c1 : set.testBit a = true
    · refine lv_if_ne (tgt := 49) hx hb dX2_reckon_39 (by decide) (fun _ => ?_) (fun c_ => absurd c_ (bd_bnz c1))
      exact kx a ls ha c1 hlow (lv_sub hl [0, 1, 2] rfl)
    · refine lv_if_ne (tgt := 49) hx hb dX2_reckon_39 (by decide) (fun c_ => absurd (bd_bz c1) c_) (fun _ => ?_)
      refine lv_iload_n hx hb dX2_reckon_42 rfl (lv_at hl 2 rfl) ?_
      refine lv_iconst (v := nI 1) hx hb dX2_reckon_43 (by decide) ?_
      refine bd_iadd hx hb dX2_reckon_44 ?_
      refine lv_istore_n (lv' := [(2, .int (nI (a + 1))), (0, .ref hm), (1, .int (nI set))]) hx hb dX2_reckon_45 rfl hl (by decide) rfl (fun ls hl => ?_)
      refine lv_goto (tgt := 34) hx hb dX2_reckon_46 (by decide) ?_
      exact ih (a + 1) (by omega) (fun x hx => by
        by_cases q : x = a
        · rw [q]; exact c1
        · exact hlow x (by omega)) ls (lv_sub hl [1, 2, 0] rfl)
set_option maxHeartbeats 4000000 in
set_option maxRecDepth 100000 in
theorem bd_reckon_in (F : CallFix p m c cX2_reckon 6 s args lw_all RX2) (hK : va_K D bdCl [(d, .int), (dz, .boolean)] s) {e0 : Nat → Nat → Bool} {bo : Nat → Bool} (he : ∀ a b, e0 a b = bo (10 * a + b)) {n set a rest : Nat} {be : Nat → Nat} {kn : Int32} (hn : n ≤ 10) (ha : a < 10) (hrest : rest < 1024) (hbe : ∀ b, be (bd_clr rest b) ≤ 10) {H : Heap} {locs : List Loc} (hP : va_P D bdCl (bd_MW d dz hm qz qt n bo be kn) H) (fin : Nat) (kx : ∀ (ls : Array Slot), lv_has ls 6 [(0, .ref hm), (1, .int (nI set)), (4, .int (nI fin))] → W p l e R s m args below meth c H locs cells slots Q (F0 m 146 ls [])) :
    ∀ (k b mm : Nat), b + k = n → mm ≤ 11 → bd_rk be e0 rest a n k mm = fin → ∀ (ls : Array Slot), lv_has ls 6 [(0, .ref hm), (1, .int (nI set)), (2, .int (nI a)), (3, .int (nI rest)), (4, .int (nI mm)), (5, .int (nI b))] → W p l e R s m args below meth c H locs cells slots Q (F0 m 70 ls []) := by
  obtain ⟨hx, hb, hml, hown, hts⟩ := id F
  intro k
  induction k with
  | zero =>
    intro b mm hk hmm hrun ls hl
    have hrun : mm = fin := hrun
    subst hrun
    refine lv_iload hx hb dX2_reckon_70 (lv_at hl 5 rfl) ?_
    refine lv_aload_n hx hb dX2_reckon_72 rfl (lv_at hl 0 rfl) ?_
    refine va_get (D := D) (ci := 2) (v := .int (nI n)) (C := RX2) (T := TX2) (N := 4) hx hb hts in_X2 hown hK hP 0 rfl rfl 1 (by decide) (hts _ q137) (fun _ h9 => h9) rfl dX2_reckon_73 ?_
    refine lv_icmp_ge (tgt := 146) hx hb dX2_reckon_76 (by decide) (fun _ => ?_) (fun c_ => absurd (nI_le (show n ≤ b by omega) (by omega)) c_)
    exact kx ls (lv_sub hl [0, 1, 4] rfl)
  | succ k ih =>
    intro b mm hk hmm hrun ls hl
    have hbn : b < n := by omega
    have hb10 : b < 10 := by omega
    unfold bd_rk at hrun
    rw [show n - (k + 1) = b by omega] at hrun
    have hB := hbe b
    refine lv_iload hx hb dX2_reckon_70 (lv_at hl 5 rfl) ?_
    refine lv_aload_n hx hb dX2_reckon_72 rfl (lv_at hl 0 rfl) ?_
    refine va_get (D := D) (ci := 2) (v := .int (nI n)) (C := RX2) (T := TX2) (N := 4) hx hb hts in_X2 hown hK hP 0 rfl rfl 1 (by decide) (hts _ q137) (fun _ h9 => h9) rfl dX2_reckon_73 ?_
    refine lv_icmp_ge (tgt := 146) hx hb dX2_reckon_76 (by decide) (fun c_ => absurd c_ (nI_ge hbn (by omega))) (fun _ => ?_)
    refine lv_iload_n hx hb dX2_reckon_79 rfl (lv_at hl 3 rfl) ?_
    refine lv_iload hx hb dX2_reckon_80 (lv_at hl 5 rfl) ?_
    refine bd_ishr hx hb dX2_reckon_82 (bd_31' hrest) (Nat.lt_of_lt_of_le hb10 (by decide)) ?_
    refine lv_iconst (v := nI 1) hx hb dX2_reckon_83 (by decide) ?_
    refine bd_iand1 hx hb dX2_reckon_84 (bd_31' hrest) ?_
    by_cases c1 : rest.testBit b = true
    · refine lv_if_eq (tgt := 140) hx hb dX2_reckon_85 (by decide) (fun c_ => absurd c_ (bd_bnz c1)) (fun _ => ?_)
      refine lv_aload_n hx hb dX2_reckon_88 rfl (lv_at hl 0 rfl) ?_
      refine va_get (D := D) (ci := 2) (v := .ref qz) (C := RX2) (T := TX2) (N := 4) hx hb hts in_X2 hown hK hP 0 rfl rfl 0 (by decide) (hts _ q136) (fun _ h9 => h9) rfl dX2_reckon_89 ?_
      refine lv_bipush (v := nI 10) hx hb dX2_reckon_92 (by decide) ?_
      refine lv_iload_n hx hb dX2_reckon_94 rfl (lv_at hl 2 rfl) ?_
      refine bd_imul hx hb dX2_reckon_95 ?_
      refine lv_iload hx hb dX2_reckon_96 (lv_at hl 5 rfl) ?_
      refine bd_iadd hx hb dX2_reckon_98 ?_
      refine bd_aldZ hx hb hK hP 1 1 rfl rfl (show 10 * a + b < 100 by omega) dX2_reckon_99 ?_
      by_cases c2 : e0 a b = true
      · refine lv_if_eq (tgt := 140) hx hb dX2_reckon_100 (by decide) (fun c_ => absurd c_ (bd_z_n (by rw [← he]; exact c2))) (fun _ => ?_)
        refine lv_aload_n hx hb dX2_reckon_103 rfl (lv_at hl 0 rfl) ?_
        refine va_get (D := D) (ci := 2) (v := .ref qt) (C := RX2) (T := TX2) (N := 4) hx hb hts in_X2 hown hK hP 0 rfl rfl 2 (by decide) (hts _ q138) (fun _ h9 => h9) rfl dX2_reckon_104 ?_
        refine lv_iload_n hx hb dX2_reckon_107 rfl (lv_at hl 3 rfl) ?_
        refine lv_iconst (v := nI 1) hx hb dX2_reckon_108 (by decide) ?_
        refine lv_iload hx hb dX2_reckon_109 (lv_at hl 5 rfl) ?_
        refine bd_ishl hx hb dX2_reckon_111 (Nat.lt_of_lt_of_le hb10 (by decide)) ?_
        refine lv_iconst (v := -1) hx hb dX2_reckon_112 (by decide) ?_
        refine lv_ixor hx hb dX2_reckon_113 ?_
        refine bd_iclr hx hb dX2_reckon_114 ?_
        refine bd_aldN hx hb hK hP 2 0 rfl rfl (bd_clr_lt hrest) (by decide) dX2_reckon_115 ?_
        refine lv_iconst (v := nI 1) hx hb dX2_reckon_116 (by decide) ?_
        refine bd_iadd hx hb dX2_reckon_117 ?_
        refine lv_iload hx hb dX2_reckon_118 (lv_at hl 4 rfl) ?_
        by_cases c3 : mm < be (bd_clr rest b) + 1
        · rw [if_pos ⟨⟨c1, c2⟩, c3⟩] at hrun
          refine lv_icmp_le (tgt := 140) hx hb dX2_reckon_120 (by decide) (fun c_ => absurd c_ (nI_ge c3 (by omega))) (fun _ => ?_)
          refine lv_aload_n hx hb dX2_reckon_123 rfl (lv_at hl 0 rfl) ?_
          refine va_get (D := D) (ci := 2) (v := .ref qt) (C := RX2) (T := TX2) (N := 4) hx hb hts in_X2 hown hK hP 0 rfl rfl 2 (by decide) (hts _ q138) (fun _ h9 => h9) rfl dX2_reckon_124 ?_
          refine lv_iload_n hx hb dX2_reckon_127 rfl (lv_at hl 3 rfl) ?_
          refine lv_iconst (v := nI 1) hx hb dX2_reckon_128 (by decide) ?_
          refine lv_iload hx hb dX2_reckon_129 (lv_at hl 5 rfl) ?_
          refine bd_ishl hx hb dX2_reckon_131 (Nat.lt_of_lt_of_le hb10 (by decide)) ?_
          refine lv_iconst (v := -1) hx hb dX2_reckon_132 (by decide) ?_
          refine lv_ixor hx hb dX2_reckon_133 ?_
          refine bd_iclr hx hb dX2_reckon_134 ?_
          refine bd_aldN hx hb hK hP 2 0 rfl rfl (bd_clr_lt hrest) (by decide) dX2_reckon_135 ?_
          refine lv_iconst (v := nI 1) hx hb dX2_reckon_136 (by decide) ?_
          refine bd_iadd hx hb dX2_reckon_137 ?_
          refine lv_istore (lv' := [(4, .int (nI ((be (bd_clr rest b)) + 1))), (0, .ref hm), (1, .int (nI set)), (2, .int (nI a)), (3, .int (nI rest)), (5, .int (nI b))]) hx hb dX2_reckon_138 hl (by decide) rfl (fun ls hl => ?_)
          refine lv_iinc (v := nI (b + 1)) (lv' := [(5, .int (nI (b + 1))), (4, .int (nI ((be (bd_clr rest b)) + 1))), (0, .ref hm), (1, .int (nI set)), (2, .int (nI a)), (3, .int (nI rest))]) hx hb dX2_reckon_140 hl (k := 5) rfl (nI_1 _) (by decide) rfl (fun ls hl => ?_)
          refine lv_goto (tgt := 70) hx hb dX2_reckon_143 (by decide) ?_
          exact ih (b + 1) _ (by omega) (by omega) hrun ls (lv_sub hl [2, 3, 4, 5, 1, 0] rfl)
        · rw [if_neg (fun q => c3 q.2)] at hrun
          refine lv_icmp_le (tgt := 140) hx hb dX2_reckon_120 (by decide) (fun _ => ?_) (fun c_ => absurd (nI_le (by omega) (by omega)) c_)
          refine lv_iinc (v := nI (b + 1)) (lv' := [(5, .int (nI (b + 1))), (0, .ref hm), (1, .int (nI set)), (2, .int (nI a)), (3, .int (nI rest)), (4, .int (nI mm))]) hx hb dX2_reckon_140 hl (k := 5) rfl (nI_1 _) (by decide) rfl (fun ls hl => ?_)
          refine lv_goto (tgt := 70) hx hb dX2_reckon_143 (by decide) ?_
          exact ih (b + 1) _ (by omega) hmm hrun ls (lv_sub hl [1, 2, 3, 4, 5, 0] rfl)
      · rw [if_neg (fun q => c2 q.1.2)] at hrun
        refine lv_if_eq (tgt := 140) hx hb dX2_reckon_100 (by decide) (fun _ => ?_) (fun c_ => absurd (bd_z_z (by rw [← he]; exact c2)) c_)
        refine lv_iinc (v := nI (b + 1)) (lv' := [(5, .int (nI (b + 1))), (0, .ref hm), (1, .int (nI set)), (2, .int (nI a)), (3, .int (nI rest)), (4, .int (nI mm))]) hx hb dX2_reckon_140 hl (k := 5) rfl (nI_1 _) (by decide) rfl (fun ls hl => ?_)
        refine lv_goto (tgt := 70) hx hb dX2_reckon_143 (by decide) ?_
        exact ih (b + 1) _ (by omega) hmm hrun ls (lv_sub hl [1, 2, 3, 4, 5, 0] rfl)
    · rw [if_neg (fun q => c1 q.1.1)] at hrun
      refine lv_if_eq (tgt := 140) hx hb dX2_reckon_85 (by decide) (fun _ => ?_) (fun c_ => absurd (bd_bz c1) c_)
      refine lv_iinc (v := nI (b + 1)) (lv' := [(5, .int (nI (b + 1))), (0, .ref hm), (1, .int (nI set)), (2, .int (nI a)), (3, .int (nI rest)), (4, .int (nI mm))]) hx hb dX2_reckon_140 hl (k := 5) rfl (nI_1 _) (by decide) rfl (fun ls hl => ?_)
      refine lv_goto (tgt := 70) hx hb dX2_reckon_143 (by decide) ?_
      exact ih (b + 1) _ (by omega) hmm hrun ls (lv_sub hl [1, 2, 3, 4, 5, 0] rfl)
set_option maxHeartbeats 4000000 in
set_option maxRecDepth 100000 in
theorem bd_reckon_out (F : CallFix p m c cX2_reckon 6 s args lw_all RX2) (hK : va_K D bdCl [(d, .int), (dz, .boolean)] s) {e0 : Nat → Nat → Bool} {bo : Nat → Bool} (he : ∀ a b, e0 a b = bo (10 * a + b)) {n : Nat} {kn : Int32} (hn : n ≤ 10) (kx : ∀ (be : Nat → Nat) (H : Heap) (locs : List Loc) (ls : Array Slot), (∀ S, S < 2 ^ n → be S = bd_nu e0 10 S) → va_P D bdCl (bd_MW d dz hm qz qt n bo be kn) H → va_D A (bd_MW d dz hm qz qt n bo be kn) → va_S A H0 H locs → W p l e R s m args below meth c H locs cells slots Q (F0 m 160 ls [])) :
    ∀ (k set : Nat) (be : Nat → Nat), set + k = 2 ^ n → 0 < set → (∀ S, S < set → be S = bd_nu e0 10 S) → ∀ (H : Heap) (locs : List Loc) (ls : Array Slot), va_P D bdCl (bd_MW d dz hm qz qt n bo be kn) H → va_D A (bd_MW d dz hm qz qt n bo be kn) → va_S A H0 H locs → lv_has ls 6 [(0, .ref hm), (1, .int (nI set))] → W p l e R s m args below meth c H locs cells slots Q (F0 m 22 ls []) := by
  obtain ⟨hx, hb, hml, hown, hts⟩ := id F
  have h2n : 2 ^ n ≤ 2 ^ 10 := Nat.pow_le_pow_right (by decide) hn
  intro k
  induction k with
  | zero =>
    intro set be hk hs0 hbe H locs ls hP hD hS hl
    refine lv_iload_n hx hb dX2_reckon_22 rfl (lv_at hl 1 rfl) ?_
    refine lv_iconst (v := nI 1) hx hb dX2_reckon_23 (by decide) ?_
    refine lv_aload_n hx hb dX2_reckon_24 rfl (lv_at hl 0 rfl) ?_
    refine va_get (D := D) (ci := 2) (v := .int (nI n)) (C := RX2) (T := TX2) (N := 4) hx hb hts in_X2 hown hK hP 0 rfl rfl 1 (by decide) (hts _ q137) (fun _ h9 => h9) rfl dX2_reckon_25 ?_
    refine bd_ishl hx hb dX2_reckon_28 (Nat.lt_of_lt_of_le (Nat.lt_succ_of_le hn) (by decide)) ?_
    refine lv_icmp_ge (tgt := 160) hx hb dX2_reckon_29 (by decide) (fun _ => ?_) (fun c_ => absurd (nI_le (show 2 ^ n ≤ set by omega) (by omega)) c_)
    exact kx be H locs ls (fun S q => hbe S (by omega)) hP hD hS
  | succ k ih =>
    intro set be hk hs0 hbe H locs ls hP hD hS hl
    have hsn : set < 2 ^ n := by omega
    have hs : set < 1024 := by omega
    refine lv_iload_n hx hb dX2_reckon_22 rfl (lv_at hl 1 rfl) ?_
    refine lv_iconst (v := nI 1) hx hb dX2_reckon_23 (by decide) ?_
    refine lv_aload_n hx hb dX2_reckon_24 rfl (lv_at hl 0 rfl) ?_
    refine va_get (D := D) (ci := 2) (v := .int (nI n)) (C := RX2) (T := TX2) (N := 4) hx hb hts in_X2 hown hK hP 0 rfl rfl 1 (by decide) (hts _ q137) (fun _ h9 => h9) rfl dX2_reckon_25 ?_
    refine bd_ishl hx hb dX2_reckon_28 (Nat.lt_of_lt_of_le (Nat.lt_succ_of_le hn) (by decide)) ?_
    refine lv_icmp_ge (tgt := 160) hx hb dX2_reckon_29 (by decide) (fun c_ => absurd c_ (nI_ge hsn (by omega))) (fun _ => ?_)
    refine lv_iconst (v := nI 0) hx hb dX2_reckon_32 (by decide) ?_
    refine lv_istore_n (lv' := [(2, .int (nI 0)), (0, .ref hm), (1, .int (nI set))]) hx hb dX2_reckon_33 rfl hl (by decide) rfl (fun ls hl => ?_)
    refine bd_reckon_low F hs hs0 (fun a ls ha hsa hlow hl => ?_) 10 0 rfl (fun x hx => absurd hx (by omega)) ls (lv_sub hl [1, 2, 0] rfl)
    have hlt := bd_clr_lt1 hsa
    have han := bd_bits_lt hsn hsa
    refine lv_iload_n hx hb dX2_reckon_49 rfl (lv_at hl 1 rfl) ?_
    refine lv_iconst (v := nI 1) hx hb dX2_reckon_50 (by decide) ?_
    refine lv_iload_n hx hb dX2_reckon_51 rfl (lv_at hl 2 rfl) ?_
    refine bd_ishl hx hb dX2_reckon_52 (Nat.lt_of_lt_of_le ha (by decide)) ?_
    refine lv_iconst (v := -1) hx hb dX2_reckon_53 (by decide) ?_
    refine lv_ixor hx hb dX2_reckon_54 ?_
    refine bd_iclr hx hb dX2_reckon_55 ?_
    refine lv_istore_n (lv' := [(3, .int (nI (bd_clr set a))), (0, .ref hm), (1, .int (nI set)), (2, .int (nI a))]) hx hb dX2_reckon_56 rfl hl (by decide) rfl (fun ls hl => ?_)
    refine lv_aload_n hx hb dX2_reckon_57 rfl (lv_at hl 1 rfl) ?_
    refine va_get (D := D) (ci := 2) (v := .ref qt) (C := RX2) (T := TX2) (N := 4) hx hb hts in_X2 hown hK hP 0 rfl rfl 2 (by decide) (hts _ q138) (fun _ h9 => h9) rfl dX2_reckon_58 ?_
    refine lv_iload_n hx hb dX2_reckon_61 rfl (lv_at hl 0 rfl) ?_
    refine bd_aldN hx hb hK hP 2 0 rfl rfl (bd_clr_lt hs) (by decide) dX2_reckon_62 ?_
    refine lv_istore (lv' := [(4, .int (nI (be (bd_clr set a)))), (3, .int (nI (bd_clr set a))), (0, .ref hm), (1, .int (nI set)), (2, .int (nI a))]) hx hb dX2_reckon_63 hl (by decide) rfl (fun ls hl => ?_)
    refine lv_iload_n hx hb dX2_reckon_65 rfl (lv_at hl 4 rfl) ?_
    refine lv_iconst (v := nI 1) hx hb dX2_reckon_66 (by decide) ?_
    refine bd_iadd hx hb dX2_reckon_67 ?_
    refine lv_istore (lv' := [(5, .int (nI (a + 1))), (4, .int (nI (be (bd_clr set a)))), (3, .int (nI (bd_clr set a))), (0, .ref hm), (1, .int (nI set)), (2, .int (nI a))]) hx hb dX2_reckon_68 hl (by decide) rfl (fun ls hl => ?_)
    have hbc : ∀ b, be (bd_clr (bd_clr set a) b) = bd_nu e0 10 (bd_clr (bd_clr set a) b) := fun b => hbe _ (Nat.lt_of_le_of_lt (bd_clr_le _ b) hlt)
    have hrk : bd_rk be e0 (bd_clr set a) a n (n - (a + 1)) (be (bd_clr set a)) = bd_nu e0 10 set := by
      rw [bd_rk_congr hbc, hbe _ hlt]
      exact bd_rk_eq hn hsn hsa hlow
    refine bd_reckon_in F hK he hn ha (bd_clr_lt hs) (fun b => by rw [hbc]; exact bd_nu_b e0 10 _) hP _ (fun ls hl => ?_) (n - (a + 1)) (a + 1) (be (bd_clr set a)) (by omega) (by rw [hbe _ hlt]; exact Nat.le_succ_of_le (bd_nu_b e0 10 _)) hrk ls (lv_sub hl [3, 4, 5, 2, 1, 0] rfl)
    refine lv_aload_n hx hb dX2_reckon_146 rfl (lv_at hl 0 rfl) ?_
    refine va_get (D := D) (ci := 2) (v := .ref qt) (C := RX2) (T := TX2) (N := 4) hx hb hts in_X2 hown hK hP 0 rfl rfl 2 (by decide) (hts _ q138) (fun _ h9 => h9) rfl dX2_reckon_147 ?_
    refine lv_iload_n hx hb dX2_reckon_150 rfl (lv_at hl 1 rfl) ?_
    refine lv_iload hx hb dX2_reckon_151 (lv_at hl 2 rfl) ?_
    refine bd_astN (v := bd_nu e0 10 set) hx hb hK hP hD hS 2 0 rfl rfl hs (by decide) dX2_reckon_153 (fun H locs hP hD hS => ?_)
    have hP : va_P D bdCl (bd_MW d dz hm qz qt n bo (bd_up be set (bd_nu e0 10 set)) kn) H := hP
    have hD : va_D A (bd_MW d dz hm qz qt n bo (bd_up be set (bd_nu e0 10 set)) kn) := hD
    refine lv_iinc (v := nI (set + 1)) (lv' := [(1, .int (nI (set + 1))), (0, .ref hm), (4, .int (nI (bd_nu e0 10 set)))]) hx hb dX2_reckon_154 hl (k := 1) rfl (nI_1 _) (by decide) rfl (fun ls hl => ?_)
    refine lv_goto (tgt := 22) hx hb dX2_reckon_157 (by decide) ?_
    exact ih (set + 1) _ (by omega) (by omega) (fun S hS => by
      by_cases q : S = set
      · rw [q, bd_up_s]
      · rw [bd_up_n q]; exact hbe S (by omega)) H locs ls hP hD hS (lv_sub hl [1, 0] rfl)
end WALK
set_option maxHeartbeats 4000000 in
set_option maxRecDepth 100000 in
theorem metX2_reckon (l : Launch) (D : va_G) (d dz : ClassId) (hm qz qt n : Nat) (bo : Nat → Bool) (be : Nat → Nat) (kn : Int32) (hn : n ≤ 10) (hkn : ¬ kn = 0 → ∀ S, S < 2 ^ n → be S = bd_nu (fun a b => bo (10 * a + b)) 10 S) : bd_Cv l yX2_reckon cX2_reckon 6 ({ frames := 0, cells := 0, slots := 0, locals := 0 }) D [(d, .int), (dz, .boolean)] [.ref hm] (bd_MW d dz hm qz qt n bo be kn) (fun u : (Nat → Nat) × Int32 => ∀ S, S < 2 ^ n → u.1 S = bd_nu (fun a b => bo (10 * a + b)) 10 S) (fun u : (Nat → Nat) × Int32 => bd_MW d dz hm qz qt n bo u.1 u.2) := by
  intro sz
  refine bd_start (Qc := fun A => va_Qv (fun u : (Nat → Nat) × Int32 => ∀ S, S < 2 ^ n → u.1 S = bd_nu (fun a b => bo (10 * a + b)) 10 S) (fun u t => bd_Post D [(d, .int), (dz, .boolean)] A ((fun u : (Nat → Nat) × Int32 => bd_MW d dz hm qz qt n bo u.1 u.2) u) t) A) (by decide) (Nat.le_of_ble_eq_true rfl) ?_
  intro p e s m below meth c A ls hx hb hr hml hts hown hlocks hin hA hK hP hD hl
  have hS : va_S A s.heap s.heap [] := va_S.rf
  have hl : lv_has ls 6 [(0, .ref hm)] := hl
  refine lv_aload_n hx hb dX2_reckon_0 rfl (lv_at hl 0 rfl) ?_
  refine va_get (D := D) (ci := 2) (v := .int kn) (C := RX2) (T := TX2) (N := 4) hx hb hts in_X2 hown hK hP 0 rfl rfl 3 (by decide) (hts _ q139) (fun _ h9 => h9) rfl dX2_reckon_1 ?_
  by_cases c1 : kn = 0
  · refine lv_if_eq (tgt := 8) hx hb dX2_reckon_4 (by decide) (fun _ => ?_) (fun c_ => absurd c1 c_)
    refine lv_aload_n hx hb dX2_reckon_8 rfl (lv_at hl 0 rfl) ?_
    refine lv_iconst (v := nI 1) hx hb dX2_reckon_9 (by decide) ?_
    refine va_put (D := D) (ci := 2) (v := .int (nI 1)) (ty := .boolean) (C := RX2) (T := TX2) (N := 4) hx hb hts in_X2 tyX2 tyX2_ok nmX2 hown hK hP hD hS 0 rfl rfl 3 (by decide) (hts _ q139) (fun _ h9 => h9) rfl (by decide +kernel) rfl rfl (Nat.le_of_ble_eq_true rfl) dX2_reckon_10 (fun H locs hP hD hS => ?_)
    have hP : va_P D bdCl (bd_MW d dz hm qz qt n bo be (nI 1)) H := hP
    have hD : va_D A (bd_MW d dz hm qz qt n bo be (nI 1)) := hD
    refine lv_aload_n hx hb dX2_reckon_13 rfl (lv_at hl 0 rfl) ?_
    refine va_get (D := D) (ci := 2) (v := .ref qt) (C := RX2) (T := TX2) (N := 4) hx hb hts in_X2 hown hK hP 0 rfl rfl 2 (by decide) (hts _ q138) (fun _ h9 => h9) rfl dX2_reckon_14 ?_
    refine lv_iconst (v := nI 0) hx hb dX2_reckon_17 (by decide) ?_
    refine lv_iconst (v := nI 0) hx hb dX2_reckon_18 (by decide) ?_
    refine bd_astN (v := 0) hx hb hK hP hD hS 2 0 rfl rfl (by decide) (by decide) dX2_reckon_19 (fun H locs hP hD hS => ?_)
    have hP : va_P D bdCl (bd_MW d dz hm qz qt n bo (bd_up be 0 0) (nI 1)) H := hP
    have hD : va_D A (bd_MW d dz hm qz qt n bo (bd_up be 0 0) (nI 1)) := hD
    refine lv_iconst (v := nI 1) hx hb dX2_reckon_20 (by decide) ?_
    refine lv_istore_n (lv' := [(1, .int (nI 1)), (0, .ref hm)]) hx hb dX2_reckon_21 rfl hl (by decide) rfl (fun ls hl => ?_)
    refine bd_reckon_out ⟨hx, hb, hml, hown, hts⟩ hK (e0 := (fun a b => bo (10 * a + b))) (fun _ _ => rfl) hn (fun be H locs ls hbe hP hD hS => ?_) (2 ^ n - 1) 1 _ (by have := Nat.two_pow_pos n; omega) (by omega) (fun S hS => ?_) H locs ls hP hD hS (lv_sub hl [1, 0] rfl)
    · exact bd_vret (wf := fun u : (Nat → Nat) × Int32 => bd_MW d dz hm qz qt n bo u.1 u.2) hx hb hr hlocks (be, nI 1) hbe hK hP hD hS dX2_reckon_160
    · rw [show S = 0 by omega, bd_up_s, bd_nu_0]
  · refine lv_if_eq (tgt := 8) hx hb dX2_reckon_4 (by decide) (fun c_ => absurd c_ c1) (fun _ => ?_)
    exact bd_vret (wf := fun u : (Nat → Nat) × Int32 => bd_MW d dz hm qz qt n bo u.1 u.2) hx hb hr hlocks (be, kn) (hkn c1) hK hP hD hS dX2_reckon_7
end
section
/-! BONDDESKMODEL: most, always, partner -/
theorem bd_all_2 (n : Nat) : 2 ^ n - 1 < 2 ^ n := by
  have := Nat.two_pow_pos n
  omega
section WALK
variable {p : Program} {l : Launch} {e : Env} {R : Room} {s : State} {m : MethodId} {args : Array Value} {below : List Frame} {meth : Method} {c : Code} {cells slots : Nat} {Q : State → Prop} {D : va_G} {A : Nat → Prop} {H0 : Heap} {d dz : ClassId} {hm qz qt : Nat}
set_option maxHeartbeats 4000000 in
set_option maxRecDepth 100000 in
theorem bd_malways_lp (F : CallFix p m c cX2_always 4 s args lw_all RX2) (hK : va_K D bdCl [(d, .int), (dz, .boolean)] s) {e0 : Nat → Nat → Bool} {bo : Nat → Bool} {n : Nat} {be : Nat → Nat} {kn : Int32} (hn : n ≤ 10) (hbe : ∀ S, S < 2 ^ n → be S = bd_nu e0 10 S) {H : Heap} {locs : List Loc} (hP : va_P D bdCl (bd_MW d dz hm qz qt n bo be kn) H) (fin : Nat) (kx : ∀ (ls : Array Slot), lv_has ls 4 [(2, .int (nI fin))] → W p l e R s m args below meth c H locs cells slots Q (F0 m 58 ls [])) :
    ∀ (k v acc : Nat), v + k = n → bd_alw (bd_nu e0 10) n k acc = fin → ∀ (ls : Array Slot), lv_has ls 4 [(0, .ref hm), (1, .int (nI (2 ^ n - 1))), (2, .int (nI acc)), (3, .int (nI v))] → W p l e R s m args below meth c H locs cells slots Q (F0 m 17 ls []) := by
  obtain ⟨hx, hb, hml, hown, hts⟩ := id F
  have h2n : 2 ^ n ≤ 2 ^ 10 := Nat.pow_le_pow_right (by decide) hn
  intro k
  induction k with
  | zero =>
    intro v acc hu hrun ls hl
    have hrun : acc = fin := hrun
    subst hrun
    refine lv_iload_n hx hb dX2_always_17 rfl (lv_at hl 3 rfl) ?_
    refine lv_aload_n hx hb dX2_always_18 rfl (lv_at hl 0 rfl) ?_
    refine va_get (D := D) (ci := 2) (v := .int (nI n)) (C := RX2) (T := TX2) (N := 4) hx hb hts in_X2 hown hK hP 0 rfl rfl 1 (by decide) (hts _ q137) (fun _ h9 => h9) rfl dX2_always_19 ?_
    refine lv_icmp_ge (tgt := 58) hx hb dX2_always_22 (by decide) (fun _ => ?_) (fun c_ => absurd (nI_le (show n ≤ v by omega) (by omega)) c_)
    exact kx ls (lv_sub hl [2] rfl)
  | succ k ih =>
    intro v acc hk hrun ls hl
    have hvn : v < n := by omega
    have hv : v < 10 := by omega
    unfold bd_alw at hrun
    rw [show n - (k + 1) = v by omega] at hrun
    refine lv_iload_n hx hb dX2_always_17 rfl (lv_at hl 3 rfl) ?_
    refine lv_aload_n hx hb dX2_always_18 rfl (lv_at hl 0 rfl) ?_
    refine va_get (D := D) (ci := 2) (v := .int (nI n)) (C := RX2) (T := TX2) (N := 4) hx hb hts in_X2 hown hK hP 0 rfl rfl 1 (by decide) (hts _ q137) (fun _ h9 => h9) rfl dX2_always_19 ?_
    refine lv_icmp_ge (tgt := 58) hx hb dX2_always_22 (by decide) (fun c_ => absurd c_ (nI_ge hvn (by omega))) (fun _ => ?_)
    refine lv_aload_n hx hb dX2_always_25 rfl (lv_at hl 0 rfl) ?_
    refine va_get (D := D) (ci := 2) (v := .ref qt) (C := RX2) (T := TX2) (N := 4) hx hb hts in_X2 hown hK hP 0 rfl rfl 2 (by decide) (hts _ q138) (fun _ h9 => h9) rfl dX2_always_26 ?_
    refine lv_iload_n hx hb dX2_always_29 rfl (lv_at hl 1 rfl) ?_
    refine lv_iconst (v := nI 1) hx hb dX2_always_30 (by decide) ?_
    refine lv_iload_n hx hb dX2_always_31 rfl (lv_at hl 3 rfl) ?_
    refine bd_ishl hx hb dX2_always_32 (Nat.lt_of_lt_of_le hv (by decide)) ?_
    refine lv_iconst (v := -1) hx hb dX2_always_33 (by decide) ?_
    refine lv_ixor hx hb dX2_always_34 ?_
    refine bd_iclr hx hb dX2_always_35 ?_
    refine bd_aldN hx hb hK hP 2 0 rfl rfl (bd_clr_lt (bd_all_lt hn)) (by decide) dX2_always_36 ?_
    refine bd_top (congrArg nI (hbe _ (Nat.lt_of_le_of_lt (bd_clr_le _ v) (bd_all_2 n)))) ?_
    refine lv_aload_n hx hb dX2_always_37 rfl (lv_at hl 0 rfl) ?_
    refine va_get (D := D) (ci := 2) (v := .ref qt) (C := RX2) (T := TX2) (N := 4) hx hb hts in_X2 hown hK hP 0 rfl rfl 2 (by decide) (hts _ q138) (fun _ h9 => h9) rfl dX2_always_38 ?_
    refine lv_iload_n hx hb dX2_always_41 rfl (lv_at hl 1 rfl) ?_
    refine bd_aldN hx hb hK hP 2 0 rfl rfl (bd_all_lt hn) (by decide) dX2_always_42 ?_
    refine bd_top (congrArg nI (hbe _ (bd_all_2 n))) ?_
    have hb1 := bd_nu_b e0 10 (2 ^ n - 1)
    have hb2 := bd_nu_b e0 10 (bd_clr (2 ^ n - 1) v)
    by_cases c1 : bd_nu e0 10 (bd_clr (2 ^ n - 1) v) < bd_nu e0 10 (2 ^ n - 1)
    · rw [if_pos c1] at hrun
      refine lv_icmp_ge (tgt := 52) hx hb dX2_always_43 (by decide) (fun c_ => absurd c_ (nI_ge c1 (by omega))) (fun _ => ?_)
      refine lv_iload_n hx hb dX2_always_46 rfl (lv_at hl 2 rfl) ?_
      refine lv_iconst (v := nI 1) hx hb dX2_always_47 (by decide) ?_
      refine lv_iload_n hx hb dX2_always_48 rfl (lv_at hl 3 rfl) ?_
      refine bd_ishl hx hb dX2_always_49 (Nat.lt_of_lt_of_le hv (by decide)) ?_
      refine bd_ior hx hb dX2_always_50 ?_
      refine lv_istore_n (lv' := [(2, .int (nI (acc ||| (2 ^ v)))), (0, .ref hm), (1, .int (nI (2 ^ n - 1))), (3, .int (nI v))]) hx hb dX2_always_51 rfl hl (by decide) rfl (fun ls hl => ?_)
      refine lv_iinc (v := nI (v + 1)) (lv' := [(3, .int (nI (v + 1))), (2, .int (nI (acc ||| (2 ^ v)))), (0, .ref hm), (1, .int (nI (2 ^ n - 1)))]) hx hb dX2_always_52 hl (k := 3) rfl (nI_1 _) (by decide) rfl (fun ls hl => ?_)
      refine lv_goto (tgt := 17) hx hb dX2_always_55 (by decide) ?_
      exact ih (v + 1) _ (by omega) hrun ls (lv_sub hl [2, 3, 1, 0] rfl)
    · rw [if_neg c1] at hrun
      refine lv_icmp_ge (tgt := 52) hx hb dX2_always_43 (by decide) (fun _ => ?_) (fun c_ => absurd (nI_le (by omega) (by omega)) c_)
      refine lv_iinc (v := nI (v + 1)) (lv' := [(3, .int (nI (v + 1))), (0, .ref hm), (1, .int (nI (2 ^ n - 1))), (2, .int (nI acc))]) hx hb dX2_always_52 hl (k := 3) rfl (nI_1 _) (by decide) rfl (fun ls hl => ?_)
      refine lv_goto (tgt := 17) hx hb dX2_always_55 (by decide) ?_
      exact ih (v + 1) _ (by omega) hrun ls (lv_sub hl [1, 2, 3, 0] rfl)
set_option maxHeartbeats 4000000 in
set_option maxRecDepth 100000 in
theorem bd_mpart_in (F : CallFix p m c cX2_partner 8 s args lw_all RX2) (hK : va_K D bdCl [(d, .int), (dz, .boolean)] s) {e0 : Nat → Nat → Bool} {bo : Nat → Bool} (he : ∀ a b, e0 a b = bo (10 * a + b)) {n : Nat} {be : Nat → Nat} {kn : Int32} (hn : n ≤ 10) (hbe : ∀ S, S < 2 ^ n → be S = bd_nu e0 10 S) {set asked a : Nat} (hset : set < 2 ^ n) {H : Heap} {locs : List Loc} (hP : va_P D bdCl (bd_MW d dz hm qz qt n bo be kn) H) (fin : Nat) (kx : ∀ (ls : Array Slot), lv_has ls 8 [(0, .ref hm), (2, .int (nI set)), (3, .int (nI asked)), (4, .int (nI a)), (5, .int (nI (bd_clr set a))), (6, .int (bd_eN fin))] → W p l e R s m args below meth c H locs cells slots Q (F0 m 129 ls [])) :
    ∀ (k pick : Nat), a + k < n → bd_mpi (bd_nu e0 10) e0 (bd_clr set a) a set k pick = fin → ∀ (ls : Array Slot), lv_has ls 8 [(0, .ref hm), (2, .int (nI set)), (3, .int (nI asked)), (4, .int (nI a)), (5, .int (nI (bd_clr set a))), (6, .int (bd_eN pick)), (7, .int (nI (a + k)))] → W p l e R s m args below meth c H locs cells slots Q (F0 m 61 ls []) := by
  obtain ⟨hx, hb, hml, hown, hts⟩ := id F
  have h2n : 2 ^ n ≤ 2 ^ 10 := Nat.pow_le_pow_right (by decide) hn
  intro k
  induction k with
  | zero =>
    intro pick hk hrun ls hl
    have hrun : pick = fin := hrun
    subst hrun
    refine lv_iload hx hb dX2_partner_61 (lv_at hl 6 rfl) ?_
    refine lv_iload hx hb dX2_partner_63 (lv_at hl 3 rfl) ?_
    refine lv_icmp_le (tgt := 129) hx hb dX2_partner_65 (by decide) (fun _ => ?_) (fun c_ => absurd (nI_le (by omega) (by omega)) c_)
    exact kx ls (lv_sub hl [0, 1, 2, 3, 4, 5] rfl)
  | succ k ih =>
    intro pick hk hrun ls hl
    obtain ⟨b, hb0⟩ : ∃ b, a + (k + 1) = b := ⟨_, rfl⟩
    have ha : a < 10 := by omega
    have hb10 : b < 10 := by omega
    have hs : set < 1024 := by omega
    unfold bd_mpi at hrun
    rw [hb0] at hrun hl
    have hc1 : bd_clr (bd_clr set a) b < 2 ^ n := Nat.lt_of_le_of_lt (bd_clr_le _ b) (Nat.lt_of_le_of_lt (bd_clr_le _ a) hset)
    refine lv_iload hx hb dX2_partner_61 (lv_at hl 6 rfl) ?_
    refine lv_iload hx hb dX2_partner_63 (lv_at hl 3 rfl) ?_
    refine lv_icmp_le (tgt := 129) hx hb dX2_partner_65 (by decide) (fun c_ => absurd c_ (nI_ge (show a < b by omega) (by omega))) (fun _ => ?_)
    refine lv_iload hx hb dX2_partner_68 (lv_at hl 4 rfl) ?_
    refine lv_iload hx hb dX2_partner_70 (lv_at hl 6 rfl) ?_
    refine bd_ishr hx hb dX2_partner_72 (bd_31' (bd_clr_lt hs)) (Nat.lt_of_lt_of_le hb10 (by decide)) ?_
    refine lv_iconst (v := nI 1) hx hb dX2_partner_73 (by decide) ?_
    refine bd_iand1 hx hb dX2_partner_74 (bd_31' (bd_clr_lt hs)) ?_
    by_cases c1 : (bd_clr set a).testBit b = true
    · refine lv_if_eq (tgt := 123) hx hb dX2_partner_75 (by decide) (fun c_ => absurd c_ (bd_bnz c1)) (fun _ => ?_)
      refine lv_aload_n hx hb dX2_partner_78 rfl (lv_at hl 0 rfl) ?_
      refine va_get (D := D) (ci := 2) (v := .ref qz) (C := RX2) (T := TX2) (N := 4) hx hb hts in_X2 hown hK hP 0 rfl rfl 0 (by decide) (hts _ q136) (fun _ h9 => h9) rfl dX2_partner_79 ?_
      refine lv_bipush (v := nI 10) hx hb dX2_partner_82 (by decide) ?_
      refine lv_iload hx hb dX2_partner_84 (lv_at hl 3 rfl) ?_
      refine bd_imul hx hb dX2_partner_86 ?_
      refine lv_iload hx hb dX2_partner_87 (lv_at hl 6 rfl) ?_
      refine bd_iadd hx hb dX2_partner_89 ?_
      refine bd_aldZ hx hb hK hP 1 1 rfl rfl (show 10 * a + b < 100 by omega) dX2_partner_90 ?_
      by_cases c2 : e0 a b = true
      · refine lv_if_eq (tgt := 123) hx hb dX2_partner_91 (by decide) (fun c_ => absurd c_ (bd_z_n (by rw [← he]; exact c2))) (fun _ => ?_)
        refine lv_aload_n hx hb dX2_partner_94 rfl (lv_at hl 0 rfl) ?_
        refine va_get (D := D) (ci := 2) (v := .ref qt) (C := RX2) (T := TX2) (N := 4) hx hb hts in_X2 hown hK hP 0 rfl rfl 2 (by decide) (hts _ q138) (fun _ h9 => h9) rfl dX2_partner_95 ?_
        refine lv_iload hx hb dX2_partner_98 (lv_at hl 4 rfl) ?_
        refine lv_iconst (v := nI 1) hx hb dX2_partner_100 (by decide) ?_
        refine lv_iload hx hb dX2_partner_101 (lv_at hl 6 rfl) ?_
        refine bd_ishl hx hb dX2_partner_103 (Nat.lt_of_lt_of_le hb10 (by decide)) ?_
        refine lv_iconst (v := -1) hx hb dX2_partner_104 (by decide) ?_
        refine lv_ixor hx hb dX2_partner_105 ?_
        refine bd_iclr hx hb dX2_partner_106 ?_
        refine bd_aldN hx hb hK hP 2 0 rfl rfl (bd_clr_lt (bd_clr_lt hs)) (by decide) dX2_partner_107 ?_
        refine bd_top (congrArg nI (hbe _ hc1)) ?_
        refine lv_iconst (v := nI 1) hx hb dX2_partner_108 (by decide) ?_
        refine bd_iadd hx hb dX2_partner_109 ?_
        refine lv_aload_n hx hb dX2_partner_110 rfl (lv_at hl 0 rfl) ?_
        refine va_get (D := D) (ci := 2) (v := .ref qt) (C := RX2) (T := TX2) (N := 4) hx hb hts in_X2 hown hK hP 0 rfl rfl 2 (by decide) (hts _ q138) (fun _ h9 => h9) rfl dX2_partner_111 ?_
        refine lv_iload_n hx hb dX2_partner_114 rfl (lv_at hl 1 rfl) ?_
        refine bd_aldN hx hb hK hP 2 0 rfl rfl hs (by decide) dX2_partner_115 ?_
        refine bd_top (congrArg nI (hbe _ hset)) ?_
        have hb1 := bd_nu_b e0 10 set
        have hb2 := bd_nu_b e0 10 (bd_clr (bd_clr set a) b)
        by_cases c3 : bd_nu e0 10 (bd_clr (bd_clr set a) b) + 1 = bd_nu e0 10 set
        · rw [if_pos ⟨⟨c1, c2⟩, c3⟩] at hrun
          refine lv_icmp_ne (tgt := 123) hx hb dX2_partner_116 (by decide) (fun c_ => absurd (by rw [c3]) c_) (fun _ => ?_)
          refine lv_iload hx hb dX2_partner_119 (lv_at hl 6 rfl) ?_
          refine lv_istore (lv' := [(6, .int (nI b)), (0, .ref hm), (2, .int (nI set)), (3, .int (nI asked)), (4, .int (nI a)), (5, .int (nI (bd_clr set a))), (7, .int (nI b))]) hx hb dX2_partner_121 hl (by decide) rfl (fun ls hl => ?_)
          have hl : lv_has ls 8 [(6, .int (bd_eN b)), (0, .ref hm), (2, .int (nI set)), (3, .int (nI asked)), (4, .int (nI a)), (5, .int (nI (bd_clr set a))), (7, .int (nI b))] := by rw [bd_eN_l hb10]; exact hl
          refine lv_iinc (v := nI (a + k)) (lv' := [(7, .int (nI (a + k))), (6, .int (bd_eN b)), (0, .ref hm), (2, .int (nI set)), (3, .int (nI asked)), (4, .int (nI a)), (5, .int (nI (bd_clr set a)))]) hx hb dX2_partner_123 hl (k := 6) rfl (by rw [← hb0]; exact pk_m1 (a + k)) (by decide) rfl (fun ls hl => ?_)
          refine lv_goto (tgt := 61) hx hb dX2_partner_126 (by decide) ?_
          exact ih _ (by omega) hrun ls (lv_sub hl [2, 3, 4, 5, 6, 1, 0] rfl)
        · rw [if_neg (fun q => c3 q.2)] at hrun
          refine lv_icmp_ne (tgt := 123) hx hb dX2_partner_116 (by decide) (fun _ => ?_) (fun c_ => absurd c_ (fun q => c3 ((nI_eq (by omega) (by omega)).mp q)))
          refine lv_iinc (v := nI (a + k)) (lv' := [(7, .int (nI (a + k))), (0, .ref hm), (2, .int (nI set)), (3, .int (nI asked)), (4, .int (nI a)), (5, .int (nI (bd_clr set a))), (6, .int (bd_eN pick))]) hx hb dX2_partner_123 hl (k := 6) rfl (by rw [← hb0]; exact pk_m1 (a + k)) (by decide) rfl (fun ls hl => ?_)
          refine lv_goto (tgt := 61) hx hb dX2_partner_126 (by decide) ?_
          exact ih _ (by omega) hrun ls (lv_sub hl [1, 2, 3, 4, 5, 6, 0] rfl)
      · rw [if_neg (fun q => c2 q.1.2)] at hrun
        refine lv_if_eq (tgt := 123) hx hb dX2_partner_91 (by decide) (fun _ => ?_) (fun c_ => absurd (bd_z_z (by rw [← he]; exact c2)) c_)
        refine lv_iinc (v := nI (a + k)) (lv' := [(7, .int (nI (a + k))), (0, .ref hm), (2, .int (nI set)), (3, .int (nI asked)), (4, .int (nI a)), (5, .int (nI (bd_clr set a))), (6, .int (bd_eN pick))]) hx hb dX2_partner_123 hl (k := 6) rfl (by rw [← hb0]; exact pk_m1 (a + k)) (by decide) rfl (fun ls hl => ?_)
        refine lv_goto (tgt := 61) hx hb dX2_partner_126 (by decide) ?_
        exact ih _ (by omega) hrun ls (lv_sub hl [1, 2, 3, 4, 5, 6, 0] rfl)
    · rw [if_neg (fun q => c1 q.1.1)] at hrun
      refine lv_if_eq (tgt := 123) hx hb dX2_partner_75 (by decide) (fun _ => ?_) (fun c_ => absurd (bd_bz c1) c_)
      refine lv_iinc (v := nI (a + k)) (lv' := [(7, .int (nI (a + k))), (0, .ref hm), (2, .int (nI set)), (3, .int (nI asked)), (4, .int (nI a)), (5, .int (nI (bd_clr set a))), (6, .int (bd_eN pick))]) hx hb dX2_partner_123 hl (k := 6) rfl (by rw [← hb0]; exact pk_m1 (a + k)) (by decide) rfl (fun ls hl => ?_)
      refine lv_goto (tgt := 61) hx hb dX2_partner_126 (by decide) ?_
      exact ih _ (by omega) hrun ls (lv_sub hl [1, 2, 3, 4, 5, 6, 0] rfl)
set_option maxHeartbeats 4000000 in
set_option maxRecDepth 100000 in
theorem bd_mpart_out (F : CallFix p m c cX2_partner 8 s args lw_all RX2) (hK : va_K D bdCl [(d, .int), (dz, .boolean)] s) {e0 : Nat → Nat → Bool} {bo : Nat → Bool} (he : ∀ a b, e0 a b = bo (10 * a + b)) {n : Nat} {be : Nat → Nat} {kn : Int32} (hn : n ≤ 10) (hbe : ∀ S, S < 2 ^ n → be S = bd_nu e0 10 S) {asked : Nat} (hasked : asked < 10) {H : Heap} {locs : List Loc} (hP : va_P D bdCl (bd_MW d dz hm qz qt n bo be kn) H) (fin : Nat) (kx : ∀ (pc : Nat) (ls : Array Slot), decode cX2_partner pc = .ok (.ireturn, 1) → W p l e R s m args below meth c H locs cells slots Q (F0 m pc ls [.int (bd_eN fin)])) :
    ∀ (k a set : Nat), a + k = n → set < 2 ^ n → bd_mpo (bd_nu e0 10) e0 n k set asked = fin → ∀ (ls : Array Slot), lv_has ls 8 [(0, .ref hm), (2, .int (nI set)), (3, .int (nI asked)), (4, .int (nI a))] → W p l e R s m args below meth c H locs cells slots Q (F0 m 22 ls []) := by
  obtain ⟨hx, hb, hml, hown, hts⟩ := id F
  have h2n : 2 ^ n ≤ 2 ^ 10 := Nat.pow_le_pow_right (by decide) hn
  intro k
  induction k with
  | zero =>
    intro a set hk hset hrun ls hl
    have hrun : 10 = fin := hrun
    subst hrun
    refine lv_iload hx hb dX2_partner_22 (lv_at hl 3 rfl) ?_
    refine lv_aload_n hx hb dX2_partner_24 rfl (lv_at hl 0 rfl) ?_
    refine va_get (D := D) (ci := 2) (v := .int (nI n)) (C := RX2) (T := TX2) (N := 4) hx hb hts in_X2 hown hK hP 0 rfl rfl 1 (by decide) (hts _ q137) (fun _ h9 => h9) rfl dX2_partner_25 ?_
    refine lv_icmp_ge (tgt := 179) hx hb dX2_partner_28 (by decide) (fun _ => ?_) (fun c_ => absurd (nI_le (show n ≤ a by omega) (by omega)) c_)
    refine lv_iconst (v := -1) hx hb dX2_partner_179 (by decide) ?_
    exact kx 180 ls dX2_partner_180
  | succ k ih =>
    intro a set hk hset hrun ls hl
    have han : a < n := by omega
    have ha : a < 10 := by omega
    have hs : set < 1024 := by omega
    unfold bd_mpo at hrun
    rw [show n - (k + 1) = a by omega] at hrun
    refine lv_iload hx hb dX2_partner_22 (lv_at hl 3 rfl) ?_
    refine lv_aload_n hx hb dX2_partner_24 rfl (lv_at hl 0 rfl) ?_
    refine va_get (D := D) (ci := 2) (v := .int (nI n)) (C := RX2) (T := TX2) (N := 4) hx hb hts in_X2 hown hK hP 0 rfl rfl 1 (by decide) (hts _ q137) (fun _ h9 => h9) rfl dX2_partner_25 ?_
    refine lv_icmp_ge (tgt := 179) hx hb dX2_partner_28 (by decide) (fun c_ => absurd c_ (nI_ge han (by omega))) (fun _ => ?_)
    refine lv_iload_n hx hb dX2_partner_31 rfl (lv_at hl 1 rfl) ?_
    refine lv_iload hx hb dX2_partner_32 (lv_at hl 3 rfl) ?_
    refine bd_ishr hx hb dX2_partner_34 (bd_31' hs) (Nat.lt_of_lt_of_le ha (by decide)) ?_
    refine lv_iconst (v := nI 1) hx hb dX2_partner_35 (by decide) ?_
    refine bd_iand1 hx hb dX2_partner_36 (bd_31' hs) ?_
    by_cases c1 : set.testBit a = true
    · rw [if_pos c1] at hrun
      refine lv_if_eq (tgt := 173) hx hb dX2_partner_37 (by decide) (fun c_ => absurd c_ (bd_bnz c1)) (fun _ => ?_)
      refine lv_iload_n hx hb dX2_partner_40 rfl (lv_at hl 1 rfl) ?_
      refine lv_iconst (v := nI 1) hx hb dX2_partner_41 (by decide) ?_
      refine lv_iload hx hb dX2_partner_42 (lv_at hl 3 rfl) ?_
      refine bd_ishl hx hb dX2_partner_44 (Nat.lt_of_lt_of_le ha (by decide)) ?_
      refine lv_iconst (v := -1) hx hb dX2_partner_45 (by decide) ?_
      refine lv_ixor hx hb dX2_partner_46 ?_
      refine bd_iclr hx hb dX2_partner_47 ?_
      refine lv_istore (lv' := [(5, .int (nI (bd_clr set a))), (0, .ref hm), (2, .int (nI set)), (3, .int (nI asked)), (4, .int (nI a))]) hx hb dX2_partner_48 hl (by decide) rfl (fun ls hl => ?_)
      refine lv_iconst (v := -1) hx hb dX2_partner_50 (by decide) ?_
      refine lv_istore (lv' := [(6, .int (-1)), (5, .int (nI (bd_clr set a))), (0, .ref hm), (2, .int (nI set)), (3, .int (nI asked)), (4, .int (nI a))]) hx hb dX2_partner_51 hl (by decide) rfl (fun ls hl => ?_)
      refine lv_aload_n hx hb dX2_partner_53 rfl (lv_at hl 2 rfl) ?_
      refine va_get (D := D) (ci := 2) (v := .int (nI n)) (C := RX2) (T := TX2) (N := 4) hx hb hts in_X2 hown hK hP 0 rfl rfl 1 (by decide) (hts _ q137) (fun _ h9 => h9) rfl dX2_partner_54 ?_
      refine lv_iconst (v := nI 1) hx hb dX2_partner_57 (by decide) ?_
      refine bd_isub hx hb dX2_partner_58 (show 1 ≤ n by omega) ?_
      refine lv_istore (lv' := [(7, .int (nI (n - 1))), (6, .int (-1)), (5, .int (nI (bd_clr set a))), (0, .ref hm), (2, .int (nI set)), (3, .int (nI asked)), (4, .int (nI a))]) hx hb dX2_partner_59 hl (by decide) rfl (fun ls hl => ?_)
      obtain ⟨pick, ep⟩ : ∃ pick, bd_mpi (bd_nu e0 10) e0 (bd_clr set a) a set (n - 1 - a) 10 = pick := ⟨_, rfl⟩
      rw [ep] at hrun
      have hl : lv_has ls 8 [(7, .int (nI (a + (n - 1 - a)))), (6, .int (bd_eN 10)), (5, .int (nI (bd_clr set a))), (0, .ref hm), (2, .int (nI set)), (3, .int (nI asked)), (4, .int (nI a))] := by rw [show a + (n - 1 - a) = n - 1 by omega]; exact hl
      refine bd_mpart_in F hK he hn hbe hset hP pick (fun ls hl => ?_) (n - 1 - a) 10 (by omega) ep ls (lv_sub hl [3, 4, 5, 6, 2, 1, 0] rfl)
      have hc0 : bd_clr set a < 2 ^ n := Nat.lt_of_le_of_lt (bd_clr_le _ a) hset
      by_cases c2 : pick < 10
      · rw [if_pos c2] at hrun
        rw [bd_eN_l c2] at hl
        refine lv_iload hx hb dX2_partner_129 (lv_at hl 5 rfl) ?_
        refine lv_if_ge (tgt := 145) hx hb dX2_partner_131 (by decide) (fun _ => ?_) (fun c_ => absurd (nI_pos' (bd_31 c2)) c_)
        refine lv_iload hx hb dX2_partner_145 (lv_at hl 4 rfl) ?_
        refine lv_iconst (v := nI 1) hx hb dX2_partner_147 (by decide) ?_
        refine lv_iload hx hb dX2_partner_148 (lv_at hl 5 rfl) ?_
        refine bd_ishl hx hb dX2_partner_150 (Nat.lt_of_lt_of_le c2 (by decide)) ?_
        refine lv_iconst (v := -1) hx hb dX2_partner_151 (by decide) ?_
        refine lv_ixor hx hb dX2_partner_152 ?_
        refine bd_iclr hx hb dX2_partner_153 ?_
        refine lv_istore_n (lv' := [(2, .int (nI (bd_clr (bd_clr set a) pick))), (0, .ref hm), (3, .int (nI asked)), (4, .int (nI a)), (5, .int (nI (bd_clr set a))), (6, .int (nI pick))]) hx hb dX2_partner_154 rfl hl (by decide) rfl (fun ls hl => ?_)
        refine lv_iload hx hb dX2_partner_155 (lv_at hl 3 rfl) ?_
        refine lv_iload_n hx hb dX2_partner_157 rfl (lv_at hl 2 rfl) ?_
        by_cases c3 : a = asked
        · rw [if_pos c3] at hrun
          refine lv_icmp_ne (tgt := 164) hx hb dX2_partner_158 (by decide) (fun c_ => absurd (by rw [c3]) c_) (fun _ => ?_)
          refine lv_iload hx hb dX2_partner_161 (lv_at hl 5 rfl) ?_
          rw [← bd_eN_l c2, hrun]
          exact kx 163 ls dX2_partner_163
        · rw [if_neg c3] at hrun
          refine lv_icmp_ne (tgt := 164) hx hb dX2_partner_158 (by decide) (fun _ => ?_) (fun c_ => absurd c_ (fun q => c3 ((nI_eq (bd_31 ha) (bd_31 hasked)).mp q)))
          refine lv_iload hx hb dX2_partner_164 (lv_at hl 5 rfl) ?_
          refine lv_iload_n hx hb dX2_partner_166 rfl (lv_at hl 2 rfl) ?_
          by_cases c4 : pick = asked
          · rw [if_pos c4] at hrun
            refine lv_icmp_ne (tgt := 173) hx hb dX2_partner_167 (by decide) (fun c_ => absurd (by rw [c4]) c_) (fun _ => ?_)
            refine lv_iload hx hb dX2_partner_170 (lv_at hl 3 rfl) ?_
            rw [← bd_eN_l ha, hrun]
            exact kx 172 ls dX2_partner_172
          · rw [if_neg c4] at hrun
            refine lv_icmp_ne (tgt := 173) hx hb dX2_partner_167 (by decide) (fun _ => ?_) (fun c_ => absurd c_ (fun q => c4 ((nI_eq (bd_31 c2) (bd_31 hasked)).mp q)))
            refine lv_iinc (v := nI (a + 1)) (lv' := [(4, .int (nI (a + 1))), (2, .int (nI (bd_clr (bd_clr set a) pick))), (0, .ref hm), (3, .int (nI asked)), (5, .int (nI (bd_clr set a))), (6, .int (nI pick))]) hx hb dX2_partner_173 hl (k := 3) rfl (nI_1 _) (by decide) rfl (fun ls hl => ?_)
            refine lv_goto (tgt := 22) hx hb dX2_partner_176 (by decide) ?_
            exact ih (a + 1) _ (by omega) (Nat.lt_of_le_of_lt (bd_clr_le _ pick) hc0) hrun ls (lv_sub hl [2, 1, 3, 0] rfl)
      · rw [if_neg c2] at hrun
        refine lv_iload hx hb dX2_partner_129 (lv_at hl 5 rfl) ?_
        refine lv_if_ge (tgt := 145) hx hb dX2_partner_131 (by decide) (fun c_ => absurd c_ (by rw [bd_eN_g c2]; decide)) (fun _ => ?_)
        refine lv_iload hx hb dX2_partner_134 (lv_at hl 4 rfl) ?_
        refine lv_istore_n (lv' := [(2, .int (nI (bd_clr set a))), (0, .ref hm), (3, .int (nI asked)), (4, .int (nI a)), (5, .int (nI (bd_clr set a))), (6, .int (bd_eN pick))]) hx hb dX2_partner_136 rfl hl (by decide) rfl (fun ls hl => ?_)
        refine lv_iload hx hb dX2_partner_137 (lv_at hl 3 rfl) ?_
        refine lv_iload_n hx hb dX2_partner_139 rfl (lv_at hl 2 rfl) ?_
        by_cases c3 : a = asked
        · rw [if_pos c3] at hrun
          subst hrun
          refine lv_icmp_ne (tgt := 173) hx hb dX2_partner_140 (by decide) (fun c_ => absurd (by rw [c3]) c_) (fun _ => ?_)
          refine lv_iconst (v := -1) hx hb dX2_partner_143 (by decide) ?_
          exact kx 144 ls dX2_partner_144
        · rw [if_neg c3] at hrun
          refine lv_icmp_ne (tgt := 173) hx hb dX2_partner_140 (by decide) (fun _ => ?_) (fun c_ => absurd c_ (fun q => c3 ((nI_eq (bd_31 ha) (bd_31 hasked)).mp q)))
          refine lv_iinc (v := nI (a + 1)) (lv' := [(4, .int (nI (a + 1))), (2, .int (nI (bd_clr set a))), (0, .ref hm), (3, .int (nI asked)), (5, .int (nI (bd_clr set a))), (6, .int (bd_eN pick))]) hx hb dX2_partner_173 hl (k := 3) rfl (nI_1 _) (by decide) rfl (fun ls hl => ?_)
          refine lv_goto (tgt := 22) hx hb dX2_partner_176 (by decide) ?_
          exact ih (a + 1) _ (by omega) hc0 hrun ls (lv_sub hl [2, 1, 3, 0] rfl)
    · rw [if_neg c1] at hrun
      refine lv_if_eq (tgt := 173) hx hb dX2_partner_37 (by decide) (fun _ => ?_) (fun c_ => absurd (bd_bz c1) c_)
      refine lv_iinc (v := nI (a + 1)) (lv' := [(4, .int (nI (a + 1))), (0, .ref hm), (2, .int (nI set)), (3, .int (nI asked))]) hx hb dX2_partner_173 hl (k := 3) rfl (nI_1 _) (by decide) rfl (fun ls hl => ?_)
      refine lv_goto (tgt := 22) hx hb dX2_partner_176 (by decide) ?_
      exact ih (a + 1) _ (by omega) hset hrun ls (lv_sub hl [1, 2, 3, 0] rfl)
end WALK
set_option maxHeartbeats 4000000 in
set_option maxRecDepth 100000 in
theorem metX2_most (l : Launch) (D : va_G) (d dz : ClassId) (hm qz qt n : Nat) (bo : Nat → Bool) (be : Nat → Nat) (kn : Int32) (hn : n ≤ 10) (hkn : ¬ kn = 0 → ∀ S, S < 2 ^ n → be S = bd_nu (fun a b => bo (10 * a + b)) 10 S)  : bd_Ci l yX2_most cX2_most 1 .int ({ frames := 1, cells := 0, slots := 0, locals := 25 }) D [(d, .int), (dz, .boolean)] [.ref hm] (bd_MW d dz hm qz qt n bo be kn) (fun r (u : (Nat → Nat) × Int32) => r = nI (bd_nu (fun a b => bo (10 * a + b)) 10 (2 ^ n - 1)) ∧ ∀ S, S < 2 ^ n → u.1 S = bd_nu (fun a b => bo (10 * a + b)) 10 S) (fun u : (Nat → Nat) × Int32 => bd_MW d dz hm qz qt n bo u.1 u.2) := by
  intro sz
  refine bd_start (Qc := fun A => va_Qi (fun r (u : (Nat → Nat) × Int32) => r = nI (bd_nu (fun a b => bo (10 * a + b)) 10 (2 ^ n - 1)) ∧ ∀ S, S < 2 ^ n → u.1 S = bd_nu (fun a b => bo (10 * a + b)) 10 S) (fun u t => bd_Post D [(d, .int), (dz, .boolean)] A ((fun u : (Nat → Nat) × Int32 => bd_MW d dz hm qz qt n bo u.1 u.2) u) t) A) (by decide) (Nat.le_of_ble_eq_true rfl) ?_
  intro p e s m below meth c A ls hx hb hr hml hts hown hlocks hin hA hK hP hD hl
  have hS : va_S A s.heap s.heap [] := va_S.rf
  have hl : lv_has ls 1 [(0, .ref hm)] := hl
  refine lv_aload_n hx hb dX2_most_0 rfl (lv_at hl 0 rfl) ?_
  refine bd_callv (wr := []) (rest := []) ⟨hx, hb, hml, hown, hts⟩ (metX2_reckon l D d dz hm qz qt n bo be kn hn hkn _) (cwV 0 hts (lw_V q171 q173 qs8 q12 q174) rfl rfl rfl (by decide +kernel) ⟨Nat.le_of_ble_eq_true rfl, Nat.le_of_ble_eq_true rfl⟩) hK hP hD hS hA [0, 1, 2] [] [0, 1] rfl rfl rfl rfl rfl rfl (by decide) (ci := 2) (q0 := 0) rfl rfl rfl hl.1 rfl (Nat.le_of_ble_eq_true rfl) dX2_most_1 ⟨Nat.le_refl _, Nat.le_refl _⟩ (fun u_ H locs hw_ hP hD hS => ?_)
  obtain ⟨be1, kn1⟩ := u_
  have hbe : ∀ S, S < 2 ^ n → be1 S = bd_nu (fun a b => bo (10 * a + b)) 10 S := hw_
  have hP : va_P D bdCl (bd_MW d dz hm qz qt n bo be1 kn1) H := hP
  have hD : va_D A (bd_MW d dz hm qz qt n bo be1 kn1) := hD
  refine lv_aload_n hx hb dX2_most_4 rfl (lv_at hl 0 rfl) ?_
  refine va_get (D := D) (ci := 2) (v := .ref qt) (C := RX2) (T := TX2) (N := 4) hx hb hts in_X2 hown hK hP 0 rfl rfl 2 (by decide) (hts _ q138) (fun _ h9 => h9) rfl dX2_most_5 ?_
  refine lv_iconst (v := nI 1) hx hb dX2_most_8 (by decide) ?_
  refine lv_aload_n hx hb dX2_most_9 rfl (lv_at hl 0 rfl) ?_
  refine va_get (D := D) (ci := 2) (v := .int (nI n)) (C := RX2) (T := TX2) (N := 4) hx hb hts in_X2 hown hK hP 0 rfl rfl 1 (by decide) (hts _ q137) (fun _ h9 => h9) rfl dX2_most_10 ?_
  refine bd_ishl hx hb dX2_most_13 (Nat.lt_of_lt_of_le (Nat.lt_succ_of_le hn) (by decide)) ?_
  refine lv_iconst (v := nI 1) hx hb dX2_most_14 (by decide) ?_
  refine bd_isub hx hb dX2_most_15 (Nat.two_pow_pos n) ?_
  refine bd_aldN hx hb hK hP 2 0 rfl rfl (bd_all_lt hn) (by decide) dX2_most_16 ?_
  refine bd_top (congrArg nI (hbe _ (bd_all_2 n))) ?_
  exact bd_iret (wf := fun u : (Nat → Nat) × Int32 => bd_MW d dz hm qz qt n bo u.1 u.2) hx hb hr rfl hlocks (be1, kn1) ⟨rfl, hbe⟩ hK hP hD hS dX2_most_17
set_option maxHeartbeats 4000000 in
set_option maxRecDepth 100000 in
theorem metX2_always (l : Launch) (D : va_G) (d dz : ClassId) (hm qz qt n : Nat) (bo : Nat → Bool) (be : Nat → Nat) (kn : Int32) (hn : n ≤ 10) (hkn : ¬ kn = 0 → ∀ S, S < 2 ^ n → be S = bd_nu (fun a b => bo (10 * a + b)) 10 S)  : bd_Ci l yX2_always cX2_always 4 .int ({ frames := 1, cells := 0, slots := 0, locals := 25 }) D [(d, .int), (dz, .boolean)] [.ref hm] (bd_MW d dz hm qz qt n bo be kn) (fun r (u : (Nat → Nat) × Int32) => r = nI (bd_alw (bd_nu (fun a b => bo (10 * a + b)) 10) n n 0) ∧ ∀ S, S < 2 ^ n → u.1 S = bd_nu (fun a b => bo (10 * a + b)) 10 S) (fun u : (Nat → Nat) × Int32 => bd_MW d dz hm qz qt n bo u.1 u.2) := by
  intro sz
  refine bd_start (Qc := fun A => va_Qi (fun r (u : (Nat → Nat) × Int32) => r = nI (bd_alw (bd_nu (fun a b => bo (10 * a + b)) 10) n n 0) ∧ ∀ S, S < 2 ^ n → u.1 S = bd_nu (fun a b => bo (10 * a + b)) 10 S) (fun u t => bd_Post D [(d, .int), (dz, .boolean)] A ((fun u : (Nat → Nat) × Int32 => bd_MW d dz hm qz qt n bo u.1 u.2) u) t) A) (by decide) (Nat.le_of_ble_eq_true rfl) ?_
  intro p e s m below meth c A ls hx hb hr hml hts hown hlocks hin hA hK hP hD hl
  have hS : va_S A s.heap s.heap [] := va_S.rf
  have hl : lv_has ls 4 [(0, .ref hm)] := hl
  refine lv_aload_n hx hb dX2_always_0 rfl (lv_at hl 0 rfl) ?_
  refine bd_callv (wr := []) (rest := []) ⟨hx, hb, hml, hown, hts⟩ (metX2_reckon l D d dz hm qz qt n bo be kn hn hkn _) (cwV 0 hts (lw_V q171 q173 qs8 q12 q174) rfl rfl rfl (by decide +kernel) ⟨Nat.le_of_ble_eq_true rfl, Nat.le_of_ble_eq_true rfl⟩) hK hP hD hS hA [0, 1, 2] [] [0, 1] rfl rfl rfl rfl rfl rfl (by decide) (ci := 2) (q0 := 0) rfl rfl rfl hl.1 rfl (Nat.le_of_ble_eq_true rfl) dX2_always_1 ⟨Nat.le_refl _, Nat.le_refl _⟩ (fun u_ H locs hw_ hP hD hS => ?_)
  obtain ⟨be1, kn1⟩ := u_
  have hbe : ∀ S, S < 2 ^ n → be1 S = bd_nu (fun a b => bo (10 * a + b)) 10 S := hw_
  have hP : va_P D bdCl (bd_MW d dz hm qz qt n bo be1 kn1) H := hP
  have hD : va_D A (bd_MW d dz hm qz qt n bo be1 kn1) := hD
  refine lv_iconst (v := nI 1) hx hb dX2_always_4 (by decide) ?_
  refine lv_aload_n hx hb dX2_always_5 rfl (lv_at hl 0 rfl) ?_
  refine va_get (D := D) (ci := 2) (v := .int (nI n)) (C := RX2) (T := TX2) (N := 4) hx hb hts in_X2 hown hK hP 0 rfl rfl 1 (by decide) (hts _ q137) (fun _ h9 => h9) rfl dX2_always_6 ?_
  refine bd_ishl hx hb dX2_always_9 (Nat.lt_of_lt_of_le (Nat.lt_succ_of_le hn) (by decide)) ?_
  refine lv_iconst (v := nI 1) hx hb dX2_always_10 (by decide) ?_
  refine bd_isub hx hb dX2_always_11 (Nat.two_pow_pos n) ?_
  refine lv_istore_n (lv' := [(1, .int (nI ((2 ^ n) - 1))), (0, .ref hm)]) hx hb dX2_always_12 rfl hl (by decide) rfl (fun ls hl => ?_)
  refine lv_iconst (v := nI 0) hx hb dX2_always_13 (by decide) ?_
  refine lv_istore_n (lv' := [(2, .int (nI 0)), (1, .int (nI ((2 ^ n) - 1))), (0, .ref hm)]) hx hb dX2_always_14 rfl hl (by decide) rfl (fun ls hl => ?_)
  refine lv_iconst (v := nI 0) hx hb dX2_always_15 (by decide) ?_
  refine lv_istore_n (lv' := [(3, .int (nI 0)), (2, .int (nI 0)), (1, .int (nI ((2 ^ n) - 1))), (0, .ref hm)]) hx hb dX2_always_16 rfl hl (by decide) rfl (fun ls hl => ?_)
  refine bd_malways_lp ⟨hx, hb, hml, hown, hts⟩ hK hn hbe hP _ (fun ls hl => ?_) n 0 0 (by omega) rfl ls (lv_sub hl [3, 2, 1, 0] rfl)
  refine lv_iload_n hx hb dX2_always_58 rfl (lv_at hl 0 rfl) ?_
  exact bd_iret (wf := fun u : (Nat → Nat) × Int32 => bd_MW d dz hm qz qt n bo u.1 u.2) hx hb hr rfl hlocks (be1, kn1) ⟨rfl, hbe⟩ hK hP hD hS dX2_always_59
set_option maxHeartbeats 4000000 in
set_option maxRecDepth 100000 in
theorem metX2_partner (l : Launch) (D : va_G) (d dz : ClassId) (hm qz qt n : Nat) (bo : Nat → Bool) (be : Nat → Nat) (kn : Int32) (hn : n ≤ 10) (hkn : ¬ kn = 0 → ∀ S, S < 2 ^ n → be S = bd_nu (fun a b => bo (10 * a + b)) 10 S) (hn0 : 0 < n) (a : Int32) : bd_Ci l yX2_partner cX2_partner 8 .int ({ frames := 1, cells := 0, slots := 0, locals := 25 }) D [(d, .int), (dz, .boolean)] [.ref hm, .int a] (bd_MW d dz hm qz qt n bo be kn) (fun r (u : (Nat → Nat) × Int32) => r = bd_eN (bd_mpo (bd_nu (fun a b => bo (10 * a + b)) 10) (fun a b => bo (10 * a + b)) n n (2 ^ n - 1) (bd_lo a % n)) ∧ ∀ S, S < 2 ^ n → u.1 S = bd_nu (fun a b => bo (10 * a + b)) 10 S) (fun u : (Nat → Nat) × Int32 => bd_MW d dz hm qz qt n bo u.1 u.2) := by
  intro sz
  refine bd_start (Qc := fun A => va_Qi (fun r (u : (Nat → Nat) × Int32) => r = bd_eN (bd_mpo (bd_nu (fun a b => bo (10 * a + b)) 10) (fun a b => bo (10 * a + b)) n n (2 ^ n - 1) (bd_lo a % n)) ∧ ∀ S, S < 2 ^ n → u.1 S = bd_nu (fun a b => bo (10 * a + b)) 10 S) (fun u t => bd_Post D [(d, .int), (dz, .boolean)] A ((fun u : (Nat → Nat) × Int32 => bd_MW d dz hm qz qt n bo u.1 u.2) u) t) A) (by decide) (Nat.le_of_ble_eq_true rfl) ?_
  intro p e s m below meth c A ls hx hb hr hml hts hown hlocks hin hA hK hP hD hl
  have hS : va_S A s.heap s.heap [] := va_S.rf
  have hl : lv_has ls 8 [(0, .ref hm), (1, .int a)] := hl
  refine lv_aload_n hx hb dX2_partner_0 rfl (lv_at hl 0 rfl) ?_
  refine bd_callv (wr := []) (rest := []) ⟨hx, hb, hml, hown, hts⟩ (metX2_reckon l D d dz hm qz qt n bo be kn hn hkn _) (cwV 0 hts (lw_V q171 q173 qs8 q12 q174) rfl rfl rfl (by decide +kernel) ⟨Nat.le_of_ble_eq_true rfl, Nat.le_of_ble_eq_true rfl⟩) hK hP hD hS hA [0, 1, 2] [] [0, 1] rfl rfl rfl rfl rfl rfl (by decide) (ci := 2) (q0 := 0) rfl rfl rfl hl.1 rfl (Nat.le_of_ble_eq_true rfl) dX2_partner_1 ⟨Nat.le_refl _, Nat.le_refl _⟩ (fun u_ H locs hw_ hP hD hS => ?_)
  obtain ⟨be1, kn1⟩ := u_
  have hbe : ∀ S, S < 2 ^ n → be1 S = bd_nu (fun a b => bo (10 * a + b)) 10 S := hw_
  have hP : va_P D bdCl (bd_MW d dz hm qz qt n bo be1 kn1) H := hP
  have hD : va_D A (bd_MW d dz hm qz qt n bo be1 kn1) := hD
  refine lv_iconst (v := nI 1) hx hb dX2_partner_4 (by decide) ?_
  refine lv_aload_n hx hb dX2_partner_5 rfl (lv_at hl 0 rfl) ?_
  refine va_get (D := D) (ci := 2) (v := .int (nI n)) (C := RX2) (T := TX2) (N := 4) hx hb hts in_X2 hown hK hP 0 rfl rfl 1 (by decide) (hts _ q137) (fun _ h9 => h9) rfl dX2_partner_6 ?_
  refine bd_ishl hx hb dX2_partner_9 (Nat.lt_of_lt_of_le (Nat.lt_succ_of_le hn) (by decide)) ?_
  refine lv_iconst (v := nI 1) hx hb dX2_partner_10 (by decide) ?_
  refine bd_isub hx hb dX2_partner_11 (Nat.two_pow_pos n) ?_
  refine lv_istore_n (lv' := [(2, .int (nI ((2 ^ n) - 1))), (0, .ref hm), (1, .int a)]) hx hb dX2_partner_12 rfl hl (by decide) rfl (fun ls hl => ?_)
  refine lv_aload_n hx hb dX2_partner_13 rfl (lv_at hl 1 rfl) ?_
  refine lv_iload_n hx hb dX2_partner_14 rfl (lv_at hl 2 rfl) ?_
  refine bd_calli (wr := []) (rest := []) ⟨hx, hb, hml, hown, hts⟩ (metX2_at l D d dz hm qz qt n bo be1 kn1 hn0 hn a _) (cwV 1 hts (lw_V q159 q161 qs7 q12 q162) rfl rfl rfl (by decide +kernel) ⟨Nat.le_of_ble_eq_true rfl, Nat.le_of_ble_eq_true rfl⟩) hK hP hD hS hA [0, 1, 2] [] [0, 1] rfl rfl rfl rfl rfl rfl (by decide) (ci := 2) (q0 := 0) rfl rfl rfl hl.1 rfl (Nat.le_of_ble_eq_true rfl) dX2_partner_15 ⟨Nat.le_refl _, Nat.le_refl _⟩ (fun r_ u_ H locs hw_ hP hD hS => ?_)
  subst hw_
  have hP : va_P D bdCl (bd_MW d dz hm qz qt n bo be1 kn1) H := hP
  have hD : va_D A (bd_MW d dz hm qz qt n bo be1 kn1) := hD
  refine lv_istore_n (lv' := [(3, .int (nI (bd_lo a % n))), (2, .int (nI ((2 ^ n) - 1))), (0, .ref hm), (1, .int a)]) hx hb dX2_partner_18 rfl hl (by decide) rfl (fun ls hl => ?_)
  refine lv_iconst (v := nI 0) hx hb dX2_partner_19 (by decide) ?_
  refine lv_istore (lv' := [(4, .int (nI 0)), (3, .int (nI (bd_lo a % n))), (2, .int (nI ((2 ^ n) - 1))), (0, .ref hm), (1, .int a)]) hx hb dX2_partner_20 hl (by decide) rfl (fun ls hl => ?_)
  exact bd_mpart_out ⟨hx, hb, hml, hown, hts⟩ hK (e0 := (fun a b => bo (10 * a + b))) (fun _ _ => rfl) hn hbe (Nat.lt_of_lt_of_le (Nat.mod_lt _ hn0) hn) hP _ (fun pc ls hd => bd_iret (wf := fun u : (Nat → Nat) × Int32 => bd_MW d dz hm qz qt n bo u.1 u.2) hx hb hr rfl hlocks (be1, kn1) ⟨rfl, hbe⟩ hK hP hD hS hd) n 0 (2 ^ n - 1) (by omega) (bd_all_2 n) rfl ls (lv_sub hl [3, 2, 1, 0] rfl)
end
section
/-! WHAT THE LAW KEEPS: both sides hold the same bonds -/
def bd_INV (n : Nat) (g : Nat → Nat) (bo : Nat → Bool) (be : Nat → Nat) (kn : Int32) : Prop :=
  0 < n ∧ n ≤ 10 ∧ (∀ a b, a < 10 → b < 10 → (g a).testBit b = bo (10 * a + b)) ∧ (∀ x y, x < 10 → y < 10 → (g x).testBit y = (g y).testBit x) ∧ (¬ kn = 0 → ∀ S, S < 2 ^ n → be S = bd_nu (fun a b => bo (10 * a + b)) 10 S)
theorem bd_INV_0 (be : Nat → Nat) : bd_INV 2 (fun _ => 0) (fun _ => false) be 0 := ⟨by omega, by omega, fun a b _ _ => by simp, fun _ _ _ _ => by simp, fun h => absurd rfl h⟩
theorem bd_INV_places (a : Int32) (be : Nat → Nat) : bd_INV (1 + bd_lo a % 10) (fun _ => 0) (fun _ => false) be (nI 0) := by
  have := Nat.mod_lt (bd_lo a) (show 0 < 10 by decide)
  exact ⟨by omega, by omega, fun a b _ _ => by simp, fun _ _ _ _ => by simp, fun h => absurd (by decide) h⟩
theorem bd_bit_or (a w j : Nat) : (a ||| 2 ^ w).testBit j = (a.testBit j || decide (j = w)) := by
  rw [Nat.testBit_or, Nat.testBit_two_pow]
  congr 1
  by_cases h : w = j
  · simp [h]
  · have : j ≠ w := fun q => h q.symm
    simp [h, this]
theorem bd_tie_bit (g : Nat → Nat) {v w : Nat} (h : v ≠ w) (a b : Nat) : (bd_tie g v w a).testBit b = ((g a).testBit b || (decide (a = v ∧ b = w) || decide (a = w ∧ b = v))) := by
  unfold bd_tie
  by_cases c1 : a = w
  · subst c1
    rw [bd_up_s, bd_up_n (fun q => h q.symm), bd_bit_or]
    have : ¬ (a = v) := fun q => h q.symm
    simp [this]
  · rw [bd_up_n c1]
    by_cases c2 : a = v
    · subst c2
      rw [bd_up_s, bd_bit_or]
      simp [c1]
    · rw [bd_up_n c2]
      simp [c1, c2]
theorem bd_cut_bit (g : Nat → Nat) (v w a b : Nat) : (bd_cut g v w a).testBit b = ((g a).testBit b && !(decide (a = v ∧ b = w) || decide (a = w ∧ b = v))) := by
  unfold bd_cut
  by_cases c1 : a = w
  · subst c1
    rw [bd_up_s, bd_clr_bit]
    by_cases c2 : a = v
    · subst c2
      rw [bd_up_s, bd_clr_bit]
      by_cases q : b = a
      · simp [q]
      · simp [q]
    · rw [bd_up_n c2]
      by_cases q : b = v
      · simp [q]
      · simp [q, c2]
  · rw [bd_up_n c1]
    by_cases c2 : a = v
    · subst c2
      rw [bd_up_s, bd_clr_bit]
      by_cases q : b = w
      · simp [q]
      · simp [q, c1]
    · rw [bd_up_n c2]
      simp [c1, c2]
theorem bd_mtie_bit (bo : Nat → Bool) (v w : Nat) (t : Bool) {a b : Nat} (hv : v < 10) (hw : w < 10) (ha : a < 10) (hb : b < 10) : bd_mtie bo v w t (10 * a + b) = if (a = v ∧ b = w) ∨ (a = w ∧ b = v) then t else bo (10 * a + b) := by
  unfold bd_mtie
  by_cases c1 : a = w ∧ b = v
  · rw [show 10 * a + b = (10 * w) + v by omega, bd_upB_s, if_pos (Or.inr c1)]
  · rw [bd_upB_n (by omega)]
    by_cases c2 : a = v ∧ b = w
    · rw [show 10 * a + b = (10 * v) + w by omega, bd_upB_s, if_pos (Or.inl c2)]
    · rw [bd_upB_n (by omega), if_neg (fun q => q.elim c2 c1)]
theorem bd_INV_tie {n : Nat} {g : Nat → Nat} {bo : Nat → Bool} {be : Nat → Nat} {kn : Int32} (h : bd_INV n g bo be kn) {v w : Nat} (hv : v < n) (hw : w < n) (hvw : v ≠ w) : bd_INV n (bd_tie g v w) (bd_mtie bo v w true) be (nI 0) := by
  obtain ⟨h1, h2, h3, h4, -⟩ := h
  refine ⟨h1, h2, fun a b ha hb => ?_, fun a b ha hb => ?_, fun q => absurd (by decide) q⟩
  · rw [bd_tie_bit g hvw, bd_mtie_bit bo v w true (by omega) (by omega) ha hb, h3 a b ha hb]
    by_cases c : (a = v ∧ b = w) ∨ (a = w ∧ b = v)
    · rw [if_pos c]
      rcases c with c | c <;> simp [c]
    · rw [if_neg c]
      have c1 : ¬ (a = v ∧ b = w) := fun q => c (Or.inl q)
      have c2 : ¬ (a = w ∧ b = v) := fun q => c (Or.inr q)
      simp only [decide_eq_false c1, decide_eq_false c2, Bool.or_false]
  · rw [bd_tie_bit g hvw, bd_tie_bit g hvw, h4 a b ha hb]
    congr 1
    rw [Bool.or_comm]
    congr 1
    · rw [decide_eq_decide]; exact And.comm
    · rw [decide_eq_decide]; exact And.comm
theorem bd_INV_cut {n : Nat} {g : Nat → Nat} {bo : Nat → Bool} {be : Nat → Nat} {kn : Int32} (h : bd_INV n g bo be kn) {v w : Nat} (hv : v < n) (hw : w < n) : bd_INV n (bd_cut g v w) (bd_mtie bo v w false) be (nI 0) := by
  obtain ⟨h1, h2, h3, h4, -⟩ := h
  refine ⟨h1, h2, fun a b ha hb => ?_, fun a b ha hb => ?_, fun q => absurd (by decide) q⟩
  · rw [bd_cut_bit, bd_mtie_bit bo v w false (by omega) (by omega) ha hb, h3 a b ha hb]
    by_cases c : (a = v ∧ b = w) ∨ (a = w ∧ b = v)
    · rw [if_pos c]
      rcases c with c | c <;> simp [c]
    · rw [if_neg c]
      have c1 : ¬ (a = v ∧ b = w) := fun q => c (Or.inl q)
      have c2 : ¬ (a = w ∧ b = v) := fun q => c (Or.inr q)
      simp only [decide_eq_false c1, decide_eq_false c2, Bool.or_false, Bool.not_false, Bool.and_true]
  · rw [bd_cut_bit, bd_cut_bit, h4 a b ha hb]
    congr 2
    rw [Bool.or_comm]
    congr 1
    · rw [decide_eq_decide]; exact And.comm
    · rw [decide_eq_decide]; exact And.comm
theorem bd_INV_known {n : Nat} {g : Nat → Nat} {bo : Nat → Bool} {be be' : Nat → Nat} {kn kn' : Int32} (h : bd_INV n g bo be kn) (hb : ∀ S, S < 2 ^ n → be' S = bd_nu (fun a b => bo (10 * a + b)) 10 S) : bd_INV n g bo be' kn' := by
  obtain ⟨h1, h2, h3, h4, -⟩ := h
  exact ⟨h1, h2, h3, h4, fun _ => hb⟩
theorem bd_INV_nu {n : Nat} {g : Nat → Nat} {bo : Nat → Bool} {be : Nat → Nat} {kn : Int32} (h : bd_INV n g bo be kn) : bd_nu (fun a b => (g a).testBit b) 10 = bd_nu (fun a b => bo (10 * a + b)) 10 := by
  funext S
  exact bd_nu_congr (fun a b ha hb => h.2.2.1 a b ha hb) 10 S (Nat.le_refl _)
theorem bd_INV_partner {n : Nat} {g : Nat → Nat} {bo : Nat → Bool} {be : Nat → Nat} {kn : Int32} (h : bd_INV n g bo be kn) {pa : Nat → Nat} (hpa : ∀ j, j < n → pa j = 10) {q : Nat} (hq : q < n) : bd_eN (bd_dpo (bd_nu (fun a b => (g a).testBit b) 10) g n n (2 ^ n - 1) (bd_nu (fun a b => (g a).testBit b) 10 (2 ^ n - 1)) pa q) = bd_eN (bd_mpo (bd_nu (fun a b => bo (10 * a + b)) 10) (fun a b => bo (10 * a + b)) n n (2 ^ n - 1) q) := by
  rw [bd_INV_nu h]
  have hbit : ∀ x, (2 ^ n - 1).testBit x = true ↔ x < n := fun x => by rw [Nat.testBit_two_pow_sub_one]; simp
  refine bd_partner_eq h.2.1 (fun a b ha hb => h.2.2.1 a b ha hb) n _ pa (Nat.le_refl _) (fun x hx => ?_) (fun x hx => ?_) ((hbit q).mpr hq)
  · have := (hbit x).mp hx
    omega
  · rw [hpa x ((hbit x).mp hx)]
    omega
/-- the law's head: i > L - 3 -/
theorem bd_gt3 {L i : Nat} (hL : L < 2 ^ 30) (hi : i < 2 ^ 30) : (nI L - nI 3) < nI i ↔ L < i + 3 := by
  rw [Int32.lt_iff_toInt_lt, pk_sub_toInt hL (by decide), nI_toInt (by omega)]
  omega
end
section
/-! THE CLAIM OUT OF ONE WALK OF THE LAW'S BODY. Your part is whole_start (and what it stands on); all else here is the same for every law, but numbers. -/
def R_law : String := "BondDeskLaw"
def lw_P (b : Addr) (xs : List Int32) (args : Array Value) (s : State) : Prop := args = #[.ref b] ∧ s.IntsAt b xs ∧ xs.length ≤ 192 ∧ (Jvm.Cond.and given_1 narrow_1).before args s = true
def lw_Q (_ : Array Value) (s : State) (o : Outcome) (t : State) : Prop := o = .returned (some (.int 1)) ∧ Framed s o t [] 600000 7290000
def lw_Z (below : List Frame) (a : Array Value) (s : State) : State → Prop := fun t => ∃ o, t.status = .running ∧ Ended t below o ∧ lw_Q a s o t
/-- the law's own end, with 1 on the stack, nothing written that was there before, its room as the claim has it -/
theorem lw_ret {p : Program} {l : Launch} {e : Env} {s : State} {m : MethodId} {below : List Frame} {meth : Method} {c : Code} {b : Nat} (hx : p.tables.exec = Jvm.exec) (hb : c.code = code) (hr : meth.sig.returnType = ret) (hlocks : meth.locks = false) {pc : Nat} {H : Heap} {ls : Array Slot} (hdg : decode code pc = .ok (.ireturn, 1)) : W p l e room_1 s m #[Value.ref b] below meth c H [] 600000 7290000 (lw_Z below #[Value.ref b] s) (F0 m pc ls [.int 1]) := by
  intro T hT X
  obtain ⟨fs, hret, hrun, hended, hW, hframe⟩ := X.leave (v := some (.int 1)) (hlocks := hlocks) (fun h => by rw [hr] at h; cases h)
  have hmeth' : T.vm.method? m = some meth := X.method'
  refine ⟨T.setFrames fs, ?_, .returned (some (.int 1)), hrun, hended, rfl, ⟨_, rfl⟩, hW, hframe⟩
  jvm_step X.here [X.here.top, hx, hb, hdg, hmeth', hr, ret, narrow_b1]
  (try refine ⟨rfl, ?_⟩); (try refine ⟨rfl, ?_⟩)
  first | (intro acts; rw [hret _ acts rfl rfl rfl]) | rw [hret _ _ rfl rfl rfl]
  exact Steps.refl _
/-- what holds at the law's entry: the machine, the code, the tables' words (any of lw_tbl by 'hts w (by decide +kernel)'), the script of L ints xs at the cell b, what the Statement gives of the start (any of its parts by flat_of_before) -/
def lw_At (p : Program) (s : State) (m : MethodId) (meth : Method) (c : Code) (b L : Nat) (xs : Nat → Int32) : Prop :=
  p.tables.exec = Jvm.exec ∧ c.code = code ∧ meth.sig.returnType = ret ∧ c.maxLocals = 4 ∧ s.vm.findClass R_law = some m.cls ∧ (∀ w ∈ lw_tbl, w.before #[Value.ref b] s = true) ∧ va_X b L xs s s.heap ∧ b < s.heap.size ∧ meth.locks = false ∧ (Jvm.Cond.and given_1 narrow_1).before #[Value.ref b] s = true
set_option maxHeartbeats 4000000 in
set_option maxRecDepth 100000 in
/-- the law's loop at its head -/
theorem bd_law_lp {p : Program} {l : Launch} {e : Env} {s : State} {m : MethodId} {below : List Frame} {meth : Method} {c : Code} {D : va_G} {b L : Nat} {xs : Nat → Int32} (hL : L ≤ 192) (C0 : lw_At p s m meth c b L xs) {d d2 dz : ClassId} {hd qp h qb qm qf qs qr hm qz qt : Nat} (hK : va_K D bdCl [(d, .int), (d2, .int), (dz, .boolean)] s) :
    ∀ (k i : Nat) (n : Nat) (pa g mt fr bs ro : Nat → Nat) (al se dr mn : Nat) (bo : Nat → Bool) (be : Nat → Nat) (kn : Int32), i ≤ L + 2 → L + 3 ≤ i + k → bd_INV n g bo be kn → ∀ (H : Heap) (locs : List Loc) (ls : Array Slot), va_P D bdCl (bd_DW d hd qp h qb qm qf qs qr n pa g mt fr bs ro al se dr mn ++ bd_MW d2 dz hm qz qt n bo be kn) H → va_D (fun q : Nat => s.heap.size ≤ q) (bd_DW d hd qp h qb qm qf qs qr n pa g mt fr bs ro al se dr mn ++ bd_MW d2 dz hm qz qt n bo be kn) → va_S (fun q : Nat => s.heap.size ≤ q) s.heap H locs → lv_has ls 4 [(0, .ref b), (1, .ref hd), (2, .ref hm), (3, .int (nI i))] → W p l e room_1 s m #[Value.ref b] below meth c H locs 11 1201 (lw_Z below #[Value.ref b] s) (F0 m 18 ls []) := by
  obtain ⟨hx, hb, hr, hml, hown, hts0, hX, hbl, hlocks, hgv⟩ := id C0
  have hts : ∀ w ∈ lw_all, w.before #[Value.ref b] s = true := fun w h => hts0 w (lw_all_tbl h)
  have hA : ∀ q : Nat, s.heap.size ≤ q → (fun q : Nat => s.heap.size ≤ q) q := fun _ h => h
  have hbA : ¬ (fun q : Nat => s.heap.size ≤ q) b := Nat.not_le.mpr hbl
  intro k
  induction k with
  | zero =>
    intro i n pa g mt fr bs ro al se dr mn bo be kn h1 h2
    exact absurd h2 (by omega)
  | succ k ih =>
    intro i n pa g mt fr bs ro al se dr mn bo be kn hi hk hinv H locs ls hP hD hS hl
    refine lv_iload_n hx hb dL_law_18 rfl (lv_at hl 3 rfl) ?_
    refine lv_aload_n hx hb dL_law_19 rfl (lv_at hl 0 rfl) ?_
    refine va_slen hx hb hX hbl hbA hS dL_law_20 ?_
    refine lv_iconst (v := nI 3) hx hb dL_law_21 (by decide) ?_
    refine lv_isub hx hb dL_law_22 ?_
    by_cases c0 : L < i + 3
    · refine lv_icmp_gt (tgt := 212) hx hb dL_law_23 (by decide) (fun _ => ?_) (fun c_ => absurd ((bd_gt3 (by omega) (by omega)).mpr c0) c_)
      refine lv_iconst (v := 1) hx hb dL_law_212 (by decide) ?_
      refine va_forget (fun q hq => hS.2.2 q hq) ?_
      refine W.widen (k := 600000) (n := 7290000) (Nat.le_of_ble_eq_true rfl) (Nat.le_of_ble_eq_true rfl) ?_
      exact lw_ret hx hb hr hlocks dL_law_213
    · refine lv_icmp_gt (tgt := 212) hx hb dL_law_23 (by decide) (fun c_ => absurd c_ (fun q => c0 ((bd_gt3 (by omega) (by omega)).mp q))) (fun _ => ?_)
      have nxt : ∀ (n : Nat) (pa g mt fr bs ro : Nat → Nat) (al se dr mn : Nat) (bo : Nat → Bool) (be : Nat → Nat) (kn : Int32), bd_INV n g bo be kn → ∀ (H : Heap) (locs : List Loc) (ls : Array Slot), va_P D bdCl (bd_DW d hd qp h qb qm qf qs qr n pa g mt fr bs ro al se dr mn ++ bd_MW d2 dz hm qz qt n bo be kn) H → va_D (fun q : Nat => s.heap.size ≤ q) (bd_DW d hd qp h qb qm qf qs qr n pa g mt fr bs ro al se dr mn ++ bd_MW d2 dz hm qz qt n bo be kn) → va_S (fun q : Nat => s.heap.size ≤ q) s.heap H locs → lv_has ls 4 [(0, .ref b), (1, .ref hd), (2, .ref hm), (3, .int (nI i))] → W p l e room_1 s m #[Value.ref b] below meth c H locs 11 1201 (lw_Z below #[Value.ref b] s) (F0 m 206 ls []) := by
        intro n pa g mt fr bs ro al se dr mn bo be kn hinv H locs ls hP hD hS hl
        refine lv_iinc (v := nI (i + 3)) (lv' := [(3, .int (nI (i + 3))), (0, .ref b), (1, .ref hd), (2, .ref hm)]) hx hb dL_law_206 hl (k := 3) rfl (nI_add _ _) (by decide) rfl (fun ls hl => ?_)
        refine lv_goto (tgt := 18) hx hb dL_law_209 (by decide) ?_
        exact ih (i + 3) _ _ _ _ _ _ _ _ _ _ _ _ _ _ (by omega) (by omega) hinv H locs ls hP hD hS (lv_sub hl [1, 2, 3, 0] rfl)
      refine lv_aload_n hx hb dL_law_26 rfl (lv_at hl 0 rfl) ?_
      refine lv_iload_n hx hb dL_law_27 rfl (lv_at hl 3 rfl) ?_
      refine va_sld hx hb hX hbl hbA hS (vp_in_nI (show i < L by omega) (by omega)) dL_law_28 ?_
      refine bd_top (show xs (nI (i)).toNatClampNeg = xs (i) by rw [nI_clamp (by omega)]) ?_
      refine lv_bipush (v := nI 7) hx hb dL_law_29 (by decide) ?_
      obtain ⟨j, hj, ej⟩ := pk_andE (xs i) (m := nI 7) 3 (by decide)
      refine lv_iand hx hb dL_law_31 ?_
      refine bd_top ej ?_
      have hj : j < 8 := hj
      obtain ⟨hn0, hn, hge, hsym, hkn⟩ := id hinv
      rcases (show j = 0 ∨ j = 1 ∨ j = 2 ∨ j = 3 ∨ j = 4 ∨ j = 5 ∨ j = 6 ∨ j = 7 by omega) with rfl | rfl | rfl | rfl | rfl | rfl | rfl | rfl
      · refine lv_tableIn (off := 40) (tgt := 72) hx hb dL_law_32 (by decide) (by decide) (by decide) (by decide) ?_
        refine lv_aload_n hx hb dL_law_72 rfl (lv_at hl 1 rfl) ?_
        refine lv_aload_n hx hb dL_law_73 rfl (lv_at hl 0 rfl) ?_
        refine lv_iload_n hx hb dL_law_74 rfl (lv_at hl 3 rfl) ?_
        refine lv_iconst (v := nI 1) hx hb dL_law_75 (by decide) ?_
        refine bd_iadd hx hb dL_law_76 ?_
        refine va_sld hx hb hX hbl hbA hS (vp_in_nI (show i + 1 < L by omega) (by omega)) dL_law_77 ?_
        refine bd_top (show xs (nI (i + 1)).toNatClampNeg = xs (i + 1) by rw [nI_clamp (by omega)]) ?_
        refine bd_callv (wr := bd_MW d2 dz hm qz qt n bo be kn) (rest := []) ⟨hx, hb, hml, hown, hts⟩ (metX0_places l D d hd qp h qb qm qf qs qr n pa g mt fr bs ro al se dr mn (xs (i + 1)) _) (cwV 1 hts (lw_V q69 q70 q71 q10 q72) rfl rfl rfl (by decide +kernel) ⟨Nat.le_of_ble_eq_true rfl, Nat.le_of_ble_eq_true rfl⟩) hK hP hD hS hA [0, 1, 2, 3, 4, 5, 6, 7] [8, 9, 10] [0] rfl rfl rfl rfl rfl rfl (by decide) (ci := 0) (q0 := 0) rfl rfl rfl hl.1 rfl (Nat.le_of_ble_eq_true rfl) dL_law_78 ⟨Nat.le_of_ble_eq_true rfl, Nat.le_of_ble_eq_true rfl⟩ (fun u_ H locs hw_ hP hD hS => ?_)
        have hP : va_P D bdCl (bd_MW d2 dz hm qz qt n bo be kn ++ bd_DW d hd qp h qb qm qf qs qr (1 + bd_lo (xs (i + 1)) % 10) pa (fun _ => 0) mt fr bs ro al se dr mn) H := hP
        have hD : va_D (fun q : Nat => s.heap.size ≤ q) (bd_MW d2 dz hm qz qt n bo be kn ++ bd_DW d hd qp h qb qm qf qs qr (1 + bd_lo (xs (i + 1)) % 10) pa (fun _ => 0) mt fr bs ro al se dr mn) := hD
        refine lv_aload_n hx hb dL_law_81 rfl (lv_at hl 2 rfl) ?_
        refine lv_aload_n hx hb dL_law_82 rfl (lv_at hl 0 rfl) ?_
        refine lv_iload_n hx hb dL_law_83 rfl (lv_at hl 3 rfl) ?_
        refine lv_iconst (v := nI 1) hx hb dL_law_84 (by decide) ?_
        refine bd_iadd hx hb dL_law_85 ?_
        refine va_sld hx hb hX hbl hbA hS (vp_in_nI (show i + 1 < L by omega) (by omega)) dL_law_86 ?_
        refine bd_top (show xs (nI (i + 1)).toNatClampNeg = xs (i + 1) by rw [nI_clamp (by omega)]) ?_
        refine bd_callv (wr := bd_DW d hd qp h qb qm qf qs qr (1 + bd_lo (xs (i + 1)) % 10) pa (fun _ => 0) mt fr bs ro al se dr mn) (rest := []) ⟨hx, hb, hml, hown, hts⟩ (metX2_places l D d2 dz hm qz qt n bo be kn (xs (i + 1)) _) (cwV 1 hts (lw_V q150 q151 q152 q12 q153) rfl rfl rfl (by decide +kernel) ⟨Nat.le_of_ble_eq_true rfl, Nat.le_of_ble_eq_true rfl⟩) hK hP hD hS hA [0, 1, 2] [3, 4, 5, 6, 7, 8, 9, 10] [1, 2] rfl rfl rfl rfl rfl rfl (by decide) (ci := 2) (q0 := 0) rfl rfl rfl hl.1 rfl (Nat.le_of_ble_eq_true rfl) dL_law_87 ⟨Nat.le_of_ble_eq_true rfl, Nat.le_of_ble_eq_true rfl⟩ (fun u_ H locs hw_ hP hD hS => ?_)
        have hP : va_P D bdCl (bd_DW d hd qp h qb qm qf qs qr (1 + bd_lo (xs (i + 1)) % 10) pa (fun _ => 0) mt fr bs ro al se dr mn ++ bd_MW d2 dz hm qz qt (1 + bd_lo (xs (i + 1)) % 10) (fun _ => false) be (nI 0)) H := hP
        have hD : va_D (fun q : Nat => s.heap.size ≤ q) (bd_DW d hd qp h qb qm qf qs qr (1 + bd_lo (xs (i + 1)) % 10) pa (fun _ => 0) mt fr bs ro al se dr mn ++ bd_MW d2 dz hm qz qt (1 + bd_lo (xs (i + 1)) % 10) (fun _ => false) be (nI 0)) := hD
        refine lv_goto (tgt := 206) hx hb dL_law_90 (by decide) ?_
        exact nxt _ _ _ _ _ _ _ _ _ _ _ _ _ _ (bd_INV_places _ _) H locs ls hP hD hS (lv_sub hl [0, 1, 2, 3] rfl)
      · refine lv_tableIn (off := 61) (tgt := 93) hx hb dL_law_32 (by decide) (by decide) (by decide) (by decide) ?_
        obtain ⟨v, ev⟩ : ∃ v, bd_lo (xs (i + 1)) % n = v := ⟨_, rfl⟩
        obtain ⟨w, ew⟩ : ∃ w, bd_lo (xs (i + 2)) % n = w := ⟨_, rfl⟩
        have hv : v < n := by rw [← ev]; exact Nat.mod_lt _ hn0
        have hw : w < n := by rw [← ew]; exact Nat.mod_lt _ hn0
        refine lv_aload_n hx hb dL_law_93 rfl (lv_at hl 1 rfl) ?_
        refine lv_aload_n hx hb dL_law_94 rfl (lv_at hl 0 rfl) ?_
        refine lv_iload_n hx hb dL_law_95 rfl (lv_at hl 3 rfl) ?_
        refine lv_iconst (v := nI 1) hx hb dL_law_96 (by decide) ?_
        refine bd_iadd hx hb dL_law_97 ?_
        refine va_sld hx hb hX hbl hbA hS (vp_in_nI (show i + 1 < L by omega) (by omega)) dL_law_98 ?_
        refine bd_top (show xs (nI (i + 1)).toNatClampNeg = xs (i + 1) by rw [nI_clamp (by omega)]) ?_
        refine lv_aload_n hx hb dL_law_99 rfl (lv_at hl 0 rfl) ?_
        refine lv_iload_n hx hb dL_law_100 rfl (lv_at hl 3 rfl) ?_
        refine lv_iconst (v := nI 2) hx hb dL_law_101 (by decide) ?_
        refine bd_iadd hx hb dL_law_102 ?_
        refine va_sld hx hb hX hbl hbA hS (vp_in_nI (show i + 2 < L by omega) (by omega)) dL_law_103 ?_
        refine bd_top (show xs (nI (i + 2)).toNatClampNeg = xs (i + 2) by rw [nI_clamp (by omega)]) ?_
        refine bd_calli (wr := bd_MW d2 dz hm qz qt n bo be kn) (rest := []) ⟨hx, hb, hml, hown, hts⟩ (metX0_tie l D d hd qp h qb qm qf qs qr n pa g mt fr bs ro al se dr mn hn0 hn (xs (i + 1)) (xs (i + 2)) _) (cwV 2 hts (lw_V q77 q78 q79 q10 q80) rfl rfl rfl (by decide +kernel) ⟨Nat.le_of_ble_eq_true rfl, Nat.le_of_ble_eq_true rfl⟩) hK hP hD hS hA [0, 1, 2, 3, 4, 5, 6, 7] [8, 9, 10] [0] rfl rfl rfl rfl rfl rfl (by decide) (ci := 0) (q0 := 0) rfl rfl rfl hl.1 rfl (Nat.le_of_ble_eq_true rfl) dL_law_104 ⟨Nat.le_of_ble_eq_true rfl, Nat.le_of_ble_eq_true rfl⟩ (fun r_ u_ H locs hw_ hP hD hS => ?_)
        have hr1 : r_ = if v = w then nI 0 else nI 1 := by rw [← ev, ← ew]; exact hw_
        clear hw_
        generalize r_ = r1 at hr1 ⊢
        rw [ev, ew] at hP hD
        have hP : va_P D bdCl (bd_MW d2 dz hm qz qt n bo be kn ++ bd_DW d hd qp h qb qm qf qs qr n pa (if v = w then g else bd_tie g v w) mt fr bs ro al se dr mn) H := hP
        have hD : va_D (fun q : Nat => s.heap.size ≤ q) (bd_MW d2 dz hm qz qt n bo be kn ++ bd_DW d hd qp h qb qm qf qs qr n pa (if v = w then g else bd_tie g v w) mt fr bs ro al se dr mn) := hD
        refine lv_aload_n hx hb dL_law_107 rfl (lv_at hl 2 rfl) ?_
        refine lv_aload_n hx hb dL_law_108 rfl (lv_at hl 0 rfl) ?_
        refine lv_iload_n hx hb dL_law_109 rfl (lv_at hl 3 rfl) ?_
        refine lv_iconst (v := nI 1) hx hb dL_law_110 (by decide) ?_
        refine bd_iadd hx hb dL_law_111 ?_
        refine va_sld hx hb hX hbl hbA hS (vp_in_nI (show i + 1 < L by omega) (by omega)) dL_law_112 ?_
        refine bd_top (show xs (nI (i + 1)).toNatClampNeg = xs (i + 1) by rw [nI_clamp (by omega)]) ?_
        refine lv_aload_n hx hb dL_law_113 rfl (lv_at hl 0 rfl) ?_
        refine lv_iload_n hx hb dL_law_114 rfl (lv_at hl 3 rfl) ?_
        refine lv_iconst (v := nI 2) hx hb dL_law_115 (by decide) ?_
        refine bd_iadd hx hb dL_law_116 ?_
        refine va_sld hx hb hX hbl hbA hS (vp_in_nI (show i + 2 < L by omega) (by omega)) dL_law_117 ?_
        refine bd_top (show xs (nI (i + 2)).toNatClampNeg = xs (i + 2) by rw [nI_clamp (by omega)]) ?_
        refine bd_calli (wr := bd_DW d hd qp h qb qm qf qs qr n pa (if v = w then g else bd_tie g v w) mt fr bs ro al se dr mn) (rest := [.int r1]) ⟨hx, hb, hml, hown, hts⟩ (metX2_tie l D d2 dz hm qz qt n bo be kn hn0 hn (xs (i + 1)) (xs (i + 2)) _) (cwV 2 hts (lw_V q155 q156 q157 q12 q158) rfl rfl rfl (by decide +kernel) ⟨Nat.le_of_ble_eq_true rfl, Nat.le_of_ble_eq_true rfl⟩) hK hP hD hS hA [0, 1, 2] [3, 4, 5, 6, 7, 8, 9, 10] [1, 2] rfl rfl rfl rfl rfl rfl (by decide) (ci := 2) (q0 := 0) rfl rfl rfl hl.1 rfl (Nat.le_of_ble_eq_true rfl) dL_law_118 ⟨Nat.le_of_ble_eq_true rfl, Nat.le_of_ble_eq_true rfl⟩ (fun r_ u_ H locs hw_ hP hD hS => ?_)
        have hr2 : r_ = if v = w then nI 0 else nI 1 := by rw [← ev, ← ew]; exact hw_
        clear hw_
        generalize r_ = r2 at hr2 ⊢
        rw [ev, ew] at hP hD
        have hP : va_P D bdCl (bd_DW d hd qp h qb qm qf qs qr n pa (if v = w then g else bd_tie g v w) mt fr bs ro al se dr mn ++ bd_MW d2 dz hm qz qt n (if v = w then bo else bd_mtie bo v w true) be (if v = w then kn else nI 0)) H := hP
        have hD : va_D (fun q : Nat => s.heap.size ≤ q) (bd_DW d hd qp h qb qm qf qs qr n pa (if v = w then g else bd_tie g v w) mt fr bs ro al se dr mn ++ bd_MW d2 dz hm qz qt n (if v = w then bo else bd_mtie bo v w true) be (if v = w then kn else nI 0)) := hD
        refine lv_icmp_eq (tgt := 206) hx hb dL_law_121 (by decide) (fun _ => ?_) (fun c_ => absurd (by rw [hr1, hr2]) c_)
        refine nxt _ _ _ _ _ _ _ _ _ _ _ _ _ _ ?_ H locs ls hP hD hS (lv_sub hl [0, 1, 2, 3] rfl)
        by_cases c1 : v = w
        · rw [if_pos c1, if_pos c1, if_pos c1]; exact hinv
        · rw [if_neg c1, if_neg c1, if_neg c1]; exact bd_INV_tie hinv hv hw c1
      · refine lv_tableIn (off := 94) (tgt := 126) hx hb dL_law_32 (by decide) (by decide) (by decide) (by decide) ?_
        refine lv_aload_n hx hb dL_law_126 rfl (lv_at hl 1 rfl) ?_
        refine lv_aload_n hx hb dL_law_127 rfl (lv_at hl 0 rfl) ?_
        refine lv_iload_n hx hb dL_law_128 rfl (lv_at hl 3 rfl) ?_
        refine lv_iconst (v := nI 1) hx hb dL_law_129 (by decide) ?_
        refine bd_iadd hx hb dL_law_130 ?_
        refine va_sld hx hb hX hbl hbA hS (vp_in_nI (show i + 1 < L by omega) (by omega)) dL_law_131 ?_
        refine bd_top (show xs (nI (i + 1)).toNatClampNeg = xs (i + 1) by rw [nI_clamp (by omega)]) ?_
        refine lv_aload_n hx hb dL_law_132 rfl (lv_at hl 0 rfl) ?_
        refine lv_iload_n hx hb dL_law_133 rfl (lv_at hl 3 rfl) ?_
        refine lv_iconst (v := nI 2) hx hb dL_law_134 (by decide) ?_
        refine bd_iadd hx hb dL_law_135 ?_
        refine va_sld hx hb hX hbl hbA hS (vp_in_nI (show i + 2 < L by omega) (by omega)) dL_law_136 ?_
        refine bd_top (show xs (nI (i + 2)).toNatClampNeg = xs (i + 2) by rw [nI_clamp (by omega)]) ?_
        refine bd_callv (wr := bd_MW d2 dz hm qz qt n bo be kn) (rest := []) ⟨hx, hb, hml, hown, hts⟩ (metX0_cut l D d hd qp h qb qm qf qs qr n pa g mt fr bs ro al se dr mn hn0 hn (xs (i + 1)) (xs (i + 2)) _) (cwV 2 hts (lw_V q81 q82 q83 q10 q84) rfl rfl rfl (by decide +kernel) ⟨Nat.le_of_ble_eq_true rfl, Nat.le_of_ble_eq_true rfl⟩) hK hP hD hS hA [0, 1, 2, 3, 4, 5, 6, 7] [8, 9, 10] [0] rfl rfl rfl rfl rfl rfl (by decide) (ci := 0) (q0 := 0) rfl rfl rfl hl.1 rfl (Nat.le_of_ble_eq_true rfl) dL_law_137 ⟨Nat.le_of_ble_eq_true rfl, Nat.le_of_ble_eq_true rfl⟩ (fun u_ H locs hw_ hP hD hS => ?_)
        have hP : va_P D bdCl (bd_MW d2 dz hm qz qt n bo be kn ++ bd_DW d hd qp h qb qm qf qs qr n pa (bd_cut g (bd_lo (xs (i + 1)) % n) (bd_lo (xs (i + 2)) % n)) mt fr bs ro al se dr mn) H := hP
        have hD : va_D (fun q : Nat => s.heap.size ≤ q) (bd_MW d2 dz hm qz qt n bo be kn ++ bd_DW d hd qp h qb qm qf qs qr n pa (bd_cut g (bd_lo (xs (i + 1)) % n) (bd_lo (xs (i + 2)) % n)) mt fr bs ro al se dr mn) := hD
        refine lv_aload_n hx hb dL_law_140 rfl (lv_at hl 2 rfl) ?_
        refine lv_aload_n hx hb dL_law_141 rfl (lv_at hl 0 rfl) ?_
        refine lv_iload_n hx hb dL_law_142 rfl (lv_at hl 3 rfl) ?_
        refine lv_iconst (v := nI 1) hx hb dL_law_143 (by decide) ?_
        refine bd_iadd hx hb dL_law_144 ?_
        refine va_sld hx hb hX hbl hbA hS (vp_in_nI (show i + 1 < L by omega) (by omega)) dL_law_145 ?_
        refine bd_top (show xs (nI (i + 1)).toNatClampNeg = xs (i + 1) by rw [nI_clamp (by omega)]) ?_
        refine lv_aload_n hx hb dL_law_146 rfl (lv_at hl 0 rfl) ?_
        refine lv_iload_n hx hb dL_law_147 rfl (lv_at hl 3 rfl) ?_
        refine lv_iconst (v := nI 2) hx hb dL_law_148 (by decide) ?_
        refine bd_iadd hx hb dL_law_149 ?_
        refine va_sld hx hb hX hbl hbA hS (vp_in_nI (show i + 2 < L by omega) (by omega)) dL_law_150 ?_
        refine bd_top (show xs (nI (i + 2)).toNatClampNeg = xs (i + 2) by rw [nI_clamp (by omega)]) ?_
        refine bd_callv (wr := bd_DW d hd qp h qb qm qf qs qr n pa (bd_cut g (bd_lo (xs (i + 1)) % n) (bd_lo (xs (i + 2)) % n)) mt fr bs ro al se dr mn) (rest := []) ⟨hx, hb, hml, hown, hts⟩ (metX2_cut l D d2 dz hm qz qt n bo be kn hn0 hn (xs (i + 1)) (xs (i + 2)) _) (cwV 2 hts (lw_V q163 q164 q165 q12 q166) rfl rfl rfl (by decide +kernel) ⟨Nat.le_of_ble_eq_true rfl, Nat.le_of_ble_eq_true rfl⟩) hK hP hD hS hA [0, 1, 2] [3, 4, 5, 6, 7, 8, 9, 10] [1, 2] rfl rfl rfl rfl rfl rfl (by decide) (ci := 2) (q0 := 0) rfl rfl rfl hl.1 rfl (Nat.le_of_ble_eq_true rfl) dL_law_151 ⟨Nat.le_of_ble_eq_true rfl, Nat.le_of_ble_eq_true rfl⟩ (fun u_ H locs hw_ hP hD hS => ?_)
        have hP : va_P D bdCl (bd_DW d hd qp h qb qm qf qs qr n pa (bd_cut g (bd_lo (xs (i + 1)) % n) (bd_lo (xs (i + 2)) % n)) mt fr bs ro al se dr mn ++ bd_MW d2 dz hm qz qt n (bd_mtie bo (bd_lo (xs (i + 1)) % n) (bd_lo (xs (i + 2)) % n) false) be (nI 0)) H := hP
        have hD : va_D (fun q : Nat => s.heap.size ≤ q) (bd_DW d hd qp h qb qm qf qs qr n pa (bd_cut g (bd_lo (xs (i + 1)) % n) (bd_lo (xs (i + 2)) % n)) mt fr bs ro al se dr mn ++ bd_MW d2 dz hm qz qt n (bd_mtie bo (bd_lo (xs (i + 1)) % n) (bd_lo (xs (i + 2)) % n) false) be (nI 0)) := hD
        refine lv_goto (tgt := 206) hx hb dL_law_154 (by decide) ?_
        exact nxt _ _ _ _ _ _ _ _ _ _ _ _ _ _ (bd_INV_cut hinv (Nat.mod_lt _ hn0) (Nat.mod_lt _ hn0)) H locs ls hP hD hS (lv_sub hl [0, 1, 2, 3] rfl)
      · refine lv_tableIn (off := 125) (tgt := 157) hx hb dL_law_32 (by decide) (by decide) (by decide) (by decide) ?_
        refine lv_aload_n hx hb dL_law_157 rfl (lv_at hl 1 rfl) ?_
        refine bd_calli (wr := bd_MW d2 dz hm qz qt n bo be kn) (rest := []) ⟨hx, hb, hml, hown, hts⟩ (metX0_most l D d hd qp h qb qm qf qs qr n pa g mt fr bs ro al se dr mn hsym hn _) (cwV 0 hts (lw_V q85 q86 q87 q10 q88) rfl rfl rfl (by decide +kernel) ⟨Nat.le_of_ble_eq_true rfl, Nat.le_of_ble_eq_true rfl⟩) hK hP hD hS hA [0, 1, 2, 3, 4, 5, 6, 7] [8, 9, 10] [0] rfl rfl rfl rfl rfl rfl (by decide) (ci := 0) (q0 := 0) rfl rfl rfl hl.1 rfl (Nat.le_of_ble_eq_true rfl) dL_law_158 ⟨Nat.le_of_ble_eq_true rfl, Nat.le_of_ble_eq_true rfl⟩ (fun r_ u_ H locs hw_ hP hD hS => ?_)
        obtain ⟨pa1, mt1, ⟨fr1, bs1, ro1, se1, dr1, mn1⟩, al1⟩ := u_
        obtain ⟨hr1, -⟩ := hw_
        generalize r_ = r1 at hr1 ⊢
        have hP : va_P D bdCl (bd_MW d2 dz hm qz qt n bo be kn ++ bd_DW d hd qp h qb qm qf qs qr n pa1 g mt1 fr1 bs1 ro1 al1 se1 dr1 mn1) H := hP
        have hD : va_D (fun q : Nat => s.heap.size ≤ q) (bd_MW d2 dz hm qz qt n bo be kn ++ bd_DW d hd qp h qb qm qf qs qr n pa1 g mt1 fr1 bs1 ro1 al1 se1 dr1 mn1) := hD
        refine lv_aload_n hx hb dL_law_161 rfl (lv_at hl 2 rfl) ?_
        refine bd_calli (wr := bd_DW d hd qp h qb qm qf qs qr n pa1 g mt1 fr1 bs1 ro1 al1 se1 dr1 mn1) (rest := [.int r1]) ⟨hx, hb, hml, hown, hts⟩ (metX2_most l D d2 dz hm qz qt n bo be kn hn hkn _) (cwV 0 hts (lw_V q167 q168 q169 q12 q170) rfl rfl rfl (by decide +kernel) ⟨Nat.le_of_ble_eq_true rfl, Nat.le_of_ble_eq_true rfl⟩) hK hP hD hS hA [0, 1, 2] [3, 4, 5, 6, 7, 8, 9, 10] [1, 2] rfl rfl rfl rfl rfl rfl (by decide) (ci := 2) (q0 := 0) rfl rfl rfl hl.1 rfl (Nat.le_of_ble_eq_true rfl) dL_law_162 ⟨Nat.le_of_ble_eq_true rfl, Nat.le_of_ble_eq_true rfl⟩ (fun r_ u_ H locs hw_ hP hD hS => ?_)
        obtain ⟨be1, kn1⟩ := u_
        obtain ⟨hr2, hb2⟩ := hw_
        generalize r_ = r2 at hr2 ⊢
        have hP : va_P D bdCl (bd_DW d hd qp h qb qm qf qs qr n pa1 g mt1 fr1 bs1 ro1 al1 se1 dr1 mn1 ++ bd_MW d2 dz hm qz qt n bo be1 kn1) H := hP
        have hD : va_D (fun q : Nat => s.heap.size ≤ q) (bd_DW d hd qp h qb qm qf qs qr n pa1 g mt1 fr1 bs1 ro1 al1 se1 dr1 mn1 ++ bd_MW d2 dz hm qz qt n bo be1 kn1) := hD
        refine lv_icmp_eq (tgt := 206) hx hb dL_law_165 (by decide) (fun _ => ?_) (fun c_ => absurd (by rw [hr1, hr2, bd_INV_nu hinv]) c_)
        exact nxt _ _ _ _ _ _ _ _ _ _ _ _ _ _ (bd_INV_known hinv hb2) H locs ls hP hD hS (lv_sub hl [0, 1, 2, 3] rfl)
      · refine lv_tableIn (off := 138) (tgt := 170) hx hb dL_law_32 (by decide) (by decide) (by decide) (by decide) ?_
        refine lv_aload_n hx hb dL_law_170 rfl (lv_at hl 1 rfl) ?_
        refine bd_calli (wr := bd_MW d2 dz hm qz qt n bo be kn) (rest := []) ⟨hx, hb, hml, hown, hts⟩ (metX0_always l D d hd qp h qb qm qf qs qr n pa g mt fr bs ro al se dr mn hsym hn _) (cwV 0 hts (lw_V q121 q122 q123 q10 q124) rfl rfl rfl (by decide +kernel) ⟨Nat.le_of_ble_eq_true rfl, Nat.le_of_ble_eq_true rfl⟩) hK hP hD hS hA [0, 1, 2, 3, 4, 5, 6, 7] [8, 9, 10] [0] rfl rfl rfl rfl rfl rfl (by decide) (ci := 0) (q0 := 0) rfl rfl rfl hl.1 rfl (Nat.le_of_ble_eq_true rfl) dL_law_171 ⟨Nat.le_of_ble_eq_true rfl, Nat.le_of_ble_eq_true rfl⟩ (fun r_ u_ H locs hw_ hP hD hS => ?_)
        obtain ⟨pa1, mt1, ⟨fr1, bs1, ro1, se1, dr1, mn1⟩, al1⟩ := u_
        have hr1 := hw_
        clear hw_
        generalize r_ = r1 at hr1 ⊢
        have hP : va_P D bdCl (bd_MW d2 dz hm qz qt n bo be kn ++ bd_DW d hd qp h qb qm qf qs qr n pa1 g mt1 fr1 bs1 ro1 al1 se1 dr1 mn1) H := hP
        have hD : va_D (fun q : Nat => s.heap.size ≤ q) (bd_MW d2 dz hm qz qt n bo be kn ++ bd_DW d hd qp h qb qm qf qs qr n pa1 g mt1 fr1 bs1 ro1 al1 se1 dr1 mn1) := hD
        refine lv_aload_n hx hb dL_law_174 rfl (lv_at hl 2 rfl) ?_
        refine bd_calli (wr := bd_DW d hd qp h qb qm qf qs qr n pa1 g mt1 fr1 bs1 ro1 al1 se1 dr1 mn1) (rest := [.int r1]) ⟨hx, hb, hml, hown, hts⟩ (metX2_always l D d2 dz hm qz qt n bo be kn hn hkn _) (cwV 0 hts (lw_V q175 q176 q177 q12 q178) rfl rfl rfl (by decide +kernel) ⟨Nat.le_of_ble_eq_true rfl, Nat.le_of_ble_eq_true rfl⟩) hK hP hD hS hA [0, 1, 2] [3, 4, 5, 6, 7, 8, 9, 10] [1, 2] rfl rfl rfl rfl rfl rfl (by decide) (ci := 2) (q0 := 0) rfl rfl rfl hl.1 rfl (Nat.le_of_ble_eq_true rfl) dL_law_175 ⟨Nat.le_of_ble_eq_true rfl, Nat.le_of_ble_eq_true rfl⟩ (fun r_ u_ H locs hw_ hP hD hS => ?_)
        obtain ⟨be1, kn1⟩ := u_
        obtain ⟨hr2, hb2⟩ := hw_
        generalize r_ = r2 at hr2 ⊢
        have hP : va_P D bdCl (bd_DW d hd qp h qb qm qf qs qr n pa1 g mt1 fr1 bs1 ro1 al1 se1 dr1 mn1 ++ bd_MW d2 dz hm qz qt n bo be1 kn1) H := hP
        have hD : va_D (fun q : Nat => s.heap.size ≤ q) (bd_DW d hd qp h qb qm qf qs qr n pa1 g mt1 fr1 bs1 ro1 al1 se1 dr1 mn1 ++ bd_MW d2 dz hm qz qt n bo be1 kn1) := hD
        refine lv_icmp_eq (tgt := 206) hx hb dL_law_178 (by decide) (fun _ => ?_) (fun c_ => absurd (by rw [hr1, hr2, bd_INV_nu hinv]) c_)
        exact nxt _ _ _ _ _ _ _ _ _ _ _ _ _ _ (bd_INV_known hinv hb2) H locs ls hP hD hS (lv_sub hl [0, 1, 2, 3] rfl)
      · refine lv_tableIn (off := 151) (tgt := 183) hx hb dL_law_32 (by decide) (by decide) (by decide) (by decide) ?_
        refine lv_aload_n hx hb dL_law_183 rfl (lv_at hl 1 rfl) ?_
        refine lv_aload_n hx hb dL_law_184 rfl (lv_at hl 0 rfl) ?_
        refine lv_iload_n hx hb dL_law_185 rfl (lv_at hl 3 rfl) ?_
        refine lv_iconst (v := nI 1) hx hb dL_law_186 (by decide) ?_
        refine bd_iadd hx hb dL_law_187 ?_
        refine va_sld hx hb hX hbl hbA hS (vp_in_nI (show i + 1 < L by omega) (by omega)) dL_law_188 ?_
        refine bd_top (show xs (nI (i + 1)).toNatClampNeg = xs (i + 1) by rw [nI_clamp (by omega)]) ?_
        refine bd_calli (wr := bd_MW d2 dz hm qz qt n bo be kn) (rest := []) ⟨hx, hb, hml, hown, hts⟩ (metX0_partner l D d hd qp h qb qm qf qs qr n pa g mt fr bs ro al se dr mn hsym hn hn0 (xs (i + 1)) _) (cwV 1 hts (lw_V q126 q127 q128 q10 q129) rfl rfl rfl (by decide +kernel) ⟨Nat.le_of_ble_eq_true rfl, Nat.le_of_ble_eq_true rfl⟩) hK hP hD hS hA [0, 1, 2, 3, 4, 5, 6, 7] [8, 9, 10] [0] rfl rfl rfl rfl rfl rfl (by decide) (ci := 0) (q0 := 0) rfl rfl rfl hl.1 rfl (Nat.le_of_ble_eq_true rfl) dL_law_189 ⟨Nat.le_of_ble_eq_true rfl, Nat.le_of_ble_eq_true rfl⟩ (fun r_ u_ H locs hw_ hP hD hS => ?_)
        obtain ⟨pa1, mt1, ⟨fr1, bs1, ro1, se1, dr1, mn1⟩, al1⟩ := u_
        obtain ⟨pa2, hpa2, hr1⟩ := hw_
        generalize r_ = r1 at hr1 ⊢
        have hP : va_P D bdCl (bd_MW d2 dz hm qz qt n bo be kn ++ bd_DW d hd qp h qb qm qf qs qr n pa1 g mt1 fr1 bs1 ro1 al1 se1 dr1 mn1) H := hP
        have hD : va_D (fun q : Nat => s.heap.size ≤ q) (bd_MW d2 dz hm qz qt n bo be kn ++ bd_DW d hd qp h qb qm qf qs qr n pa1 g mt1 fr1 bs1 ro1 al1 se1 dr1 mn1) := hD
        refine lv_aload_n hx hb dL_law_192 rfl (lv_at hl 2 rfl) ?_
        refine lv_aload_n hx hb dL_law_193 rfl (lv_at hl 0 rfl) ?_
        refine lv_iload_n hx hb dL_law_194 rfl (lv_at hl 3 rfl) ?_
        refine lv_iconst (v := nI 1) hx hb dL_law_195 (by decide) ?_
        refine bd_iadd hx hb dL_law_196 ?_
        refine va_sld hx hb hX hbl hbA hS (vp_in_nI (show i + 1 < L by omega) (by omega)) dL_law_197 ?_
        refine bd_top (show xs (nI (i + 1)).toNatClampNeg = xs (i + 1) by rw [nI_clamp (by omega)]) ?_
        refine bd_calli (wr := bd_DW d hd qp h qb qm qf qs qr n pa1 g mt1 fr1 bs1 ro1 al1 se1 dr1 mn1) (rest := [.int r1]) ⟨hx, hb, hml, hown, hts⟩ (metX2_partner l D d2 dz hm qz qt n bo be kn hn hkn hn0 (xs (i + 1)) _) (cwV 1 hts (lw_V q179 q180 q181 q12 q182) rfl rfl rfl (by decide +kernel) ⟨Nat.le_of_ble_eq_true rfl, Nat.le_of_ble_eq_true rfl⟩) hK hP hD hS hA [0, 1, 2] [3, 4, 5, 6, 7, 8, 9, 10] [1, 2] rfl rfl rfl rfl rfl rfl (by decide) (ci := 2) (q0 := 0) rfl rfl rfl hl.1 rfl (Nat.le_of_ble_eq_true rfl) dL_law_198 ⟨Nat.le_of_ble_eq_true rfl, Nat.le_of_ble_eq_true rfl⟩ (fun r_ u_ H locs hw_ hP hD hS => ?_)
        obtain ⟨be1, kn1⟩ := u_
        obtain ⟨hr2, hb2⟩ := hw_
        generalize r_ = r2 at hr2 ⊢
        have hP : va_P D bdCl (bd_DW d hd qp h qb qm qf qs qr n pa1 g mt1 fr1 bs1 ro1 al1 se1 dr1 mn1 ++ bd_MW d2 dz hm qz qt n bo be1 kn1) H := hP
        have hD : va_D (fun q : Nat => s.heap.size ≤ q) (bd_DW d hd qp h qb qm qf qs qr n pa1 g mt1 fr1 bs1 ro1 al1 se1 dr1 mn1 ++ bd_MW d2 dz hm qz qt n bo be1 kn1) := hD
        refine lv_icmp_eq (tgt := 206) hx hb dL_law_201 (by decide) (fun _ => ?_) (fun c_ => absurd (by rw [hr1, hr2]; exact bd_INV_partner hinv hpa2 (Nat.mod_lt _ hn0)) c_)
        exact nxt _ _ _ _ _ _ _ _ _ _ _ _ _ _ (bd_INV_known hinv hb2) H locs ls hP hD hS (lv_sub hl [0, 1, 2, 3] rfl)
      · refine lv_tableOut (tgt := 206) hx hb dL_law_32 (Or.inr (by decide)) (by decide) ?_
        exact nxt _ _ _ _ _ _ _ _ _ _ _ _ _ _ hinv H locs ls hP hD hS (lv_sub hl [0, 1, 2, 3] rfl)
      · refine lv_tableOut (tgt := 206) hx hb dL_law_32 (Or.inr (by decide)) (by decide) ?_
        exact nxt _ _ _ _ _ _ _ _ _ _ _ _ _ _ hinv H locs ls hP hD hS (lv_sub hl [0, 1, 2, 3] rfl)
set_option maxHeartbeats 4000000 in
set_option maxRecDepth 100000 in
/-- THE LAW, from its entry -/
theorem whole_start {p : Program} {e : Env} {s : State} {m : MethodId} {below : List Frame} {meth : Method} {c : Code} (l : Launch) {b L : Nat} {xs : Nat → Int32} (hL : L ≤ 192) (C0 : lw_At p s m meth c b L xs) : W p l e room_1 s m #[Value.ref b] below meth c s.heap [] 0 0 (lw_Z below #[Value.ref b] s) (entryFrame m ([Value.ref b] : List Value).toArray 4) := by
  obtain ⟨hx, hb, hr, hml, hown, hts0, hX, hbl, hlocks, hgv⟩ := id C0
  have hts : ∀ w ∈ lw_all, w.before #[Value.ref b] s = true := fun w h => hts0 w (lw_all_tbl h)
  have hA : ∀ q : Nat, s.heap.size ≤ q → (fun q : Nat => s.heap.size ≤ q) q := fun _ h => h
  obtain ⟨c0, iS0, hKn0⟩ := u_known (C := RX0) (T := TX0) (N := 4) (n := 4) hts0 (fun w h => lw_all_tbl (in_X0 w h)) (hts _ q14)
  obtain ⟨c1, iS1, hKn1⟩ := u_known (C := RX1) (T := TX1) (N := 9) (n := 9) hts0 (fun w h => lw_all_tbl (in_X1 w h)) (hts _ q22)
  obtain ⟨c2, iS2, hKn2⟩ := u_known (C := RX2) (T := TX2) (N := 4) (n := 4) hts0 (fun w h => lw_all_tbl (in_X2 w h)) (hts _ q131)
  obtain ⟨D, hKc⟩ : ∃ D : va_G, ∀ (k : Nat) (q : vw_C), bdCl[k]? = some q → u_Kn s q.1 q.2.1 q.2.2 (D.1 k) (D.2 k) := by
    refine ⟨(fun k => if k = 0 then c0 else if k = 1 then c1 else c2, fun k => if k = 0 then iS0 else if k = 1 then iS1 else iS2), ?_⟩
    intro k q hq
    match k, hq with
    | 0, hq => cases hq; exact hKn0
    | 1, hq => cases hq; exact hKn1
    | 2, hq => cases hq; exact hKn2
    | k + 3, hq => simp [bdCl] at hq
  have hS : va_S (fun q : Nat => s.heap.size ≤ q) s.heap s.heap [] := va_S.rf
  have hK : va_K D bdCl [] s := ⟨hKc, fun k q h => by simp at h⟩
  have hP : va_P D bdCl [] s.heap := fun k q h => by simp at h
  have hD : va_D (fun q : Nat => s.heap.size ≤ q) [] := ⟨fun i j p q h => by simp at h, fun k q h => by simp at h⟩
  have hl := lv_entry ([.ref b]) (n := 4) (Nat.le_of_ble_eq_true rfl)
  rw [lg_entry_eq]
  generalize (lg_sl ([.ref b]) ++ List.replicate (4 - (lg_sl ([.ref b])).length) Slot.unset).toArray = ls at hl ⊢
  have hl : lv_has ls 4 [(0, .ref b)] := hl
  refine va_new (ci := 0) (fs := [.null, .null, .null, .int 0]) (C := RX0) (T := TX0) (N := 4) hx hb hts in_X0 tyX0 tyX0_ok hown (hts _ q13) (hts _ q14) (hts _ q10) hK hP hD hS hA rfl (fun j hj => by rcases (show j = 0 ∨ j = 1 ∨ j = 2 ∨ j = 3 by omega) with rfl | rfl | rfl | rfl <;> rfl) (Nat.le_of_ble_eq_true rfl) (Nat.le_of_ble_eq_true rfl) dL_law_0 (fun hd H hP hD hS => ?_)
  have hP : va_P D bdCl [(hd, .inr (0, [.null, .null, .null, .int 0]))] H := hP
  have hD : va_D (fun q : Nat => s.heap.size ≤ q) [(hd, .inr (0, [.null, .null, .null, .int 0]))] := hD
  refine lv_dup hx hb dL_law_3 rfl ?_
  have hPc := hP
  have hDc := hD
  have hKc := hK
  have hFc := va_free (wc := [(hd, .inr (0, [.null, .null, .null, .int 0]))]) hD hS hA [0] rfl
  refine va_callv (va_runI (As := []) (rest := [.ref hd]) ⟨hx, hb, hml, hown, hts⟩ (metX0_init l D hd H.size) (cwI 0 hts (lw_meth q17) rfl rfl rfl (hts _ q10) (hts _ q15) (hts _ q16) rfl (by decide +kernel) ⟨Nat.le_of_ble_eq_true rfl, Nat.le_of_ble_eq_true rfl⟩) ⟨fun a U g mk q => by obtain ⟨q0, q1, qP, qK, qD⟩ := q; exact ⟨q0, q1, qP, va_K.moved (u := U) (U := U.calling g mk a) (Vm.Alike.refl U.vm) qK, qD⟩, fun U hU hW => ⟨rfl, by rw [hU], by rw [hU]; exact hPc, va_K.moved hW.alike hKc, hDc.weaken (fun _ _ _ _ => trivial)⟩⟩ rfl rfl hl.1 rfl (lv_room (Nat.le_of_ble_eq_true rfl)) dL_law_4 ⟨Nat.le_of_ble_eq_true rfl, Nat.le_of_ble_eq_true rfl⟩) hS (fun q _ h => hFc q h) hFc (fun u t H1 locs ht hvm hw1 hB hz1 hk1 hS => ?_)
  obtain ⟨d, qp, h, qb, qm, qf, qs, qr⟩ := u
  obtain ⟨hP1, hK1, hD1⟩ := hB
  rw [ht] at hP1
  have hK1 : va_K D bdCl [(d, .int)] s := va_K.moved hvm.symm hK1
  obtain ⟨hP, hD⟩ := va_join (wr := []) (w1 := bd_DW d hd qp h qb qm qf qs qr 2 (fun _ => 0) (fun _ => 0) (fun _ => 0) (fun _ => 0) (fun _ => 0) (fun _ => 0) 0 0 0 0) hP hD [0] [] rfl rfl (by decide) (by decide) hk1 hFc hP1 hD1
  generalize H1 = H at hP hS ⊢
  have hP : va_P D bdCl (bd_DW d hd qp h qb qm qf qs qr 2 (fun _ => 0) (fun _ => 0) (fun _ => 0) (fun _ => 0) (fun _ => 0) (fun _ => 0) 0 0 0 0) H := hP
  have hD : va_D (fun q : Nat => s.heap.size ≤ q) (bd_DW d hd qp h qb qm qf qs qr 2 (fun _ => 0) (fun _ => 0) (fun _ => 0) (fun _ => 0) (fun _ => 0) (fun _ => 0) 0 0 0 0) := hD
  refine lv_astore_n (lv' := [(1, .ref hd), (0, .ref b)]) hx hb dL_law_7 rfl hl (by decide) rfl (fun ls hl => ?_)
  refine va_new (ci := 2) (fs := [.null, .int 0, .null, .int 0]) (C := RX2) (T := TX2) (N := 4) hx hb hts in_X2 tyX2 tyX2_ok hown (hts _ q130) (hts _ q131) (hts _ q12) hK1 hP hD hS hA rfl (fun j hj => by rcases (show j = 0 ∨ j = 1 ∨ j = 2 ∨ j = 3 by omega) with rfl | rfl | rfl | rfl <;> rfl) (Nat.le_of_ble_eq_true rfl) (Nat.le_of_ble_eq_true rfl) dL_law_8 (fun hm H hP hD hS => ?_)
  have hP : va_P D bdCl (bd_DW d hd qp h qb qm qf qs qr 2 (fun _ => 0) (fun _ => 0) (fun _ => 0) (fun _ => 0) (fun _ => 0) (fun _ => 0) 0 0 0 0 ++ [(hm, .inr (2, [.null, .int 0, .null, .int 0]))]) H := hP
  have hD : va_D (fun q : Nat => s.heap.size ≤ q) (bd_DW d hd qp h qb qm qf qs qr 2 (fun _ => 0) (fun _ => 0) (fun _ => 0) (fun _ => 0) (fun _ => 0) (fun _ => 0) 0 0 0 0 ++ [(hm, .inr (2, [.null, .int 0, .null, .int 0]))]) := hD
  refine lv_dup hx hb dL_law_11 rfl ?_
  have hPc := hP.sub (ws' := [(hm, .inr (2, [.null, .int 0, .null, .int 0]))]) [8] rfl
  have hDc := hD.sub (ws' := [(hm, .inr (2, [.null, .int 0, .null, .int 0]))]) [8] (by decide) rfl
  have hFc := va_free (wc := [(hm, .inr (2, [.null, .int 0, .null, .int 0]))]) hD hS hA [8] rfl
  refine va_callv (va_runI (As := []) (rest := [.ref hm]) ⟨hx, hb, hml, hown, hts⟩ (metX2_init l D hm H.size) (cwI 0 hts (lw_meth q134) rfl rfl rfl (hts _ q12) (hts _ q132) (hts _ q133) rfl (by decide +kernel) ⟨Nat.le_of_ble_eq_true rfl, Nat.le_of_ble_eq_true rfl⟩) ⟨fun a U g mk q => by obtain ⟨q0, q1, qP, qK, qD⟩ := q; exact ⟨q0, q1, qP, va_K.moved (u := U) (U := U.calling g mk a) (Vm.Alike.refl U.vm) qK, qD⟩, fun U hU hW => ⟨rfl, by rw [hU], by rw [hU]; exact hPc, va_K.moved hW.alike hKc, hDc.weaken (fun _ _ _ _ => trivial)⟩⟩ rfl rfl hl.1 rfl (lv_room (Nat.le_of_ble_eq_true rfl)) dL_law_12 ⟨Nat.le_of_ble_eq_true rfl, Nat.le_of_ble_eq_true rfl⟩) hS (fun q _ h => hFc q h) hFc (fun u t H1 locs ht hvm hw1 hB hz1 hk1 hS => ?_)
  obtain ⟨d2, dz, qz, qt⟩ := u
  obtain ⟨hP1, hK2, hD1⟩ := hB
  rw [ht] at hP1
  have hK2 : va_K D bdCl [(d2, .int), (dz, .boolean)] s := va_K.moved hvm.symm hK2
  obtain ⟨hP, hD⟩ := va_join (wr := bd_DW d hd qp h qb qm qf qs qr 2 (fun _ => 0) (fun _ => 0) (fun _ => 0) (fun _ => 0) (fun _ => 0) (fun _ => 0) 0 0 0 0) (w1 := bd_MW d2 dz hm qz qt 2 (fun _ => false) (fun _ => 0) 0) hP hD [8] [0, 1, 2, 3, 4, 5, 6, 7] rfl rfl (by decide) (by decide) hk1 hFc hP1 hD1
  generalize H1 = H at hP hS ⊢
  have hK : va_K D bdCl [(d, .int), (d2, .int), (dz, .boolean)] s := hK1.app hK2
  refine lv_astore_n (lv' := [(2, .ref hm), (1, .ref hd), (0, .ref b)]) hx hb dL_law_15 rfl hl (by decide) rfl (fun ls hl => ?_)
  refine lv_iconst (v := nI 0) hx hb dL_law_16 (by decide) ?_
  refine lv_istore_n (lv' := [(3, .int (nI 0)), (2, .ref hm), (1, .ref hd), (0, .ref b)]) hx hb dL_law_17 rfl hl (by decide) rfl (fun ls hl => ?_)
  refine W.widen (k := 11) (n := 1201) (Nat.le_of_ble_eq_true rfl) (Nat.le_of_ble_eq_true rfl) ?_
  exact bd_law_lp hL C0 hK (L + 3) 0 2 _ _ _ _ _ _ _ _ _ _ _ _ _ (by omega) (by omega) (bd_INV_0 _) H locs ls hP hD hS (lv_sub hl [3, 2, 1, 0] rfl)
set_option maxHeartbeats 4000000 in
theorem lw_walk (l : Launch) (b : Addr) (xs : List Int32) : MetFree l x (headSpec (Jvm.Cond.code x code maxLocals ret :: tables_1) room_1) (lw_P b xs) (fun _ _ _ _ _ => True) lw_Q := by
  refine MetFree.of_bodyS (code := code) (maxLocals := maxLocals) (ret := ret) (by decide) ?_ ?_
  · intro args s m h hn
    obtain ⟨meth, c, h1, h2, h3, h4, h5, h6, -, -⟩ := Cond.code_spec hn (atoms_spec (ws := Jvm.Cond.code x code maxLocals ret :: tables_1) h _ List.mem_cons_self)
    exact ⟨meth, c, h1, h2, h3, h4, h5, h6⟩
  · intro p e s m args below meth c s₁ B hml0 hP _
    obtain ⟨rfl, hx, hbd, hgv⟩ := hP
    obtain ⟨scr, harrAt, hlist, hof, hsmall⟩ := hx
    obtain ⟨hcb, hkn, -, -⟩ := State.arrayAt?_spec harrAt
    have hown : s.vm.findClass R_law = some m.cls := findClass_of_methodNamed B.named
    have hts0 : ∀ c ∈ (Jvm.Cond.code x code maxLocals ret :: tables_1), c.before #[Value.ref b] s = true := atoms_spec (ws := Jvm.Cond.code x code maxLocals ret :: tables_1) B.pre
    have hts : ∀ w ∈ lw_tbl, w.before #[Value.ref b] s = true := k2_hts_sels lw_privs (fun w hw => hts0 w (List.mem_cons_of_mem _ hw)) lw_privs_ok
    have hml : c.maxLocals = 4 := B.maxLocals_eq (hts0 _ List.mem_cons_self)
    have X₀ : Stand p l e room_1 s m #[Value.ref b] below meth c s₁ [] 0 0 := Stand.of_body B
    have hh0 : s₁.heap = s.heap := by rw [B.state]; rfl
    have hsz : scr.slots.size = xs.length := by rw [← Array.length_toList, hlist, List.length_map]
    have hval : ∀ j : Nat, j < xs.length → scr.slots[j]? = some (.int (xs.getD j 0)) := fun j hj => by
      rw [← Array.getElem?_toList, hlist]
      simp [hj]
    have hbl : b < s.heap.size := (Array.getElem?_eq_some_iff.mp hcb).1
    have hX : va_X b xs.length (fun j => xs.getD j 0) s s.heap := ⟨scr, hcb, hof, hkn, hsz, hval⟩
    have K : W p l e room_1 s m #[Value.ref b] below meth c s₁.heap [] 0 0 (lw_Z below #[Value.ref b] s) (entryFrame m ([Value.ref b] : List Value).toArray 4) := by
      rw [hh0]
      exact whole_start l hbd ⟨B.exec, B.bytes, B.returns, hml, hown, hts, hX, hbl, B.notSynchronized, hgv⟩
    obtain ⟨t, a1, o, b1, b2, b3⟩ := K s₁ rfl X₀
    exact ⟨t, o, a1, b1, b2, b3⟩
theorem lw_pre_spec {args : Array Value} {s : State} (h : (Jvm.Cond.and given_1 narrow_1).before args s = true) (hr : rest_1_c.before args s = true) : ∃ (b : Addr) (xs : List Int32), lw_P b xs args s := by
  have hs := flat_of_before _ h
  have hq := flat_of_before _ hr
  have hc : (Cond.count 1).before args s = true := hs _ (by decide +kernel)
  have harr : (Cond.arrayOf (.arg 0) .int).before args s = true := hs _ (by decide +kernel)
  have hle : (Cond.le (.length (.arg 0)) (.int 192)).before args s = true := hs _ (by decide +kernel)
  have hlen : (Cond.isInt (.length (.arg 0))).before args s = true := hq _ (by decide +kernel)
  have hall : (Cond.all (.arg 0) (.isInt (.elem (.arg 0) (.index 0)))).before args s = true := hq _ (by decide +kernel)
  obtain ⟨b, xs, hb, hx⟩ := State.ints_of_pre rfl harr hlen hall
  have hsm : xs.length < 2 ^ 31 := hx.choose_spec.2.2.2
  have hev : (Term.length (.arg 0)).eval args s none [] s = some (.int xs.length.toInt32) := hx.length_eval hb
  have hv := Cond.le_ints hev (show (Term.int 192).eval args s none [] s = some (.int 192) from rfl)
  have hd : xs.length.toInt32 ≤ 192 := by
    simpa [Cond.before, Cond.holds, hv] using hle
  have hN : xs.length ≤ 192 := (Int32.ofNat_le_ofNat hsm (by decide)).mp (show Int32.ofNat xs.length ≤ Int32.ofNat 192 from hd)
  exact ⟨b, xs, Cond.one_arg hc (show args[0]? = some (.ref b) from hb), hx, hN, h⟩
theorem lw_comes (l : Launch) : Comes l x (Jvm.Cond.code x code maxLocals ret :: tables_1) room_1 (fun tb e args s => Calls_1 tb e args s ∧ rest_1 tb e args s ∧ Pre_1 tb e args s)
    (fun _ _ args s o t => lw_Q args s o t) := by
  intro p e ha hc hk s m args below hf hfit hheap happ hpre
  obtain ⟨b, xs, hP⟩ := lw_pre_spec hpre.2.2 hpre.2.1
  obtain ⟨k, o, h1, h2, h3, hQ⟩ := lw_walk l b xs p e ha hc hk s m args below hf ((Spec.applies_iff_loose hf).mp happ).1 hP trivial
  exact ⟨k, o, h1, h2, h3, hQ⟩
theorem lw_frame {s t : State} {o : Outcome} {args : Array Value} (h : Framed s o t [] 600000 7290000) :
    Framed s o t (fieldLocs frame_1_writes args s ++ arrayLocs frame_1_arrays args s ++ staticLocs frame_1_statics s) 600000 7290000 := h
theorem lw_limb (L : Cond) (hL : ∀ (args : Array Value) (s t : State), L.after args s (.returned (some (.int 1))) t = true) :
    ArmFor flags0 classFile x code maxLocals ret World_1 tables_1 room_1 Calls_1 rest_1 Pre_1
      (fun tb e a s o t => postC L tb e a s o t ∧ Framed s o t (fieldLocs frame_1_writes a s ++ arrayLocs frame_1_arrays a s ++ staticLocs frame_1_statics s) 600000 7290000) := by
  intro l _ _ _ p e ha hc hk s m args below hf hfit hheap happ hpre
  obtain ⟨k, o, h1, h2, h3, rfl, hF⟩ := lw_comes l p e ha hc hk s m args below hf hfit hheap happ hpre
  exact ⟨k, _, h1, h2, h3, hL args s _, lw_frame hF⟩
theorem i_vc : Claimed_1_1 ∧ Claimed_1_2 := ⟨lw_limb limb_1_1 (fun args s t => by simp [limb_1_1, Cond.after, Cond.holds, Cond.value]), lw_limb limb_1_2 (fun args s t => Cond.after_iff.mpr (by
  first | (rw [show limb_1_2 = Cond.eq .result (.int 1) from rfl, Cond.eq_ints (x := 1) (y := 1) rfl rfl]; simp; done) | (simp [limb_1_2, Cond.value, Term.eval]; done)))⟩
end
