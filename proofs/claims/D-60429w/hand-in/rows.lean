section
-- ===== PART A: goes FIRST, ahead of the names: the tables' words, and 'selects' of the private methods out of them =====
/-- a private method of a class that the tables say can be made, by its rows of tables_1 -/
def lw_okq (q : MethodName × Nat) : Prop := (q.1.cls ≠ "java/lang/invoke/MethodHandle" ∧ q.1.cls ≠ "java/lang/invoke/VarHandle") ∧ Cond.instantiable q.1.cls q.2 ∈ tables_1 ∧ Cond.privateMethod q.1 ∈ tables_1 ∧ Cond.instanceMethod q.1 ∈ tables_1
set_option maxRecDepth 100000
theorem lw_p0 : lw_okq (⟨"KineticLattice", "refreshAll", "()V"⟩, 7) := ⟨⟨by decide +kernel, by decide +kernel⟩, List.mem_of_getElem? (i := 4) rfl, List.mem_of_getElem? (i := 12) rfl, List.mem_of_getElem? (i := 13) rfl⟩
theorem lw_p1 : lw_okq (⟨"KineticLattice", "refresh", "(I)V"⟩, 7) := ⟨⟨by decide +kernel, by decide +kernel⟩, List.mem_of_getElem? (i := 4) rfl, List.mem_of_getElem? (i := 16) rfl, List.mem_of_getElem? (i := 17) rfl⟩
theorem lw_p2 : lw_okq (⟨"KineticLattice", "worth", "(I)I"⟩, 7) := ⟨⟨by decide +kernel, by decide +kernel⟩, List.mem_of_getElem? (i := 4) rfl, List.mem_of_getElem? (i := 20) rfl, List.mem_of_getElem? (i := 21) rfl⟩
theorem lw_p3 : lw_okq (⟨"KineticLattice", "occupiedAround", "(I)I"⟩, 7) := ⟨⟨by decide +kernel, by decide +kernel⟩, List.mem_of_getElem? (i := 4) rfl, List.mem_of_getElem? (i := 24) rfl, List.mem_of_getElem? (i := 25) rfl⟩
theorem lw_p4 : lw_okq (⟨"KineticLattice", "emptyAround", "(I)I"⟩, 7) := ⟨⟨by decide +kernel, by decide +kernel⟩, List.mem_of_getElem? (i := 4) rfl, List.mem_of_getElem? (i := 28) rfl, List.mem_of_getElem? (i := 29) rfl⟩
theorem lw_p5 : lw_okq (⟨"KineticLattice", "addTo", "(II)V"⟩, 7) := ⟨⟨by decide +kernel, by decide +kernel⟩, List.mem_of_getElem? (i := 4) rfl, List.mem_of_getElem? (i := 32) rfl, List.mem_of_getElem? (i := 33) rfl⟩
theorem lw_p6 : lw_okq (⟨"KineticLattice", "become", "(II)V"⟩, 7) := ⟨⟨by decide +kernel, by decide +kernel⟩, List.mem_of_getElem? (i := 4) rfl, List.mem_of_getElem? (i := 67) rfl, List.mem_of_getElem? (i := 68) rfl⟩
theorem lw_p7 : lw_okq (⟨"KineticLattice", "refreshAround", "(I)V"⟩, 7) := ⟨⟨by decide +kernel, by decide +kernel⟩, List.mem_of_getElem? (i := 4) rfl, List.mem_of_getElem? (i := 71) rfl, List.mem_of_getElem? (i := 72) rfl⟩
theorem lw_p8 : lw_okq (⟨"KineticLattice", "prefix", "(I)I"⟩, 7) := ⟨⟨by decide +kernel, by decide +kernel⟩, List.mem_of_getElem? (i := 4) rfl, List.mem_of_getElem? (i := 79) rfl, List.mem_of_getElem? (i := 80) rfl⟩
theorem lw_p9 : lw_okq (⟨"KineticLattice", "siteOf", "(I)I"⟩, 7) := ⟨⟨by decide +kernel, by decide +kernel⟩, List.mem_of_getElem? (i := 4) rfl, List.mem_of_getElem? (i := 83) rfl, List.mem_of_getElem? (i := 84) rfl⟩
theorem lw_p10 : lw_okq (⟨"KineticLattice", "hopOf", "(II)I"⟩, 7) := ⟨⟨by decide +kernel, by decide +kernel⟩, List.mem_of_getElem? (i := 4) rfl, List.mem_of_getElem? (i := 87) rfl, List.mem_of_getElem? (i := 88) rfl⟩
theorem lw_p11 : lw_okq (⟨"KineticLatticeModel", "eventRate", "(II)I"⟩, 3) := ⟨⟨by decide +kernel, by decide +kernel⟩, List.mem_of_getElem? (i := 130) rfl, List.mem_of_getElem? (i := 170) rfl, List.mem_of_getElem? (i := 171) rfl⟩
theorem lw_p12 : lw_okq (⟨"KineticLatticeModel", "occupiedBeside", "(I)I"⟩, 3) := ⟨⟨by decide +kernel, by decide +kernel⟩, List.mem_of_getElem? (i := 130) rfl, List.mem_of_getElem? (i := 174) rfl, List.mem_of_getElem? (i := 175) rfl⟩
theorem lw_p13 : lw_okq (⟨"KineticLatticeModel", "neighbour", "(II)I"⟩, 3) := ⟨⟨by decide +kernel, by decide +kernel⟩, List.mem_of_getElem? (i := 130) rfl, List.mem_of_getElem? (i := 178) rfl, List.mem_of_getElem? (i := 179) rfl⟩
theorem lw_p14 : lw_okq (⟨"KineticLatticeModel", "happen", "(II)I"⟩, 3) := ⟨⟨by decide +kernel, by decide +kernel⟩, List.mem_of_getElem? (i := 130) rfl, List.mem_of_getElem? (i := 182) rfl, List.mem_of_getElem? (i := 183) rfl⟩
def lw_privs_1 : List (MethodName × Nat) := [(⟨"KineticLattice", "refreshAll", "()V"⟩, 7), (⟨"KineticLattice", "refresh", "(I)V"⟩, 7), (⟨"KineticLattice", "worth", "(I)I"⟩, 7), (⟨"KineticLattice", "occupiedAround", "(I)I"⟩, 7), (⟨"KineticLattice", "emptyAround", "(I)I"⟩, 7), (⟨"KineticLattice", "addTo", "(II)V"⟩, 7), (⟨"KineticLattice", "become", "(II)V"⟩, 7), (⟨"KineticLattice", "refreshAround", "(I)V"⟩, 7), (⟨"KineticLattice", "prefix", "(I)I"⟩, 7), (⟨"KineticLattice", "siteOf", "(I)I"⟩, 7), (⟨"KineticLattice", "hopOf", "(II)I"⟩, 7), (⟨"KineticLatticeModel", "eventRate", "(II)I"⟩, 3), (⟨"KineticLatticeModel", "occupiedBeside", "(I)I"⟩, 3), (⟨"KineticLatticeModel", "neighbour", "(II)I"⟩, 3), (⟨"KineticLatticeModel", "happen", "(II)I"⟩, 3)]
theorem lw_r1 : ∀ q ∈ lw_privs_1, lw_okq q := List.forall_mem_cons.mpr ⟨lw_p0, List.forall_mem_cons.mpr ⟨lw_p1, List.forall_mem_cons.mpr ⟨lw_p2, List.forall_mem_cons.mpr ⟨lw_p3, List.forall_mem_cons.mpr ⟨lw_p4, List.forall_mem_cons.mpr ⟨lw_p5, List.forall_mem_cons.mpr ⟨lw_p6, List.forall_mem_cons.mpr ⟨lw_p7, List.forall_mem_cons.mpr ⟨lw_p8, List.forall_mem_cons.mpr ⟨lw_p9, List.forall_mem_cons.mpr ⟨lw_p10, List.forall_mem_cons.mpr ⟨lw_p11, List.forall_mem_cons.mpr ⟨lw_p12, List.forall_mem_cons.mpr ⟨lw_p13, List.forall_mem_cons.mpr ⟨lw_p14, fun _ h => absurd h List.not_mem_nil⟩⟩⟩⟩⟩⟩⟩⟩⟩⟩⟩⟩⟩⟩⟩
def lw_privs : List (MethodName × Nat) := lw_privs_1
def lw_tbl : List Cond := k2_sels lw_privs ++ tables_1
theorem lw_privs_ok : ∀ q ∈ lw_privs, lw_okq q := lw_r1
-- ===== ONE list of words for every method: the tables' words that hold all through a run =====
def lw_all : List Cond := lw_tbl.filter goodWord
/-- a word of the tables by its place: claim/WORDS.tsv -/
theorem lw_w {w : Cond} (i : Nat) (h : lw_tbl[i]? = some w) (g : goodWord w = true) : w ∈ lw_all := List.mem_filter.mpr ⟨List.mem_of_getElem? h, g⟩
theorem lw_all_tbl {w : Cond} (h : w ∈ lw_all) : w ∈ lw_tbl := (List.mem_filter.mp h).1
theorem lw_self : GoodIn lw_all lw_all := fun w h => ⟨h, good_of_word (List.mem_filter.mp h).2⟩
/-- a class's field words, by their places -/
theorem lw_in (ws : List Cond) (ps : List Nat) (hp : ws = ps.filterMap (fun i => lw_tbl[i]?)) (hg : ws.all goodWord = true) : ∀ w ∈ ws, w ∈ lw_all := by
  intro w h
  have h1 := List.all_eq_true.mp hg w h
  rw [hp] at h
  obtain ⟨i, -, hi⟩ := List.mem_filterMap.mp h
  exact lw_w i hi h1
/-- the words of a contract for the method y with code b, L locals, answer r -/
abbrev ws_ (y : MethodName) (b : ByteArray) (L : Nat) (r : Option FieldType) : List Cond := Cond.code y b L r :: lw_all
theorem lw_meth {y : MethodName} {b : ByteArray} {L : Nat} {r : Option FieldType} (h : Cond.code y b L r ∈ lw_all) : GoodIn lw_all (ws_ y b L r) := by
  intro w hw
  rcases List.mem_cons.mp hw with e | e
  · rw [e]
    exact lw_self _ h
  · exact lw_self _ e
theorem lw_app {a c : List Cond} (ha : ∀ w ∈ a, w ∈ lw_all) (hc : GoodIn lw_all c) : GoodIn lw_all (a ++ c) := by
  intro w hw
  rcases List.mem_append.mp hw with e | e
  · exact lw_self w (ha w e)
  · exact hc w e
/-- what a call through an object asks: cwV n hts (lw_V ..) -/
theorem lw_V {own : String} {idx : Nat} {C : String} {y : MethodName} {b : ByteArray} {L : Nat} {r : Option FieldType} (h1 : Cond.methodLink own idx y ∈ lw_all) (h2 : Cond.instanceMethod y ∈ lw_all) (h3 : Cond.selects C y y ∈ lw_all) (h4 : Cond.initialized C ∈ lw_all) (h5 : Cond.code y b L r ∈ lw_all) : GoodIn lw_all (wsV own idx C y (ws_ y b L r)) := by
  refine lw_app ?_ (lw_meth h5)
  intro w hw
  simp only [List.mem_cons, List.not_mem_nil, or_false] at hw
  rcases hw with e | e | e | e
  · rw [e]; exact h1
  · rw [e]; exact h2
  · rw [e]; exact h3
  · rw [e]; exact h4
/-- what a static call asks: va_cwS n hts (lw_S ..) -/
theorem lw_S {own : String} {idx : Nat} {y : MethodName} {b : ByteArray} {L : Nat} {r : Option FieldType} (h1 : Cond.methodLink own idx y ∈ lw_all) (h2 : Cond.static y ∈ lw_all) (h3 : Cond.initialized y.cls ∈ lw_all) (h4 : Cond.code y b L r ∈ lw_all) : GoodIn lw_all (va_wsS own idx y (ws_ y b L r)) := by
  refine lw_app ?_ (lw_meth h4)
  intro w hw
  simp only [List.mem_cons, List.not_mem_nil, or_false] at hw
  rcases hw with e | e | e
  · rw [e]; exact h1
  · rw [e]; exact h2
  · rw [e]; exact h3
/-- the words of a contract for a method WITH HANDLERS (hh: its table) -/
abbrev wsW_ (y : MethodName) (b : ByteArray) (L : Nat) (r : Option FieldType) (hh : List (Nat × Nat × Nat × Nat)) : List Cond := Cond.codeWith y b L r hh :: lw_all
theorem lw_methW {y : MethodName} {b : ByteArray} {L : Nat} {r : Option FieldType} {hh : List (Nat × Nat × Nat × Nat)} (h : Cond.codeWith y b L r hh ∈ lw_all) : GoodIn lw_all (wsW_ y b L r hh) := by
  intro w hw
  rcases List.mem_cons.mp hw with e | e
  · rw [e]
    exact lw_self _ h
  · exact lw_self _ e
/-- any list of words by their places (lw_in), good -/
theorem lw_good {ws : List Cond} (h : ∀ w ∈ ws, w ∈ lw_all) : GoodIn lw_all ws := fun w hw => lw_self w (h w hw)
/-- what a call of a method with handlers asks: vx_cwVW n hts (lw_VW ..), vx_cwSW n hts (lw_SW ..) -/
theorem lw_VW {own : String} {idx : Nat} {C : String} {y : MethodName} {b : ByteArray} {L : Nat} {r : Option FieldType} {hh : List (Nat × Nat × Nat × Nat)} (h1 : Cond.methodLink own idx y ∈ lw_all) (h2 : Cond.instanceMethod y ∈ lw_all) (h3 : Cond.selects C y y ∈ lw_all) (h4 : Cond.initialized C ∈ lw_all) (h5 : Cond.codeWith y b L r hh ∈ lw_all) : GoodIn lw_all (wsV own idx C y (wsW_ y b L r hh)) := by
  refine lw_app ?_ (lw_methW h5)
  intro w hw
  simp only [List.mem_cons, List.not_mem_nil, or_false] at hw
  rcases hw with e | e | e | e
  · rw [e]; exact h1
  · rw [e]; exact h2
  · rw [e]; exact h3
  · rw [e]; exact h4
theorem lw_SW {own : String} {idx : Nat} {y : MethodName} {b : ByteArray} {L : Nat} {r : Option FieldType} {hh : List (Nat × Nat × Nat × Nat)} (h1 : Cond.methodLink own idx y ∈ lw_all) (h2 : Cond.static y ∈ lw_all) (h3 : Cond.initialized y.cls ∈ lw_all) (h4 : Cond.codeWith y b L r hh ∈ lw_all) : GoodIn lw_all (va_wsS own idx y (wsW_ y b L r hh)) := by
  refine lw_app ?_ (lw_methW h4)
  intro w hw
  simp only [List.mem_cons, List.not_mem_nil, or_false] at hw
  rcases hw with e | e | e
  · rw [e]; exact h1
  · rw [e]; exact h2
  · rw [e]; exact h3
/-- a word by its place in its run of the tables -/
theorem lw_at {r : List Cond} (hr : ∀ w ∈ r, w ∈ lw_tbl) {w : Cond} (i : Nat) (h : r[i]? = some w) : w ∈ lw_tbl := hr w (List.mem_of_getElem? h)
theorem lw_g {w : Cond} (h : w ∈ lw_tbl) (g : goodWord w = true) : w ∈ lw_all := List.mem_filter.mpr ⟨h, g⟩
theorem lw_ms : ∀ w ∈ k2_sels lw_privs, w ∈ lw_tbl := fun w h => show w ∈ k2_sels lw_privs ++ tables_1 from List.mem_append_left _ h
theorem lw_m0 : ∀ w ∈ tables_1, w ∈ lw_tbl := fun w h => show w ∈ k2_sels lw_privs ++ tables_1 from List.mem_append_right (k2_sels lw_privs) h
theorem qs0 : (Cond.selects "KineticLattice" ⟨"KineticLattice", "refreshAll", "()V"⟩ ⟨"KineticLattice", "refreshAll", "()V"⟩) ∈ lw_all := lw_g (lw_at lw_ms 0 rfl) rfl
theorem qs1 : (Cond.selects "KineticLattice" ⟨"KineticLattice", "refresh", "(I)V"⟩ ⟨"KineticLattice", "refresh", "(I)V"⟩) ∈ lw_all := lw_g (lw_at lw_ms 1 rfl) rfl
theorem qs2 : (Cond.selects "KineticLattice" ⟨"KineticLattice", "worth", "(I)I"⟩ ⟨"KineticLattice", "worth", "(I)I"⟩) ∈ lw_all := lw_g (lw_at lw_ms 2 rfl) rfl
theorem qs3 : (Cond.selects "KineticLattice" ⟨"KineticLattice", "occupiedAround", "(I)I"⟩ ⟨"KineticLattice", "occupiedAround", "(I)I"⟩) ∈ lw_all := lw_g (lw_at lw_ms 3 rfl) rfl
theorem qs4 : (Cond.selects "KineticLattice" ⟨"KineticLattice", "emptyAround", "(I)I"⟩ ⟨"KineticLattice", "emptyAround", "(I)I"⟩) ∈ lw_all := lw_g (lw_at lw_ms 4 rfl) rfl
theorem qs5 : (Cond.selects "KineticLattice" ⟨"KineticLattice", "addTo", "(II)V"⟩ ⟨"KineticLattice", "addTo", "(II)V"⟩) ∈ lw_all := lw_g (lw_at lw_ms 5 rfl) rfl
theorem qs6 : (Cond.selects "KineticLattice" ⟨"KineticLattice", "become", "(II)V"⟩ ⟨"KineticLattice", "become", "(II)V"⟩) ∈ lw_all := lw_g (lw_at lw_ms 6 rfl) rfl
theorem qs7 : (Cond.selects "KineticLattice" ⟨"KineticLattice", "refreshAround", "(I)V"⟩ ⟨"KineticLattice", "refreshAround", "(I)V"⟩) ∈ lw_all := lw_g (lw_at lw_ms 7 rfl) rfl
theorem qs8 : (Cond.selects "KineticLattice" ⟨"KineticLattice", "prefix", "(I)I"⟩ ⟨"KineticLattice", "prefix", "(I)I"⟩) ∈ lw_all := lw_g (lw_at lw_ms 8 rfl) rfl
theorem qs9 : (Cond.selects "KineticLattice" ⟨"KineticLattice", "siteOf", "(I)I"⟩ ⟨"KineticLattice", "siteOf", "(I)I"⟩) ∈ lw_all := lw_g (lw_at lw_ms 9 rfl) rfl
theorem qs10 : (Cond.selects "KineticLattice" ⟨"KineticLattice", "hopOf", "(II)I"⟩ ⟨"KineticLattice", "hopOf", "(II)I"⟩) ∈ lw_all := lw_g (lw_at lw_ms 10 rfl) rfl
theorem qs11 : (Cond.selects "KineticLatticeModel" ⟨"KineticLatticeModel", "eventRate", "(II)I"⟩ ⟨"KineticLatticeModel", "eventRate", "(II)I"⟩) ∈ lw_all := lw_g (lw_at lw_ms 11 rfl) rfl
theorem qs12 : (Cond.selects "KineticLatticeModel" ⟨"KineticLatticeModel", "occupiedBeside", "(I)I"⟩ ⟨"KineticLatticeModel", "occupiedBeside", "(I)I"⟩) ∈ lw_all := lw_g (lw_at lw_ms 12 rfl) rfl
theorem qs13 : (Cond.selects "KineticLatticeModel" ⟨"KineticLatticeModel", "neighbour", "(II)I"⟩ ⟨"KineticLatticeModel", "neighbour", "(II)I"⟩) ∈ lw_all := lw_g (lw_at lw_ms 13 rfl) rfl
theorem qs14 : (Cond.selects "KineticLatticeModel" ⟨"KineticLatticeModel", "happen", "(II)I"⟩ ⟨"KineticLatticeModel", "happen", "(II)I"⟩) ∈ lw_all := lw_g (lw_at lw_ms 14 rfl) rfl
end
section
/-! KineticLattice -/
set_option maxRecDepth 100000
def RX0 : String := "KineticLattice"
def TX0 : u_T := fun k => match k with
  | 0 => ("KineticLattice", "rates", "[I", true)
  | 1 => ("KineticLattice", "states", "[I", true)
  | 2 => ("KineticLattice", "next", "[I", true)
  | 3 => ("KineticLattice", "sum", "[I", true)
  | 4 => ("KineticLattice", "tree", "[I", true)
  | 5 => ("KineticLattice", "particles", "I", false)
  | _ => ("KineticLattice", "events", "[I", true)
def tyX0 : Nat → FieldType := fun k => match k with
  | 0 => .array .int
  | 1 => .array .int
  | 2 => .array .int
  | 3 => .array .int
  | 4 => .array .int
  | 5 => .int
  | _ => .array .int
abbrev wsX00 : List Cond := u_ws RX0 TX0 7
theorem nmX0 : ∀ a, a < 7 → ∀ b, b < 7 → a ≠ b → (TX0 a).2.1 ≠ (TX0 b).2.1 := by decide +kernel
theorem tyX0_ok : ∀ k, k < 7 → parseFieldDescriptor (TX0 k).2.2.1 = some (tyX0 k) := by decide +kernel
abbrev cX0_init : ByteArray := prog_1_method_1_code
def yX0_init : MethodName := ⟨RX0, "<init>", "()V"⟩
theorem dX0_init_0 : decode cX0_init 0 = .ok (.aload_n 0, 1) := by decide +kernel
theorem dX0_init_1 : decode cX0_init 1 = .ok (.invokespecial 1, 3) := by decide +kernel
theorem dX0_init_4 : decode cX0_init 4 = .ok (.aload_n 0, 1) := by decide +kernel
theorem dX0_init_5 : decode cX0_init 5 = .ok (.bipush 7, 2) := by decide +kernel
theorem dX0_init_7 : decode cX0_init 7 = .ok (.newarray .int, 2) := by decide +kernel
theorem dX0_init_9 : decode cX0_init 9 = .ok (.putfield 7, 3) := by decide +kernel
theorem dX0_init_12 : decode cX0_init 12 = .ok (.aload_n 0, 1) := by decide +kernel
theorem dX0_init_13 : decode cX0_init 13 = .ok (.bipush 48, 2) := by decide +kernel
theorem dX0_init_15 : decode cX0_init 15 = .ok (.newarray .int, 2) := by decide +kernel
theorem dX0_init_17 : decode cX0_init 17 = .ok (.putfield 13, 3) := by decide +kernel
theorem dX0_init_20 : decode cX0_init 20 = .ok (.aload_n 0, 1) := by decide +kernel
theorem dX0_init_21 : decode cX0_init 21 = .ok (.sipush 192, 3) := by decide +kernel
theorem dX0_init_24 : decode cX0_init 24 = .ok (.newarray .int, 2) := by decide +kernel
theorem dX0_init_26 : decode cX0_init 26 = .ok (.putfield 16, 3) := by decide +kernel
theorem dX0_init_29 : decode cX0_init 29 = .ok (.aload_n 0, 1) := by decide +kernel
theorem dX0_init_30 : decode cX0_init 30 = .ok (.bipush 48, 2) := by decide +kernel
theorem dX0_init_32 : decode cX0_init 32 = .ok (.newarray .int, 2) := by decide +kernel
theorem dX0_init_34 : decode cX0_init 34 = .ok (.putfield 19, 3) := by decide +kernel
theorem dX0_init_37 : decode cX0_init 37 = .ok (.aload_n 0, 1) := by decide +kernel
theorem dX0_init_38 : decode cX0_init 38 = .ok (.bipush 65, 2) := by decide +kernel
theorem dX0_init_40 : decode cX0_init 40 = .ok (.newarray .int, 2) := by decide +kernel
theorem dX0_init_42 : decode cX0_init 42 = .ok (.putfield 22, 3) := by decide +kernel
theorem dX0_init_45 : decode cX0_init 45 = .ok (.aload_n 0, 1) := by decide +kernel
theorem dX0_init_46 : decode cX0_init 46 = .ok (.iconst 3, 1) := by decide +kernel
theorem dX0_init_47 : decode cX0_init 47 = .ok (.newarray .int, 2) := by decide +kernel
theorem dX0_init_49 : decode cX0_init 49 = .ok (.putfield 25, 3) := by decide +kernel
theorem dX0_init_52 : decode cX0_init 52 = .ok (.iconst 0, 1) := by decide +kernel
theorem dX0_init_53 : decode cX0_init 53 = .ok (.istore_n 1, 1) := by decide +kernel
theorem dX0_init_54 : decode cX0_init 54 = .ok (.iload_n 1, 1) := by decide +kernel
theorem dX0_init_55 : decode cX0_init 55 = .ok (.bipush 7, 2) := by decide +kernel
theorem dX0_init_57 : decode cX0_init 57 = .ok (.if_icmp .ge 16, 3) := by decide +kernel
theorem dX0_init_60 : decode cX0_init 60 = .ok (.aload_n 0, 1) := by decide +kernel
theorem dX0_init_61 : decode cX0_init 61 = .ok (.getfield 7, 3) := by decide +kernel
theorem dX0_init_64 : decode cX0_init 64 = .ok (.iload_n 1, 1) := by decide +kernel
theorem dX0_init_65 : decode cX0_init 65 = .ok (.iconst 1, 1) := by decide +kernel
theorem dX0_init_66 : decode cX0_init 66 = .ok (.iastore, 1) := by decide +kernel
theorem dX0_init_67 : decode cX0_init 67 = .ok (.iinc 1 1, 3) := by decide +kernel
theorem dX0_init_70 : decode cX0_init 70 = .ok (.goto (-16), 3) := by decide +kernel
theorem dX0_init_73 : decode cX0_init 73 = .ok (.iconst 0, 1) := by decide +kernel
theorem dX0_init_74 : decode cX0_init 74 = .ok (.istore_n 1, 1) := by decide +kernel
theorem dX0_init_75 : decode cX0_init 75 = .ok (.iload_n 1, 1) := by decide +kernel
theorem dX0_init_76 : decode cX0_init 76 = .ok (.bipush 48, 2) := by decide +kernel
theorem dX0_init_78 : decode cX0_init 78 = .ok (.if_icmp .ge 102, 3) := by decide +kernel
theorem dX0_init_81 : decode cX0_init 81 = .ok (.iload_n 1, 1) := by decide +kernel
theorem dX0_init_82 : decode cX0_init 82 = .ok (.bipush 6, 2) := by decide +kernel
theorem dX0_init_84 : decode cX0_init 84 = .ok (.irem, 1) := by decide +kernel
theorem dX0_init_85 : decode cX0_init 85 = .ok (.istore_n 2, 1) := by decide +kernel
theorem dX0_init_86 : decode cX0_init 86 = .ok (.iload_n 1, 1) := by decide +kernel
theorem dX0_init_87 : decode cX0_init 87 = .ok (.bipush 6, 2) := by decide +kernel
theorem dX0_init_89 : decode cX0_init 89 = .ok (.idiv, 1) := by decide +kernel
theorem dX0_init_90 : decode cX0_init 90 = .ok (.istore_n 3, 1) := by decide +kernel
theorem dX0_init_91 : decode cX0_init 91 = .ok (.aload_n 0, 1) := by decide +kernel
theorem dX0_init_92 : decode cX0_init 92 = .ok (.getfield 16, 3) := by decide +kernel
theorem dX0_init_95 : decode cX0_init 95 = .ok (.iload_n 1, 1) := by decide +kernel
theorem dX0_init_96 : decode cX0_init 96 = .ok (.iconst 4, 1) := by decide +kernel
theorem dX0_init_97 : decode cX0_init 97 = .ok (.imul, 1) := by decide +kernel
theorem dX0_init_98 : decode cX0_init 98 = .ok (.iload_n 3, 1) := by decide +kernel
theorem dX0_init_99 : decode cX0_init 99 = .ok (.bipush 6, 2) := by decide +kernel
theorem dX0_init_101 : decode cX0_init 101 = .ok (.imul, 1) := by decide +kernel
theorem dX0_init_102 : decode cX0_init 102 = .ok (.iload_n 2, 1) := by decide +kernel
theorem dX0_init_103 : decode cX0_init 103 = .ok (.iconst 1, 1) := by decide +kernel
theorem dX0_init_104 : decode cX0_init 104 = .ok (.iadd, 1) := by decide +kernel
theorem dX0_init_105 : decode cX0_init 105 = .ok (.bipush 6, 2) := by decide +kernel
theorem dX0_init_107 : decode cX0_init 107 = .ok (.irem, 1) := by decide +kernel
theorem dX0_init_108 : decode cX0_init 108 = .ok (.iadd, 1) := by decide +kernel
theorem dX0_init_109 : decode cX0_init 109 = .ok (.iastore, 1) := by decide +kernel
theorem dX0_init_110 : decode cX0_init 110 = .ok (.aload_n 0, 1) := by decide +kernel
theorem dX0_init_111 : decode cX0_init 111 = .ok (.getfield 16, 3) := by decide +kernel
theorem dX0_init_114 : decode cX0_init 114 = .ok (.iload_n 1, 1) := by decide +kernel
theorem dX0_init_115 : decode cX0_init 115 = .ok (.iconst 4, 1) := by decide +kernel
theorem dX0_init_116 : decode cX0_init 116 = .ok (.imul, 1) := by decide +kernel
theorem dX0_init_117 : decode cX0_init 117 = .ok (.iconst 1, 1) := by decide +kernel
theorem dX0_init_118 : decode cX0_init 118 = .ok (.iadd, 1) := by decide +kernel
theorem dX0_init_119 : decode cX0_init 119 = .ok (.iload_n 3, 1) := by decide +kernel
theorem dX0_init_120 : decode cX0_init 120 = .ok (.bipush 6, 2) := by decide +kernel
theorem dX0_init_122 : decode cX0_init 122 = .ok (.imul, 1) := by decide +kernel
theorem dX0_init_123 : decode cX0_init 123 = .ok (.iload_n 2, 1) := by decide +kernel
theorem dX0_init_124 : decode cX0_init 124 = .ok (.iconst 5, 1) := by decide +kernel
theorem dX0_init_125 : decode cX0_init 125 = .ok (.iadd, 1) := by decide +kernel
theorem dX0_init_126 : decode cX0_init 126 = .ok (.bipush 6, 2) := by decide +kernel
theorem dX0_init_128 : decode cX0_init 128 = .ok (.irem, 1) := by decide +kernel
theorem dX0_init_129 : decode cX0_init 129 = .ok (.iadd, 1) := by decide +kernel
theorem dX0_init_130 : decode cX0_init 130 = .ok (.iastore, 1) := by decide +kernel
theorem dX0_init_131 : decode cX0_init 131 = .ok (.aload_n 0, 1) := by decide +kernel
theorem dX0_init_132 : decode cX0_init 132 = .ok (.getfield 16, 3) := by decide +kernel
theorem dX0_init_135 : decode cX0_init 135 = .ok (.iload_n 1, 1) := by decide +kernel
theorem dX0_init_136 : decode cX0_init 136 = .ok (.iconst 4, 1) := by decide +kernel
theorem dX0_init_137 : decode cX0_init 137 = .ok (.imul, 1) := by decide +kernel
theorem dX0_init_138 : decode cX0_init 138 = .ok (.iconst 2, 1) := by decide +kernel
theorem dX0_init_139 : decode cX0_init 139 = .ok (.iadd, 1) := by decide +kernel
theorem dX0_init_140 : decode cX0_init 140 = .ok (.iload_n 3, 1) := by decide +kernel
theorem dX0_init_141 : decode cX0_init 141 = .ok (.iconst 1, 1) := by decide +kernel
theorem dX0_init_142 : decode cX0_init 142 = .ok (.iadd, 1) := by decide +kernel
theorem dX0_init_143 : decode cX0_init 143 = .ok (.bipush 8, 2) := by decide +kernel
theorem dX0_init_145 : decode cX0_init 145 = .ok (.irem, 1) := by decide +kernel
theorem dX0_init_146 : decode cX0_init 146 = .ok (.bipush 6, 2) := by decide +kernel
theorem dX0_init_148 : decode cX0_init 148 = .ok (.imul, 1) := by decide +kernel
theorem dX0_init_149 : decode cX0_init 149 = .ok (.iload_n 2, 1) := by decide +kernel
theorem dX0_init_150 : decode cX0_init 150 = .ok (.iadd, 1) := by decide +kernel
theorem dX0_init_151 : decode cX0_init 151 = .ok (.iastore, 1) := by decide +kernel
theorem dX0_init_152 : decode cX0_init 152 = .ok (.aload_n 0, 1) := by decide +kernel
theorem dX0_init_153 : decode cX0_init 153 = .ok (.getfield 16, 3) := by decide +kernel
theorem dX0_init_156 : decode cX0_init 156 = .ok (.iload_n 1, 1) := by decide +kernel
theorem dX0_init_157 : decode cX0_init 157 = .ok (.iconst 4, 1) := by decide +kernel
theorem dX0_init_158 : decode cX0_init 158 = .ok (.imul, 1) := by decide +kernel
theorem dX0_init_159 : decode cX0_init 159 = .ok (.iconst 3, 1) := by decide +kernel
theorem dX0_init_160 : decode cX0_init 160 = .ok (.iadd, 1) := by decide +kernel
theorem dX0_init_161 : decode cX0_init 161 = .ok (.iload_n 3, 1) := by decide +kernel
theorem dX0_init_162 : decode cX0_init 162 = .ok (.bipush 7, 2) := by decide +kernel
theorem dX0_init_164 : decode cX0_init 164 = .ok (.iadd, 1) := by decide +kernel
theorem dX0_init_165 : decode cX0_init 165 = .ok (.bipush 8, 2) := by decide +kernel
theorem dX0_init_167 : decode cX0_init 167 = .ok (.irem, 1) := by decide +kernel
theorem dX0_init_168 : decode cX0_init 168 = .ok (.bipush 6, 2) := by decide +kernel
theorem dX0_init_170 : decode cX0_init 170 = .ok (.imul, 1) := by decide +kernel
theorem dX0_init_171 : decode cX0_init 171 = .ok (.iload_n 2, 1) := by decide +kernel
theorem dX0_init_172 : decode cX0_init 172 = .ok (.iadd, 1) := by decide +kernel
theorem dX0_init_173 : decode cX0_init 173 = .ok (.iastore, 1) := by decide +kernel
theorem dX0_init_174 : decode cX0_init 174 = .ok (.iinc 1 1, 3) := by decide +kernel
theorem dX0_init_177 : decode cX0_init 177 = .ok (.goto (-102), 3) := by decide +kernel
theorem dX0_init_180 : decode cX0_init 180 = .ok (.aload_n 0, 1) := by decide +kernel
theorem dX0_init_181 : decode cX0_init 181 = .ok (.invokevirtual 28, 3) := by decide +kernel
theorem dX0_init_184 : decode cX0_init 184 = .ok (.return_, 1) := by decide +kernel
abbrev cX0_refreshAll : ByteArray := prog_1_method_10_code
def yX0_refreshAll : MethodName := ⟨RX0, "refreshAll", "()V"⟩
theorem dX0_refreshAll_0 : decode cX0_refreshAll 0 = .ok (.iconst 0, 1) := by decide +kernel
theorem dX0_refreshAll_1 : decode cX0_refreshAll 1 = .ok (.istore_n 1, 1) := by decide +kernel
theorem dX0_refreshAll_2 : decode cX0_refreshAll 2 = .ok (.iload_n 1, 1) := by decide +kernel
theorem dX0_refreshAll_3 : decode cX0_refreshAll 3 = .ok (.bipush 48, 2) := by decide +kernel
theorem dX0_refreshAll_5 : decode cX0_refreshAll 5 = .ok (.if_icmp .ge 14, 3) := by decide +kernel
theorem dX0_refreshAll_8 : decode cX0_refreshAll 8 = .ok (.aload_n 0, 1) := by decide +kernel
theorem dX0_refreshAll_9 : decode cX0_refreshAll 9 = .ok (.iload_n 1, 1) := by decide +kernel
theorem dX0_refreshAll_10 : decode cX0_refreshAll 10 = .ok (.invokevirtual 45, 3) := by decide +kernel
theorem dX0_refreshAll_13 : decode cX0_refreshAll 13 = .ok (.iinc 1 1, 3) := by decide +kernel
theorem dX0_refreshAll_16 : decode cX0_refreshAll 16 = .ok (.goto (-14), 3) := by decide +kernel
theorem dX0_refreshAll_19 : decode cX0_refreshAll 19 = .ok (.return_, 1) := by decide +kernel
abbrev cX0_refresh : ByteArray := prog_1_method_8_code
def yX0_refresh : MethodName := ⟨RX0, "refresh", "(I)V"⟩
theorem dX0_refresh_0 : decode cX0_refresh 0 = .ok (.aload_n 0, 1) := by decide +kernel
theorem dX0_refresh_1 : decode cX0_refresh 1 = .ok (.iload_n 1, 1) := by decide +kernel
theorem dX0_refresh_2 : decode cX0_refresh 2 = .ok (.invokevirtual 38, 3) := by decide +kernel
theorem dX0_refresh_5 : decode cX0_refresh 5 = .ok (.istore_n 2, 1) := by decide +kernel
theorem dX0_refresh_6 : decode cX0_refresh 6 = .ok (.iload_n 2, 1) := by decide +kernel
theorem dX0_refresh_7 : decode cX0_refresh 7 = .ok (.aload_n 0, 1) := by decide +kernel
theorem dX0_refresh_8 : decode cX0_refresh 8 = .ok (.getfield 19, 3) := by decide +kernel
theorem dX0_refresh_11 : decode cX0_refresh 11 = .ok (.iload_n 1, 1) := by decide +kernel
theorem dX0_refresh_12 : decode cX0_refresh 12 = .ok (.iaload, 1) := by decide +kernel
theorem dX0_refresh_13 : decode cX0_refresh 13 = .ok (.if_icmp .ne 4, 3) := by decide +kernel
theorem dX0_refresh_16 : decode cX0_refresh 16 = .ok (.return_, 1) := by decide +kernel
theorem dX0_refresh_17 : decode cX0_refresh 17 = .ok (.aload_n 0, 1) := by decide +kernel
theorem dX0_refresh_18 : decode cX0_refresh 18 = .ok (.iload_n 1, 1) := by decide +kernel
theorem dX0_refresh_19 : decode cX0_refresh 19 = .ok (.iload_n 2, 1) := by decide +kernel
theorem dX0_refresh_20 : decode cX0_refresh 20 = .ok (.aload_n 0, 1) := by decide +kernel
theorem dX0_refresh_21 : decode cX0_refresh 21 = .ok (.getfield 19, 3) := by decide +kernel
theorem dX0_refresh_24 : decode cX0_refresh 24 = .ok (.iload_n 1, 1) := by decide +kernel
theorem dX0_refresh_25 : decode cX0_refresh 25 = .ok (.iaload, 1) := by decide +kernel
theorem dX0_refresh_26 : decode cX0_refresh 26 = .ok (.isub, 1) := by decide +kernel
theorem dX0_refresh_27 : decode cX0_refresh 27 = .ok (.invokevirtual 41, 3) := by decide +kernel
theorem dX0_refresh_30 : decode cX0_refresh 30 = .ok (.aload_n 0, 1) := by decide +kernel
theorem dX0_refresh_31 : decode cX0_refresh 31 = .ok (.getfield 19, 3) := by decide +kernel
theorem dX0_refresh_34 : decode cX0_refresh 34 = .ok (.iload_n 1, 1) := by decide +kernel
theorem dX0_refresh_35 : decode cX0_refresh 35 = .ok (.iload_n 2, 1) := by decide +kernel
theorem dX0_refresh_36 : decode cX0_refresh 36 = .ok (.iastore, 1) := by decide +kernel
theorem dX0_refresh_37 : decode cX0_refresh 37 = .ok (.return_, 1) := by decide +kernel
abbrev cX0_worth : ByteArray := prog_1_method_7_code
def yX0_worth : MethodName := ⟨RX0, "worth", "(I)I"⟩
theorem dX0_worth_0 : decode cX0_worth 0 = .ok (.aload_n 0, 1) := by decide +kernel
theorem dX0_worth_1 : decode cX0_worth 1 = .ok (.getfield 13, 3) := by decide +kernel
theorem dX0_worth_4 : decode cX0_worth 4 = .ok (.iload_n 1, 1) := by decide +kernel
theorem dX0_worth_5 : decode cX0_worth 5 = .ok (.iaload, 1) := by decide +kernel
theorem dX0_worth_6 : decode cX0_worth 6 = .ok (.ifCond .ne 10, 3) := by decide +kernel
theorem dX0_worth_9 : decode cX0_worth 9 = .ok (.aload_n 0, 1) := by decide +kernel
theorem dX0_worth_10 : decode cX0_worth 10 = .ok (.getfield 7, 3) := by decide +kernel
theorem dX0_worth_13 : decode cX0_worth 13 = .ok (.iconst 5, 1) := by decide +kernel
theorem dX0_worth_14 : decode cX0_worth 14 = .ok (.iaload, 1) := by decide +kernel
theorem dX0_worth_15 : decode cX0_worth 15 = .ok (.ireturn, 1) := by decide +kernel
theorem dX0_worth_16 : decode cX0_worth 16 = .ok (.aload_n 0, 1) := by decide +kernel
theorem dX0_worth_17 : decode cX0_worth 17 = .ok (.getfield 13, 3) := by decide +kernel
theorem dX0_worth_20 : decode cX0_worth 20 = .ok (.iload_n 1, 1) := by decide +kernel
theorem dX0_worth_21 : decode cX0_worth 21 = .ok (.iaload, 1) := by decide +kernel
theorem dX0_worth_22 : decode cX0_worth 22 = .ok (.iconst 1, 1) := by decide +kernel
theorem dX0_worth_23 : decode cX0_worth 23 = .ok (.if_icmp .eq 5, 3) := by decide +kernel
theorem dX0_worth_26 : decode cX0_worth 26 = .ok (.iconst 0, 1) := by decide +kernel
theorem dX0_worth_27 : decode cX0_worth 27 = .ok (.ireturn, 1) := by decide +kernel
theorem dX0_worth_28 : decode cX0_worth 28 = .ok (.aload_n 0, 1) := by decide +kernel
theorem dX0_worth_29 : decode cX0_worth 29 = .ok (.iload_n 1, 1) := by decide +kernel
theorem dX0_worth_30 : decode cX0_worth 30 = .ok (.invokevirtual 31, 3) := by decide +kernel
theorem dX0_worth_33 : decode cX0_worth 33 = .ok (.istore_n 2, 1) := by decide +kernel
theorem dX0_worth_34 : decode cX0_worth 34 = .ok (.aload_n 0, 1) := by decide +kernel
theorem dX0_worth_35 : decode cX0_worth 35 = .ok (.iload_n 1, 1) := by decide +kernel
theorem dX0_worth_36 : decode cX0_worth 36 = .ok (.invokevirtual 35, 3) := by decide +kernel
theorem dX0_worth_39 : decode cX0_worth 39 = .ok (.istore_n 3, 1) := by decide +kernel
theorem dX0_worth_40 : decode cX0_worth 40 = .ok (.aload_n 0, 1) := by decide +kernel
theorem dX0_worth_41 : decode cX0_worth 41 = .ok (.getfield 7, 3) := by decide +kernel
theorem dX0_worth_44 : decode cX0_worth 44 = .ok (.iload_n 2, 1) := by decide +kernel
theorem dX0_worth_45 : decode cX0_worth 45 = .ok (.iaload, 1) := by decide +kernel
theorem dX0_worth_46 : decode cX0_worth 46 = .ok (.iload_n 3, 1) := by decide +kernel
theorem dX0_worth_47 : decode cX0_worth 47 = .ok (.aload_n 0, 1) := by decide +kernel
theorem dX0_worth_48 : decode cX0_worth 48 = .ok (.getfield 7, 3) := by decide +kernel
theorem dX0_worth_51 : decode cX0_worth 51 = .ok (.bipush 6, 2) := by decide +kernel
theorem dX0_worth_53 : decode cX0_worth 53 = .ok (.iaload, 1) := by decide +kernel
theorem dX0_worth_54 : decode cX0_worth 54 = .ok (.imul, 1) := by decide +kernel
theorem dX0_worth_55 : decode cX0_worth 55 = .ok (.iadd, 1) := by decide +kernel
theorem dX0_worth_56 : decode cX0_worth 56 = .ok (.ireturn, 1) := by decide +kernel
abbrev cX0_occupiedAround : ByteArray := prog_1_method_5_code
def yX0_occupiedAround : MethodName := ⟨RX0, "occupiedAround", "(I)I"⟩
theorem dX0_occupiedAround_0 : decode cX0_occupiedAround 0 = .ok (.iconst 0, 1) := by decide +kernel
theorem dX0_occupiedAround_1 : decode cX0_occupiedAround 1 = .ok (.istore_n 2, 1) := by decide +kernel
theorem dX0_occupiedAround_2 : decode cX0_occupiedAround 2 = .ok (.iconst 0, 1) := by decide +kernel
theorem dX0_occupiedAround_3 : decode cX0_occupiedAround 3 = .ok (.istore_n 3, 1) := by decide +kernel
theorem dX0_occupiedAround_4 : decode cX0_occupiedAround 4 = .ok (.iload_n 3, 1) := by decide +kernel
theorem dX0_occupiedAround_5 : decode cX0_occupiedAround 5 = .ok (.iconst 4, 1) := by decide +kernel
theorem dX0_occupiedAround_6 : decode cX0_occupiedAround 6 = .ok (.if_icmp .ge 31, 3) := by decide +kernel
theorem dX0_occupiedAround_9 : decode cX0_occupiedAround 9 = .ok (.aload_n 0, 1) := by decide +kernel
theorem dX0_occupiedAround_10 : decode cX0_occupiedAround 10 = .ok (.getfield 13, 3) := by decide +kernel
theorem dX0_occupiedAround_13 : decode cX0_occupiedAround 13 = .ok (.aload_n 0, 1) := by decide +kernel
theorem dX0_occupiedAround_14 : decode cX0_occupiedAround 14 = .ok (.getfield 16, 3) := by decide +kernel
theorem dX0_occupiedAround_17 : decode cX0_occupiedAround 17 = .ok (.iload_n 1, 1) := by decide +kernel
theorem dX0_occupiedAround_18 : decode cX0_occupiedAround 18 = .ok (.iconst 4, 1) := by decide +kernel
theorem dX0_occupiedAround_19 : decode cX0_occupiedAround 19 = .ok (.imul, 1) := by decide +kernel
theorem dX0_occupiedAround_20 : decode cX0_occupiedAround 20 = .ok (.iload_n 3, 1) := by decide +kernel
theorem dX0_occupiedAround_21 : decode cX0_occupiedAround 21 = .ok (.iadd, 1) := by decide +kernel
theorem dX0_occupiedAround_22 : decode cX0_occupiedAround 22 = .ok (.iaload, 1) := by decide +kernel
theorem dX0_occupiedAround_23 : decode cX0_occupiedAround 23 = .ok (.iaload, 1) := by decide +kernel
theorem dX0_occupiedAround_24 : decode cX0_occupiedAround 24 = .ok (.iconst 1, 1) := by decide +kernel
theorem dX0_occupiedAround_25 : decode cX0_occupiedAround 25 = .ok (.if_icmp .ne 6, 3) := by decide +kernel
theorem dX0_occupiedAround_28 : decode cX0_occupiedAround 28 = .ok (.iinc 2 1, 3) := by decide +kernel
theorem dX0_occupiedAround_31 : decode cX0_occupiedAround 31 = .ok (.iinc 3 1, 3) := by decide +kernel
theorem dX0_occupiedAround_34 : decode cX0_occupiedAround 34 = .ok (.goto (-30), 3) := by decide +kernel
theorem dX0_occupiedAround_37 : decode cX0_occupiedAround 37 = .ok (.iload_n 2, 1) := by decide +kernel
theorem dX0_occupiedAround_38 : decode cX0_occupiedAround 38 = .ok (.ireturn, 1) := by decide +kernel
abbrev cX0_emptyAround : ByteArray := prog_1_method_6_code
def yX0_emptyAround : MethodName := ⟨RX0, "emptyAround", "(I)I"⟩
theorem dX0_emptyAround_0 : decode cX0_emptyAround 0 = .ok (.iconst 0, 1) := by decide +kernel
theorem dX0_emptyAround_1 : decode cX0_emptyAround 1 = .ok (.istore_n 2, 1) := by decide +kernel
theorem dX0_emptyAround_2 : decode cX0_emptyAround 2 = .ok (.iconst 0, 1) := by decide +kernel
theorem dX0_emptyAround_3 : decode cX0_emptyAround 3 = .ok (.istore_n 3, 1) := by decide +kernel
theorem dX0_emptyAround_4 : decode cX0_emptyAround 4 = .ok (.iload_n 3, 1) := by decide +kernel
theorem dX0_emptyAround_5 : decode cX0_emptyAround 5 = .ok (.iconst 4, 1) := by decide +kernel
theorem dX0_emptyAround_6 : decode cX0_emptyAround 6 = .ok (.if_icmp .ge 30, 3) := by decide +kernel
theorem dX0_emptyAround_9 : decode cX0_emptyAround 9 = .ok (.aload_n 0, 1) := by decide +kernel
theorem dX0_emptyAround_10 : decode cX0_emptyAround 10 = .ok (.getfield 13, 3) := by decide +kernel
theorem dX0_emptyAround_13 : decode cX0_emptyAround 13 = .ok (.aload_n 0, 1) := by decide +kernel
theorem dX0_emptyAround_14 : decode cX0_emptyAround 14 = .ok (.getfield 16, 3) := by decide +kernel
theorem dX0_emptyAround_17 : decode cX0_emptyAround 17 = .ok (.iload_n 1, 1) := by decide +kernel
theorem dX0_emptyAround_18 : decode cX0_emptyAround 18 = .ok (.iconst 4, 1) := by decide +kernel
theorem dX0_emptyAround_19 : decode cX0_emptyAround 19 = .ok (.imul, 1) := by decide +kernel
theorem dX0_emptyAround_20 : decode cX0_emptyAround 20 = .ok (.iload_n 3, 1) := by decide +kernel
theorem dX0_emptyAround_21 : decode cX0_emptyAround 21 = .ok (.iadd, 1) := by decide +kernel
theorem dX0_emptyAround_22 : decode cX0_emptyAround 22 = .ok (.iaload, 1) := by decide +kernel
theorem dX0_emptyAround_23 : decode cX0_emptyAround 23 = .ok (.iaload, 1) := by decide +kernel
theorem dX0_emptyAround_24 : decode cX0_emptyAround 24 = .ok (.ifCond .ne 6, 3) := by decide +kernel
theorem dX0_emptyAround_27 : decode cX0_emptyAround 27 = .ok (.iinc 2 1, 3) := by decide +kernel
theorem dX0_emptyAround_30 : decode cX0_emptyAround 30 = .ok (.iinc 3 1, 3) := by decide +kernel
theorem dX0_emptyAround_33 : decode cX0_emptyAround 33 = .ok (.goto (-29), 3) := by decide +kernel
theorem dX0_emptyAround_36 : decode cX0_emptyAround 36 = .ok (.iload_n 2, 1) := by decide +kernel
theorem dX0_emptyAround_37 : decode cX0_emptyAround 37 = .ok (.ireturn, 1) := by decide +kernel
abbrev cX0_addTo : ByteArray := prog_1_method_2_code
def yX0_addTo : MethodName := ⟨RX0, "addTo", "(II)V"⟩
theorem dX0_addTo_0 : decode cX0_addTo 0 = .ok (.iload_n 1, 1) := by decide +kernel
theorem dX0_addTo_1 : decode cX0_addTo 1 = .ok (.iconst 1, 1) := by decide +kernel
theorem dX0_addTo_2 : decode cX0_addTo 2 = .ok (.iadd, 1) := by decide +kernel
theorem dX0_addTo_3 : decode cX0_addTo 3 = .ok (.istore_n 3, 1) := by decide +kernel
theorem dX0_addTo_4 : decode cX0_addTo 4 = .ok (.iload_n 3, 1) := by decide +kernel
theorem dX0_addTo_5 : decode cX0_addTo 5 = .ok (.bipush 64, 2) := by decide +kernel
theorem dX0_addTo_7 : decode cX0_addTo 7 = .ok (.if_icmp .gt 23, 3) := by decide +kernel
theorem dX0_addTo_10 : decode cX0_addTo 10 = .ok (.aload_n 0, 1) := by decide +kernel
theorem dX0_addTo_11 : decode cX0_addTo 11 = .ok (.getfield 22, 3) := by decide +kernel
theorem dX0_addTo_14 : decode cX0_addTo 14 = .ok (.iload_n 3, 1) := by decide +kernel
theorem dX0_addTo_15 : decode cX0_addTo 15 = .ok (.dup2, 1) := by decide +kernel
theorem dX0_addTo_16 : decode cX0_addTo 16 = .ok (.iaload, 1) := by decide +kernel
theorem dX0_addTo_17 : decode cX0_addTo 17 = .ok (.iload_n 2, 1) := by decide +kernel
theorem dX0_addTo_18 : decode cX0_addTo 18 = .ok (.iadd, 1) := by decide +kernel
theorem dX0_addTo_19 : decode cX0_addTo 19 = .ok (.iastore, 1) := by decide +kernel
theorem dX0_addTo_20 : decode cX0_addTo 20 = .ok (.iload_n 3, 1) := by decide +kernel
theorem dX0_addTo_21 : decode cX0_addTo 21 = .ok (.iload_n 3, 1) := by decide +kernel
theorem dX0_addTo_22 : decode cX0_addTo 22 = .ok (.iload_n 3, 1) := by decide +kernel
theorem dX0_addTo_23 : decode cX0_addTo 23 = .ok (.ineg, 1) := by decide +kernel
theorem dX0_addTo_24 : decode cX0_addTo 24 = .ok (.iand, 1) := by decide +kernel
theorem dX0_addTo_25 : decode cX0_addTo 25 = .ok (.iadd, 1) := by decide +kernel
theorem dX0_addTo_26 : decode cX0_addTo 26 = .ok (.istore_n 3, 1) := by decide +kernel
theorem dX0_addTo_27 : decode cX0_addTo 27 = .ok (.goto (-23), 3) := by decide +kernel
theorem dX0_addTo_30 : decode cX0_addTo 30 = .ok (.return_, 1) := by decide +kernel
end
section
set_option maxRecDepth 100000
abbrev cX0_rate : ByteArray := prog_1_method_12_code
def yX0_rate : MethodName := ⟨RX0, "rate", "(II)I"⟩
theorem dX0_rate_0 : decode cX0_rate 0 = .ok (.iload_n 1, 1) := by decide +kernel
theorem dX0_rate_1 : decode cX0_rate 1 = .ok (.ifCond .lt 9, 3) := by decide +kernel
theorem dX0_rate_4 : decode cX0_rate 4 = .ok (.iload_n 1, 1) := by decide +kernel
theorem dX0_rate_5 : decode cX0_rate 5 = .ok (.bipush 6, 2) := by decide +kernel
theorem dX0_rate_7 : decode cX0_rate 7 = .ok (.if_icmp .le 5, 3) := by decide +kernel
theorem dX0_rate_10 : decode cX0_rate 10 = .ok (.iconst (-1), 1) := by decide +kernel
theorem dX0_rate_11 : decode cX0_rate 11 = .ok (.ireturn, 1) := by decide +kernel
theorem dX0_rate_12 : decode cX0_rate 12 = .ok (.iload_n 2, 1) := by decide +kernel
theorem dX0_rate_13 : decode cX0_rate 13 = .ok (.ifCond .lt 10, 3) := by decide +kernel
theorem dX0_rate_16 : decode cX0_rate 16 = .ok (.iload_n 2, 1) := by decide +kernel
theorem dX0_rate_17 : decode cX0_rate 17 = .ok (.sipush 1000, 3) := by decide +kernel
theorem dX0_rate_20 : decode cX0_rate 20 = .ok (.if_icmp .le 6, 3) := by decide +kernel
theorem dX0_rate_23 : decode cX0_rate 23 = .ok (.bipush (-2), 2) := by decide +kernel
theorem dX0_rate_25 : decode cX0_rate 25 = .ok (.ireturn, 1) := by decide +kernel
theorem dX0_rate_26 : decode cX0_rate 26 = .ok (.aload_n 0, 1) := by decide +kernel
theorem dX0_rate_27 : decode cX0_rate 27 = .ok (.getfield 7, 3) := by decide +kernel
theorem dX0_rate_30 : decode cX0_rate 30 = .ok (.iload_n 1, 1) := by decide +kernel
theorem dX0_rate_31 : decode cX0_rate 31 = .ok (.iaload, 1) := by decide +kernel
theorem dX0_rate_32 : decode cX0_rate 32 = .ok (.istore_n 3, 1) := by decide +kernel
theorem dX0_rate_33 : decode cX0_rate 33 = .ok (.aload_n 0, 1) := by decide +kernel
theorem dX0_rate_34 : decode cX0_rate 34 = .ok (.getfield 7, 3) := by decide +kernel
theorem dX0_rate_37 : decode cX0_rate 37 = .ok (.iload_n 1, 1) := by decide +kernel
theorem dX0_rate_38 : decode cX0_rate 38 = .ok (.iload_n 2, 1) := by decide +kernel
theorem dX0_rate_39 : decode cX0_rate 39 = .ok (.iastore, 1) := by decide +kernel
theorem dX0_rate_40 : decode cX0_rate 40 = .ok (.aload_n 0, 1) := by decide +kernel
theorem dX0_rate_41 : decode cX0_rate 41 = .ok (.invokevirtual 28, 3) := by decide +kernel
theorem dX0_rate_44 : decode cX0_rate 44 = .ok (.iload_n 3, 1) := by decide +kernel
theorem dX0_rate_45 : decode cX0_rate 45 = .ok (.ireturn, 1) := by decide +kernel
abbrev cX0_set : ByteArray := prog_1_method_13_code
def yX0_set : MethodName := ⟨RX0, "set", "(II)I"⟩
theorem dX0_set_0 : decode cX0_set 0 = .ok (.iload_n 1, 1) := by decide +kernel
theorem dX0_set_1 : decode cX0_set 1 = .ok (.ifCond .lt 9, 3) := by decide +kernel
theorem dX0_set_4 : decode cX0_set 4 = .ok (.iload_n 1, 1) := by decide +kernel
theorem dX0_set_5 : decode cX0_set 5 = .ok (.bipush 48, 2) := by decide +kernel
theorem dX0_set_7 : decode cX0_set 7 = .ok (.if_icmp .lt 5, 3) := by decide +kernel
theorem dX0_set_10 : decode cX0_set 10 = .ok (.iconst (-1), 1) := by decide +kernel
theorem dX0_set_11 : decode cX0_set 11 = .ok (.ireturn, 1) := by decide +kernel
theorem dX0_set_12 : decode cX0_set 12 = .ok (.iload_n 2, 1) := by decide +kernel
theorem dX0_set_13 : decode cX0_set 13 = .ok (.ifCond .lt 8, 3) := by decide +kernel
theorem dX0_set_16 : decode cX0_set 16 = .ok (.iload_n 2, 1) := by decide +kernel
theorem dX0_set_17 : decode cX0_set 17 = .ok (.iconst 2, 1) := by decide +kernel
theorem dX0_set_18 : decode cX0_set 18 = .ok (.if_icmp .le 6, 3) := by decide +kernel
theorem dX0_set_21 : decode cX0_set 21 = .ok (.bipush (-2), 2) := by decide +kernel
theorem dX0_set_23 : decode cX0_set 23 = .ok (.ireturn, 1) := by decide +kernel
theorem dX0_set_24 : decode cX0_set 24 = .ok (.aload_n 0, 1) := by decide +kernel
theorem dX0_set_25 : decode cX0_set 25 = .ok (.getfield 13, 3) := by decide +kernel
theorem dX0_set_28 : decode cX0_set 28 = .ok (.iload_n 1, 1) := by decide +kernel
theorem dX0_set_29 : decode cX0_set 29 = .ok (.iaload, 1) := by decide +kernel
theorem dX0_set_30 : decode cX0_set 30 = .ok (.istore_n 3, 1) := by decide +kernel
theorem dX0_set_31 : decode cX0_set 31 = .ok (.aload_n 0, 1) := by decide +kernel
theorem dX0_set_32 : decode cX0_set 32 = .ok (.iload_n 1, 1) := by decide +kernel
theorem dX0_set_33 : decode cX0_set 33 = .ok (.iload_n 2, 1) := by decide +kernel
theorem dX0_set_34 : decode cX0_set 34 = .ok (.invokevirtual 56, 3) := by decide +kernel
theorem dX0_set_37 : decode cX0_set 37 = .ok (.iload_n 3, 1) := by decide +kernel
theorem dX0_set_38 : decode cX0_set 38 = .ok (.ireturn, 1) := by decide +kernel
abbrev cX0_become : ByteArray := prog_1_method_11_code
def yX0_become : MethodName := ⟨RX0, "become", "(II)V"⟩
theorem dX0_become_0 : decode cX0_become 0 = .ok (.aload_n 0, 1) := by decide +kernel
theorem dX0_become_1 : decode cX0_become 1 = .ok (.getfield 13, 3) := by decide +kernel
theorem dX0_become_4 : decode cX0_become 4 = .ok (.iload_n 1, 1) := by decide +kernel
theorem dX0_become_5 : decode cX0_become 5 = .ok (.iaload, 1) := by decide +kernel
theorem dX0_become_6 : decode cX0_become 6 = .ok (.iconst 1, 1) := by decide +kernel
theorem dX0_become_7 : decode cX0_become 7 = .ok (.if_icmp .ne 13, 3) := by decide +kernel
theorem dX0_become_10 : decode cX0_become 10 = .ok (.aload_n 0, 1) := by decide +kernel
theorem dX0_become_11 : decode cX0_become 11 = .ok (.dup, 1) := by decide +kernel
theorem dX0_become_12 : decode cX0_become 12 = .ok (.getfield 49, 3) := by decide +kernel
theorem dX0_become_15 : decode cX0_become 15 = .ok (.iconst 1, 1) := by decide +kernel
theorem dX0_become_16 : decode cX0_become 16 = .ok (.isub, 1) := by decide +kernel
theorem dX0_become_17 : decode cX0_become 17 = .ok (.putfield 49, 3) := by decide +kernel
theorem dX0_become_20 : decode cX0_become 20 = .ok (.iload_n 2, 1) := by decide +kernel
theorem dX0_become_21 : decode cX0_become 21 = .ok (.iconst 1, 1) := by decide +kernel
theorem dX0_become_22 : decode cX0_become 22 = .ok (.if_icmp .ne 13, 3) := by decide +kernel
theorem dX0_become_25 : decode cX0_become 25 = .ok (.aload_n 0, 1) := by decide +kernel
theorem dX0_become_26 : decode cX0_become 26 = .ok (.dup, 1) := by decide +kernel
theorem dX0_become_27 : decode cX0_become 27 = .ok (.getfield 49, 3) := by decide +kernel
theorem dX0_become_30 : decode cX0_become 30 = .ok (.iconst 1, 1) := by decide +kernel
theorem dX0_become_31 : decode cX0_become 31 = .ok (.iadd, 1) := by decide +kernel
theorem dX0_become_32 : decode cX0_become 32 = .ok (.putfield 49, 3) := by decide +kernel
theorem dX0_become_35 : decode cX0_become 35 = .ok (.aload_n 0, 1) := by decide +kernel
theorem dX0_become_36 : decode cX0_become 36 = .ok (.getfield 13, 3) := by decide +kernel
theorem dX0_become_39 : decode cX0_become 39 = .ok (.iload_n 1, 1) := by decide +kernel
theorem dX0_become_40 : decode cX0_become 40 = .ok (.iload_n 2, 1) := by decide +kernel
theorem dX0_become_41 : decode cX0_become 41 = .ok (.iastore, 1) := by decide +kernel
theorem dX0_become_42 : decode cX0_become 42 = .ok (.aload_n 0, 1) := by decide +kernel
theorem dX0_become_43 : decode cX0_become 43 = .ok (.iload_n 1, 1) := by decide +kernel
theorem dX0_become_44 : decode cX0_become 44 = .ok (.invokevirtual 53, 3) := by decide +kernel
theorem dX0_become_47 : decode cX0_become 47 = .ok (.return_, 1) := by decide +kernel
abbrev cX0_refreshAround : ByteArray := prog_1_method_9_code
def yX0_refreshAround : MethodName := ⟨RX0, "refreshAround", "(I)V"⟩
theorem dX0_refreshAround_0 : decode cX0_refreshAround 0 = .ok (.aload_n 0, 1) := by decide +kernel
theorem dX0_refreshAround_1 : decode cX0_refreshAround 1 = .ok (.iload_n 1, 1) := by decide +kernel
theorem dX0_refreshAround_2 : decode cX0_refreshAround 2 = .ok (.invokevirtual 45, 3) := by decide +kernel
theorem dX0_refreshAround_5 : decode cX0_refreshAround 5 = .ok (.iconst 0, 1) := by decide +kernel
theorem dX0_refreshAround_6 : decode cX0_refreshAround 6 = .ok (.istore_n 2, 1) := by decide +kernel
theorem dX0_refreshAround_7 : decode cX0_refreshAround 7 = .ok (.iload_n 2, 1) := by decide +kernel
theorem dX0_refreshAround_8 : decode cX0_refreshAround 8 = .ok (.iconst 4, 1) := by decide +kernel
theorem dX0_refreshAround_9 : decode cX0_refreshAround 9 = .ok (.if_icmp .ge 23, 3) := by decide +kernel
theorem dX0_refreshAround_12 : decode cX0_refreshAround 12 = .ok (.aload_n 0, 1) := by decide +kernel
theorem dX0_refreshAround_13 : decode cX0_refreshAround 13 = .ok (.aload_n 0, 1) := by decide +kernel
theorem dX0_refreshAround_14 : decode cX0_refreshAround 14 = .ok (.getfield 16, 3) := by decide +kernel
theorem dX0_refreshAround_17 : decode cX0_refreshAround 17 = .ok (.iload_n 1, 1) := by decide +kernel
theorem dX0_refreshAround_18 : decode cX0_refreshAround 18 = .ok (.iconst 4, 1) := by decide +kernel
theorem dX0_refreshAround_19 : decode cX0_refreshAround 19 = .ok (.imul, 1) := by decide +kernel
theorem dX0_refreshAround_20 : decode cX0_refreshAround 20 = .ok (.iload_n 2, 1) := by decide +kernel
theorem dX0_refreshAround_21 : decode cX0_refreshAround 21 = .ok (.iadd, 1) := by decide +kernel
theorem dX0_refreshAround_22 : decode cX0_refreshAround 22 = .ok (.iaload, 1) := by decide +kernel
theorem dX0_refreshAround_23 : decode cX0_refreshAround 23 = .ok (.invokevirtual 45, 3) := by decide +kernel
theorem dX0_refreshAround_26 : decode cX0_refreshAround 26 = .ok (.iinc 2 1, 3) := by decide +kernel
theorem dX0_refreshAround_29 : decode cX0_refreshAround 29 = .ok (.goto (-22), 3) := by decide +kernel
theorem dX0_refreshAround_32 : decode cX0_refreshAround 32 = .ok (.return_, 1) := by decide +kernel
abbrev cX0_step : ByteArray := prog_1_method_14_code
def yX0_step : MethodName := ⟨RX0, "step", "(I)I"⟩
theorem dX0_step_0 : decode cX0_step 0 = .ok (.aload_n 0, 1) := by decide +kernel
theorem dX0_step_1 : decode cX0_step 1 = .ok (.bipush 48, 2) := by decide +kernel
theorem dX0_step_3 : decode cX0_step 3 = .ok (.invokevirtual 59, 3) := by decide +kernel
theorem dX0_step_6 : decode cX0_step 6 = .ok (.istore_n 2, 1) := by decide +kernel
theorem dX0_step_7 : decode cX0_step 7 = .ok (.iload_n 1, 1) := by decide +kernel
theorem dX0_step_8 : decode cX0_step 8 = .ok (.ifCond .lt 8, 3) := by decide +kernel
theorem dX0_step_11 : decode cX0_step 11 = .ok (.iload_n 1, 1) := by decide +kernel
theorem dX0_step_12 : decode cX0_step 12 = .ok (.iload_n 2, 1) := by decide +kernel
theorem dX0_step_13 : decode cX0_step 13 = .ok (.if_icmp .lt 6, 3) := by decide +kernel
theorem dX0_step_16 : decode cX0_step 16 = .ok (.bipush (-3), 2) := by decide +kernel
theorem dX0_step_18 : decode cX0_step 18 = .ok (.ireturn, 1) := by decide +kernel
theorem dX0_step_19 : decode cX0_step 19 = .ok (.aload_n 0, 1) := by decide +kernel
theorem dX0_step_20 : decode cX0_step 20 = .ok (.iload_n 1, 1) := by decide +kernel
theorem dX0_step_21 : decode cX0_step 21 = .ok (.invokevirtual 62, 3) := by decide +kernel
theorem dX0_step_24 : decode cX0_step 24 = .ok (.istore_n 3, 1) := by decide +kernel
theorem dX0_step_25 : decode cX0_step 25 = .ok (.iload_n 1, 1) := by decide +kernel
theorem dX0_step_26 : decode cX0_step 26 = .ok (.aload_n 0, 1) := by decide +kernel
theorem dX0_step_27 : decode cX0_step 27 = .ok (.iload_n 3, 1) := by decide +kernel
theorem dX0_step_28 : decode cX0_step 28 = .ok (.invokevirtual 59, 3) := by decide +kernel
theorem dX0_step_31 : decode cX0_step 31 = .ok (.isub, 1) := by decide +kernel
theorem dX0_step_32 : decode cX0_step 32 = .ok (.istore 4, 2) := by decide +kernel
theorem dX0_step_34 : decode cX0_step 34 = .ok (.aload_n 0, 1) := by decide +kernel
theorem dX0_step_35 : decode cX0_step 35 = .ok (.getfield 13, 3) := by decide +kernel
theorem dX0_step_38 : decode cX0_step 38 = .ok (.iload_n 3, 1) := by decide +kernel
theorem dX0_step_39 : decode cX0_step 39 = .ok (.iaload, 1) := by decide +kernel
theorem dX0_step_40 : decode cX0_step 40 = .ok (.ifCond .ne 21, 3) := by decide +kernel
theorem dX0_step_43 : decode cX0_step 43 = .ok (.aload_n 0, 1) := by decide +kernel
theorem dX0_step_44 : decode cX0_step 44 = .ok (.iload_n 3, 1) := by decide +kernel
theorem dX0_step_45 : decode cX0_step 45 = .ok (.iconst 1, 1) := by decide +kernel
theorem dX0_step_46 : decode cX0_step 46 = .ok (.invokevirtual 56, 3) := by decide +kernel
theorem dX0_step_49 : decode cX0_step 49 = .ok (.aload_n 0, 1) := by decide +kernel
theorem dX0_step_50 : decode cX0_step 50 = .ok (.getfield 25, 3) := by decide +kernel
theorem dX0_step_53 : decode cX0_step 53 = .ok (.iconst 0, 1) := by decide +kernel
theorem dX0_step_54 : decode cX0_step 54 = .ok (.dup2, 1) := by decide +kernel
theorem dX0_step_55 : decode cX0_step 55 = .ok (.iaload, 1) := by decide +kernel
theorem dX0_step_56 : decode cX0_step 56 = .ok (.iconst 1, 1) := by decide +kernel
theorem dX0_step_57 : decode cX0_step 57 = .ok (.iadd, 1) := by decide +kernel
theorem dX0_step_58 : decode cX0_step 58 = .ok (.iastore, 1) := by decide +kernel
theorem dX0_step_59 : decode cX0_step 59 = .ok (.iload_n 3, 1) := by decide +kernel
theorem dX0_step_60 : decode cX0_step 60 = .ok (.ireturn, 1) := by decide +kernel
theorem dX0_step_61 : decode cX0_step 61 = .ok (.aload_n 0, 1) := by decide +kernel
theorem dX0_step_62 : decode cX0_step 62 = .ok (.iload_n 3, 1) := by decide +kernel
theorem dX0_step_63 : decode cX0_step 63 = .ok (.invokevirtual 31, 3) := by decide +kernel
theorem dX0_step_66 : decode cX0_step 66 = .ok (.istore 5, 2) := by decide +kernel
theorem dX0_step_68 : decode cX0_step 68 = .ok (.iload 4, 2) := by decide +kernel
theorem dX0_step_70 : decode cX0_step 70 = .ok (.aload_n 0, 1) := by decide +kernel
theorem dX0_step_71 : decode cX0_step 71 = .ok (.getfield 7, 3) := by decide +kernel
theorem dX0_step_74 : decode cX0_step 74 = .ok (.iload 5, 2) := by decide +kernel
theorem dX0_step_76 : decode cX0_step 76 = .ok (.iaload, 1) := by decide +kernel
theorem dX0_step_77 : decode cX0_step 77 = .ok (.if_icmp .ge 24, 3) := by decide +kernel
theorem dX0_step_80 : decode cX0_step 80 = .ok (.aload_n 0, 1) := by decide +kernel
theorem dX0_step_81 : decode cX0_step 81 = .ok (.iload_n 3, 1) := by decide +kernel
theorem dX0_step_82 : decode cX0_step 82 = .ok (.iconst 0, 1) := by decide +kernel
theorem dX0_step_83 : decode cX0_step 83 = .ok (.invokevirtual 56, 3) := by decide +kernel
theorem dX0_step_86 : decode cX0_step 86 = .ok (.aload_n 0, 1) := by decide +kernel
theorem dX0_step_87 : decode cX0_step 87 = .ok (.getfield 25, 3) := by decide +kernel
theorem dX0_step_90 : decode cX0_step 90 = .ok (.iconst 1, 1) := by decide +kernel
theorem dX0_step_91 : decode cX0_step 91 = .ok (.dup2, 1) := by decide +kernel
theorem dX0_step_92 : decode cX0_step 92 = .ok (.iaload, 1) := by decide +kernel
theorem dX0_step_93 : decode cX0_step 93 = .ok (.iconst 1, 1) := by decide +kernel
theorem dX0_step_94 : decode cX0_step 94 = .ok (.iadd, 1) := by decide +kernel
theorem dX0_step_95 : decode cX0_step 95 = .ok (.iastore, 1) := by decide +kernel
theorem dX0_step_96 : decode cX0_step 96 = .ok (.iload_n 3, 1) := by decide +kernel
theorem dX0_step_97 : decode cX0_step 97 = .ok (.bipush 64, 2) := by decide +kernel
theorem dX0_step_99 : decode cX0_step 99 = .ok (.iadd, 1) := by decide +kernel
theorem dX0_step_100 : decode cX0_step 100 = .ok (.ireturn, 1) := by decide +kernel
theorem dX0_step_101 : decode cX0_step 101 = .ok (.aload_n 0, 1) := by decide +kernel
theorem dX0_step_102 : decode cX0_step 102 = .ok (.iload_n 3, 1) := by decide +kernel
theorem dX0_step_103 : decode cX0_step 103 = .ok (.iload 4, 2) := by decide +kernel
theorem dX0_step_105 : decode cX0_step 105 = .ok (.aload_n 0, 1) := by decide +kernel
theorem dX0_step_106 : decode cX0_step 106 = .ok (.getfield 7, 3) := by decide +kernel
theorem dX0_step_109 : decode cX0_step 109 = .ok (.iload 5, 2) := by decide +kernel
theorem dX0_step_111 : decode cX0_step 111 = .ok (.iaload, 1) := by decide +kernel
theorem dX0_step_112 : decode cX0_step 112 = .ok (.isub, 1) := by decide +kernel
theorem dX0_step_113 : decode cX0_step 113 = .ok (.invokevirtual 65, 3) := by decide +kernel
theorem dX0_step_116 : decode cX0_step 116 = .ok (.istore 6, 2) := by decide +kernel
theorem dX0_step_118 : decode cX0_step 118 = .ok (.aload_n 0, 1) := by decide +kernel
theorem dX0_step_119 : decode cX0_step 119 = .ok (.iload_n 3, 1) := by decide +kernel
theorem dX0_step_120 : decode cX0_step 120 = .ok (.iconst 0, 1) := by decide +kernel
theorem dX0_step_121 : decode cX0_step 121 = .ok (.invokevirtual 56, 3) := by decide +kernel
theorem dX0_step_124 : decode cX0_step 124 = .ok (.aload_n 0, 1) := by decide +kernel
theorem dX0_step_125 : decode cX0_step 125 = .ok (.aload_n 0, 1) := by decide +kernel
theorem dX0_step_126 : decode cX0_step 126 = .ok (.getfield 16, 3) := by decide +kernel
theorem dX0_step_129 : decode cX0_step 129 = .ok (.iload_n 3, 1) := by decide +kernel
theorem dX0_step_130 : decode cX0_step 130 = .ok (.iconst 4, 1) := by decide +kernel
theorem dX0_step_131 : decode cX0_step 131 = .ok (.imul, 1) := by decide +kernel
theorem dX0_step_132 : decode cX0_step 132 = .ok (.iload 6, 2) := by decide +kernel
theorem dX0_step_134 : decode cX0_step 134 = .ok (.iadd, 1) := by decide +kernel
theorem dX0_step_135 : decode cX0_step 135 = .ok (.iaload, 1) := by decide +kernel
theorem dX0_step_136 : decode cX0_step 136 = .ok (.iconst 1, 1) := by decide +kernel
theorem dX0_step_137 : decode cX0_step 137 = .ok (.invokevirtual 56, 3) := by decide +kernel
theorem dX0_step_140 : decode cX0_step 140 = .ok (.aload_n 0, 1) := by decide +kernel
theorem dX0_step_141 : decode cX0_step 141 = .ok (.getfield 25, 3) := by decide +kernel
theorem dX0_step_144 : decode cX0_step 144 = .ok (.iconst 2, 1) := by decide +kernel
theorem dX0_step_145 : decode cX0_step 145 = .ok (.dup2, 1) := by decide +kernel
theorem dX0_step_146 : decode cX0_step 146 = .ok (.iaload, 1) := by decide +kernel
theorem dX0_step_147 : decode cX0_step 147 = .ok (.iconst 1, 1) := by decide +kernel
theorem dX0_step_148 : decode cX0_step 148 = .ok (.iadd, 1) := by decide +kernel
theorem dX0_step_149 : decode cX0_step 149 = .ok (.iastore, 1) := by decide +kernel
theorem dX0_step_150 : decode cX0_step 150 = .ok (.iload_n 3, 1) := by decide +kernel
theorem dX0_step_151 : decode cX0_step 151 = .ok (.sipush 128, 3) := by decide +kernel
theorem dX0_step_154 : decode cX0_step 154 = .ok (.iadd, 1) := by decide +kernel
theorem dX0_step_155 : decode cX0_step 155 = .ok (.sipush 256, 3) := by decide +kernel
theorem dX0_step_158 : decode cX0_step 158 = .ok (.iload 6, 2) := by decide +kernel
theorem dX0_step_160 : decode cX0_step 160 = .ok (.imul, 1) := by decide +kernel
theorem dX0_step_161 : decode cX0_step 161 = .ok (.iadd, 1) := by decide +kernel
theorem dX0_step_162 : decode cX0_step 162 = .ok (.ireturn, 1) := by decide +kernel
abbrev cX0_prefix : ByteArray := prog_1_method_3_code
def yX0_prefix : MethodName := ⟨RX0, "prefix", "(I)I"⟩
theorem dX0_prefix_0 : decode cX0_prefix 0 = .ok (.iconst 0, 1) := by decide +kernel
theorem dX0_prefix_1 : decode cX0_prefix 1 = .ok (.istore_n 2, 1) := by decide +kernel
theorem dX0_prefix_2 : decode cX0_prefix 2 = .ok (.iload_n 1, 1) := by decide +kernel
theorem dX0_prefix_3 : decode cX0_prefix 3 = .ok (.istore_n 3, 1) := by decide +kernel
theorem dX0_prefix_4 : decode cX0_prefix 4 = .ok (.iload_n 3, 1) := by decide +kernel
theorem dX0_prefix_5 : decode cX0_prefix 5 = .ok (.ifCond .le 22, 3) := by decide +kernel
theorem dX0_prefix_8 : decode cX0_prefix 8 = .ok (.iload_n 2, 1) := by decide +kernel
theorem dX0_prefix_9 : decode cX0_prefix 9 = .ok (.aload_n 0, 1) := by decide +kernel
theorem dX0_prefix_10 : decode cX0_prefix 10 = .ok (.getfield 22, 3) := by decide +kernel
theorem dX0_prefix_13 : decode cX0_prefix 13 = .ok (.iload_n 3, 1) := by decide +kernel
theorem dX0_prefix_14 : decode cX0_prefix 14 = .ok (.iaload, 1) := by decide +kernel
theorem dX0_prefix_15 : decode cX0_prefix 15 = .ok (.iadd, 1) := by decide +kernel
theorem dX0_prefix_16 : decode cX0_prefix 16 = .ok (.istore_n 2, 1) := by decide +kernel
theorem dX0_prefix_17 : decode cX0_prefix 17 = .ok (.iload_n 3, 1) := by decide +kernel
theorem dX0_prefix_18 : decode cX0_prefix 18 = .ok (.iload_n 3, 1) := by decide +kernel
theorem dX0_prefix_19 : decode cX0_prefix 19 = .ok (.iload_n 3, 1) := by decide +kernel
theorem dX0_prefix_20 : decode cX0_prefix 20 = .ok (.ineg, 1) := by decide +kernel
theorem dX0_prefix_21 : decode cX0_prefix 21 = .ok (.iand, 1) := by decide +kernel
theorem dX0_prefix_22 : decode cX0_prefix 22 = .ok (.isub, 1) := by decide +kernel
theorem dX0_prefix_23 : decode cX0_prefix 23 = .ok (.istore_n 3, 1) := by decide +kernel
theorem dX0_prefix_24 : decode cX0_prefix 24 = .ok (.goto (-20), 3) := by decide +kernel
theorem dX0_prefix_27 : decode cX0_prefix 27 = .ok (.iload_n 2, 1) := by decide +kernel
theorem dX0_prefix_28 : decode cX0_prefix 28 = .ok (.ireturn, 1) := by decide +kernel
abbrev cX0_siteOf : ByteArray := prog_1_method_4_code
def yX0_siteOf : MethodName := ⟨RX0, "siteOf", "(I)I"⟩
theorem dX0_siteOf_0 : decode cX0_siteOf 0 = .ok (.iconst 0, 1) := by decide +kernel
theorem dX0_siteOf_1 : decode cX0_siteOf 1 = .ok (.istore_n 2, 1) := by decide +kernel
theorem dX0_siteOf_2 : decode cX0_siteOf 2 = .ok (.iload_n 1, 1) := by decide +kernel
theorem dX0_siteOf_3 : decode cX0_siteOf 3 = .ok (.istore_n 3, 1) := by decide +kernel
theorem dX0_siteOf_4 : decode cX0_siteOf 4 = .ok (.bipush 32, 2) := by decide +kernel
theorem dX0_siteOf_6 : decode cX0_siteOf 6 = .ok (.istore 4, 2) := by decide +kernel
theorem dX0_siteOf_8 : decode cX0_siteOf 8 = .ok (.iload 4, 2) := by decide +kernel
theorem dX0_siteOf_10 : decode cX0_siteOf 10 = .ok (.ifCond .le 39, 3) := by decide +kernel
theorem dX0_siteOf_13 : decode cX0_siteOf 13 = .ok (.aload_n 0, 1) := by decide +kernel
theorem dX0_siteOf_14 : decode cX0_siteOf 14 = .ok (.getfield 22, 3) := by decide +kernel
theorem dX0_siteOf_17 : decode cX0_siteOf 17 = .ok (.iload_n 2, 1) := by decide +kernel
theorem dX0_siteOf_18 : decode cX0_siteOf 18 = .ok (.iload 4, 2) := by decide +kernel
theorem dX0_siteOf_20 : decode cX0_siteOf 20 = .ok (.iadd, 1) := by decide +kernel
theorem dX0_siteOf_21 : decode cX0_siteOf 21 = .ok (.iaload, 1) := by decide +kernel
theorem dX0_siteOf_22 : decode cX0_siteOf 22 = .ok (.iload_n 3, 1) := by decide +kernel
theorem dX0_siteOf_23 : decode cX0_siteOf 23 = .ok (.if_icmp .gt 17, 3) := by decide +kernel
theorem dX0_siteOf_26 : decode cX0_siteOf 26 = .ok (.iload_n 2, 1) := by decide +kernel
theorem dX0_siteOf_27 : decode cX0_siteOf 27 = .ok (.iload 4, 2) := by decide +kernel
theorem dX0_siteOf_29 : decode cX0_siteOf 29 = .ok (.iadd, 1) := by decide +kernel
theorem dX0_siteOf_30 : decode cX0_siteOf 30 = .ok (.istore_n 2, 1) := by decide +kernel
theorem dX0_siteOf_31 : decode cX0_siteOf 31 = .ok (.iload_n 3, 1) := by decide +kernel
theorem dX0_siteOf_32 : decode cX0_siteOf 32 = .ok (.aload_n 0, 1) := by decide +kernel
theorem dX0_siteOf_33 : decode cX0_siteOf 33 = .ok (.getfield 22, 3) := by decide +kernel
theorem dX0_siteOf_36 : decode cX0_siteOf 36 = .ok (.iload_n 2, 1) := by decide +kernel
theorem dX0_siteOf_37 : decode cX0_siteOf 37 = .ok (.iaload, 1) := by decide +kernel
theorem dX0_siteOf_38 : decode cX0_siteOf 38 = .ok (.isub, 1) := by decide +kernel
theorem dX0_siteOf_39 : decode cX0_siteOf 39 = .ok (.istore_n 3, 1) := by decide +kernel
theorem dX0_siteOf_40 : decode cX0_siteOf 40 = .ok (.iload 4, 2) := by decide +kernel
theorem dX0_siteOf_42 : decode cX0_siteOf 42 = .ok (.iconst 2, 1) := by decide +kernel
theorem dX0_siteOf_43 : decode cX0_siteOf 43 = .ok (.idiv, 1) := by decide +kernel
theorem dX0_siteOf_44 : decode cX0_siteOf 44 = .ok (.istore 4, 2) := by decide +kernel
theorem dX0_siteOf_46 : decode cX0_siteOf 46 = .ok (.goto (-38), 3) := by decide +kernel
theorem dX0_siteOf_49 : decode cX0_siteOf 49 = .ok (.iload_n 2, 1) := by decide +kernel
theorem dX0_siteOf_50 : decode cX0_siteOf 50 = .ok (.bipush 48, 2) := by decide +kernel
theorem dX0_siteOf_52 : decode cX0_siteOf 52 = .ok (.if_icmp .ge 7, 3) := by decide +kernel
theorem dX0_siteOf_55 : decode cX0_siteOf 55 = .ok (.iload_n 2, 1) := by decide +kernel
theorem dX0_siteOf_56 : decode cX0_siteOf 56 = .ok (.goto 5, 3) := by decide +kernel
theorem dX0_siteOf_59 : decode cX0_siteOf 59 = .ok (.bipush 47, 2) := by decide +kernel
theorem dX0_siteOf_61 : decode cX0_siteOf 61 = .ok (.ireturn, 1) := by decide +kernel
abbrev cX0_hopOf : ByteArray := prog_1_method_15_code
def yX0_hopOf : MethodName := ⟨RX0, "hopOf", "(II)I"⟩
theorem dX0_hopOf_0 : decode cX0_hopOf 0 = .ok (.iload_n 2, 1) := by decide +kernel
theorem dX0_hopOf_1 : decode cX0_hopOf 1 = .ok (.istore_n 3, 1) := by decide +kernel
theorem dX0_hopOf_2 : decode cX0_hopOf 2 = .ok (.iconst 0, 1) := by decide +kernel
theorem dX0_hopOf_3 : decode cX0_hopOf 3 = .ok (.istore 4, 2) := by decide +kernel
theorem dX0_hopOf_5 : decode cX0_hopOf 5 = .ok (.iconst 0, 1) := by decide +kernel
theorem dX0_hopOf_6 : decode cX0_hopOf 6 = .ok (.istore 5, 2) := by decide +kernel
theorem dX0_hopOf_8 : decode cX0_hopOf 8 = .ok (.iload 5, 2) := by decide +kernel
theorem dX0_hopOf_10 : decode cX0_hopOf 10 = .ok (.iconst 4, 1) := by decide +kernel
theorem dX0_hopOf_11 : decode cX0_hopOf 11 = .ok (.if_icmp .ge 46, 3) := by decide +kernel
theorem dX0_hopOf_14 : decode cX0_hopOf 14 = .ok (.aload_n 0, 1) := by decide +kernel
theorem dX0_hopOf_15 : decode cX0_hopOf 15 = .ok (.getfield 13, 3) := by decide +kernel
theorem dX0_hopOf_18 : decode cX0_hopOf 18 = .ok (.aload_n 0, 1) := by decide +kernel
theorem dX0_hopOf_19 : decode cX0_hopOf 19 = .ok (.getfield 16, 3) := by decide +kernel
theorem dX0_hopOf_22 : decode cX0_hopOf 22 = .ok (.iload_n 1, 1) := by decide +kernel
theorem dX0_hopOf_23 : decode cX0_hopOf 23 = .ok (.iconst 4, 1) := by decide +kernel
theorem dX0_hopOf_24 : decode cX0_hopOf 24 = .ok (.imul, 1) := by decide +kernel
theorem dX0_hopOf_25 : decode cX0_hopOf 25 = .ok (.iload 5, 2) := by decide +kernel
theorem dX0_hopOf_27 : decode cX0_hopOf 27 = .ok (.iadd, 1) := by decide +kernel
theorem dX0_hopOf_28 : decode cX0_hopOf 28 = .ok (.iaload, 1) := by decide +kernel
theorem dX0_hopOf_29 : decode cX0_hopOf 29 = .ok (.iaload, 1) := by decide +kernel
theorem dX0_hopOf_30 : decode cX0_hopOf 30 = .ok (.ifCond .ne 21, 3) := by decide +kernel
theorem dX0_hopOf_33 : decode cX0_hopOf 33 = .ok (.iload_n 3, 1) := by decide +kernel
theorem dX0_hopOf_34 : decode cX0_hopOf 34 = .ok (.ifCond .lt 7, 3) := by decide +kernel
theorem dX0_hopOf_37 : decode cX0_hopOf 37 = .ok (.iload 5, 2) := by decide +kernel
theorem dX0_hopOf_39 : decode cX0_hopOf 39 = .ok (.istore 4, 2) := by decide +kernel
theorem dX0_hopOf_41 : decode cX0_hopOf 41 = .ok (.iload_n 3, 1) := by decide +kernel
theorem dX0_hopOf_42 : decode cX0_hopOf 42 = .ok (.aload_n 0, 1) := by decide +kernel
theorem dX0_hopOf_43 : decode cX0_hopOf 43 = .ok (.getfield 7, 3) := by decide +kernel
theorem dX0_hopOf_46 : decode cX0_hopOf 46 = .ok (.bipush 6, 2) := by decide +kernel
theorem dX0_hopOf_48 : decode cX0_hopOf 48 = .ok (.iaload, 1) := by decide +kernel
theorem dX0_hopOf_49 : decode cX0_hopOf 49 = .ok (.isub, 1) := by decide +kernel
theorem dX0_hopOf_50 : decode cX0_hopOf 50 = .ok (.istore_n 3, 1) := by decide +kernel
theorem dX0_hopOf_51 : decode cX0_hopOf 51 = .ok (.iinc 5 1, 3) := by decide +kernel
theorem dX0_hopOf_54 : decode cX0_hopOf 54 = .ok (.goto (-46), 3) := by decide +kernel
theorem dX0_hopOf_57 : decode cX0_hopOf 57 = .ok (.iload 4, 2) := by decide +kernel
theorem dX0_hopOf_59 : decode cX0_hopOf 59 = .ok (.ireturn, 1) := by decide +kernel
abbrev cX0_run : ByteArray := prog_1_method_16_code
def yX0_run : MethodName := ⟨RX0, "run", "(II)I"⟩
theorem dX0_run_0 : decode cX0_run 0 = .ok (.iload_n 1, 1) := by decide +kernel
theorem dX0_run_1 : decode cX0_run 1 = .ok (.sipush 200, 3) := by decide +kernel
theorem dX0_run_4 : decode cX0_run 4 = .ok (.if_icmp .le 9, 3) := by decide +kernel
theorem dX0_run_7 : decode cX0_run 7 = .ok (.sipush 200, 3) := by decide +kernel
theorem dX0_run_10 : decode cX0_run 10 = .ok (.goto 4, 3) := by decide +kernel
theorem dX0_run_13 : decode cX0_run 13 = .ok (.iload_n 1, 1) := by decide +kernel
theorem dX0_run_14 : decode cX0_run 14 = .ok (.istore_n 3, 1) := by decide +kernel
theorem dX0_run_15 : decode cX0_run 15 = .ok (.iload_n 2, 1) := by decide +kernel
theorem dX0_run_16 : decode cX0_run 16 = .ok (.istore 4, 2) := by decide +kernel
theorem dX0_run_18 : decode cX0_run 18 = .ok (.iconst 0, 1) := by decide +kernel
theorem dX0_run_19 : decode cX0_run 19 = .ok (.istore 5, 2) := by decide +kernel
theorem dX0_run_21 : decode cX0_run 21 = .ok (.iconst 0, 1) := by decide +kernel
theorem dX0_run_22 : decode cX0_run 22 = .ok (.istore 6, 2) := by decide +kernel
theorem dX0_run_24 : decode cX0_run 24 = .ok (.iload 6, 2) := by decide +kernel
theorem dX0_run_26 : decode cX0_run 26 = .ok (.iload_n 3, 1) := by decide +kernel
theorem dX0_run_27 : decode cX0_run 27 = .ok (.if_icmp .ge 52, 3) := by decide +kernel
theorem dX0_run_30 : decode cX0_run 30 = .ok (.aload_n 0, 1) := by decide +kernel
theorem dX0_run_31 : decode cX0_run 31 = .ok (.bipush 48, 2) := by decide +kernel
theorem dX0_run_33 : decode cX0_run 33 = .ok (.invokevirtual 59, 3) := by decide +kernel
theorem dX0_run_36 : decode cX0_run 36 = .ok (.istore 7, 2) := by decide +kernel
theorem dX0_run_38 : decode cX0_run 38 = .ok (.iload 7, 2) := by decide +kernel
theorem dX0_run_40 : decode cX0_run 40 = .ok (.ifCond .le 33, 3) := by decide +kernel
theorem dX0_run_43 : decode cX0_run 43 = .ok (.iload 4, 2) := by decide +kernel
theorem dX0_run_45 : decode cX0_run 45 = .ok (.ldc 69, 2) := by decide +kernel
theorem dX0_run_47 : decode cX0_run 47 = .ok (.imul, 1) := by decide +kernel
theorem dX0_run_48 : decode cX0_run 48 = .ok (.sipush 12345, 3) := by decide +kernel
theorem dX0_run_51 : decode cX0_run 51 = .ok (.iadd, 1) := by decide +kernel
theorem dX0_run_52 : decode cX0_run 52 = .ok (.istore 4, 2) := by decide +kernel
theorem dX0_run_54 : decode cX0_run 54 = .ok (.aload_n 0, 1) := by decide +kernel
theorem dX0_run_55 : decode cX0_run 55 = .ok (.iload 4, 2) := by decide +kernel
theorem dX0_run_57 : decode cX0_run 57 = .ok (.bipush 8, 2) := by decide +kernel
theorem dX0_run_59 : decode cX0_run 59 = .ok (.iushr, 1) := by decide +kernel
theorem dX0_run_60 : decode cX0_run 60 = .ok (.ldc 70, 2) := by decide +kernel
theorem dX0_run_62 : decode cX0_run 62 = .ok (.iand, 1) := by decide +kernel
theorem dX0_run_63 : decode cX0_run 63 = .ok (.iload 7, 2) := by decide +kernel
theorem dX0_run_65 : decode cX0_run 65 = .ok (.irem, 1) := by decide +kernel
theorem dX0_run_66 : decode cX0_run 66 = .ok (.invokevirtual 71, 3) := by decide +kernel
theorem dX0_run_69 : decode cX0_run 69 = .ok (.pop, 1) := by decide +kernel
theorem dX0_run_70 : decode cX0_run 70 = .ok (.iinc 5 1, 3) := by decide +kernel
theorem dX0_run_73 : decode cX0_run 73 = .ok (.iinc 6 1, 3) := by decide +kernel
theorem dX0_run_76 : decode cX0_run 76 = .ok (.goto (-52), 3) := by decide +kernel
theorem dX0_run_79 : decode cX0_run 79 = .ok (.iload 5, 2) := by decide +kernel
theorem dX0_run_81 : decode cX0_run 81 = .ok (.ireturn, 1) := by decide +kernel
abbrev cX0_clear : ByteArray := prog_1_method_17_code
def yX0_clear : MethodName := ⟨RX0, "clear", "()V"⟩
theorem dX0_clear_0 : decode cX0_clear 0 = .ok (.iconst 0, 1) := by decide +kernel
theorem dX0_clear_1 : decode cX0_clear 1 = .ok (.istore_n 1, 1) := by decide +kernel
theorem dX0_clear_2 : decode cX0_clear 2 = .ok (.iload_n 1, 1) := by decide +kernel
theorem dX0_clear_3 : decode cX0_clear 3 = .ok (.bipush 48, 2) := by decide +kernel
theorem dX0_clear_5 : decode cX0_clear 5 = .ok (.if_icmp .ge 16, 3) := by decide +kernel
theorem dX0_clear_8 : decode cX0_clear 8 = .ok (.aload_n 0, 1) := by decide +kernel
theorem dX0_clear_9 : decode cX0_clear 9 = .ok (.getfield 13, 3) := by decide +kernel
theorem dX0_clear_12 : decode cX0_clear 12 = .ok (.iload_n 1, 1) := by decide +kernel
theorem dX0_clear_13 : decode cX0_clear 13 = .ok (.iconst 0, 1) := by decide +kernel
theorem dX0_clear_14 : decode cX0_clear 14 = .ok (.iastore, 1) := by decide +kernel
theorem dX0_clear_15 : decode cX0_clear 15 = .ok (.iinc 1 1, 3) := by decide +kernel
theorem dX0_clear_18 : decode cX0_clear 18 = .ok (.goto (-16), 3) := by decide +kernel
theorem dX0_clear_21 : decode cX0_clear 21 = .ok (.aload_n 0, 1) := by decide +kernel
theorem dX0_clear_22 : decode cX0_clear 22 = .ok (.iconst 0, 1) := by decide +kernel
theorem dX0_clear_23 : decode cX0_clear 23 = .ok (.putfield 49, 3) := by decide +kernel
theorem dX0_clear_26 : decode cX0_clear 26 = .ok (.aload_n 0, 1) := by decide +kernel
theorem dX0_clear_27 : decode cX0_clear 27 = .ok (.invokevirtual 28, 3) := by decide +kernel
theorem dX0_clear_30 : decode cX0_clear 30 = .ok (.return_, 1) := by decide +kernel
abbrev cX0_state : ByteArray := prog_1_method_18_code
def yX0_state : MethodName := ⟨RX0, "state", "(I)I"⟩
theorem dX0_state_0 : decode cX0_state 0 = .ok (.iload_n 1, 1) := by decide +kernel
theorem dX0_state_1 : decode cX0_state 1 = .ok (.ifCond .lt 9, 3) := by decide +kernel
theorem dX0_state_4 : decode cX0_state 4 = .ok (.iload_n 1, 1) := by decide +kernel
theorem dX0_state_5 : decode cX0_state 5 = .ok (.bipush 48, 2) := by decide +kernel
theorem dX0_state_7 : decode cX0_state 7 = .ok (.if_icmp .lt 7, 3) := by decide +kernel
theorem dX0_state_10 : decode cX0_state 10 = .ok (.iconst (-1), 1) := by decide +kernel
theorem dX0_state_11 : decode cX0_state 11 = .ok (.goto 9, 3) := by decide +kernel
theorem dX0_state_14 : decode cX0_state 14 = .ok (.aload_n 0, 1) := by decide +kernel
theorem dX0_state_15 : decode cX0_state 15 = .ok (.getfield 13, 3) := by decide +kernel
theorem dX0_state_18 : decode cX0_state 18 = .ok (.iload_n 1, 1) := by decide +kernel
theorem dX0_state_19 : decode cX0_state 19 = .ok (.iaload, 1) := by decide +kernel
theorem dX0_state_20 : decode cX0_state 20 = .ok (.ireturn, 1) := by decide +kernel
abbrev cX0_total : ByteArray := prog_1_method_19_code
def yX0_total : MethodName := ⟨RX0, "total", "()I"⟩
theorem dX0_total_0 : decode cX0_total 0 = .ok (.aload_n 0, 1) := by decide +kernel
theorem dX0_total_1 : decode cX0_total 1 = .ok (.bipush 48, 2) := by decide +kernel
theorem dX0_total_3 : decode cX0_total 3 = .ok (.invokevirtual 59, 3) := by decide +kernel
theorem dX0_total_6 : decode cX0_total 6 = .ok (.ireturn, 1) := by decide +kernel
abbrev cX0_siteRate : ByteArray := prog_1_method_20_code
def yX0_siteRate : MethodName := ⟨RX0, "siteRate", "(I)I"⟩
theorem dX0_siteRate_0 : decode cX0_siteRate 0 = .ok (.iload_n 1, 1) := by decide +kernel
theorem dX0_siteRate_1 : decode cX0_siteRate 1 = .ok (.ifCond .lt 9, 3) := by decide +kernel
theorem dX0_siteRate_4 : decode cX0_siteRate 4 = .ok (.iload_n 1, 1) := by decide +kernel
theorem dX0_siteRate_5 : decode cX0_siteRate 5 = .ok (.bipush 48, 2) := by decide +kernel
theorem dX0_siteRate_7 : decode cX0_siteRate 7 = .ok (.if_icmp .lt 7, 3) := by decide +kernel
theorem dX0_siteRate_10 : decode cX0_siteRate 10 = .ok (.iconst (-1), 1) := by decide +kernel
theorem dX0_siteRate_11 : decode cX0_siteRate 11 = .ok (.goto 9, 3) := by decide +kernel
theorem dX0_siteRate_14 : decode cX0_siteRate 14 = .ok (.aload_n 0, 1) := by decide +kernel
theorem dX0_siteRate_15 : decode cX0_siteRate 15 = .ok (.getfield 19, 3) := by decide +kernel
theorem dX0_siteRate_18 : decode cX0_siteRate 18 = .ok (.iload_n 1, 1) := by decide +kernel
theorem dX0_siteRate_19 : decode cX0_siteRate 19 = .ok (.iaload, 1) := by decide +kernel
theorem dX0_siteRate_20 : decode cX0_siteRate 20 = .ok (.ireturn, 1) := by decide +kernel
abbrev cX0_occupied : ByteArray := prog_1_method_21_code
def yX0_occupied : MethodName := ⟨RX0, "occupied", "()I"⟩
theorem dX0_occupied_0 : decode cX0_occupied 0 = .ok (.aload_n 0, 1) := by decide +kernel
theorem dX0_occupied_1 : decode cX0_occupied 1 = .ok (.getfield 49, 3) := by decide +kernel
theorem dX0_occupied_4 : decode cX0_occupied 4 = .ok (.ireturn, 1) := by decide +kernel
abbrev cX0_pairs : ByteArray := prog_1_method_22_code
def yX0_pairs : MethodName := ⟨RX0, "pairs", "()I"⟩
theorem dX0_pairs_0 : decode cX0_pairs 0 = .ok (.iconst 0, 1) := by decide +kernel
theorem dX0_pairs_1 : decode cX0_pairs 1 = .ok (.istore_n 1, 1) := by decide +kernel
theorem dX0_pairs_2 : decode cX0_pairs 2 = .ok (.iconst 0, 1) := by decide +kernel
theorem dX0_pairs_3 : decode cX0_pairs 3 = .ok (.istore_n 2, 1) := by decide +kernel
theorem dX0_pairs_4 : decode cX0_pairs 4 = .ok (.iload_n 2, 1) := by decide +kernel
theorem dX0_pairs_5 : decode cX0_pairs 5 = .ok (.bipush 48, 2) := by decide +kernel
theorem dX0_pairs_7 : decode cX0_pairs 7 = .ok (.if_icmp .ge 61, 3) := by decide +kernel
theorem dX0_pairs_10 : decode cX0_pairs 10 = .ok (.aload_n 0, 1) := by decide +kernel
theorem dX0_pairs_11 : decode cX0_pairs 11 = .ok (.getfield 13, 3) := by decide +kernel
theorem dX0_pairs_14 : decode cX0_pairs 14 = .ok (.iload_n 2, 1) := by decide +kernel
theorem dX0_pairs_15 : decode cX0_pairs 15 = .ok (.iaload, 1) := by decide +kernel
theorem dX0_pairs_16 : decode cX0_pairs 16 = .ok (.iconst 1, 1) := by decide +kernel
theorem dX0_pairs_17 : decode cX0_pairs 17 = .ok (.if_icmp .ne 45, 3) := by decide +kernel
theorem dX0_pairs_20 : decode cX0_pairs 20 = .ok (.aload_n 0, 1) := by decide +kernel
theorem dX0_pairs_21 : decode cX0_pairs 21 = .ok (.getfield 13, 3) := by decide +kernel
theorem dX0_pairs_24 : decode cX0_pairs 24 = .ok (.aload_n 0, 1) := by decide +kernel
theorem dX0_pairs_25 : decode cX0_pairs 25 = .ok (.getfield 16, 3) := by decide +kernel
theorem dX0_pairs_28 : decode cX0_pairs 28 = .ok (.iload_n 2, 1) := by decide +kernel
theorem dX0_pairs_29 : decode cX0_pairs 29 = .ok (.iconst 4, 1) := by decide +kernel
theorem dX0_pairs_30 : decode cX0_pairs 30 = .ok (.imul, 1) := by decide +kernel
theorem dX0_pairs_31 : decode cX0_pairs 31 = .ok (.iaload, 1) := by decide +kernel
theorem dX0_pairs_32 : decode cX0_pairs 32 = .ok (.iaload, 1) := by decide +kernel
theorem dX0_pairs_33 : decode cX0_pairs 33 = .ok (.iconst 1, 1) := by decide +kernel
theorem dX0_pairs_34 : decode cX0_pairs 34 = .ok (.if_icmp .ne 6, 3) := by decide +kernel
theorem dX0_pairs_37 : decode cX0_pairs 37 = .ok (.iinc 1 1, 3) := by decide +kernel
theorem dX0_pairs_40 : decode cX0_pairs 40 = .ok (.aload_n 0, 1) := by decide +kernel
theorem dX0_pairs_41 : decode cX0_pairs 41 = .ok (.getfield 13, 3) := by decide +kernel
theorem dX0_pairs_44 : decode cX0_pairs 44 = .ok (.aload_n 0, 1) := by decide +kernel
theorem dX0_pairs_45 : decode cX0_pairs 45 = .ok (.getfield 16, 3) := by decide +kernel
theorem dX0_pairs_48 : decode cX0_pairs 48 = .ok (.iload_n 2, 1) := by decide +kernel
theorem dX0_pairs_49 : decode cX0_pairs 49 = .ok (.iconst 4, 1) := by decide +kernel
theorem dX0_pairs_50 : decode cX0_pairs 50 = .ok (.imul, 1) := by decide +kernel
theorem dX0_pairs_51 : decode cX0_pairs 51 = .ok (.iconst 2, 1) := by decide +kernel
theorem dX0_pairs_52 : decode cX0_pairs 52 = .ok (.iadd, 1) := by decide +kernel
theorem dX0_pairs_53 : decode cX0_pairs 53 = .ok (.iaload, 1) := by decide +kernel
theorem dX0_pairs_54 : decode cX0_pairs 54 = .ok (.iaload, 1) := by decide +kernel
theorem dX0_pairs_55 : decode cX0_pairs 55 = .ok (.iconst 1, 1) := by decide +kernel
theorem dX0_pairs_56 : decode cX0_pairs 56 = .ok (.if_icmp .ne 6, 3) := by decide +kernel
theorem dX0_pairs_59 : decode cX0_pairs 59 = .ok (.iinc 1 1, 3) := by decide +kernel
theorem dX0_pairs_62 : decode cX0_pairs 62 = .ok (.iinc 2 1, 3) := by decide +kernel
theorem dX0_pairs_65 : decode cX0_pairs 65 = .ok (.goto (-61), 3) := by decide +kernel
theorem dX0_pairs_68 : decode cX0_pairs 68 = .ok (.iload_n 1, 1) := by decide +kernel
theorem dX0_pairs_69 : decode cX0_pairs 69 = .ok (.ireturn, 1) := by decide +kernel
abbrev cX0_happened : ByteArray := prog_1_method_23_code
def yX0_happened : MethodName := ⟨RX0, "happened", "(I)I"⟩
theorem dX0_happened_0 : decode cX0_happened 0 = .ok (.iload_n 1, 1) := by decide +kernel
theorem dX0_happened_1 : decode cX0_happened 1 = .ok (.ifCond .lt 8, 3) := by decide +kernel
theorem dX0_happened_4 : decode cX0_happened 4 = .ok (.iload_n 1, 1) := by decide +kernel
theorem dX0_happened_5 : decode cX0_happened 5 = .ok (.iconst 2, 1) := by decide +kernel
theorem dX0_happened_6 : decode cX0_happened 6 = .ok (.if_icmp .le 7, 3) := by decide +kernel
theorem dX0_happened_9 : decode cX0_happened 9 = .ok (.iconst 0, 1) := by decide +kernel
theorem dX0_happened_10 : decode cX0_happened 10 = .ok (.goto 9, 3) := by decide +kernel
theorem dX0_happened_13 : decode cX0_happened 13 = .ok (.aload_n 0, 1) := by decide +kernel
theorem dX0_happened_14 : decode cX0_happened 14 = .ok (.getfield 25, 3) := by decide +kernel
theorem dX0_happened_17 : decode cX0_happened 17 = .ok (.iload_n 1, 1) := by decide +kernel
theorem dX0_happened_18 : decode cX0_happened 18 = .ok (.iaload, 1) := by decide +kernel
theorem dX0_happened_19 : decode cX0_happened 19 = .ok (.ireturn, 1) := by decide +kernel
abbrev cX0_before : ByteArray := prog_1_method_24_code
def yX0_before : MethodName := ⟨RX0, "before", "(I)I"⟩
theorem dX0_before_0 : decode cX0_before 0 = .ok (.iload_n 1, 1) := by decide +kernel
theorem dX0_before_1 : decode cX0_before 1 = .ok (.istore_n 2, 1) := by decide +kernel
theorem dX0_before_2 : decode cX0_before 2 = .ok (.iload_n 2, 1) := by decide +kernel
theorem dX0_before_3 : decode cX0_before 3 = .ok (.ifCond .ge 5, 3) := by decide +kernel
theorem dX0_before_6 : decode cX0_before 6 = .ok (.iconst 0, 1) := by decide +kernel
theorem dX0_before_7 : decode cX0_before 7 = .ok (.istore_n 2, 1) := by decide +kernel
theorem dX0_before_8 : decode cX0_before 8 = .ok (.iload_n 2, 1) := by decide +kernel
theorem dX0_before_9 : decode cX0_before 9 = .ok (.bipush 48, 2) := by decide +kernel
theorem dX0_before_11 : decode cX0_before 11 = .ok (.if_icmp .le 6, 3) := by decide +kernel
theorem dX0_before_14 : decode cX0_before 14 = .ok (.bipush 48, 2) := by decide +kernel
theorem dX0_before_16 : decode cX0_before 16 = .ok (.istore_n 2, 1) := by decide +kernel
theorem dX0_before_17 : decode cX0_before 17 = .ok (.aload_n 0, 1) := by decide +kernel
theorem dX0_before_18 : decode cX0_before 18 = .ok (.iload_n 2, 1) := by decide +kernel
theorem dX0_before_19 : decode cX0_before 19 = .ok (.invokevirtual 59, 3) := by decide +kernel
theorem dX0_before_22 : decode cX0_before 22 = .ok (.ireturn, 1) := by decide +kernel
theorem q16 : (Jvm.Cond.initialized "KineticLattice") ∈ lw_all := lw_g (lw_at lw_m0 1 rfl) rfl
theorem q19 : (Jvm.Cond.instantiable "KineticLattice" (7 : Nat)) ∈ lw_all := lw_g (lw_at lw_m0 4 rfl) rfl
theorem q21 : (Jvm.Cond.instanceMethod ({ cls := "KineticLattice", name := "<init>", desc := "()V" } : Jvm.MethodName)) ∈ lw_all := lw_g (lw_at lw_m0 6 rfl) rfl
theorem q22 : (Jvm.Cond.code ({ cls := "KineticLattice", name := "<init>", desc := "()V" } : Jvm.MethodName) prog_1_method_1_code (4 : Nat) (Option.none : Option Jvm.ClassFile.FieldType)) ∈ lw_all := lw_g (lw_at lw_m0 7 rfl) rfl
theorem q23 : (Jvm.Cond.methodLink "KineticLattice" (1 : Nat) ({ cls := "java/lang/Object", name := "<init>", desc := "()V" } : Jvm.MethodName)) ∈ lw_all := lw_g (lw_at lw_m0 8 rfl) rfl
theorem q26 : (Jvm.Cond.methodLink "KineticLattice" (28 : Nat) ({ cls := "KineticLattice", name := "refreshAll", desc := "()V" } : Jvm.MethodName)) ∈ lw_all := lw_g (lw_at lw_m0 11 rfl) rfl
theorem q27 : (Jvm.Cond.privateMethod ({ cls := "KineticLattice", name := "refreshAll", desc := "()V" } : Jvm.MethodName)) ∈ lw_tbl := lw_at lw_m0 12 rfl
theorem q28 : (Jvm.Cond.instanceMethod ({ cls := "KineticLattice", name := "refreshAll", desc := "()V" } : Jvm.MethodName)) ∈ lw_all := lw_g (lw_at lw_m0 13 rfl) rfl
theorem q29 : (Jvm.Cond.code ({ cls := "KineticLattice", name := "refreshAll", desc := "()V" } : Jvm.MethodName) prog_1_method_10_code (2 : Nat) (Option.none : Option Jvm.ClassFile.FieldType)) ∈ lw_all := lw_g (lw_at lw_m0 14 rfl) rfl
theorem q30 : (Jvm.Cond.methodLink "KineticLattice" (45 : Nat) ({ cls := "KineticLattice", name := "refresh", desc := "(I)V" } : Jvm.MethodName)) ∈ lw_all := lw_g (lw_at lw_m0 15 rfl) rfl
theorem q31 : (Jvm.Cond.privateMethod ({ cls := "KineticLattice", name := "refresh", desc := "(I)V" } : Jvm.MethodName)) ∈ lw_tbl := lw_at lw_m0 16 rfl
theorem q32 : (Jvm.Cond.instanceMethod ({ cls := "KineticLattice", name := "refresh", desc := "(I)V" } : Jvm.MethodName)) ∈ lw_all := lw_g (lw_at lw_m0 17 rfl) rfl
theorem q33 : (Jvm.Cond.code ({ cls := "KineticLattice", name := "refresh", desc := "(I)V" } : Jvm.MethodName) prog_1_method_8_code (3 : Nat) (Option.none : Option Jvm.ClassFile.FieldType)) ∈ lw_all := lw_g (lw_at lw_m0 18 rfl) rfl
theorem q34 : (Jvm.Cond.methodLink "KineticLattice" (38 : Nat) ({ cls := "KineticLattice", name := "worth", desc := "(I)I" } : Jvm.MethodName)) ∈ lw_all := lw_g (lw_at lw_m0 19 rfl) rfl
theorem q35 : (Jvm.Cond.privateMethod ({ cls := "KineticLattice", name := "worth", desc := "(I)I" } : Jvm.MethodName)) ∈ lw_tbl := lw_at lw_m0 20 rfl
theorem q36 : (Jvm.Cond.instanceMethod ({ cls := "KineticLattice", name := "worth", desc := "(I)I" } : Jvm.MethodName)) ∈ lw_all := lw_g (lw_at lw_m0 21 rfl) rfl
theorem q37 : (Jvm.Cond.code ({ cls := "KineticLattice", name := "worth", desc := "(I)I" } : Jvm.MethodName) prog_1_method_7_code (4 : Nat) (Option.some Jvm.ClassFile.FieldType.int)) ∈ lw_all := lw_g (lw_at lw_m0 22 rfl) rfl
theorem q38 : (Jvm.Cond.methodLink "KineticLattice" (31 : Nat) ({ cls := "KineticLattice", name := "occupiedAround", desc := "(I)I" } : Jvm.MethodName)) ∈ lw_all := lw_g (lw_at lw_m0 23 rfl) rfl
theorem q39 : (Jvm.Cond.privateMethod ({ cls := "KineticLattice", name := "occupiedAround", desc := "(I)I" } : Jvm.MethodName)) ∈ lw_tbl := lw_at lw_m0 24 rfl
theorem q40 : (Jvm.Cond.instanceMethod ({ cls := "KineticLattice", name := "occupiedAround", desc := "(I)I" } : Jvm.MethodName)) ∈ lw_all := lw_g (lw_at lw_m0 25 rfl) rfl
theorem q41 : (Jvm.Cond.code ({ cls := "KineticLattice", name := "occupiedAround", desc := "(I)I" } : Jvm.MethodName) prog_1_method_5_code (4 : Nat) (Option.some Jvm.ClassFile.FieldType.int)) ∈ lw_all := lw_g (lw_at lw_m0 26 rfl) rfl
theorem q42 : (Jvm.Cond.methodLink "KineticLattice" (35 : Nat) ({ cls := "KineticLattice", name := "emptyAround", desc := "(I)I" } : Jvm.MethodName)) ∈ lw_all := lw_g (lw_at lw_m0 27 rfl) rfl
theorem q43 : (Jvm.Cond.privateMethod ({ cls := "KineticLattice", name := "emptyAround", desc := "(I)I" } : Jvm.MethodName)) ∈ lw_tbl := lw_at lw_m0 28 rfl
theorem q44 : (Jvm.Cond.instanceMethod ({ cls := "KineticLattice", name := "emptyAround", desc := "(I)I" } : Jvm.MethodName)) ∈ lw_all := lw_g (lw_at lw_m0 29 rfl) rfl
theorem q45 : (Jvm.Cond.code ({ cls := "KineticLattice", name := "emptyAround", desc := "(I)I" } : Jvm.MethodName) prog_1_method_6_code (4 : Nat) (Option.some Jvm.ClassFile.FieldType.int)) ∈ lw_all := lw_g (lw_at lw_m0 30 rfl) rfl
theorem q46 : (Jvm.Cond.methodLink "KineticLattice" (41 : Nat) ({ cls := "KineticLattice", name := "addTo", desc := "(II)V" } : Jvm.MethodName)) ∈ lw_all := lw_g (lw_at lw_m0 31 rfl) rfl
theorem q47 : (Jvm.Cond.privateMethod ({ cls := "KineticLattice", name := "addTo", desc := "(II)V" } : Jvm.MethodName)) ∈ lw_tbl := lw_at lw_m0 32 rfl
theorem q48 : (Jvm.Cond.instanceMethod ({ cls := "KineticLattice", name := "addTo", desc := "(II)V" } : Jvm.MethodName)) ∈ lw_all := lw_g (lw_at lw_m0 33 rfl) rfl
theorem q49 : (Jvm.Cond.code ({ cls := "KineticLattice", name := "addTo", desc := "(II)V" } : Jvm.MethodName) prog_1_method_2_code (4 : Nat) (Option.none : Option Jvm.ClassFile.FieldType)) ∈ lw_all := lw_g (lw_at lw_m0 34 rfl) rfl
theorem q50 : (Jvm.Cond.fieldLink "KineticLattice" (7 : Nat) "KineticLattice" "rates" "[I") ∈ lw_all := lw_g (lw_at lw_m0 35 rfl) rfl
theorem q51 : (Jvm.Cond.fieldLink "KineticLattice" (13 : Nat) "KineticLattice" "states" "[I") ∈ lw_all := lw_g (lw_at lw_m0 36 rfl) rfl
theorem q52 : (Jvm.Cond.fieldLink "KineticLattice" (16 : Nat) "KineticLattice" "next" "[I") ∈ lw_all := lw_g (lw_at lw_m0 37 rfl) rfl
theorem q53 : (Jvm.Cond.fieldLink "KineticLattice" (19 : Nat) "KineticLattice" "sum" "[I") ∈ lw_all := lw_g (lw_at lw_m0 38 rfl) rfl
theorem q54 : (Jvm.Cond.fieldLink "KineticLattice" (22 : Nat) "KineticLattice" "tree" "[I") ∈ lw_all := lw_g (lw_at lw_m0 39 rfl) rfl
theorem q55 : (Jvm.Cond.fieldLink "KineticLattice" (49 : Nat) "KineticLattice" "particles" "I") ∈ lw_all := lw_g (lw_at lw_m0 40 rfl) rfl
theorem q56 : (Jvm.Cond.fieldLink "KineticLattice" (25 : Nat) "KineticLattice" "events" "[I") ∈ lw_all := lw_g (lw_at lw_m0 41 rfl) rfl
theorem q57 : (Jvm.Cond.laysFinal "KineticLattice" "KineticLattice" "rates" "[I") ∈ lw_all := lw_g (lw_at lw_m0 42 rfl) rfl
theorem q58 : (Jvm.Cond.soleField "KineticLattice" "rates") ∈ lw_all := lw_g (lw_at lw_m0 43 rfl) rfl
theorem q59 : (Jvm.Cond.laysFinal "KineticLattice" "KineticLattice" "states" "[I") ∈ lw_all := lw_g (lw_at lw_m0 44 rfl) rfl
theorem q60 : (Jvm.Cond.soleField "KineticLattice" "states") ∈ lw_all := lw_g (lw_at lw_m0 45 rfl) rfl
theorem q61 : (Jvm.Cond.laysFinal "KineticLattice" "KineticLattice" "next" "[I") ∈ lw_all := lw_g (lw_at lw_m0 46 rfl) rfl
theorem q62 : (Jvm.Cond.soleField "KineticLattice" "next") ∈ lw_all := lw_g (lw_at lw_m0 47 rfl) rfl
theorem q63 : (Jvm.Cond.laysFinal "KineticLattice" "KineticLattice" "sum" "[I") ∈ lw_all := lw_g (lw_at lw_m0 48 rfl) rfl
theorem q64 : (Jvm.Cond.soleField "KineticLattice" "sum") ∈ lw_all := lw_g (lw_at lw_m0 49 rfl) rfl
theorem q65 : (Jvm.Cond.laysFinal "KineticLattice" "KineticLattice" "tree" "[I") ∈ lw_all := lw_g (lw_at lw_m0 50 rfl) rfl
theorem q66 : (Jvm.Cond.soleField "KineticLattice" "tree") ∈ lw_all := lw_g (lw_at lw_m0 51 rfl) rfl
theorem q67 : (Jvm.Cond.lays "KineticLattice" "KineticLattice" "particles" "I") ∈ lw_all := lw_g (lw_at lw_m0 52 rfl) rfl
theorem q68 : (Jvm.Cond.soleField "KineticLattice" "particles") ∈ lw_all := lw_g (lw_at lw_m0 53 rfl) rfl
theorem q69 : (Jvm.Cond.laysFinal "KineticLattice" "KineticLattice" "events" "[I") ∈ lw_all := lw_g (lw_at lw_m0 54 rfl) rfl
theorem q70 : (Jvm.Cond.soleField "KineticLattice" "events") ∈ lw_all := lw_g (lw_at lw_m0 55 rfl) rfl
theorem q71 : (Jvm.Cond.superclass "KineticLattice" "java/lang/Object") ∈ lw_all := lw_g (lw_at lw_m0 56 rfl) rfl
theorem q74 : (Jvm.Cond.instanceMethod ({ cls := "KineticLattice", name := "rate", desc := "(II)I" } : Jvm.MethodName)) ∈ lw_all := lw_g (lw_at lw_m0 59 rfl) rfl
theorem q75 : (Jvm.Cond.selects "KineticLattice" ({ cls := "KineticLattice", name := "rate", desc := "(II)I" } : Jvm.MethodName) ({ cls := "KineticLattice", name := "rate", desc := "(II)I" } : Jvm.MethodName)) ∈ lw_all := lw_g (lw_at lw_m0 60 rfl) rfl
theorem q76 : (Jvm.Cond.code ({ cls := "KineticLattice", name := "rate", desc := "(II)I" } : Jvm.MethodName) prog_1_method_12_code (4 : Nat) (Option.some Jvm.ClassFile.FieldType.int)) ∈ lw_all := lw_g (lw_at lw_m0 61 rfl) rfl
theorem q78 : (Jvm.Cond.instanceMethod ({ cls := "KineticLattice", name := "set", desc := "(II)I" } : Jvm.MethodName)) ∈ lw_all := lw_g (lw_at lw_m0 63 rfl) rfl
theorem q79 : (Jvm.Cond.selects "KineticLattice" ({ cls := "KineticLattice", name := "set", desc := "(II)I" } : Jvm.MethodName) ({ cls := "KineticLattice", name := "set", desc := "(II)I" } : Jvm.MethodName)) ∈ lw_all := lw_g (lw_at lw_m0 64 rfl) rfl
theorem q80 : (Jvm.Cond.code ({ cls := "KineticLattice", name := "set", desc := "(II)I" } : Jvm.MethodName) prog_1_method_13_code (4 : Nat) (Option.some Jvm.ClassFile.FieldType.int)) ∈ lw_all := lw_g (lw_at lw_m0 65 rfl) rfl
theorem q81 : (Jvm.Cond.methodLink "KineticLattice" (56 : Nat) ({ cls := "KineticLattice", name := "become", desc := "(II)V" } : Jvm.MethodName)) ∈ lw_all := lw_g (lw_at lw_m0 66 rfl) rfl
theorem q82 : (Jvm.Cond.privateMethod ({ cls := "KineticLattice", name := "become", desc := "(II)V" } : Jvm.MethodName)) ∈ lw_tbl := lw_at lw_m0 67 rfl
theorem q83 : (Jvm.Cond.instanceMethod ({ cls := "KineticLattice", name := "become", desc := "(II)V" } : Jvm.MethodName)) ∈ lw_all := lw_g (lw_at lw_m0 68 rfl) rfl
theorem q84 : (Jvm.Cond.code ({ cls := "KineticLattice", name := "become", desc := "(II)V" } : Jvm.MethodName) prog_1_method_11_code (3 : Nat) (Option.none : Option Jvm.ClassFile.FieldType)) ∈ lw_all := lw_g (lw_at lw_m0 69 rfl) rfl
theorem q85 : (Jvm.Cond.methodLink "KineticLattice" (53 : Nat) ({ cls := "KineticLattice", name := "refreshAround", desc := "(I)V" } : Jvm.MethodName)) ∈ lw_all := lw_g (lw_at lw_m0 70 rfl) rfl
theorem q86 : (Jvm.Cond.privateMethod ({ cls := "KineticLattice", name := "refreshAround", desc := "(I)V" } : Jvm.MethodName)) ∈ lw_tbl := lw_at lw_m0 71 rfl
theorem q87 : (Jvm.Cond.instanceMethod ({ cls := "KineticLattice", name := "refreshAround", desc := "(I)V" } : Jvm.MethodName)) ∈ lw_all := lw_g (lw_at lw_m0 72 rfl) rfl
theorem q88 : (Jvm.Cond.code ({ cls := "KineticLattice", name := "refreshAround", desc := "(I)V" } : Jvm.MethodName) prog_1_method_9_code (3 : Nat) (Option.none : Option Jvm.ClassFile.FieldType)) ∈ lw_all := lw_g (lw_at lw_m0 73 rfl) rfl
theorem q90 : (Jvm.Cond.instanceMethod ({ cls := "KineticLattice", name := "step", desc := "(I)I" } : Jvm.MethodName)) ∈ lw_all := lw_g (lw_at lw_m0 75 rfl) rfl
theorem q91 : (Jvm.Cond.selects "KineticLattice" ({ cls := "KineticLattice", name := "step", desc := "(I)I" } : Jvm.MethodName) ({ cls := "KineticLattice", name := "step", desc := "(I)I" } : Jvm.MethodName)) ∈ lw_all := lw_g (lw_at lw_m0 76 rfl) rfl
theorem q92 : (Jvm.Cond.code ({ cls := "KineticLattice", name := "step", desc := "(I)I" } : Jvm.MethodName) prog_1_method_14_code (7 : Nat) (Option.some Jvm.ClassFile.FieldType.int)) ∈ lw_all := lw_g (lw_at lw_m0 77 rfl) rfl
theorem q93 : (Jvm.Cond.methodLink "KineticLattice" (59 : Nat) ({ cls := "KineticLattice", name := "prefix", desc := "(I)I" } : Jvm.MethodName)) ∈ lw_all := lw_g (lw_at lw_m0 78 rfl) rfl
theorem q94 : (Jvm.Cond.privateMethod ({ cls := "KineticLattice", name := "prefix", desc := "(I)I" } : Jvm.MethodName)) ∈ lw_tbl := lw_at lw_m0 79 rfl
theorem q95 : (Jvm.Cond.instanceMethod ({ cls := "KineticLattice", name := "prefix", desc := "(I)I" } : Jvm.MethodName)) ∈ lw_all := lw_g (lw_at lw_m0 80 rfl) rfl
theorem q96 : (Jvm.Cond.code ({ cls := "KineticLattice", name := "prefix", desc := "(I)I" } : Jvm.MethodName) prog_1_method_3_code (4 : Nat) (Option.some Jvm.ClassFile.FieldType.int)) ∈ lw_all := lw_g (lw_at lw_m0 81 rfl) rfl
theorem q97 : (Jvm.Cond.methodLink "KineticLattice" (62 : Nat) ({ cls := "KineticLattice", name := "siteOf", desc := "(I)I" } : Jvm.MethodName)) ∈ lw_all := lw_g (lw_at lw_m0 82 rfl) rfl
theorem q98 : (Jvm.Cond.privateMethod ({ cls := "KineticLattice", name := "siteOf", desc := "(I)I" } : Jvm.MethodName)) ∈ lw_tbl := lw_at lw_m0 83 rfl
theorem q99 : (Jvm.Cond.instanceMethod ({ cls := "KineticLattice", name := "siteOf", desc := "(I)I" } : Jvm.MethodName)) ∈ lw_all := lw_g (lw_at lw_m0 84 rfl) rfl
theorem q100 : (Jvm.Cond.code ({ cls := "KineticLattice", name := "siteOf", desc := "(I)I" } : Jvm.MethodName) prog_1_method_4_code (5 : Nat) (Option.some Jvm.ClassFile.FieldType.int)) ∈ lw_all := lw_g (lw_at lw_m0 85 rfl) rfl
theorem q101 : (Jvm.Cond.methodLink "KineticLattice" (65 : Nat) ({ cls := "KineticLattice", name := "hopOf", desc := "(II)I" } : Jvm.MethodName)) ∈ lw_all := lw_g (lw_at lw_m0 86 rfl) rfl
theorem q102 : (Jvm.Cond.privateMethod ({ cls := "KineticLattice", name := "hopOf", desc := "(II)I" } : Jvm.MethodName)) ∈ lw_tbl := lw_at lw_m0 87 rfl
theorem q103 : (Jvm.Cond.instanceMethod ({ cls := "KineticLattice", name := "hopOf", desc := "(II)I" } : Jvm.MethodName)) ∈ lw_all := lw_g (lw_at lw_m0 88 rfl) rfl
theorem q104 : (Jvm.Cond.code ({ cls := "KineticLattice", name := "hopOf", desc := "(II)I" } : Jvm.MethodName) prog_1_method_15_code (6 : Nat) (Option.some Jvm.ClassFile.FieldType.int)) ∈ lw_all := lw_g (lw_at lw_m0 89 rfl) rfl
theorem q106 : (Jvm.Cond.instanceMethod ({ cls := "KineticLattice", name := "run", desc := "(II)I" } : Jvm.MethodName)) ∈ lw_all := lw_g (lw_at lw_m0 91 rfl) rfl
theorem q107 : (Jvm.Cond.selects "KineticLattice" ({ cls := "KineticLattice", name := "run", desc := "(II)I" } : Jvm.MethodName) ({ cls := "KineticLattice", name := "run", desc := "(II)I" } : Jvm.MethodName)) ∈ lw_all := lw_g (lw_at lw_m0 92 rfl) rfl
theorem q108 : (Jvm.Cond.code ({ cls := "KineticLattice", name := "run", desc := "(II)I" } : Jvm.MethodName) prog_1_method_16_code (8 : Nat) (Option.some Jvm.ClassFile.FieldType.int)) ∈ lw_all := lw_g (lw_at lw_m0 93 rfl) rfl
theorem q109 : (Jvm.Cond.constant "KineticLattice" (69 : Nat) (1103515245 : Int32)) ∈ lw_all := lw_g (lw_at lw_m0 94 rfl) rfl
theorem q110 : (Jvm.Cond.constant "KineticLattice" (70 : Nat) (1048575 : Int32)) ∈ lw_all := lw_g (lw_at lw_m0 95 rfl) rfl
theorem q111 : (Jvm.Cond.methodLink "KineticLattice" (71 : Nat) ({ cls := "KineticLattice", name := "step", desc := "(I)I" } : Jvm.MethodName)) ∈ lw_all := lw_g (lw_at lw_m0 96 rfl) rfl
theorem q113 : (Jvm.Cond.instanceMethod ({ cls := "KineticLattice", name := "clear", desc := "()V" } : Jvm.MethodName)) ∈ lw_all := lw_g (lw_at lw_m0 98 rfl) rfl
theorem q114 : (Jvm.Cond.selects "KineticLattice" ({ cls := "KineticLattice", name := "clear", desc := "()V" } : Jvm.MethodName) ({ cls := "KineticLattice", name := "clear", desc := "()V" } : Jvm.MethodName)) ∈ lw_all := lw_g (lw_at lw_m0 99 rfl) rfl
theorem q115 : (Jvm.Cond.code ({ cls := "KineticLattice", name := "clear", desc := "()V" } : Jvm.MethodName) prog_1_method_17_code (2 : Nat) (Option.none : Option Jvm.ClassFile.FieldType)) ∈ lw_all := lw_g (lw_at lw_m0 100 rfl) rfl
theorem q117 : (Jvm.Cond.instanceMethod ({ cls := "KineticLattice", name := "state", desc := "(I)I" } : Jvm.MethodName)) ∈ lw_all := lw_g (lw_at lw_m0 102 rfl) rfl
theorem q118 : (Jvm.Cond.selects "KineticLattice" ({ cls := "KineticLattice", name := "state", desc := "(I)I" } : Jvm.MethodName) ({ cls := "KineticLattice", name := "state", desc := "(I)I" } : Jvm.MethodName)) ∈ lw_all := lw_g (lw_at lw_m0 103 rfl) rfl
theorem q119 : (Jvm.Cond.code ({ cls := "KineticLattice", name := "state", desc := "(I)I" } : Jvm.MethodName) prog_1_method_18_code (2 : Nat) (Option.some Jvm.ClassFile.FieldType.int)) ∈ lw_all := lw_g (lw_at lw_m0 104 rfl) rfl
theorem q121 : (Jvm.Cond.instanceMethod ({ cls := "KineticLattice", name := "total", desc := "()I" } : Jvm.MethodName)) ∈ lw_all := lw_g (lw_at lw_m0 106 rfl) rfl
theorem q122 : (Jvm.Cond.selects "KineticLattice" ({ cls := "KineticLattice", name := "total", desc := "()I" } : Jvm.MethodName) ({ cls := "KineticLattice", name := "total", desc := "()I" } : Jvm.MethodName)) ∈ lw_all := lw_g (lw_at lw_m0 107 rfl) rfl
theorem q123 : (Jvm.Cond.code ({ cls := "KineticLattice", name := "total", desc := "()I" } : Jvm.MethodName) prog_1_method_19_code (1 : Nat) (Option.some Jvm.ClassFile.FieldType.int)) ∈ lw_all := lw_g (lw_at lw_m0 108 rfl) rfl
theorem q125 : (Jvm.Cond.instanceMethod ({ cls := "KineticLattice", name := "siteRate", desc := "(I)I" } : Jvm.MethodName)) ∈ lw_all := lw_g (lw_at lw_m0 110 rfl) rfl
theorem q126 : (Jvm.Cond.selects "KineticLattice" ({ cls := "KineticLattice", name := "siteRate", desc := "(I)I" } : Jvm.MethodName) ({ cls := "KineticLattice", name := "siteRate", desc := "(I)I" } : Jvm.MethodName)) ∈ lw_all := lw_g (lw_at lw_m0 111 rfl) rfl
theorem q127 : (Jvm.Cond.code ({ cls := "KineticLattice", name := "siteRate", desc := "(I)I" } : Jvm.MethodName) prog_1_method_20_code (2 : Nat) (Option.some Jvm.ClassFile.FieldType.int)) ∈ lw_all := lw_g (lw_at lw_m0 112 rfl) rfl
theorem q129 : (Jvm.Cond.instanceMethod ({ cls := "KineticLattice", name := "occupied", desc := "()I" } : Jvm.MethodName)) ∈ lw_all := lw_g (lw_at lw_m0 114 rfl) rfl
theorem q130 : (Jvm.Cond.selects "KineticLattice" ({ cls := "KineticLattice", name := "occupied", desc := "()I" } : Jvm.MethodName) ({ cls := "KineticLattice", name := "occupied", desc := "()I" } : Jvm.MethodName)) ∈ lw_all := lw_g (lw_at lw_m0 115 rfl) rfl
theorem q131 : (Jvm.Cond.code ({ cls := "KineticLattice", name := "occupied", desc := "()I" } : Jvm.MethodName) prog_1_method_21_code (1 : Nat) (Option.some Jvm.ClassFile.FieldType.int)) ∈ lw_all := lw_g (lw_at lw_m0 116 rfl) rfl
theorem q133 : (Jvm.Cond.instanceMethod ({ cls := "KineticLattice", name := "pairs", desc := "()I" } : Jvm.MethodName)) ∈ lw_all := lw_g (lw_at lw_m0 118 rfl) rfl
theorem q134 : (Jvm.Cond.selects "KineticLattice" ({ cls := "KineticLattice", name := "pairs", desc := "()I" } : Jvm.MethodName) ({ cls := "KineticLattice", name := "pairs", desc := "()I" } : Jvm.MethodName)) ∈ lw_all := lw_g (lw_at lw_m0 119 rfl) rfl
theorem q135 : (Jvm.Cond.code ({ cls := "KineticLattice", name := "pairs", desc := "()I" } : Jvm.MethodName) prog_1_method_22_code (3 : Nat) (Option.some Jvm.ClassFile.FieldType.int)) ∈ lw_all := lw_g (lw_at lw_m0 120 rfl) rfl
theorem q137 : (Jvm.Cond.instanceMethod ({ cls := "KineticLattice", name := "happened", desc := "(I)I" } : Jvm.MethodName)) ∈ lw_all := lw_g (lw_at lw_m0 122 rfl) rfl
theorem q138 : (Jvm.Cond.selects "KineticLattice" ({ cls := "KineticLattice", name := "happened", desc := "(I)I" } : Jvm.MethodName) ({ cls := "KineticLattice", name := "happened", desc := "(I)I" } : Jvm.MethodName)) ∈ lw_all := lw_g (lw_at lw_m0 123 rfl) rfl
theorem q139 : (Jvm.Cond.code ({ cls := "KineticLattice", name := "happened", desc := "(I)I" } : Jvm.MethodName) prog_1_method_23_code (2 : Nat) (Option.some Jvm.ClassFile.FieldType.int)) ∈ lw_all := lw_g (lw_at lw_m0 124 rfl) rfl
theorem q141 : (Jvm.Cond.instanceMethod ({ cls := "KineticLattice", name := "before", desc := "(I)I" } : Jvm.MethodName)) ∈ lw_all := lw_g (lw_at lw_m0 126 rfl) rfl
theorem q142 : (Jvm.Cond.selects "KineticLattice" ({ cls := "KineticLattice", name := "before", desc := "(I)I" } : Jvm.MethodName) ({ cls := "KineticLattice", name := "before", desc := "(I)I" } : Jvm.MethodName)) ∈ lw_all := lw_g (lw_at lw_m0 127 rfl) rfl
theorem q143 : (Jvm.Cond.code ({ cls := "KineticLattice", name := "before", desc := "(I)I" } : Jvm.MethodName) prog_1_method_24_code (3 : Nat) (Option.some Jvm.ClassFile.FieldType.int)) ∈ lw_all := lw_g (lw_at lw_m0 128 rfl) rfl
theorem in_X0 : ∀ w ∈ wsX00, w ∈ lw_all := lw_in wsX00 [57, 59, 61, 63, 65, 67, 69] (by decide +kernel) (by decide +kernel)
end
section
/-! KineticLatticeModel -/
set_option maxRecDepth 100000
def RX1 : String := "KineticLatticeModel"
def TX1 : u_T := fun k => match k with
  | 0 => ("KineticLatticeModel", "rates", "[I", true)
  | 1 => ("KineticLatticeModel", "states", "[I", true)
  | _ => ("KineticLatticeModel", "events", "[I", true)
def tyX1 : Nat → FieldType := fun k => match k with
  | 0 => .array .int
  | 1 => .array .int
  | _ => .array .int
abbrev wsX10 : List Cond := u_ws RX1 TX1 3
theorem nmX1 : ∀ a, a < 3 → ∀ b, b < 3 → a ≠ b → (TX1 a).2.1 ≠ (TX1 b).2.1 := by decide +kernel
theorem tyX1_ok : ∀ k, k < 3 → parseFieldDescriptor (TX1 k).2.2.1 = some (tyX1 k) := by decide +kernel
abbrev cX1_init : ByteArray := prog_3_method_1_code
def yX1_init : MethodName := ⟨RX1, "<init>", "()V"⟩
theorem dX1_init_0 : decode cX1_init 0 = .ok (.aload_n 0, 1) := by decide +kernel
theorem dX1_init_1 : decode cX1_init 1 = .ok (.invokespecial 1, 3) := by decide +kernel
theorem dX1_init_4 : decode cX1_init 4 = .ok (.aload_n 0, 1) := by decide +kernel
theorem dX1_init_5 : decode cX1_init 5 = .ok (.bipush 7, 2) := by decide +kernel
theorem dX1_init_7 : decode cX1_init 7 = .ok (.newarray .int, 2) := by decide +kernel
theorem dX1_init_9 : decode cX1_init 9 = .ok (.putfield 7, 3) := by decide +kernel
theorem dX1_init_12 : decode cX1_init 12 = .ok (.aload_n 0, 1) := by decide +kernel
theorem dX1_init_13 : decode cX1_init 13 = .ok (.bipush 48, 2) := by decide +kernel
theorem dX1_init_15 : decode cX1_init 15 = .ok (.newarray .int, 2) := by decide +kernel
theorem dX1_init_17 : decode cX1_init 17 = .ok (.putfield 13, 3) := by decide +kernel
theorem dX1_init_20 : decode cX1_init 20 = .ok (.aload_n 0, 1) := by decide +kernel
theorem dX1_init_21 : decode cX1_init 21 = .ok (.iconst 3, 1) := by decide +kernel
theorem dX1_init_22 : decode cX1_init 22 = .ok (.newarray .int, 2) := by decide +kernel
theorem dX1_init_24 : decode cX1_init 24 = .ok (.putfield 16, 3) := by decide +kernel
theorem dX1_init_27 : decode cX1_init 27 = .ok (.iconst 0, 1) := by decide +kernel
theorem dX1_init_28 : decode cX1_init 28 = .ok (.istore_n 1, 1) := by decide +kernel
theorem dX1_init_29 : decode cX1_init 29 = .ok (.iload_n 1, 1) := by decide +kernel
theorem dX1_init_30 : decode cX1_init 30 = .ok (.bipush 7, 2) := by decide +kernel
theorem dX1_init_32 : decode cX1_init 32 = .ok (.if_icmp .ge 16, 3) := by decide +kernel
theorem dX1_init_35 : decode cX1_init 35 = .ok (.aload_n 0, 1) := by decide +kernel
theorem dX1_init_36 : decode cX1_init 36 = .ok (.getfield 7, 3) := by decide +kernel
theorem dX1_init_39 : decode cX1_init 39 = .ok (.iload_n 1, 1) := by decide +kernel
theorem dX1_init_40 : decode cX1_init 40 = .ok (.iconst 1, 1) := by decide +kernel
theorem dX1_init_41 : decode cX1_init 41 = .ok (.iastore, 1) := by decide +kernel
theorem dX1_init_42 : decode cX1_init 42 = .ok (.iinc 1 1, 3) := by decide +kernel
theorem dX1_init_45 : decode cX1_init 45 = .ok (.goto (-16), 3) := by decide +kernel
theorem dX1_init_48 : decode cX1_init 48 = .ok (.return_, 1) := by decide +kernel
abbrev cX1_rate : ByteArray := prog_3_method_2_code
def yX1_rate : MethodName := ⟨RX1, "rate", "(II)I"⟩
theorem dX1_rate_0 : decode cX1_rate 0 = .ok (.iload_n 1, 1) := by decide +kernel
theorem dX1_rate_1 : decode cX1_rate 1 = .ok (.ifCond .lt 9, 3) := by decide +kernel
theorem dX1_rate_4 : decode cX1_rate 4 = .ok (.iload_n 1, 1) := by decide +kernel
theorem dX1_rate_5 : decode cX1_rate 5 = .ok (.bipush 6, 2) := by decide +kernel
theorem dX1_rate_7 : decode cX1_rate 7 = .ok (.if_icmp .le 5, 3) := by decide +kernel
theorem dX1_rate_10 : decode cX1_rate 10 = .ok (.iconst (-1), 1) := by decide +kernel
theorem dX1_rate_11 : decode cX1_rate 11 = .ok (.ireturn, 1) := by decide +kernel
theorem dX1_rate_12 : decode cX1_rate 12 = .ok (.iload_n 2, 1) := by decide +kernel
theorem dX1_rate_13 : decode cX1_rate 13 = .ok (.ifCond .lt 10, 3) := by decide +kernel
theorem dX1_rate_16 : decode cX1_rate 16 = .ok (.iload_n 2, 1) := by decide +kernel
theorem dX1_rate_17 : decode cX1_rate 17 = .ok (.sipush 1000, 3) := by decide +kernel
theorem dX1_rate_20 : decode cX1_rate 20 = .ok (.if_icmp .le 6, 3) := by decide +kernel
theorem dX1_rate_23 : decode cX1_rate 23 = .ok (.bipush (-2), 2) := by decide +kernel
theorem dX1_rate_25 : decode cX1_rate 25 = .ok (.ireturn, 1) := by decide +kernel
theorem dX1_rate_26 : decode cX1_rate 26 = .ok (.aload_n 0, 1) := by decide +kernel
theorem dX1_rate_27 : decode cX1_rate 27 = .ok (.getfield 7, 3) := by decide +kernel
theorem dX1_rate_30 : decode cX1_rate 30 = .ok (.iload_n 1, 1) := by decide +kernel
theorem dX1_rate_31 : decode cX1_rate 31 = .ok (.iaload, 1) := by decide +kernel
theorem dX1_rate_32 : decode cX1_rate 32 = .ok (.istore_n 3, 1) := by decide +kernel
theorem dX1_rate_33 : decode cX1_rate 33 = .ok (.aload_n 0, 1) := by decide +kernel
theorem dX1_rate_34 : decode cX1_rate 34 = .ok (.getfield 7, 3) := by decide +kernel
theorem dX1_rate_37 : decode cX1_rate 37 = .ok (.iload_n 1, 1) := by decide +kernel
theorem dX1_rate_38 : decode cX1_rate 38 = .ok (.iload_n 2, 1) := by decide +kernel
theorem dX1_rate_39 : decode cX1_rate 39 = .ok (.iastore, 1) := by decide +kernel
theorem dX1_rate_40 : decode cX1_rate 40 = .ok (.iload_n 3, 1) := by decide +kernel
theorem dX1_rate_41 : decode cX1_rate 41 = .ok (.ireturn, 1) := by decide +kernel
abbrev cX1_set : ByteArray := prog_3_method_3_code
def yX1_set : MethodName := ⟨RX1, "set", "(II)I"⟩
theorem dX1_set_0 : decode cX1_set 0 = .ok (.iload_n 1, 1) := by decide +kernel
theorem dX1_set_1 : decode cX1_set 1 = .ok (.ifCond .lt 9, 3) := by decide +kernel
theorem dX1_set_4 : decode cX1_set 4 = .ok (.iload_n 1, 1) := by decide +kernel
theorem dX1_set_5 : decode cX1_set 5 = .ok (.bipush 47, 2) := by decide +kernel
theorem dX1_set_7 : decode cX1_set 7 = .ok (.if_icmp .le 5, 3) := by decide +kernel
theorem dX1_set_10 : decode cX1_set 10 = .ok (.iconst (-1), 1) := by decide +kernel
theorem dX1_set_11 : decode cX1_set 11 = .ok (.ireturn, 1) := by decide +kernel
theorem dX1_set_12 : decode cX1_set 12 = .ok (.iload_n 2, 1) := by decide +kernel
theorem dX1_set_13 : decode cX1_set 13 = .ok (.ifCond .lt 8, 3) := by decide +kernel
theorem dX1_set_16 : decode cX1_set 16 = .ok (.iload_n 2, 1) := by decide +kernel
theorem dX1_set_17 : decode cX1_set 17 = .ok (.iconst 2, 1) := by decide +kernel
theorem dX1_set_18 : decode cX1_set 18 = .ok (.if_icmp .le 6, 3) := by decide +kernel
theorem dX1_set_21 : decode cX1_set 21 = .ok (.bipush (-2), 2) := by decide +kernel
theorem dX1_set_23 : decode cX1_set 23 = .ok (.ireturn, 1) := by decide +kernel
theorem dX1_set_24 : decode cX1_set 24 = .ok (.aload_n 0, 1) := by decide +kernel
theorem dX1_set_25 : decode cX1_set 25 = .ok (.getfield 13, 3) := by decide +kernel
theorem dX1_set_28 : decode cX1_set 28 = .ok (.iload_n 1, 1) := by decide +kernel
theorem dX1_set_29 : decode cX1_set 29 = .ok (.iaload, 1) := by decide +kernel
theorem dX1_set_30 : decode cX1_set 30 = .ok (.istore_n 3, 1) := by decide +kernel
theorem dX1_set_31 : decode cX1_set 31 = .ok (.aload_n 0, 1) := by decide +kernel
theorem dX1_set_32 : decode cX1_set 32 = .ok (.getfield 13, 3) := by decide +kernel
theorem dX1_set_35 : decode cX1_set 35 = .ok (.iload_n 1, 1) := by decide +kernel
theorem dX1_set_36 : decode cX1_set 36 = .ok (.iload_n 2, 1) := by decide +kernel
theorem dX1_set_37 : decode cX1_set 37 = .ok (.iastore, 1) := by decide +kernel
theorem dX1_set_38 : decode cX1_set 38 = .ok (.iload_n 3, 1) := by decide +kernel
theorem dX1_set_39 : decode cX1_set 39 = .ok (.ireturn, 1) := by decide +kernel
abbrev cX1_step : ByteArray := prog_3_method_7_code
def yX1_step : MethodName := ⟨RX1, "step", "(I)I"⟩
theorem dX1_step_0 : decode cX1_step 0 = .ok (.iload_n 1, 1) := by decide +kernel
theorem dX1_step_1 : decode cX1_step 1 = .ok (.ifCond .lt 11, 3) := by decide +kernel
theorem dX1_step_4 : decode cX1_step 4 = .ok (.iload_n 1, 1) := by decide +kernel
theorem dX1_step_5 : decode cX1_step 5 = .ok (.aload_n 0, 1) := by decide +kernel
theorem dX1_step_6 : decode cX1_step 6 = .ok (.invokevirtual 27, 3) := by decide +kernel
theorem dX1_step_9 : decode cX1_step 9 = .ok (.if_icmp .lt 6, 3) := by decide +kernel
theorem dX1_step_12 : decode cX1_step 12 = .ok (.bipush (-3), 2) := by decide +kernel
theorem dX1_step_14 : decode cX1_step 14 = .ok (.ireturn, 1) := by decide +kernel
theorem dX1_step_15 : decode cX1_step 15 = .ok (.iconst 0, 1) := by decide +kernel
theorem dX1_step_16 : decode cX1_step 16 = .ok (.istore_n 2, 1) := by decide +kernel
theorem dX1_step_17 : decode cX1_step 17 = .ok (.iconst 0, 1) := by decide +kernel
theorem dX1_step_18 : decode cX1_step 18 = .ok (.istore_n 3, 1) := by decide +kernel
theorem dX1_step_19 : decode cX1_step 19 = .ok (.iload_n 3, 1) := by decide +kernel
theorem dX1_step_20 : decode cX1_step 20 = .ok (.sipush 288, 3) := by decide +kernel
theorem dX1_step_23 : decode cX1_step 23 = .ok (.if_icmp .ge 54, 3) := by decide +kernel
theorem dX1_step_26 : decode cX1_step 26 = .ok (.aload_n 0, 1) := by decide +kernel
theorem dX1_step_27 : decode cX1_step 27 = .ok (.iload_n 3, 1) := by decide +kernel
theorem dX1_step_28 : decode cX1_step 28 = .ok (.bipush 6, 2) := by decide +kernel
theorem dX1_step_30 : decode cX1_step 30 = .ok (.idiv, 1) := by decide +kernel
theorem dX1_step_31 : decode cX1_step 31 = .ok (.iload_n 3, 1) := by decide +kernel
theorem dX1_step_32 : decode cX1_step 32 = .ok (.bipush 6, 2) := by decide +kernel
theorem dX1_step_34 : decode cX1_step 34 = .ok (.irem, 1) := by decide +kernel
theorem dX1_step_35 : decode cX1_step 35 = .ok (.invokevirtual 31, 3) := by decide +kernel
theorem dX1_step_38 : decode cX1_step 38 = .ok (.istore 4, 2) := by decide +kernel
theorem dX1_step_40 : decode cX1_step 40 = .ok (.iload_n 2, 1) := by decide +kernel
theorem dX1_step_41 : decode cX1_step 41 = .ok (.iload_n 1, 1) := by decide +kernel
theorem dX1_step_42 : decode cX1_step 42 = .ok (.if_icmp .gt 24, 3) := by decide +kernel
theorem dX1_step_45 : decode cX1_step 45 = .ok (.iload_n 1, 1) := by decide +kernel
theorem dX1_step_46 : decode cX1_step 46 = .ok (.iload_n 2, 1) := by decide +kernel
theorem dX1_step_47 : decode cX1_step 47 = .ok (.iload 4, 2) := by decide +kernel
theorem dX1_step_49 : decode cX1_step 49 = .ok (.iadd, 1) := by decide +kernel
theorem dX1_step_50 : decode cX1_step 50 = .ok (.if_icmp .ge 16, 3) := by decide +kernel
theorem dX1_step_53 : decode cX1_step 53 = .ok (.aload_n 0, 1) := by decide +kernel
theorem dX1_step_54 : decode cX1_step 54 = .ok (.iload_n 3, 1) := by decide +kernel
theorem dX1_step_55 : decode cX1_step 55 = .ok (.bipush 6, 2) := by decide +kernel
theorem dX1_step_57 : decode cX1_step 57 = .ok (.idiv, 1) := by decide +kernel
theorem dX1_step_58 : decode cX1_step 58 = .ok (.iload_n 3, 1) := by decide +kernel
theorem dX1_step_59 : decode cX1_step 59 = .ok (.bipush 6, 2) := by decide +kernel
theorem dX1_step_61 : decode cX1_step 61 = .ok (.irem, 1) := by decide +kernel
theorem dX1_step_62 : decode cX1_step 62 = .ok (.invokevirtual 34, 3) := by decide +kernel
theorem dX1_step_65 : decode cX1_step 65 = .ok (.ireturn, 1) := by decide +kernel
theorem dX1_step_66 : decode cX1_step 66 = .ok (.iload_n 2, 1) := by decide +kernel
theorem dX1_step_67 : decode cX1_step 67 = .ok (.iload 4, 2) := by decide +kernel
theorem dX1_step_69 : decode cX1_step 69 = .ok (.iadd, 1) := by decide +kernel
theorem dX1_step_70 : decode cX1_step 70 = .ok (.istore_n 2, 1) := by decide +kernel
theorem dX1_step_71 : decode cX1_step 71 = .ok (.iinc 3 1, 3) := by decide +kernel
theorem dX1_step_74 : decode cX1_step 74 = .ok (.goto (-55), 3) := by decide +kernel
theorem dX1_step_77 : decode cX1_step 77 = .ok (.bipush (-3), 2) := by decide +kernel
theorem dX1_step_79 : decode cX1_step 79 = .ok (.ireturn, 1) := by decide +kernel
abbrev cX1_total : ByteArray := prog_3_method_12_code
def yX1_total : MethodName := ⟨RX1, "total", "()I"⟩
theorem dX1_total_0 : decode cX1_total 0 = .ok (.aload_n 0, 1) := by decide +kernel
theorem dX1_total_1 : decode cX1_total 1 = .ok (.bipush 48, 2) := by decide +kernel
theorem dX1_total_3 : decode cX1_total 3 = .ok (.invokevirtual 42, 3) := by decide +kernel
theorem dX1_total_6 : decode cX1_total 6 = .ok (.ireturn, 1) := by decide +kernel
abbrev cX1_before : ByteArray := prog_3_method_17_code
def yX1_before : MethodName := ⟨RX1, "before", "(I)I"⟩
theorem dX1_before_0 : decode cX1_before 0 = .ok (.iconst 0, 1) := by decide +kernel
theorem dX1_before_1 : decode cX1_before 1 = .ok (.istore_n 2, 1) := by decide +kernel
theorem dX1_before_2 : decode cX1_before 2 = .ok (.iconst 0, 1) := by decide +kernel
theorem dX1_before_3 : decode cX1_before 3 = .ok (.istore_n 3, 1) := by decide +kernel
theorem dX1_before_4 : decode cX1_before 4 = .ok (.iload_n 3, 1) := by decide +kernel
theorem dX1_before_5 : decode cX1_before 5 = .ok (.iload_n 1, 1) := by decide +kernel
theorem dX1_before_6 : decode cX1_before 6 = .ok (.if_icmp .ge 23, 3) := by decide +kernel
theorem dX1_before_9 : decode cX1_before 9 = .ok (.iload_n 3, 1) := by decide +kernel
theorem dX1_before_10 : decode cX1_before 10 = .ok (.bipush 48, 2) := by decide +kernel
theorem dX1_before_12 : decode cX1_before 12 = .ok (.if_icmp .ge 17, 3) := by decide +kernel
theorem dX1_before_15 : decode cX1_before 15 = .ok (.iload_n 2, 1) := by decide +kernel
theorem dX1_before_16 : decode cX1_before 16 = .ok (.aload_n 0, 1) := by decide +kernel
theorem dX1_before_17 : decode cX1_before 17 = .ok (.iload_n 3, 1) := by decide +kernel
theorem dX1_before_18 : decode cX1_before 18 = .ok (.invokevirtual 45, 3) := by decide +kernel
theorem dX1_before_21 : decode cX1_before 21 = .ok (.iadd, 1) := by decide +kernel
theorem dX1_before_22 : decode cX1_before 22 = .ok (.istore_n 2, 1) := by decide +kernel
theorem dX1_before_23 : decode cX1_before 23 = .ok (.iinc 3 1, 3) := by decide +kernel
theorem dX1_before_26 : decode cX1_before 26 = .ok (.goto (-22), 3) := by decide +kernel
theorem dX1_before_29 : decode cX1_before 29 = .ok (.iload_n 2, 1) := by decide +kernel
theorem dX1_before_30 : decode cX1_before 30 = .ok (.ireturn, 1) := by decide +kernel
abbrev cX1_siteRate : ByteArray := prog_3_method_13_code
def yX1_siteRate : MethodName := ⟨RX1, "siteRate", "(I)I"⟩
theorem dX1_siteRate_0 : decode cX1_siteRate 0 = .ok (.iload_n 1, 1) := by decide +kernel
theorem dX1_siteRate_1 : decode cX1_siteRate 1 = .ok (.ifCond .lt 9, 3) := by decide +kernel
theorem dX1_siteRate_4 : decode cX1_siteRate 4 = .ok (.iload_n 1, 1) := by decide +kernel
theorem dX1_siteRate_5 : decode cX1_siteRate 5 = .ok (.bipush 47, 2) := by decide +kernel
theorem dX1_siteRate_7 : decode cX1_siteRate 7 = .ok (.if_icmp .le 5, 3) := by decide +kernel
theorem dX1_siteRate_10 : decode cX1_siteRate 10 = .ok (.iconst (-1), 1) := by decide +kernel
theorem dX1_siteRate_11 : decode cX1_siteRate 11 = .ok (.ireturn, 1) := by decide +kernel
theorem dX1_siteRate_12 : decode cX1_siteRate 12 = .ok (.iconst 0, 1) := by decide +kernel
theorem dX1_siteRate_13 : decode cX1_siteRate 13 = .ok (.istore_n 2, 1) := by decide +kernel
theorem dX1_siteRate_14 : decode cX1_siteRate 14 = .ok (.iconst 0, 1) := by decide +kernel
theorem dX1_siteRate_15 : decode cX1_siteRate 15 = .ok (.istore_n 3, 1) := by decide +kernel
theorem dX1_siteRate_16 : decode cX1_siteRate 16 = .ok (.iload_n 3, 1) := by decide +kernel
theorem dX1_siteRate_17 : decode cX1_siteRate 17 = .ok (.bipush 6, 2) := by decide +kernel
theorem dX1_siteRate_19 : decode cX1_siteRate 19 = .ok (.if_icmp .ge 18, 3) := by decide +kernel
theorem dX1_siteRate_22 : decode cX1_siteRate 22 = .ok (.iload_n 2, 1) := by decide +kernel
theorem dX1_siteRate_23 : decode cX1_siteRate 23 = .ok (.aload_n 0, 1) := by decide +kernel
theorem dX1_siteRate_24 : decode cX1_siteRate 24 = .ok (.iload_n 1, 1) := by decide +kernel
theorem dX1_siteRate_25 : decode cX1_siteRate 25 = .ok (.iload_n 3, 1) := by decide +kernel
theorem dX1_siteRate_26 : decode cX1_siteRate 26 = .ok (.invokevirtual 31, 3) := by decide +kernel
theorem dX1_siteRate_29 : decode cX1_siteRate 29 = .ok (.iadd, 1) := by decide +kernel
theorem dX1_siteRate_30 : decode cX1_siteRate 30 = .ok (.istore_n 2, 1) := by decide +kernel
theorem dX1_siteRate_31 : decode cX1_siteRate 31 = .ok (.iinc 3 1, 3) := by decide +kernel
theorem dX1_siteRate_34 : decode cX1_siteRate 34 = .ok (.goto (-18), 3) := by decide +kernel
theorem dX1_siteRate_37 : decode cX1_siteRate 37 = .ok (.iload_n 2, 1) := by decide +kernel
theorem dX1_siteRate_38 : decode cX1_siteRate 38 = .ok (.ireturn, 1) := by decide +kernel
abbrev cX1_eventRate : ByteArray := prog_3_method_6_code
def yX1_eventRate : MethodName := ⟨RX1, "eventRate", "(II)I"⟩
theorem dX1_eventRate_0 : decode cX1_eventRate 0 = .ok (.aload_n 0, 1) := by decide +kernel
theorem dX1_eventRate_1 : decode cX1_eventRate 1 = .ok (.getfield 13, 3) := by decide +kernel
theorem dX1_eventRate_4 : decode cX1_eventRate 4 = .ok (.iload_n 1, 1) := by decide +kernel
theorem dX1_eventRate_5 : decode cX1_eventRate 5 = .ok (.iaload, 1) := by decide +kernel
theorem dX1_eventRate_6 : decode cX1_eventRate 6 = .ok (.ifCond .ne 18, 3) := by decide +kernel
theorem dX1_eventRate_9 : decode cX1_eventRate 9 = .ok (.iload_n 2, 1) := by decide +kernel
theorem dX1_eventRate_10 : decode cX1_eventRate 10 = .ok (.ifCond .ne 12, 3) := by decide +kernel
theorem dX1_eventRate_13 : decode cX1_eventRate 13 = .ok (.aload_n 0, 1) := by decide +kernel
theorem dX1_eventRate_14 : decode cX1_eventRate 14 = .ok (.getfield 7, 3) := by decide +kernel
theorem dX1_eventRate_17 : decode cX1_eventRate 17 = .ok (.iconst 5, 1) := by decide +kernel
theorem dX1_eventRate_18 : decode cX1_eventRate 18 = .ok (.iaload, 1) := by decide +kernel
theorem dX1_eventRate_19 : decode cX1_eventRate 19 = .ok (.goto 4, 3) := by decide +kernel
theorem dX1_eventRate_22 : decode cX1_eventRate 22 = .ok (.iconst 0, 1) := by decide +kernel
theorem dX1_eventRate_23 : decode cX1_eventRate 23 = .ok (.ireturn, 1) := by decide +kernel
theorem dX1_eventRate_24 : decode cX1_eventRate 24 = .ok (.aload_n 0, 1) := by decide +kernel
theorem dX1_eventRate_25 : decode cX1_eventRate 25 = .ok (.getfield 13, 3) := by decide +kernel
theorem dX1_eventRate_28 : decode cX1_eventRate 28 = .ok (.iload_n 1, 1) := by decide +kernel
theorem dX1_eventRate_29 : decode cX1_eventRate 29 = .ok (.iaload, 1) := by decide +kernel
theorem dX1_eventRate_30 : decode cX1_eventRate 30 = .ok (.iconst 2, 1) := by decide +kernel
theorem dX1_eventRate_31 : decode cX1_eventRate 31 = .ok (.if_icmp .eq 7, 3) := by decide +kernel
theorem dX1_eventRate_34 : decode cX1_eventRate 34 = .ok (.iload_n 2, 1) := by decide +kernel
theorem dX1_eventRate_35 : decode cX1_eventRate 35 = .ok (.ifCond .ne 5, 3) := by decide +kernel
theorem dX1_eventRate_38 : decode cX1_eventRate 38 = .ok (.iconst 0, 1) := by decide +kernel
theorem dX1_eventRate_39 : decode cX1_eventRate 39 = .ok (.ireturn, 1) := by decide +kernel
theorem dX1_eventRate_40 : decode cX1_eventRate 40 = .ok (.iload_n 2, 1) := by decide +kernel
theorem dX1_eventRate_41 : decode cX1_eventRate 41 = .ok (.iconst 1, 1) := by decide +kernel
theorem dX1_eventRate_42 : decode cX1_eventRate 42 = .ok (.if_icmp .ne 14, 3) := by decide +kernel
theorem dX1_eventRate_45 : decode cX1_eventRate 45 = .ok (.aload_n 0, 1) := by decide +kernel
theorem dX1_eventRate_46 : decode cX1_eventRate 46 = .ok (.getfield 7, 3) := by decide +kernel
theorem dX1_eventRate_49 : decode cX1_eventRate 49 = .ok (.aload_n 0, 1) := by decide +kernel
theorem dX1_eventRate_50 : decode cX1_eventRate 50 = .ok (.iload_n 1, 1) := by decide +kernel
theorem dX1_eventRate_51 : decode cX1_eventRate 51 = .ok (.invokevirtual 23, 3) := by decide +kernel
theorem dX1_eventRate_54 : decode cX1_eventRate 54 = .ok (.iaload, 1) := by decide +kernel
theorem dX1_eventRate_55 : decode cX1_eventRate 55 = .ok (.ireturn, 1) := by decide +kernel
theorem dX1_eventRate_56 : decode cX1_eventRate 56 = .ok (.aload_n 0, 1) := by decide +kernel
theorem dX1_eventRate_57 : decode cX1_eventRate 57 = .ok (.getfield 13, 3) := by decide +kernel
theorem dX1_eventRate_60 : decode cX1_eventRate 60 = .ok (.aload_n 0, 1) := by decide +kernel
theorem dX1_eventRate_61 : decode cX1_eventRate 61 = .ok (.iload_n 1, 1) := by decide +kernel
theorem dX1_eventRate_62 : decode cX1_eventRate 62 = .ok (.iload_n 2, 1) := by decide +kernel
theorem dX1_eventRate_63 : decode cX1_eventRate 63 = .ok (.iconst 2, 1) := by decide +kernel
theorem dX1_eventRate_64 : decode cX1_eventRate 64 = .ok (.isub, 1) := by decide +kernel
theorem dX1_eventRate_65 : decode cX1_eventRate 65 = .ok (.invokevirtual 19, 3) := by decide +kernel
theorem dX1_eventRate_68 : decode cX1_eventRate 68 = .ok (.iaload, 1) := by decide +kernel
theorem dX1_eventRate_69 : decode cX1_eventRate 69 = .ok (.ifCond .ne 13, 3) := by decide +kernel
theorem dX1_eventRate_72 : decode cX1_eventRate 72 = .ok (.aload_n 0, 1) := by decide +kernel
theorem dX1_eventRate_73 : decode cX1_eventRate 73 = .ok (.getfield 7, 3) := by decide +kernel
theorem dX1_eventRate_76 : decode cX1_eventRate 76 = .ok (.bipush 6, 2) := by decide +kernel
theorem dX1_eventRate_78 : decode cX1_eventRate 78 = .ok (.iaload, 1) := by decide +kernel
theorem dX1_eventRate_79 : decode cX1_eventRate 79 = .ok (.goto 4, 3) := by decide +kernel
theorem dX1_eventRate_82 : decode cX1_eventRate 82 = .ok (.iconst 0, 1) := by decide +kernel
theorem dX1_eventRate_83 : decode cX1_eventRate 83 = .ok (.ireturn, 1) := by decide +kernel
abbrev cX1_occupiedBeside : ByteArray := prog_3_method_5_code
def yX1_occupiedBeside : MethodName := ⟨RX1, "occupiedBeside", "(I)I"⟩
theorem dX1_occupiedBeside_0 : decode cX1_occupiedBeside 0 = .ok (.iconst 0, 1) := by decide +kernel
theorem dX1_occupiedBeside_1 : decode cX1_occupiedBeside 1 = .ok (.istore_n 2, 1) := by decide +kernel
theorem dX1_occupiedBeside_2 : decode cX1_occupiedBeside 2 = .ok (.iconst 0, 1) := by decide +kernel
theorem dX1_occupiedBeside_3 : decode cX1_occupiedBeside 3 = .ok (.istore_n 3, 1) := by decide +kernel
theorem dX1_occupiedBeside_4 : decode cX1_occupiedBeside 4 = .ok (.iload_n 3, 1) := by decide +kernel
theorem dX1_occupiedBeside_5 : decode cX1_occupiedBeside 5 = .ok (.iconst 4, 1) := by decide +kernel
theorem dX1_occupiedBeside_6 : decode cX1_occupiedBeside 6 = .ok (.if_icmp .ge 27, 3) := by decide +kernel
theorem dX1_occupiedBeside_9 : decode cX1_occupiedBeside 9 = .ok (.aload_n 0, 1) := by decide +kernel
theorem dX1_occupiedBeside_10 : decode cX1_occupiedBeside 10 = .ok (.getfield 13, 3) := by decide +kernel
theorem dX1_occupiedBeside_13 : decode cX1_occupiedBeside 13 = .ok (.aload_n 0, 1) := by decide +kernel
theorem dX1_occupiedBeside_14 : decode cX1_occupiedBeside 14 = .ok (.iload_n 1, 1) := by decide +kernel
theorem dX1_occupiedBeside_15 : decode cX1_occupiedBeside 15 = .ok (.iload_n 3, 1) := by decide +kernel
theorem dX1_occupiedBeside_16 : decode cX1_occupiedBeside 16 = .ok (.invokevirtual 19, 3) := by decide +kernel
theorem dX1_occupiedBeside_19 : decode cX1_occupiedBeside 19 = .ok (.iaload, 1) := by decide +kernel
theorem dX1_occupiedBeside_20 : decode cX1_occupiedBeside 20 = .ok (.iconst 1, 1) := by decide +kernel
theorem dX1_occupiedBeside_21 : decode cX1_occupiedBeside 21 = .ok (.if_icmp .ne 6, 3) := by decide +kernel
theorem dX1_occupiedBeside_24 : decode cX1_occupiedBeside 24 = .ok (.iinc 2 1, 3) := by decide +kernel
theorem dX1_occupiedBeside_27 : decode cX1_occupiedBeside 27 = .ok (.iinc 3 1, 3) := by decide +kernel
theorem dX1_occupiedBeside_30 : decode cX1_occupiedBeside 30 = .ok (.goto (-26), 3) := by decide +kernel
theorem dX1_occupiedBeside_33 : decode cX1_occupiedBeside 33 = .ok (.iload_n 2, 1) := by decide +kernel
theorem dX1_occupiedBeside_34 : decode cX1_occupiedBeside 34 = .ok (.ireturn, 1) := by decide +kernel
abbrev cX1_neighbour : ByteArray := prog_3_method_4_code
def yX1_neighbour : MethodName := ⟨RX1, "neighbour", "(II)I"⟩
theorem dX1_neighbour_0 : decode cX1_neighbour 0 = .ok (.iload_n 1, 1) := by decide +kernel
theorem dX1_neighbour_1 : decode cX1_neighbour 1 = .ok (.bipush 6, 2) := by decide +kernel
theorem dX1_neighbour_3 : decode cX1_neighbour 3 = .ok (.irem, 1) := by decide +kernel
theorem dX1_neighbour_4 : decode cX1_neighbour 4 = .ok (.istore_n 3, 1) := by decide +kernel
theorem dX1_neighbour_5 : decode cX1_neighbour 5 = .ok (.iload_n 1, 1) := by decide +kernel
theorem dX1_neighbour_6 : decode cX1_neighbour 6 = .ok (.bipush 6, 2) := by decide +kernel
theorem dX1_neighbour_8 : decode cX1_neighbour 8 = .ok (.idiv, 1) := by decide +kernel
theorem dX1_neighbour_9 : decode cX1_neighbour 9 = .ok (.istore 4, 2) := by decide +kernel
theorem dX1_neighbour_11 : decode cX1_neighbour 11 = .ok (.iload_n 2, 1) := by decide +kernel
theorem dX1_neighbour_12 : decode cX1_neighbour 12 = .ok (.ifCond .ne 10, 3) := by decide +kernel
theorem dX1_neighbour_15 : decode cX1_neighbour 15 = .ok (.iload_n 3, 1) := by decide +kernel
theorem dX1_neighbour_16 : decode cX1_neighbour 16 = .ok (.iconst 1, 1) := by decide +kernel
theorem dX1_neighbour_17 : decode cX1_neighbour 17 = .ok (.iadd, 1) := by decide +kernel
theorem dX1_neighbour_18 : decode cX1_neighbour 18 = .ok (.bipush 6, 2) := by decide +kernel
theorem dX1_neighbour_20 : decode cX1_neighbour 20 = .ok (.irem, 1) := by decide +kernel
theorem dX1_neighbour_21 : decode cX1_neighbour 21 = .ok (.istore_n 3, 1) := by decide +kernel
theorem dX1_neighbour_22 : decode cX1_neighbour 22 = .ok (.iload_n 2, 1) := by decide +kernel
theorem dX1_neighbour_23 : decode cX1_neighbour 23 = .ok (.iconst 1, 1) := by decide +kernel
theorem dX1_neighbour_24 : decode cX1_neighbour 24 = .ok (.if_icmp .ne 10, 3) := by decide +kernel
theorem dX1_neighbour_27 : decode cX1_neighbour 27 = .ok (.iload_n 3, 1) := by decide +kernel
theorem dX1_neighbour_28 : decode cX1_neighbour 28 = .ok (.iconst 5, 1) := by decide +kernel
theorem dX1_neighbour_29 : decode cX1_neighbour 29 = .ok (.iadd, 1) := by decide +kernel
theorem dX1_neighbour_30 : decode cX1_neighbour 30 = .ok (.bipush 6, 2) := by decide +kernel
theorem dX1_neighbour_32 : decode cX1_neighbour 32 = .ok (.irem, 1) := by decide +kernel
theorem dX1_neighbour_33 : decode cX1_neighbour 33 = .ok (.istore_n 3, 1) := by decide +kernel
theorem dX1_neighbour_34 : decode cX1_neighbour 34 = .ok (.iload_n 2, 1) := by decide +kernel
theorem dX1_neighbour_35 : decode cX1_neighbour 35 = .ok (.iconst 2, 1) := by decide +kernel
theorem dX1_neighbour_36 : decode cX1_neighbour 36 = .ok (.if_icmp .ne 12, 3) := by decide +kernel
theorem dX1_neighbour_39 : decode cX1_neighbour 39 = .ok (.iload 4, 2) := by decide +kernel
theorem dX1_neighbour_41 : decode cX1_neighbour 41 = .ok (.iconst 1, 1) := by decide +kernel
theorem dX1_neighbour_42 : decode cX1_neighbour 42 = .ok (.iadd, 1) := by decide +kernel
theorem dX1_neighbour_43 : decode cX1_neighbour 43 = .ok (.bipush 8, 2) := by decide +kernel
theorem dX1_neighbour_45 : decode cX1_neighbour 45 = .ok (.irem, 1) := by decide +kernel
theorem dX1_neighbour_46 : decode cX1_neighbour 46 = .ok (.istore 4, 2) := by decide +kernel
theorem dX1_neighbour_48 : decode cX1_neighbour 48 = .ok (.iload_n 2, 1) := by decide +kernel
theorem dX1_neighbour_49 : decode cX1_neighbour 49 = .ok (.iconst 3, 1) := by decide +kernel
theorem dX1_neighbour_50 : decode cX1_neighbour 50 = .ok (.if_icmp .ne 13, 3) := by decide +kernel
theorem dX1_neighbour_53 : decode cX1_neighbour 53 = .ok (.iload 4, 2) := by decide +kernel
theorem dX1_neighbour_55 : decode cX1_neighbour 55 = .ok (.bipush 7, 2) := by decide +kernel
theorem dX1_neighbour_57 : decode cX1_neighbour 57 = .ok (.iadd, 1) := by decide +kernel
theorem dX1_neighbour_58 : decode cX1_neighbour 58 = .ok (.bipush 8, 2) := by decide +kernel
theorem dX1_neighbour_60 : decode cX1_neighbour 60 = .ok (.irem, 1) := by decide +kernel
theorem dX1_neighbour_61 : decode cX1_neighbour 61 = .ok (.istore 4, 2) := by decide +kernel
theorem dX1_neighbour_63 : decode cX1_neighbour 63 = .ok (.iload 4, 2) := by decide +kernel
theorem dX1_neighbour_65 : decode cX1_neighbour 65 = .ok (.bipush 6, 2) := by decide +kernel
theorem dX1_neighbour_67 : decode cX1_neighbour 67 = .ok (.imul, 1) := by decide +kernel
theorem dX1_neighbour_68 : decode cX1_neighbour 68 = .ok (.iload_n 3, 1) := by decide +kernel
theorem dX1_neighbour_69 : decode cX1_neighbour 69 = .ok (.iadd, 1) := by decide +kernel
theorem dX1_neighbour_70 : decode cX1_neighbour 70 = .ok (.ireturn, 1) := by decide +kernel
abbrev cX1_happen : ByteArray := prog_3_method_8_code
def yX1_happen : MethodName := ⟨RX1, "happen", "(II)I"⟩
theorem dX1_happen_0 : decode cX1_happen 0 = .ok (.aload_n 0, 1) := by decide +kernel
theorem dX1_happen_1 : decode cX1_happen 1 = .ok (.getfield 13, 3) := by decide +kernel
theorem dX1_happen_4 : decode cX1_happen 4 = .ok (.iload_n 1, 1) := by decide +kernel
theorem dX1_happen_5 : decode cX1_happen 5 = .ok (.iload_n 2, 1) := by decide +kernel
theorem dX1_happen_6 : decode cX1_happen 6 = .ok (.ifCond .ne 7, 3) := by decide +kernel
theorem dX1_happen_9 : decode cX1_happen 9 = .ok (.iconst 1, 1) := by decide +kernel
theorem dX1_happen_10 : decode cX1_happen 10 = .ok (.goto 4, 3) := by decide +kernel
theorem dX1_happen_13 : decode cX1_happen 13 = .ok (.iconst 0, 1) := by decide +kernel
theorem dX1_happen_14 : decode cX1_happen 14 = .ok (.iastore, 1) := by decide +kernel
theorem dX1_happen_15 : decode cX1_happen 15 = .ok (.iload_n 2, 1) := by decide +kernel
theorem dX1_happen_16 : decode cX1_happen 16 = .ok (.iconst 2, 1) := by decide +kernel
theorem dX1_happen_17 : decode cX1_happen 17 = .ok (.if_icmp .lt 17, 3) := by decide +kernel
theorem dX1_happen_20 : decode cX1_happen 20 = .ok (.aload_n 0, 1) := by decide +kernel
theorem dX1_happen_21 : decode cX1_happen 21 = .ok (.getfield 13, 3) := by decide +kernel
theorem dX1_happen_24 : decode cX1_happen 24 = .ok (.aload_n 0, 1) := by decide +kernel
theorem dX1_happen_25 : decode cX1_happen 25 = .ok (.iload_n 1, 1) := by decide +kernel
theorem dX1_happen_26 : decode cX1_happen 26 = .ok (.iload_n 2, 1) := by decide +kernel
theorem dX1_happen_27 : decode cX1_happen 27 = .ok (.iconst 2, 1) := by decide +kernel
theorem dX1_happen_28 : decode cX1_happen 28 = .ok (.isub, 1) := by decide +kernel
theorem dX1_happen_29 : decode cX1_happen 29 = .ok (.invokevirtual 19, 3) := by decide +kernel
theorem dX1_happen_32 : decode cX1_happen 32 = .ok (.iconst 1, 1) := by decide +kernel
theorem dX1_happen_33 : decode cX1_happen 33 = .ok (.iastore, 1) := by decide +kernel
theorem dX1_happen_34 : decode cX1_happen 34 = .ok (.iload_n 2, 1) := by decide +kernel
theorem dX1_happen_35 : decode cX1_happen 35 = .ok (.iconst 2, 1) := by decide +kernel
theorem dX1_happen_36 : decode cX1_happen 36 = .ok (.if_icmp .ge 7, 3) := by decide +kernel
theorem dX1_happen_39 : decode cX1_happen 39 = .ok (.iload_n 2, 1) := by decide +kernel
theorem dX1_happen_40 : decode cX1_happen 40 = .ok (.goto 4, 3) := by decide +kernel
theorem dX1_happen_43 : decode cX1_happen 43 = .ok (.iconst 2, 1) := by decide +kernel
theorem dX1_happen_44 : decode cX1_happen 44 = .ok (.istore_n 3, 1) := by decide +kernel
theorem dX1_happen_45 : decode cX1_happen 45 = .ok (.aload_n 0, 1) := by decide +kernel
theorem dX1_happen_46 : decode cX1_happen 46 = .ok (.getfield 16, 3) := by decide +kernel
theorem dX1_happen_49 : decode cX1_happen 49 = .ok (.iload_n 3, 1) := by decide +kernel
theorem dX1_happen_50 : decode cX1_happen 50 = .ok (.dup2, 1) := by decide +kernel
theorem dX1_happen_51 : decode cX1_happen 51 = .ok (.iaload, 1) := by decide +kernel
theorem dX1_happen_52 : decode cX1_happen 52 = .ok (.iconst 1, 1) := by decide +kernel
theorem dX1_happen_53 : decode cX1_happen 53 = .ok (.iadd, 1) := by decide +kernel
theorem dX1_happen_54 : decode cX1_happen 54 = .ok (.iastore, 1) := by decide +kernel
theorem dX1_happen_55 : decode cX1_happen 55 = .ok (.iload_n 1, 1) := by decide +kernel
theorem dX1_happen_56 : decode cX1_happen 56 = .ok (.bipush 64, 2) := by decide +kernel
theorem dX1_happen_58 : decode cX1_happen 58 = .ok (.iload_n 3, 1) := by decide +kernel
theorem dX1_happen_59 : decode cX1_happen 59 = .ok (.imul, 1) := by decide +kernel
theorem dX1_happen_60 : decode cX1_happen 60 = .ok (.iadd, 1) := by decide +kernel
theorem dX1_happen_61 : decode cX1_happen 61 = .ok (.iload_n 2, 1) := by decide +kernel
theorem dX1_happen_62 : decode cX1_happen 62 = .ok (.iconst 2, 1) := by decide +kernel
theorem dX1_happen_63 : decode cX1_happen 63 = .ok (.if_icmp .ge 7, 3) := by decide +kernel
theorem dX1_happen_66 : decode cX1_happen 66 = .ok (.iconst 0, 1) := by decide +kernel
theorem dX1_happen_67 : decode cX1_happen 67 = .ok (.goto 10, 3) := by decide +kernel
theorem dX1_happen_70 : decode cX1_happen 70 = .ok (.sipush 256, 3) := by decide +kernel
theorem dX1_happen_73 : decode cX1_happen 73 = .ok (.iload_n 2, 1) := by decide +kernel
theorem dX1_happen_74 : decode cX1_happen 74 = .ok (.iconst 2, 1) := by decide +kernel
theorem dX1_happen_75 : decode cX1_happen 75 = .ok (.isub, 1) := by decide +kernel
theorem dX1_happen_76 : decode cX1_happen 76 = .ok (.imul, 1) := by decide +kernel
theorem dX1_happen_77 : decode cX1_happen 77 = .ok (.iadd, 1) := by decide +kernel
theorem dX1_happen_78 : decode cX1_happen 78 = .ok (.ireturn, 1) := by decide +kernel
abbrev cX1_run : ByteArray := prog_3_method_9_code
def yX1_run : MethodName := ⟨RX1, "run", "(II)I"⟩
theorem dX1_run_0 : decode cX1_run 0 = .ok (.iload_n 2, 1) := by decide +kernel
theorem dX1_run_1 : decode cX1_run 1 = .ok (.istore_n 3, 1) := by decide +kernel
theorem dX1_run_2 : decode cX1_run 2 = .ok (.iconst 0, 1) := by decide +kernel
theorem dX1_run_3 : decode cX1_run 3 = .ok (.istore 4, 2) := by decide +kernel
theorem dX1_run_5 : decode cX1_run 5 = .ok (.iconst 0, 1) := by decide +kernel
theorem dX1_run_6 : decode cX1_run 6 = .ok (.istore 5, 2) := by decide +kernel
theorem dX1_run_8 : decode cX1_run 8 = .ok (.iload 5, 2) := by decide +kernel
theorem dX1_run_10 : decode cX1_run 10 = .ok (.iload_n 1, 1) := by decide +kernel
theorem dX1_run_11 : decode cX1_run 11 = .ok (.if_icmp .ge 55, 3) := by decide +kernel
theorem dX1_run_14 : decode cX1_run 14 = .ok (.iload 5, 2) := by decide +kernel
theorem dX1_run_16 : decode cX1_run 16 = .ok (.sipush 200, 3) := by decide +kernel
theorem dX1_run_19 : decode cX1_run 19 = .ok (.if_icmp .ge 47, 3) := by decide +kernel
theorem dX1_run_22 : decode cX1_run 22 = .ok (.aload_n 0, 1) := by decide +kernel
theorem dX1_run_23 : decode cX1_run 23 = .ok (.invokevirtual 27, 3) := by decide +kernel
theorem dX1_run_26 : decode cX1_run 26 = .ok (.istore 6, 2) := by decide +kernel
theorem dX1_run_28 : decode cX1_run 28 = .ok (.iload 6, 2) := by decide +kernel
theorem dX1_run_30 : decode cX1_run 30 = .ok (.ifCond .le 30, 3) := by decide +kernel
theorem dX1_run_33 : decode cX1_run 33 = .ok (.iload_n 3, 1) := by decide +kernel
theorem dX1_run_34 : decode cX1_run 34 = .ok (.ldc 37, 2) := by decide +kernel
theorem dX1_run_36 : decode cX1_run 36 = .ok (.imul, 1) := by decide +kernel
theorem dX1_run_37 : decode cX1_run 37 = .ok (.sipush 12345, 3) := by decide +kernel
theorem dX1_run_40 : decode cX1_run 40 = .ok (.iadd, 1) := by decide +kernel
theorem dX1_run_41 : decode cX1_run 41 = .ok (.istore_n 3, 1) := by decide +kernel
theorem dX1_run_42 : decode cX1_run 42 = .ok (.aload_n 0, 1) := by decide +kernel
theorem dX1_run_43 : decode cX1_run 43 = .ok (.iload_n 3, 1) := by decide +kernel
theorem dX1_run_44 : decode cX1_run 44 = .ok (.bipush 8, 2) := by decide +kernel
theorem dX1_run_46 : decode cX1_run 46 = .ok (.iushr, 1) := by decide +kernel
theorem dX1_run_47 : decode cX1_run 47 = .ok (.ldc 38, 2) := by decide +kernel
theorem dX1_run_49 : decode cX1_run 49 = .ok (.iand, 1) := by decide +kernel
theorem dX1_run_50 : decode cX1_run 50 = .ok (.iload 6, 2) := by decide +kernel
theorem dX1_run_52 : decode cX1_run 52 = .ok (.irem, 1) := by decide +kernel
theorem dX1_run_53 : decode cX1_run 53 = .ok (.invokevirtual 39, 3) := by decide +kernel
theorem dX1_run_56 : decode cX1_run 56 = .ok (.pop, 1) := by decide +kernel
theorem dX1_run_57 : decode cX1_run 57 = .ok (.iinc 4 1, 3) := by decide +kernel
theorem dX1_run_60 : decode cX1_run 60 = .ok (.iinc 5 1, 3) := by decide +kernel
theorem dX1_run_63 : decode cX1_run 63 = .ok (.goto (-55), 3) := by decide +kernel
theorem dX1_run_66 : decode cX1_run 66 = .ok (.iload 4, 2) := by decide +kernel
theorem dX1_run_68 : decode cX1_run 68 = .ok (.ireturn, 1) := by decide +kernel
abbrev cX1_clear : ByteArray := prog_3_method_10_code
def yX1_clear : MethodName := ⟨RX1, "clear", "()V"⟩
theorem dX1_clear_0 : decode cX1_clear 0 = .ok (.iconst 0, 1) := by decide +kernel
theorem dX1_clear_1 : decode cX1_clear 1 = .ok (.istore_n 1, 1) := by decide +kernel
theorem dX1_clear_2 : decode cX1_clear 2 = .ok (.iload_n 1, 1) := by decide +kernel
theorem dX1_clear_3 : decode cX1_clear 3 = .ok (.bipush 48, 2) := by decide +kernel
theorem dX1_clear_5 : decode cX1_clear 5 = .ok (.if_icmp .ge 16, 3) := by decide +kernel
theorem dX1_clear_8 : decode cX1_clear 8 = .ok (.aload_n 0, 1) := by decide +kernel
theorem dX1_clear_9 : decode cX1_clear 9 = .ok (.getfield 13, 3) := by decide +kernel
theorem dX1_clear_12 : decode cX1_clear 12 = .ok (.iload_n 1, 1) := by decide +kernel
theorem dX1_clear_13 : decode cX1_clear 13 = .ok (.iconst 0, 1) := by decide +kernel
theorem dX1_clear_14 : decode cX1_clear 14 = .ok (.iastore, 1) := by decide +kernel
theorem dX1_clear_15 : decode cX1_clear 15 = .ok (.iinc 1 1, 3) := by decide +kernel
theorem dX1_clear_18 : decode cX1_clear 18 = .ok (.goto (-16), 3) := by decide +kernel
theorem dX1_clear_21 : decode cX1_clear 21 = .ok (.return_, 1) := by decide +kernel
abbrev cX1_state : ByteArray := prog_3_method_11_code
def yX1_state : MethodName := ⟨RX1, "state", "(I)I"⟩
theorem dX1_state_0 : decode cX1_state 0 = .ok (.iload_n 1, 1) := by decide +kernel
theorem dX1_state_1 : decode cX1_state 1 = .ok (.ifCond .lt 9, 3) := by decide +kernel
theorem dX1_state_4 : decode cX1_state 4 = .ok (.iload_n 1, 1) := by decide +kernel
theorem dX1_state_5 : decode cX1_state 5 = .ok (.bipush 47, 2) := by decide +kernel
theorem dX1_state_7 : decode cX1_state 7 = .ok (.if_icmp .le 7, 3) := by decide +kernel
theorem dX1_state_10 : decode cX1_state 10 = .ok (.iconst (-1), 1) := by decide +kernel
theorem dX1_state_11 : decode cX1_state 11 = .ok (.goto 9, 3) := by decide +kernel
theorem dX1_state_14 : decode cX1_state 14 = .ok (.aload_n 0, 1) := by decide +kernel
theorem dX1_state_15 : decode cX1_state 15 = .ok (.getfield 13, 3) := by decide +kernel
theorem dX1_state_18 : decode cX1_state 18 = .ok (.iload_n 1, 1) := by decide +kernel
theorem dX1_state_19 : decode cX1_state 19 = .ok (.iaload, 1) := by decide +kernel
theorem dX1_state_20 : decode cX1_state 20 = .ok (.ireturn, 1) := by decide +kernel
abbrev cX1_occupied : ByteArray := prog_3_method_14_code
def yX1_occupied : MethodName := ⟨RX1, "occupied", "()I"⟩
theorem dX1_occupied_0 : decode cX1_occupied 0 = .ok (.iconst 0, 1) := by decide +kernel
theorem dX1_occupied_1 : decode cX1_occupied 1 = .ok (.istore_n 1, 1) := by decide +kernel
theorem dX1_occupied_2 : decode cX1_occupied 2 = .ok (.iconst 0, 1) := by decide +kernel
theorem dX1_occupied_3 : decode cX1_occupied 3 = .ok (.istore_n 2, 1) := by decide +kernel
theorem dX1_occupied_4 : decode cX1_occupied 4 = .ok (.iload_n 2, 1) := by decide +kernel
theorem dX1_occupied_5 : decode cX1_occupied 5 = .ok (.bipush 48, 2) := by decide +kernel
theorem dX1_occupied_7 : decode cX1_occupied 7 = .ok (.if_icmp .ge 22, 3) := by decide +kernel
theorem dX1_occupied_10 : decode cX1_occupied 10 = .ok (.aload_n 0, 1) := by decide +kernel
theorem dX1_occupied_11 : decode cX1_occupied 11 = .ok (.getfield 13, 3) := by decide +kernel
theorem dX1_occupied_14 : decode cX1_occupied 14 = .ok (.iload_n 2, 1) := by decide +kernel
theorem dX1_occupied_15 : decode cX1_occupied 15 = .ok (.iaload, 1) := by decide +kernel
theorem dX1_occupied_16 : decode cX1_occupied 16 = .ok (.iconst 1, 1) := by decide +kernel
theorem dX1_occupied_17 : decode cX1_occupied 17 = .ok (.if_icmp .ne 6, 3) := by decide +kernel
theorem dX1_occupied_20 : decode cX1_occupied 20 = .ok (.iinc 1 1, 3) := by decide +kernel
theorem dX1_occupied_23 : decode cX1_occupied 23 = .ok (.iinc 2 1, 3) := by decide +kernel
theorem dX1_occupied_26 : decode cX1_occupied 26 = .ok (.goto (-22), 3) := by decide +kernel
theorem dX1_occupied_29 : decode cX1_occupied 29 = .ok (.iload_n 1, 1) := by decide +kernel
theorem dX1_occupied_30 : decode cX1_occupied 30 = .ok (.ireturn, 1) := by decide +kernel
abbrev cX1_pairs : ByteArray := prog_3_method_15_code
def yX1_pairs : MethodName := ⟨RX1, "pairs", "()I"⟩
theorem dX1_pairs_0 : decode cX1_pairs 0 = .ok (.iconst 0, 1) := by decide +kernel
theorem dX1_pairs_1 : decode cX1_pairs 1 = .ok (.istore_n 1, 1) := by decide +kernel
theorem dX1_pairs_2 : decode cX1_pairs 2 = .ok (.iconst 0, 1) := by decide +kernel
theorem dX1_pairs_3 : decode cX1_pairs 3 = .ok (.istore_n 2, 1) := by decide +kernel
theorem dX1_pairs_4 : decode cX1_pairs 4 = .ok (.iload_n 2, 1) := by decide +kernel
theorem dX1_pairs_5 : decode cX1_pairs 5 = .ok (.bipush 48, 2) := by decide +kernel
theorem dX1_pairs_7 : decode cX1_pairs 7 = .ok (.if_icmp .ge 27, 3) := by decide +kernel
theorem dX1_pairs_10 : decode cX1_pairs 10 = .ok (.aload_n 0, 1) := by decide +kernel
theorem dX1_pairs_11 : decode cX1_pairs 11 = .ok (.getfield 13, 3) := by decide +kernel
theorem dX1_pairs_14 : decode cX1_pairs 14 = .ok (.iload_n 2, 1) := by decide +kernel
theorem dX1_pairs_15 : decode cX1_pairs 15 = .ok (.iaload, 1) := by decide +kernel
theorem dX1_pairs_16 : decode cX1_pairs 16 = .ok (.iconst 1, 1) := by decide +kernel
theorem dX1_pairs_17 : decode cX1_pairs 17 = .ok (.if_icmp .ne 11, 3) := by decide +kernel
theorem dX1_pairs_20 : decode cX1_pairs 20 = .ok (.iload_n 1, 1) := by decide +kernel
theorem dX1_pairs_21 : decode cX1_pairs 21 = .ok (.aload_n 0, 1) := by decide +kernel
theorem dX1_pairs_22 : decode cX1_pairs 22 = .ok (.iload_n 2, 1) := by decide +kernel
theorem dX1_pairs_23 : decode cX1_pairs 23 = .ok (.invokevirtual 23, 3) := by decide +kernel
theorem dX1_pairs_26 : decode cX1_pairs 26 = .ok (.iadd, 1) := by decide +kernel
theorem dX1_pairs_27 : decode cX1_pairs 27 = .ok (.istore_n 1, 1) := by decide +kernel
theorem dX1_pairs_28 : decode cX1_pairs 28 = .ok (.iinc 2 1, 3) := by decide +kernel
theorem dX1_pairs_31 : decode cX1_pairs 31 = .ok (.goto (-27), 3) := by decide +kernel
theorem dX1_pairs_34 : decode cX1_pairs 34 = .ok (.iload_n 1, 1) := by decide +kernel
theorem dX1_pairs_35 : decode cX1_pairs 35 = .ok (.iconst 2, 1) := by decide +kernel
theorem dX1_pairs_36 : decode cX1_pairs 36 = .ok (.idiv, 1) := by decide +kernel
theorem dX1_pairs_37 : decode cX1_pairs 37 = .ok (.ireturn, 1) := by decide +kernel
abbrev cX1_happened : ByteArray := prog_3_method_16_code
def yX1_happened : MethodName := ⟨RX1, "happened", "(I)I"⟩
theorem dX1_happened_0 : decode cX1_happened 0 = .ok (.iload_n 1, 1) := by decide +kernel
theorem dX1_happened_1 : decode cX1_happened 1 = .ok (.ifCond .lt 8, 3) := by decide +kernel
theorem dX1_happened_4 : decode cX1_happened 4 = .ok (.iload_n 1, 1) := by decide +kernel
theorem dX1_happened_5 : decode cX1_happened 5 = .ok (.iconst 2, 1) := by decide +kernel
theorem dX1_happened_6 : decode cX1_happened 6 = .ok (.if_icmp .le 7, 3) := by decide +kernel
theorem dX1_happened_9 : decode cX1_happened 9 = .ok (.iconst 0, 1) := by decide +kernel
theorem dX1_happened_10 : decode cX1_happened 10 = .ok (.goto 9, 3) := by decide +kernel
theorem dX1_happened_13 : decode cX1_happened 13 = .ok (.aload_n 0, 1) := by decide +kernel
theorem dX1_happened_14 : decode cX1_happened 14 = .ok (.getfield 16, 3) := by decide +kernel
theorem dX1_happened_17 : decode cX1_happened 17 = .ok (.iload_n 1, 1) := by decide +kernel
theorem dX1_happened_18 : decode cX1_happened 18 = .ok (.iaload, 1) := by decide +kernel
theorem dX1_happened_19 : decode cX1_happened 19 = .ok (.ireturn, 1) := by decide +kernel
theorem q17 : (Jvm.Cond.initialized "KineticLatticeModel") ∈ lw_all := lw_g (lw_at lw_m0 2 rfl) rfl
theorem q145 : (Jvm.Cond.instantiable "KineticLatticeModel" (3 : Nat)) ∈ lw_all := lw_g (lw_at lw_m0 130 rfl) rfl
theorem q147 : (Jvm.Cond.instanceMethod ({ cls := "KineticLatticeModel", name := "<init>", desc := "()V" } : Jvm.MethodName)) ∈ lw_all := lw_g (lw_at lw_m0 132 rfl) rfl
theorem q148 : (Jvm.Cond.code ({ cls := "KineticLatticeModel", name := "<init>", desc := "()V" } : Jvm.MethodName) prog_3_method_1_code (2 : Nat) (Option.none : Option Jvm.ClassFile.FieldType)) ∈ lw_all := lw_g (lw_at lw_m0 133 rfl) rfl
theorem q149 : (Jvm.Cond.methodLink "KineticLatticeModel" (1 : Nat) ({ cls := "java/lang/Object", name := "<init>", desc := "()V" } : Jvm.MethodName)) ∈ lw_all := lw_g (lw_at lw_m0 134 rfl) rfl
theorem q150 : (Jvm.Cond.fieldLink "KineticLatticeModel" (7 : Nat) "KineticLatticeModel" "rates" "[I") ∈ lw_all := lw_g (lw_at lw_m0 135 rfl) rfl
theorem q151 : (Jvm.Cond.fieldLink "KineticLatticeModel" (13 : Nat) "KineticLatticeModel" "states" "[I") ∈ lw_all := lw_g (lw_at lw_m0 136 rfl) rfl
theorem q152 : (Jvm.Cond.fieldLink "KineticLatticeModel" (16 : Nat) "KineticLatticeModel" "events" "[I") ∈ lw_all := lw_g (lw_at lw_m0 137 rfl) rfl
theorem q153 : (Jvm.Cond.laysFinal "KineticLatticeModel" "KineticLatticeModel" "rates" "[I") ∈ lw_all := lw_g (lw_at lw_m0 138 rfl) rfl
theorem q154 : (Jvm.Cond.soleField "KineticLatticeModel" "rates") ∈ lw_all := lw_g (lw_at lw_m0 139 rfl) rfl
theorem q155 : (Jvm.Cond.laysFinal "KineticLatticeModel" "KineticLatticeModel" "states" "[I") ∈ lw_all := lw_g (lw_at lw_m0 140 rfl) rfl
theorem q156 : (Jvm.Cond.soleField "KineticLatticeModel" "states") ∈ lw_all := lw_g (lw_at lw_m0 141 rfl) rfl
theorem q157 : (Jvm.Cond.laysFinal "KineticLatticeModel" "KineticLatticeModel" "events" "[I") ∈ lw_all := lw_g (lw_at lw_m0 142 rfl) rfl
theorem q158 : (Jvm.Cond.soleField "KineticLatticeModel" "events") ∈ lw_all := lw_g (lw_at lw_m0 143 rfl) rfl
theorem q159 : (Jvm.Cond.superclass "KineticLatticeModel" "java/lang/Object") ∈ lw_all := lw_g (lw_at lw_m0 144 rfl) rfl
theorem q161 : (Jvm.Cond.instanceMethod ({ cls := "KineticLatticeModel", name := "rate", desc := "(II)I" } : Jvm.MethodName)) ∈ lw_all := lw_g (lw_at lw_m0 146 rfl) rfl
theorem q162 : (Jvm.Cond.selects "KineticLatticeModel" ({ cls := "KineticLatticeModel", name := "rate", desc := "(II)I" } : Jvm.MethodName) ({ cls := "KineticLatticeModel", name := "rate", desc := "(II)I" } : Jvm.MethodName)) ∈ lw_all := lw_g (lw_at lw_m0 147 rfl) rfl
theorem q163 : (Jvm.Cond.code ({ cls := "KineticLatticeModel", name := "rate", desc := "(II)I" } : Jvm.MethodName) prog_3_method_2_code (4 : Nat) (Option.some Jvm.ClassFile.FieldType.int)) ∈ lw_all := lw_g (lw_at lw_m0 148 rfl) rfl
theorem q165 : (Jvm.Cond.instanceMethod ({ cls := "KineticLatticeModel", name := "set", desc := "(II)I" } : Jvm.MethodName)) ∈ lw_all := lw_g (lw_at lw_m0 150 rfl) rfl
theorem q166 : (Jvm.Cond.selects "KineticLatticeModel" ({ cls := "KineticLatticeModel", name := "set", desc := "(II)I" } : Jvm.MethodName) ({ cls := "KineticLatticeModel", name := "set", desc := "(II)I" } : Jvm.MethodName)) ∈ lw_all := lw_g (lw_at lw_m0 151 rfl) rfl
theorem q167 : (Jvm.Cond.code ({ cls := "KineticLatticeModel", name := "set", desc := "(II)I" } : Jvm.MethodName) prog_3_method_3_code (4 : Nat) (Option.some Jvm.ClassFile.FieldType.int)) ∈ lw_all := lw_g (lw_at lw_m0 152 rfl) rfl
theorem q169 : (Jvm.Cond.instanceMethod ({ cls := "KineticLatticeModel", name := "step", desc := "(I)I" } : Jvm.MethodName)) ∈ lw_all := lw_g (lw_at lw_m0 154 rfl) rfl
theorem q170 : (Jvm.Cond.selects "KineticLatticeModel" ({ cls := "KineticLatticeModel", name := "step", desc := "(I)I" } : Jvm.MethodName) ({ cls := "KineticLatticeModel", name := "step", desc := "(I)I" } : Jvm.MethodName)) ∈ lw_all := lw_g (lw_at lw_m0 155 rfl) rfl
theorem q171 : (Jvm.Cond.code ({ cls := "KineticLatticeModel", name := "step", desc := "(I)I" } : Jvm.MethodName) prog_3_method_7_code (5 : Nat) (Option.some Jvm.ClassFile.FieldType.int)) ∈ lw_all := lw_g (lw_at lw_m0 156 rfl) rfl
theorem q172 : (Jvm.Cond.methodLink "KineticLatticeModel" (27 : Nat) ({ cls := "KineticLatticeModel", name := "total", desc := "()I" } : Jvm.MethodName)) ∈ lw_all := lw_g (lw_at lw_m0 157 rfl) rfl
theorem q173 : (Jvm.Cond.instanceMethod ({ cls := "KineticLatticeModel", name := "total", desc := "()I" } : Jvm.MethodName)) ∈ lw_all := lw_g (lw_at lw_m0 158 rfl) rfl
theorem q174 : (Jvm.Cond.selects "KineticLatticeModel" ({ cls := "KineticLatticeModel", name := "total", desc := "()I" } : Jvm.MethodName) ({ cls := "KineticLatticeModel", name := "total", desc := "()I" } : Jvm.MethodName)) ∈ lw_all := lw_g (lw_at lw_m0 159 rfl) rfl
theorem q175 : (Jvm.Cond.code ({ cls := "KineticLatticeModel", name := "total", desc := "()I" } : Jvm.MethodName) prog_3_method_12_code (1 : Nat) (Option.some Jvm.ClassFile.FieldType.int)) ∈ lw_all := lw_g (lw_at lw_m0 160 rfl) rfl
theorem q176 : (Jvm.Cond.methodLink "KineticLatticeModel" (42 : Nat) ({ cls := "KineticLatticeModel", name := "before", desc := "(I)I" } : Jvm.MethodName)) ∈ lw_all := lw_g (lw_at lw_m0 161 rfl) rfl
theorem q177 : (Jvm.Cond.instanceMethod ({ cls := "KineticLatticeModel", name := "before", desc := "(I)I" } : Jvm.MethodName)) ∈ lw_all := lw_g (lw_at lw_m0 162 rfl) rfl
theorem q178 : (Jvm.Cond.selects "KineticLatticeModel" ({ cls := "KineticLatticeModel", name := "before", desc := "(I)I" } : Jvm.MethodName) ({ cls := "KineticLatticeModel", name := "before", desc := "(I)I" } : Jvm.MethodName)) ∈ lw_all := lw_g (lw_at lw_m0 163 rfl) rfl
theorem q179 : (Jvm.Cond.code ({ cls := "KineticLatticeModel", name := "before", desc := "(I)I" } : Jvm.MethodName) prog_3_method_17_code (4 : Nat) (Option.some Jvm.ClassFile.FieldType.int)) ∈ lw_all := lw_g (lw_at lw_m0 164 rfl) rfl
theorem q180 : (Jvm.Cond.methodLink "KineticLatticeModel" (45 : Nat) ({ cls := "KineticLatticeModel", name := "siteRate", desc := "(I)I" } : Jvm.MethodName)) ∈ lw_all := lw_g (lw_at lw_m0 165 rfl) rfl
theorem q181 : (Jvm.Cond.instanceMethod ({ cls := "KineticLatticeModel", name := "siteRate", desc := "(I)I" } : Jvm.MethodName)) ∈ lw_all := lw_g (lw_at lw_m0 166 rfl) rfl
theorem q182 : (Jvm.Cond.selects "KineticLatticeModel" ({ cls := "KineticLatticeModel", name := "siteRate", desc := "(I)I" } : Jvm.MethodName) ({ cls := "KineticLatticeModel", name := "siteRate", desc := "(I)I" } : Jvm.MethodName)) ∈ lw_all := lw_g (lw_at lw_m0 167 rfl) rfl
theorem q183 : (Jvm.Cond.code ({ cls := "KineticLatticeModel", name := "siteRate", desc := "(I)I" } : Jvm.MethodName) prog_3_method_13_code (4 : Nat) (Option.some Jvm.ClassFile.FieldType.int)) ∈ lw_all := lw_g (lw_at lw_m0 168 rfl) rfl
theorem q184 : (Jvm.Cond.methodLink "KineticLatticeModel" (31 : Nat) ({ cls := "KineticLatticeModel", name := "eventRate", desc := "(II)I" } : Jvm.MethodName)) ∈ lw_all := lw_g (lw_at lw_m0 169 rfl) rfl
theorem q185 : (Jvm.Cond.privateMethod ({ cls := "KineticLatticeModel", name := "eventRate", desc := "(II)I" } : Jvm.MethodName)) ∈ lw_tbl := lw_at lw_m0 170 rfl
theorem q186 : (Jvm.Cond.instanceMethod ({ cls := "KineticLatticeModel", name := "eventRate", desc := "(II)I" } : Jvm.MethodName)) ∈ lw_all := lw_g (lw_at lw_m0 171 rfl) rfl
theorem q187 : (Jvm.Cond.code ({ cls := "KineticLatticeModel", name := "eventRate", desc := "(II)I" } : Jvm.MethodName) prog_3_method_6_code (3 : Nat) (Option.some Jvm.ClassFile.FieldType.int)) ∈ lw_all := lw_g (lw_at lw_m0 172 rfl) rfl
theorem q188 : (Jvm.Cond.methodLink "KineticLatticeModel" (23 : Nat) ({ cls := "KineticLatticeModel", name := "occupiedBeside", desc := "(I)I" } : Jvm.MethodName)) ∈ lw_all := lw_g (lw_at lw_m0 173 rfl) rfl
theorem q189 : (Jvm.Cond.privateMethod ({ cls := "KineticLatticeModel", name := "occupiedBeside", desc := "(I)I" } : Jvm.MethodName)) ∈ lw_tbl := lw_at lw_m0 174 rfl
theorem q190 : (Jvm.Cond.instanceMethod ({ cls := "KineticLatticeModel", name := "occupiedBeside", desc := "(I)I" } : Jvm.MethodName)) ∈ lw_all := lw_g (lw_at lw_m0 175 rfl) rfl
theorem q191 : (Jvm.Cond.code ({ cls := "KineticLatticeModel", name := "occupiedBeside", desc := "(I)I" } : Jvm.MethodName) prog_3_method_5_code (4 : Nat) (Option.some Jvm.ClassFile.FieldType.int)) ∈ lw_all := lw_g (lw_at lw_m0 176 rfl) rfl
theorem q192 : (Jvm.Cond.methodLink "KineticLatticeModel" (19 : Nat) ({ cls := "KineticLatticeModel", name := "neighbour", desc := "(II)I" } : Jvm.MethodName)) ∈ lw_all := lw_g (lw_at lw_m0 177 rfl) rfl
theorem q193 : (Jvm.Cond.privateMethod ({ cls := "KineticLatticeModel", name := "neighbour", desc := "(II)I" } : Jvm.MethodName)) ∈ lw_tbl := lw_at lw_m0 178 rfl
theorem q194 : (Jvm.Cond.instanceMethod ({ cls := "KineticLatticeModel", name := "neighbour", desc := "(II)I" } : Jvm.MethodName)) ∈ lw_all := lw_g (lw_at lw_m0 179 rfl) rfl
theorem q195 : (Jvm.Cond.code ({ cls := "KineticLatticeModel", name := "neighbour", desc := "(II)I" } : Jvm.MethodName) prog_3_method_4_code (5 : Nat) (Option.some Jvm.ClassFile.FieldType.int)) ∈ lw_all := lw_g (lw_at lw_m0 180 rfl) rfl
theorem q196 : (Jvm.Cond.methodLink "KineticLatticeModel" (34 : Nat) ({ cls := "KineticLatticeModel", name := "happen", desc := "(II)I" } : Jvm.MethodName)) ∈ lw_all := lw_g (lw_at lw_m0 181 rfl) rfl
theorem q197 : (Jvm.Cond.privateMethod ({ cls := "KineticLatticeModel", name := "happen", desc := "(II)I" } : Jvm.MethodName)) ∈ lw_tbl := lw_at lw_m0 182 rfl
theorem q198 : (Jvm.Cond.instanceMethod ({ cls := "KineticLatticeModel", name := "happen", desc := "(II)I" } : Jvm.MethodName)) ∈ lw_all := lw_g (lw_at lw_m0 183 rfl) rfl
theorem q199 : (Jvm.Cond.code ({ cls := "KineticLatticeModel", name := "happen", desc := "(II)I" } : Jvm.MethodName) prog_3_method_8_code (4 : Nat) (Option.some Jvm.ClassFile.FieldType.int)) ∈ lw_all := lw_g (lw_at lw_m0 184 rfl) rfl
theorem q201 : (Jvm.Cond.instanceMethod ({ cls := "KineticLatticeModel", name := "run", desc := "(II)I" } : Jvm.MethodName)) ∈ lw_all := lw_g (lw_at lw_m0 186 rfl) rfl
theorem q202 : (Jvm.Cond.selects "KineticLatticeModel" ({ cls := "KineticLatticeModel", name := "run", desc := "(II)I" } : Jvm.MethodName) ({ cls := "KineticLatticeModel", name := "run", desc := "(II)I" } : Jvm.MethodName)) ∈ lw_all := lw_g (lw_at lw_m0 187 rfl) rfl
theorem q203 : (Jvm.Cond.code ({ cls := "KineticLatticeModel", name := "run", desc := "(II)I" } : Jvm.MethodName) prog_3_method_9_code (7 : Nat) (Option.some Jvm.ClassFile.FieldType.int)) ∈ lw_all := lw_g (lw_at lw_m0 188 rfl) rfl
theorem q204 : (Jvm.Cond.constant "KineticLatticeModel" (37 : Nat) (1103515245 : Int32)) ∈ lw_all := lw_g (lw_at lw_m0 189 rfl) rfl
theorem q205 : (Jvm.Cond.constant "KineticLatticeModel" (38 : Nat) (1048575 : Int32)) ∈ lw_all := lw_g (lw_at lw_m0 190 rfl) rfl
theorem q206 : (Jvm.Cond.methodLink "KineticLatticeModel" (39 : Nat) ({ cls := "KineticLatticeModel", name := "step", desc := "(I)I" } : Jvm.MethodName)) ∈ lw_all := lw_g (lw_at lw_m0 191 rfl) rfl
theorem q208 : (Jvm.Cond.instanceMethod ({ cls := "KineticLatticeModel", name := "clear", desc := "()V" } : Jvm.MethodName)) ∈ lw_all := lw_g (lw_at lw_m0 193 rfl) rfl
theorem q209 : (Jvm.Cond.selects "KineticLatticeModel" ({ cls := "KineticLatticeModel", name := "clear", desc := "()V" } : Jvm.MethodName) ({ cls := "KineticLatticeModel", name := "clear", desc := "()V" } : Jvm.MethodName)) ∈ lw_all := lw_g (lw_at lw_m0 194 rfl) rfl
theorem q210 : (Jvm.Cond.code ({ cls := "KineticLatticeModel", name := "clear", desc := "()V" } : Jvm.MethodName) prog_3_method_10_code (2 : Nat) (Option.none : Option Jvm.ClassFile.FieldType)) ∈ lw_all := lw_g (lw_at lw_m0 195 rfl) rfl
theorem q212 : (Jvm.Cond.instanceMethod ({ cls := "KineticLatticeModel", name := "state", desc := "(I)I" } : Jvm.MethodName)) ∈ lw_all := lw_g (lw_at lw_m0 197 rfl) rfl
theorem q213 : (Jvm.Cond.selects "KineticLatticeModel" ({ cls := "KineticLatticeModel", name := "state", desc := "(I)I" } : Jvm.MethodName) ({ cls := "KineticLatticeModel", name := "state", desc := "(I)I" } : Jvm.MethodName)) ∈ lw_all := lw_g (lw_at lw_m0 198 rfl) rfl
theorem q214 : (Jvm.Cond.code ({ cls := "KineticLatticeModel", name := "state", desc := "(I)I" } : Jvm.MethodName) prog_3_method_11_code (2 : Nat) (Option.some Jvm.ClassFile.FieldType.int)) ∈ lw_all := lw_g (lw_at lw_m0 199 rfl) rfl
theorem q218 : (Jvm.Cond.instanceMethod ({ cls := "KineticLatticeModel", name := "occupied", desc := "()I" } : Jvm.MethodName)) ∈ lw_all := lw_g (lw_at lw_m0 203 rfl) rfl
theorem q219 : (Jvm.Cond.selects "KineticLatticeModel" ({ cls := "KineticLatticeModel", name := "occupied", desc := "()I" } : Jvm.MethodName) ({ cls := "KineticLatticeModel", name := "occupied", desc := "()I" } : Jvm.MethodName)) ∈ lw_all := lw_g (lw_at lw_m0 204 rfl) rfl
theorem q220 : (Jvm.Cond.code ({ cls := "KineticLatticeModel", name := "occupied", desc := "()I" } : Jvm.MethodName) prog_3_method_14_code (3 : Nat) (Option.some Jvm.ClassFile.FieldType.int)) ∈ lw_all := lw_g (lw_at lw_m0 205 rfl) rfl
theorem q222 : (Jvm.Cond.instanceMethod ({ cls := "KineticLatticeModel", name := "pairs", desc := "()I" } : Jvm.MethodName)) ∈ lw_all := lw_g (lw_at lw_m0 207 rfl) rfl
theorem q223 : (Jvm.Cond.selects "KineticLatticeModel" ({ cls := "KineticLatticeModel", name := "pairs", desc := "()I" } : Jvm.MethodName) ({ cls := "KineticLatticeModel", name := "pairs", desc := "()I" } : Jvm.MethodName)) ∈ lw_all := lw_g (lw_at lw_m0 208 rfl) rfl
theorem q224 : (Jvm.Cond.code ({ cls := "KineticLatticeModel", name := "pairs", desc := "()I" } : Jvm.MethodName) prog_3_method_15_code (3 : Nat) (Option.some Jvm.ClassFile.FieldType.int)) ∈ lw_all := lw_g (lw_at lw_m0 209 rfl) rfl
theorem q226 : (Jvm.Cond.instanceMethod ({ cls := "KineticLatticeModel", name := "happened", desc := "(I)I" } : Jvm.MethodName)) ∈ lw_all := lw_g (lw_at lw_m0 211 rfl) rfl
theorem q227 : (Jvm.Cond.selects "KineticLatticeModel" ({ cls := "KineticLatticeModel", name := "happened", desc := "(I)I" } : Jvm.MethodName) ({ cls := "KineticLatticeModel", name := "happened", desc := "(I)I" } : Jvm.MethodName)) ∈ lw_all := lw_g (lw_at lw_m0 212 rfl) rfl
theorem q228 : (Jvm.Cond.code ({ cls := "KineticLatticeModel", name := "happened", desc := "(I)I" } : Jvm.MethodName) prog_3_method_16_code (2 : Nat) (Option.some Jvm.ClassFile.FieldType.int)) ∈ lw_all := lw_g (lw_at lw_m0 213 rfl) rfl
theorem in_X1 : ∀ w ∈ wsX10, w ∈ lw_all := lw_in wsX10 [153, 155, 157] (by decide +kernel) (by decide +kernel)
end
section
/-! java/lang/Object -/
set_option maxRecDepth 100000
def RJ0 : String := "java/lang/Object"
abbrev cJ0_init : ByteArray := object_method_1_code
def yJ0_init : MethodName := ⟨RJ0, "<init>", "()V"⟩
theorem dJ0_init_0 : decode cJ0_init 0 = .ok (.return_, 1) := by decide +kernel
theorem q24 : (Jvm.Cond.instanceMethod ({ cls := "java/lang/Object", name := "<init>", desc := "()V" } : Jvm.MethodName)) ∈ lw_all := lw_g (lw_at lw_m0 9 rfl) rfl
theorem q25 : (Jvm.Cond.code ({ cls := "java/lang/Object", name := "<init>", desc := "()V" } : Jvm.MethodName) object_method_1_code (1 : Nat) (Option.none : Option Jvm.ClassFile.FieldType)) ∈ lw_all := lw_g (lw_at lw_m0 10 rfl) rfl
theorem q72 : (Jvm.Cond.arrayClass Jvm.ClassFile.FieldType.int) ∈ lw_all := lw_g (lw_at lw_m0 57 rfl) rfl
set_option maxRecDepth 100000
theorem q15 : (Jvm.Cond.initialized "KineticLatticeLaw") ∈ lw_all := lw_g (lw_at lw_m0 0 rfl) rfl
set_option maxRecDepth 100000
theorem q18 : (Jvm.Cond.classLink "KineticLatticeLaw" (7 : Nat) "KineticLattice") ∈ lw_all := lw_g (lw_at lw_m0 3 rfl) rfl
theorem q20 : (Jvm.Cond.methodLink "KineticLatticeLaw" (9 : Nat) ({ cls := "KineticLattice", name := "<init>", desc := "()V" } : Jvm.MethodName)) ∈ lw_all := lw_g (lw_at lw_m0 5 rfl) rfl
theorem q73 : (Jvm.Cond.methodLink "KineticLatticeLaw" (13 : Nat) ({ cls := "KineticLattice", name := "rate", desc := "(II)I" } : Jvm.MethodName)) ∈ lw_all := lw_g (lw_at lw_m0 58 rfl) rfl
theorem q77 : (Jvm.Cond.methodLink "KineticLatticeLaw" (18 : Nat) ({ cls := "KineticLattice", name := "set", desc := "(II)I" } : Jvm.MethodName)) ∈ lw_all := lw_g (lw_at lw_m0 62 rfl) rfl
theorem q89 : (Jvm.Cond.methodLink "KineticLatticeLaw" (22 : Nat) ({ cls := "KineticLattice", name := "step", desc := "(I)I" } : Jvm.MethodName)) ∈ lw_all := lw_g (lw_at lw_m0 74 rfl) rfl
theorem q105 : (Jvm.Cond.methodLink "KineticLatticeLaw" (27 : Nat) ({ cls := "KineticLattice", name := "run", desc := "(II)I" } : Jvm.MethodName)) ∈ lw_all := lw_g (lw_at lw_m0 90 rfl) rfl
theorem q112 : (Jvm.Cond.methodLink "KineticLatticeLaw" (31 : Nat) ({ cls := "KineticLattice", name := "clear", desc := "()V" } : Jvm.MethodName)) ∈ lw_all := lw_g (lw_at lw_m0 97 rfl) rfl
theorem q116 : (Jvm.Cond.methodLink "KineticLatticeLaw" (35 : Nat) ({ cls := "KineticLattice", name := "state", desc := "(I)I" } : Jvm.MethodName)) ∈ lw_all := lw_g (lw_at lw_m0 101 rfl) rfl
theorem q120 : (Jvm.Cond.methodLink "KineticLatticeLaw" (39 : Nat) ({ cls := "KineticLattice", name := "total", desc := "()I" } : Jvm.MethodName)) ∈ lw_all := lw_g (lw_at lw_m0 105 rfl) rfl
theorem q124 : (Jvm.Cond.methodLink "KineticLatticeLaw" (44 : Nat) ({ cls := "KineticLattice", name := "siteRate", desc := "(I)I" } : Jvm.MethodName)) ∈ lw_all := lw_g (lw_at lw_m0 109 rfl) rfl
theorem q128 : (Jvm.Cond.methodLink "KineticLatticeLaw" (48 : Nat) ({ cls := "KineticLattice", name := "occupied", desc := "()I" } : Jvm.MethodName)) ∈ lw_all := lw_g (lw_at lw_m0 113 rfl) rfl
theorem q132 : (Jvm.Cond.methodLink "KineticLatticeLaw" (52 : Nat) ({ cls := "KineticLattice", name := "pairs", desc := "()I" } : Jvm.MethodName)) ∈ lw_all := lw_g (lw_at lw_m0 117 rfl) rfl
theorem q136 : (Jvm.Cond.methodLink "KineticLatticeLaw" (56 : Nat) ({ cls := "KineticLattice", name := "happened", desc := "(I)I" } : Jvm.MethodName)) ∈ lw_all := lw_g (lw_at lw_m0 121 rfl) rfl
theorem q140 : (Jvm.Cond.methodLink "KineticLatticeLaw" (60 : Nat) ({ cls := "KineticLattice", name := "before", desc := "(I)I" } : Jvm.MethodName)) ∈ lw_all := lw_g (lw_at lw_m0 125 rfl) rfl
theorem q144 : (Jvm.Cond.classLink "KineticLatticeLaw" (10 : Nat) "KineticLatticeModel") ∈ lw_all := lw_g (lw_at lw_m0 129 rfl) rfl
theorem q146 : (Jvm.Cond.methodLink "KineticLatticeLaw" (12 : Nat) ({ cls := "KineticLatticeModel", name := "<init>", desc := "()V" } : Jvm.MethodName)) ∈ lw_all := lw_g (lw_at lw_m0 131 rfl) rfl
theorem q160 : (Jvm.Cond.methodLink "KineticLatticeLaw" (17 : Nat) ({ cls := "KineticLatticeModel", name := "rate", desc := "(II)I" } : Jvm.MethodName)) ∈ lw_all := lw_g (lw_at lw_m0 145 rfl) rfl
theorem q164 : (Jvm.Cond.methodLink "KineticLatticeLaw" (21 : Nat) ({ cls := "KineticLatticeModel", name := "set", desc := "(II)I" } : Jvm.MethodName)) ∈ lw_all := lw_g (lw_at lw_m0 149 rfl) rfl
theorem q168 : (Jvm.Cond.methodLink "KineticLatticeLaw" (26 : Nat) ({ cls := "KineticLatticeModel", name := "step", desc := "(I)I" } : Jvm.MethodName)) ∈ lw_all := lw_g (lw_at lw_m0 153 rfl) rfl
theorem q200 : (Jvm.Cond.methodLink "KineticLatticeLaw" (30 : Nat) ({ cls := "KineticLatticeModel", name := "run", desc := "(II)I" } : Jvm.MethodName)) ∈ lw_all := lw_g (lw_at lw_m0 185 rfl) rfl
theorem q207 : (Jvm.Cond.methodLink "KineticLatticeLaw" (34 : Nat) ({ cls := "KineticLatticeModel", name := "clear", desc := "()V" } : Jvm.MethodName)) ∈ lw_all := lw_g (lw_at lw_m0 192 rfl) rfl
theorem q211 : (Jvm.Cond.methodLink "KineticLatticeLaw" (38 : Nat) ({ cls := "KineticLatticeModel", name := "state", desc := "(I)I" } : Jvm.MethodName)) ∈ lw_all := lw_g (lw_at lw_m0 196 rfl) rfl
theorem q215 : (Jvm.Cond.methodLink "KineticLatticeLaw" (43 : Nat) ({ cls := "KineticLatticeModel", name := "total", desc := "()I" } : Jvm.MethodName)) ∈ lw_all := lw_g (lw_at lw_m0 200 rfl) rfl
theorem q216 : (Jvm.Cond.methodLink "KineticLatticeLaw" (47 : Nat) ({ cls := "KineticLatticeModel", name := "siteRate", desc := "(I)I" } : Jvm.MethodName)) ∈ lw_all := lw_g (lw_at lw_m0 201 rfl) rfl
theorem q217 : (Jvm.Cond.methodLink "KineticLatticeLaw" (51 : Nat) ({ cls := "KineticLatticeModel", name := "occupied", desc := "()I" } : Jvm.MethodName)) ∈ lw_all := lw_g (lw_at lw_m0 202 rfl) rfl
theorem q221 : (Jvm.Cond.methodLink "KineticLatticeLaw" (55 : Nat) ({ cls := "KineticLatticeModel", name := "pairs", desc := "()I" } : Jvm.MethodName)) ∈ lw_all := lw_g (lw_at lw_m0 206 rfl) rfl
theorem q225 : (Jvm.Cond.methodLink "KineticLatticeLaw" (59 : Nat) ({ cls := "KineticLatticeModel", name := "happened", desc := "(I)I" } : Jvm.MethodName)) ∈ lw_all := lw_g (lw_at lw_m0 210 rfl) rfl
theorem q229 : (Jvm.Cond.methodLink "KineticLatticeLaw" (63 : Nat) ({ cls := "KineticLatticeModel", name := "before", desc := "(I)I" } : Jvm.MethodName)) ∈ lw_all := lw_g (lw_at lw_m0 214 rfl) rfl
/-! the law's own entry -/
set_option maxRecDepth 100000
abbrev cL_law : ByteArray := code
theorem dL_law_0 : decode cL_law 0 = .ok (.new 7, 3) := by decide +kernel
theorem dL_law_3 : decode cL_law 3 = .ok (.dup, 1) := by decide +kernel
theorem dL_law_4 : decode cL_law 4 = .ok (.invokespecial 9, 3) := by decide +kernel
theorem dL_law_7 : decode cL_law 7 = .ok (.astore_n 1, 1) := by decide +kernel
theorem dL_law_8 : decode cL_law 8 = .ok (.new 10, 3) := by decide +kernel
theorem dL_law_11 : decode cL_law 11 = .ok (.dup, 1) := by decide +kernel
theorem dL_law_12 : decode cL_law 12 = .ok (.invokespecial 12, 3) := by decide +kernel
theorem dL_law_15 : decode cL_law 15 = .ok (.astore_n 2, 1) := by decide +kernel
theorem dL_law_16 : decode cL_law 16 = .ok (.iconst 0, 1) := by decide +kernel
theorem dL_law_17 : decode cL_law 17 = .ok (.istore_n 3, 1) := by decide +kernel
theorem dL_law_18 : decode cL_law 18 = .ok (.iload_n 3, 1) := by decide +kernel
theorem dL_law_19 : decode cL_law 19 = .ok (.aload_n 0, 1) := by decide +kernel
theorem dL_law_20 : decode cL_law 20 = .ok (.arraylength, 1) := by decide +kernel
theorem dL_law_21 : decode cL_law 21 = .ok (.iconst 3, 1) := by decide +kernel
theorem dL_law_22 : decode cL_law 22 = .ok (.isub, 1) := by decide +kernel
theorem dL_law_23 : decode cL_law 23 = .ok (.if_icmp .gt 343, 3) := by decide +kernel
theorem dL_law_26 : decode cL_law 26 = .ok (.aload_n 0, 1) := by decide +kernel
theorem dL_law_27 : decode cL_law 27 = .ok (.iload_n 3, 1) := by decide +kernel
theorem dL_law_28 : decode cL_law 28 = .ok (.iaload, 1) := by decide +kernel
theorem dL_law_29 : decode cL_law 29 = .ok (.bipush 15, 2) := by decide +kernel
theorem dL_law_31 : decode cL_law 31 = .ok (.iand, 1) := by decide +kernel
theorem dL_law_32 : decode cL_law 32 = .ok (.tableswitch 328 0 11 #[64, 97, 130, 153, 186, 197, 220, 233, 256, 269, 282, 305], 64) := by decide +kernel
theorem dL_law_96 : decode cL_law 96 = .ok (.aload_n 1, 1) := by decide +kernel
theorem dL_law_97 : decode cL_law 97 = .ok (.aload_n 0, 1) := by decide +kernel
theorem dL_law_98 : decode cL_law 98 = .ok (.iload_n 3, 1) := by decide +kernel
theorem dL_law_99 : decode cL_law 99 = .ok (.iconst 1, 1) := by decide +kernel
theorem dL_law_100 : decode cL_law 100 = .ok (.iadd, 1) := by decide +kernel
theorem dL_law_101 : decode cL_law 101 = .ok (.iaload, 1) := by decide +kernel
theorem dL_law_102 : decode cL_law 102 = .ok (.aload_n 0, 1) := by decide +kernel
theorem dL_law_103 : decode cL_law 103 = .ok (.iload_n 3, 1) := by decide +kernel
theorem dL_law_104 : decode cL_law 104 = .ok (.iconst 2, 1) := by decide +kernel
theorem dL_law_105 : decode cL_law 105 = .ok (.iadd, 1) := by decide +kernel
theorem dL_law_106 : decode cL_law 106 = .ok (.iaload, 1) := by decide +kernel
theorem dL_law_107 : decode cL_law 107 = .ok (.invokevirtual 13, 3) := by decide +kernel
theorem dL_law_110 : decode cL_law 110 = .ok (.aload_n 2, 1) := by decide +kernel
theorem dL_law_111 : decode cL_law 111 = .ok (.aload_n 0, 1) := by decide +kernel
theorem dL_law_112 : decode cL_law 112 = .ok (.iload_n 3, 1) := by decide +kernel
theorem dL_law_113 : decode cL_law 113 = .ok (.iconst 1, 1) := by decide +kernel
theorem dL_law_114 : decode cL_law 114 = .ok (.iadd, 1) := by decide +kernel
theorem dL_law_115 : decode cL_law 115 = .ok (.iaload, 1) := by decide +kernel
theorem dL_law_116 : decode cL_law 116 = .ok (.aload_n 0, 1) := by decide +kernel
theorem dL_law_117 : decode cL_law 117 = .ok (.iload_n 3, 1) := by decide +kernel
theorem dL_law_118 : decode cL_law 118 = .ok (.iconst 2, 1) := by decide +kernel
theorem dL_law_119 : decode cL_law 119 = .ok (.iadd, 1) := by decide +kernel
theorem dL_law_120 : decode cL_law 120 = .ok (.iaload, 1) := by decide +kernel
theorem dL_law_121 : decode cL_law 121 = .ok (.invokevirtual 17, 3) := by decide +kernel
theorem dL_law_124 : decode cL_law 124 = .ok (.if_icmp .eq 236, 3) := by decide +kernel
theorem dL_law_127 : decode cL_law 127 = .ok (.iconst 0, 1) := by decide +kernel
theorem dL_law_128 : decode cL_law 128 = .ok (.ireturn, 1) := by decide +kernel
theorem dL_law_129 : decode cL_law 129 = .ok (.aload_n 1, 1) := by decide +kernel
theorem dL_law_130 : decode cL_law 130 = .ok (.aload_n 0, 1) := by decide +kernel
theorem dL_law_131 : decode cL_law 131 = .ok (.iload_n 3, 1) := by decide +kernel
theorem dL_law_132 : decode cL_law 132 = .ok (.iconst 1, 1) := by decide +kernel
theorem dL_law_133 : decode cL_law 133 = .ok (.iadd, 1) := by decide +kernel
theorem dL_law_134 : decode cL_law 134 = .ok (.iaload, 1) := by decide +kernel
theorem dL_law_135 : decode cL_law 135 = .ok (.aload_n 0, 1) := by decide +kernel
theorem dL_law_136 : decode cL_law 136 = .ok (.iload_n 3, 1) := by decide +kernel
theorem dL_law_137 : decode cL_law 137 = .ok (.iconst 2, 1) := by decide +kernel
theorem dL_law_138 : decode cL_law 138 = .ok (.iadd, 1) := by decide +kernel
theorem dL_law_139 : decode cL_law 139 = .ok (.iaload, 1) := by decide +kernel
theorem dL_law_140 : decode cL_law 140 = .ok (.invokevirtual 18, 3) := by decide +kernel
theorem dL_law_143 : decode cL_law 143 = .ok (.aload_n 2, 1) := by decide +kernel
theorem dL_law_144 : decode cL_law 144 = .ok (.aload_n 0, 1) := by decide +kernel
theorem dL_law_145 : decode cL_law 145 = .ok (.iload_n 3, 1) := by decide +kernel
theorem dL_law_146 : decode cL_law 146 = .ok (.iconst 1, 1) := by decide +kernel
theorem dL_law_147 : decode cL_law 147 = .ok (.iadd, 1) := by decide +kernel
theorem dL_law_148 : decode cL_law 148 = .ok (.iaload, 1) := by decide +kernel
theorem dL_law_149 : decode cL_law 149 = .ok (.aload_n 0, 1) := by decide +kernel
theorem dL_law_150 : decode cL_law 150 = .ok (.iload_n 3, 1) := by decide +kernel
theorem dL_law_151 : decode cL_law 151 = .ok (.iconst 2, 1) := by decide +kernel
theorem dL_law_152 : decode cL_law 152 = .ok (.iadd, 1) := by decide +kernel
theorem dL_law_153 : decode cL_law 153 = .ok (.iaload, 1) := by decide +kernel
theorem dL_law_154 : decode cL_law 154 = .ok (.invokevirtual 21, 3) := by decide +kernel
theorem dL_law_157 : decode cL_law 157 = .ok (.if_icmp .eq 203, 3) := by decide +kernel
theorem dL_law_160 : decode cL_law 160 = .ok (.iconst 0, 1) := by decide +kernel
theorem dL_law_161 : decode cL_law 161 = .ok (.ireturn, 1) := by decide +kernel
theorem dL_law_162 : decode cL_law 162 = .ok (.aload_n 1, 1) := by decide +kernel
theorem dL_law_163 : decode cL_law 163 = .ok (.aload_n 0, 1) := by decide +kernel
theorem dL_law_164 : decode cL_law 164 = .ok (.iload_n 3, 1) := by decide +kernel
theorem dL_law_165 : decode cL_law 165 = .ok (.iconst 1, 1) := by decide +kernel
theorem dL_law_166 : decode cL_law 166 = .ok (.iadd, 1) := by decide +kernel
theorem dL_law_167 : decode cL_law 167 = .ok (.iaload, 1) := by decide +kernel
theorem dL_law_168 : decode cL_law 168 = .ok (.invokevirtual 22, 3) := by decide +kernel
theorem dL_law_171 : decode cL_law 171 = .ok (.aload_n 2, 1) := by decide +kernel
theorem dL_law_172 : decode cL_law 172 = .ok (.aload_n 0, 1) := by decide +kernel
theorem dL_law_173 : decode cL_law 173 = .ok (.iload_n 3, 1) := by decide +kernel
theorem dL_law_174 : decode cL_law 174 = .ok (.iconst 1, 1) := by decide +kernel
theorem dL_law_175 : decode cL_law 175 = .ok (.iadd, 1) := by decide +kernel
theorem dL_law_176 : decode cL_law 176 = .ok (.iaload, 1) := by decide +kernel
theorem dL_law_177 : decode cL_law 177 = .ok (.invokevirtual 26, 3) := by decide +kernel
theorem dL_law_180 : decode cL_law 180 = .ok (.if_icmp .eq 180, 3) := by decide +kernel
theorem dL_law_183 : decode cL_law 183 = .ok (.iconst 0, 1) := by decide +kernel
theorem dL_law_184 : decode cL_law 184 = .ok (.ireturn, 1) := by decide +kernel
theorem dL_law_185 : decode cL_law 185 = .ok (.aload_n 1, 1) := by decide +kernel
theorem dL_law_186 : decode cL_law 186 = .ok (.aload_n 0, 1) := by decide +kernel
theorem dL_law_187 : decode cL_law 187 = .ok (.iload_n 3, 1) := by decide +kernel
theorem dL_law_188 : decode cL_law 188 = .ok (.iconst 1, 1) := by decide +kernel
theorem dL_law_189 : decode cL_law 189 = .ok (.iadd, 1) := by decide +kernel
theorem dL_law_190 : decode cL_law 190 = .ok (.iaload, 1) := by decide +kernel
theorem dL_law_191 : decode cL_law 191 = .ok (.aload_n 0, 1) := by decide +kernel
theorem dL_law_192 : decode cL_law 192 = .ok (.iload_n 3, 1) := by decide +kernel
theorem dL_law_193 : decode cL_law 193 = .ok (.iconst 2, 1) := by decide +kernel
theorem dL_law_194 : decode cL_law 194 = .ok (.iadd, 1) := by decide +kernel
theorem dL_law_195 : decode cL_law 195 = .ok (.iaload, 1) := by decide +kernel
theorem dL_law_196 : decode cL_law 196 = .ok (.invokevirtual 27, 3) := by decide +kernel
theorem dL_law_199 : decode cL_law 199 = .ok (.aload_n 2, 1) := by decide +kernel
theorem dL_law_200 : decode cL_law 200 = .ok (.aload_n 0, 1) := by decide +kernel
theorem dL_law_201 : decode cL_law 201 = .ok (.iload_n 3, 1) := by decide +kernel
theorem dL_law_202 : decode cL_law 202 = .ok (.iconst 1, 1) := by decide +kernel
theorem dL_law_203 : decode cL_law 203 = .ok (.iadd, 1) := by decide +kernel
theorem dL_law_204 : decode cL_law 204 = .ok (.iaload, 1) := by decide +kernel
theorem dL_law_205 : decode cL_law 205 = .ok (.aload_n 0, 1) := by decide +kernel
theorem dL_law_206 : decode cL_law 206 = .ok (.iload_n 3, 1) := by decide +kernel
theorem dL_law_207 : decode cL_law 207 = .ok (.iconst 2, 1) := by decide +kernel
theorem dL_law_208 : decode cL_law 208 = .ok (.iadd, 1) := by decide +kernel
theorem dL_law_209 : decode cL_law 209 = .ok (.iaload, 1) := by decide +kernel
theorem dL_law_210 : decode cL_law 210 = .ok (.invokevirtual 30, 3) := by decide +kernel
theorem dL_law_213 : decode cL_law 213 = .ok (.if_icmp .eq 147, 3) := by decide +kernel
theorem dL_law_216 : decode cL_law 216 = .ok (.iconst 0, 1) := by decide +kernel
theorem dL_law_217 : decode cL_law 217 = .ok (.ireturn, 1) := by decide +kernel
theorem dL_law_218 : decode cL_law 218 = .ok (.aload_n 1, 1) := by decide +kernel
theorem dL_law_219 : decode cL_law 219 = .ok (.invokevirtual 31, 3) := by decide +kernel
theorem dL_law_222 : decode cL_law 222 = .ok (.aload_n 2, 1) := by decide +kernel
theorem dL_law_223 : decode cL_law 223 = .ok (.invokevirtual 34, 3) := by decide +kernel
theorem dL_law_226 : decode cL_law 226 = .ok (.goto 134, 3) := by decide +kernel
theorem dL_law_229 : decode cL_law 229 = .ok (.aload_n 1, 1) := by decide +kernel
theorem dL_law_230 : decode cL_law 230 = .ok (.aload_n 0, 1) := by decide +kernel
theorem dL_law_231 : decode cL_law 231 = .ok (.iload_n 3, 1) := by decide +kernel
theorem dL_law_232 : decode cL_law 232 = .ok (.iconst 1, 1) := by decide +kernel
theorem dL_law_233 : decode cL_law 233 = .ok (.iadd, 1) := by decide +kernel
theorem dL_law_234 : decode cL_law 234 = .ok (.iaload, 1) := by decide +kernel
theorem dL_law_235 : decode cL_law 235 = .ok (.invokevirtual 35, 3) := by decide +kernel
theorem dL_law_238 : decode cL_law 238 = .ok (.aload_n 2, 1) := by decide +kernel
theorem dL_law_239 : decode cL_law 239 = .ok (.aload_n 0, 1) := by decide +kernel
theorem dL_law_240 : decode cL_law 240 = .ok (.iload_n 3, 1) := by decide +kernel
theorem dL_law_241 : decode cL_law 241 = .ok (.iconst 1, 1) := by decide +kernel
theorem dL_law_242 : decode cL_law 242 = .ok (.iadd, 1) := by decide +kernel
theorem dL_law_243 : decode cL_law 243 = .ok (.iaload, 1) := by decide +kernel
theorem dL_law_244 : decode cL_law 244 = .ok (.invokevirtual 38, 3) := by decide +kernel
theorem dL_law_247 : decode cL_law 247 = .ok (.if_icmp .eq 113, 3) := by decide +kernel
theorem dL_law_250 : decode cL_law 250 = .ok (.iconst 0, 1) := by decide +kernel
theorem dL_law_251 : decode cL_law 251 = .ok (.ireturn, 1) := by decide +kernel
theorem dL_law_252 : decode cL_law 252 = .ok (.aload_n 1, 1) := by decide +kernel
theorem dL_law_253 : decode cL_law 253 = .ok (.invokevirtual 39, 3) := by decide +kernel
theorem dL_law_256 : decode cL_law 256 = .ok (.aload_n 2, 1) := by decide +kernel
theorem dL_law_257 : decode cL_law 257 = .ok (.invokevirtual 43, 3) := by decide +kernel
theorem dL_law_260 : decode cL_law 260 = .ok (.if_icmp .eq 100, 3) := by decide +kernel
theorem dL_law_263 : decode cL_law 263 = .ok (.iconst 0, 1) := by decide +kernel
theorem dL_law_264 : decode cL_law 264 = .ok (.ireturn, 1) := by decide +kernel
theorem dL_law_265 : decode cL_law 265 = .ok (.aload_n 1, 1) := by decide +kernel
theorem dL_law_266 : decode cL_law 266 = .ok (.aload_n 0, 1) := by decide +kernel
theorem dL_law_267 : decode cL_law 267 = .ok (.iload_n 3, 1) := by decide +kernel
theorem dL_law_268 : decode cL_law 268 = .ok (.iconst 1, 1) := by decide +kernel
theorem dL_law_269 : decode cL_law 269 = .ok (.iadd, 1) := by decide +kernel
theorem dL_law_270 : decode cL_law 270 = .ok (.iaload, 1) := by decide +kernel
theorem dL_law_271 : decode cL_law 271 = .ok (.invokevirtual 44, 3) := by decide +kernel
theorem dL_law_274 : decode cL_law 274 = .ok (.aload_n 2, 1) := by decide +kernel
theorem dL_law_275 : decode cL_law 275 = .ok (.aload_n 0, 1) := by decide +kernel
theorem dL_law_276 : decode cL_law 276 = .ok (.iload_n 3, 1) := by decide +kernel
theorem dL_law_277 : decode cL_law 277 = .ok (.iconst 1, 1) := by decide +kernel
theorem dL_law_278 : decode cL_law 278 = .ok (.iadd, 1) := by decide +kernel
theorem dL_law_279 : decode cL_law 279 = .ok (.iaload, 1) := by decide +kernel
theorem dL_law_280 : decode cL_law 280 = .ok (.invokevirtual 47, 3) := by decide +kernel
theorem dL_law_283 : decode cL_law 283 = .ok (.if_icmp .eq 77, 3) := by decide +kernel
theorem dL_law_286 : decode cL_law 286 = .ok (.iconst 0, 1) := by decide +kernel
theorem dL_law_287 : decode cL_law 287 = .ok (.ireturn, 1) := by decide +kernel
theorem dL_law_288 : decode cL_law 288 = .ok (.aload_n 1, 1) := by decide +kernel
theorem dL_law_289 : decode cL_law 289 = .ok (.invokevirtual 48, 3) := by decide +kernel
theorem dL_law_292 : decode cL_law 292 = .ok (.aload_n 2, 1) := by decide +kernel
theorem dL_law_293 : decode cL_law 293 = .ok (.invokevirtual 51, 3) := by decide +kernel
theorem dL_law_296 : decode cL_law 296 = .ok (.if_icmp .eq 64, 3) := by decide +kernel
theorem dL_law_299 : decode cL_law 299 = .ok (.iconst 0, 1) := by decide +kernel
theorem dL_law_300 : decode cL_law 300 = .ok (.ireturn, 1) := by decide +kernel
theorem dL_law_301 : decode cL_law 301 = .ok (.aload_n 1, 1) := by decide +kernel
theorem dL_law_302 : decode cL_law 302 = .ok (.invokevirtual 52, 3) := by decide +kernel
theorem dL_law_305 : decode cL_law 305 = .ok (.aload_n 2, 1) := by decide +kernel
theorem dL_law_306 : decode cL_law 306 = .ok (.invokevirtual 55, 3) := by decide +kernel
theorem dL_law_309 : decode cL_law 309 = .ok (.if_icmp .eq 51, 3) := by decide +kernel
theorem dL_law_312 : decode cL_law 312 = .ok (.iconst 0, 1) := by decide +kernel
theorem dL_law_313 : decode cL_law 313 = .ok (.ireturn, 1) := by decide +kernel
theorem dL_law_314 : decode cL_law 314 = .ok (.aload_n 1, 1) := by decide +kernel
theorem dL_law_315 : decode cL_law 315 = .ok (.aload_n 0, 1) := by decide +kernel
theorem dL_law_316 : decode cL_law 316 = .ok (.iload_n 3, 1) := by decide +kernel
theorem dL_law_317 : decode cL_law 317 = .ok (.iconst 1, 1) := by decide +kernel
theorem dL_law_318 : decode cL_law 318 = .ok (.iadd, 1) := by decide +kernel
theorem dL_law_319 : decode cL_law 319 = .ok (.iaload, 1) := by decide +kernel
theorem dL_law_320 : decode cL_law 320 = .ok (.invokevirtual 56, 3) := by decide +kernel
theorem dL_law_323 : decode cL_law 323 = .ok (.aload_n 2, 1) := by decide +kernel
theorem dL_law_324 : decode cL_law 324 = .ok (.aload_n 0, 1) := by decide +kernel
theorem dL_law_325 : decode cL_law 325 = .ok (.iload_n 3, 1) := by decide +kernel
theorem dL_law_326 : decode cL_law 326 = .ok (.iconst 1, 1) := by decide +kernel
theorem dL_law_327 : decode cL_law 327 = .ok (.iadd, 1) := by decide +kernel
theorem dL_law_328 : decode cL_law 328 = .ok (.iaload, 1) := by decide +kernel
theorem dL_law_329 : decode cL_law 329 = .ok (.invokevirtual 59, 3) := by decide +kernel
theorem dL_law_332 : decode cL_law 332 = .ok (.if_icmp .eq 28, 3) := by decide +kernel
theorem dL_law_335 : decode cL_law 335 = .ok (.iconst 0, 1) := by decide +kernel
theorem dL_law_336 : decode cL_law 336 = .ok (.ireturn, 1) := by decide +kernel
theorem dL_law_337 : decode cL_law 337 = .ok (.aload_n 1, 1) := by decide +kernel
theorem dL_law_338 : decode cL_law 338 = .ok (.aload_n 0, 1) := by decide +kernel
theorem dL_law_339 : decode cL_law 339 = .ok (.iload_n 3, 1) := by decide +kernel
theorem dL_law_340 : decode cL_law 340 = .ok (.iconst 1, 1) := by decide +kernel
theorem dL_law_341 : decode cL_law 341 = .ok (.iadd, 1) := by decide +kernel
theorem dL_law_342 : decode cL_law 342 = .ok (.iaload, 1) := by decide +kernel
theorem dL_law_343 : decode cL_law 343 = .ok (.invokevirtual 60, 3) := by decide +kernel
theorem dL_law_346 : decode cL_law 346 = .ok (.aload_n 2, 1) := by decide +kernel
theorem dL_law_347 : decode cL_law 347 = .ok (.aload_n 0, 1) := by decide +kernel
theorem dL_law_348 : decode cL_law 348 = .ok (.iload_n 3, 1) := by decide +kernel
theorem dL_law_349 : decode cL_law 349 = .ok (.iconst 1, 1) := by decide +kernel
theorem dL_law_350 : decode cL_law 350 = .ok (.iadd, 1) := by decide +kernel
theorem dL_law_351 : decode cL_law 351 = .ok (.iaload, 1) := by decide +kernel
theorem dL_law_352 : decode cL_law 352 = .ok (.invokevirtual 63, 3) := by decide +kernel
theorem dL_law_355 : decode cL_law 355 = .ok (.if_icmp .eq 5, 3) := by decide +kernel
theorem dL_law_358 : decode cL_law 358 = .ok (.iconst 0, 1) := by decide +kernel
theorem dL_law_359 : decode cL_law 359 = .ok (.ireturn, 1) := by decide +kernel
theorem dL_law_360 : decode cL_law 360 = .ok (.iinc 3 3, 3) := by decide +kernel
theorem dL_law_363 : decode cL_law 363 = .ok (.goto (-345), 3) := by decide +kernel
theorem dL_law_366 : decode cL_law 366 = .ok (.iconst 1, 1) := by decide +kernel
theorem dL_law_367 : decode cL_law 367 = .ok (.ireturn, 1) := by decide +kernel
end
section
set_option maxRecDepth 100000
abbrev vwCl : List vw_C := [(RX0, TX0, 7), (RX1, TX1, 3)]
/-- the heap holds the cells w -/
def kl_H (D : va_G) (d : ClassId) (A : Nat → Prop) (w : va_W) (U : State) : Prop := va_P D vwCl w U.heap ∧ va_K D vwCl [(d, .int)] U ∧ va_D A w
/-- a contract whose answer is the int r and whose world goes from w to w' -/
def kl_CI (l : Launch) (y : MethodName) (b : ByteArray) (L : Nat) (rm : Room) (D : va_G) (d : ClassId) (av : List Value) (w : va_W) (r : Int32) (w' : va_W) : Prop :=
  ∀ sz : Nat, Met l y (ws_ y b L (some .int)) rm (va_Pc av (fun U => U.heap.size = sz ∧ kl_H D d (fun _ => True) w U)) (va_Qi (fun z (_ : Unit) => z = r) (fun _ t => kl_H D d (va_A w sz) w' t) (va_A w sz)) 0 0 (va_A w sz)
/-- a contract without an answer -/
def kl_CV (l : Launch) (y : MethodName) (b : ByteArray) (L : Nat) (rm : Room) (D : va_G) (d : ClassId) (av : List Value) (w : va_W) (w' : va_W) : Prop :=
  ∀ sz : Nat, Met l y (ws_ y b L none) rm (va_Pc av (fun U => U.heap.size = sz ∧ kl_H D d (fun _ => True) w U)) (va_Qv (fun (_ : Unit) => True) (fun _ t => kl_H D d (va_A w sz) w' t) (va_A w sz)) 0 0 (va_A w sz)
/-- the room of a method that makes no cells -/
abbrev kl_rm (f lo : Nat) : Room := { frames := f, cells := 0, slots := 0, locals := lo }
theorem kl_CI.of {l : Launch} {y : MethodName} {b : ByteArray} {L : Nat} {rm : Room} {D : va_G} {d : ClassId} {av : List Value} {w : va_W} {r : Int32} {w' : va_W} (hy : plainName y.cls = true) (hL : (lg_sl av).length ≤ L)
    (body : ∀ (p : Program) (e : Env) (s : State) (m : MethodId) (args : Array Value) (below : List Frame) (meth : Method) (c : Code) (A : Nat → Prop) (Q : State → Prop) (ls : Array Slot),
      p.tables.exec = Jvm.exec → c.code = b → c.maxLocals = L → s.vm.findClass y.cls = some m.cls → (∀ w ∈ lw_all, w.before args s = true) → (∀ q : Nat, s.heap.size ≤ q → A q) →
      va_K D vwCl [(d, .int)] s → va_P D vwCl w s.heap → va_D A w → va_S A s.heap s.heap [] →
      (∀ (H : Heap) (locs : List Loc) (pc : Nat) (ls : Array Slot) (z : Int32), va_P D vwCl w' H → va_D A w' → va_S A s.heap H locs → decode b pc = .ok (.ireturn, 1) → z = r → W p l e rm s m args below meth c H locs 0 0 Q (F0 m pc ls [.int z])) →
      lv_has ls L (lv_args 0 av) → W p l e rm s m args below meth c s.heap [] 0 0 Q (F0 m 0 ls [])) : kl_CI l y b L rm D d av w r w' := by
  intro sz
  refine Met.ofW (cc := b) (maxL := L) (ret := some .int) hy rfl ?_
  intro p e s m args below meth c s₁ B hml hv
  obtain ⟨rfl, hsz, hP, hK, hD0⟩ := hv
  have hx := B.exec
  have hb := B.bytes
  have hr := B.returns
  have hts := atoms_spec (ws := ws_ y b L (some .int)) B.pre
  have hts : ∀ w ∈ lw_all, w.before _ s = true := fun w h => hts w (List.mem_cons_of_mem _ h)
  have hown : s.vm.findClass y.cls = some m.cls := findClass_of_methodNamed B.named
  have hlocks := B.notSynchronized
  subst hsz
  have hD := hD0.self (sz := s.heap.size)
  have hA : ∀ q : Nat, s.heap.size ≤ q → va_A w s.heap.size q := fun q h => Or.inr h
  have hl := lv_entry av (n := L) hL
  rw [lg_entry_eq]
  refine body p e s m av.toArray below meth c (va_A w s.heap.size) _ _ hx hb hml hown hts hA hK hP hD va_S.rf ?_ hl
  intro H locs pc ls z hP1 hD1 hS1 hdg ez
  subst ez
  exact W.iret (v := z) hx hb hr (fun t ht hW => ⟨⟨z, (), rfl, rfl, by rw [ht]; exact hP1, va_K.moved hW.alike hK, hD1⟩, hS1.F ht⟩) hS1.2.2 hdg
theorem kl_CV.of {l : Launch} {y : MethodName} {b : ByteArray} {L : Nat} {rm : Room} {D : va_G} {d : ClassId} {av : List Value} {w : va_W} {w' : va_W} (hy : plainName y.cls = true) (hL : (lg_sl av).length ≤ L)
    (body : ∀ (p : Program) (e : Env) (s : State) (m : MethodId) (args : Array Value) (below : List Frame) (meth : Method) (c : Code) (A : Nat → Prop) (Q : State → Prop) (ls : Array Slot),
      p.tables.exec = Jvm.exec → c.code = b → c.maxLocals = L → s.vm.findClass y.cls = some m.cls → (∀ w ∈ lw_all, w.before args s = true) → (∀ q : Nat, s.heap.size ≤ q → A q) →
      va_K D vwCl [(d, .int)] s → va_P D vwCl w s.heap → va_D A w → va_S A s.heap s.heap [] →
      (∀ (H : Heap) (locs : List Loc) (pc : Nat) (ls : Array Slot), va_P D vwCl w' H → va_D A w' → va_S A s.heap H locs → decode b pc = .ok (.return_, 1) → W p l e rm s m args below meth c H locs 0 0 Q (F0 m pc ls [])) →
      lv_has ls L (lv_args 0 av) → W p l e rm s m args below meth c s.heap [] 0 0 Q (F0 m 0 ls [])) : kl_CV l y b L rm D d av w w' := by
  intro sz
  refine Met.ofW (cc := b) (maxL := L) (ret := none) hy rfl ?_
  intro p e s m args below meth c s₁ B hml hv
  obtain ⟨rfl, hsz, hP, hK, hD0⟩ := hv
  have hx := B.exec
  have hb := B.bytes
  have hr := B.returns
  have hts := atoms_spec (ws := ws_ y b L none) B.pre
  have hts : ∀ w ∈ lw_all, w.before _ s = true := fun w h => hts w (List.mem_cons_of_mem _ h)
  have hown : s.vm.findClass y.cls = some m.cls := findClass_of_methodNamed B.named
  have hlocks := B.notSynchronized
  subst hsz
  have hD := hD0.self (sz := s.heap.size)
  have hA : ∀ q : Nat, s.heap.size ≤ q → va_A w s.heap.size q := fun q h => Or.inr h
  have hl := lv_entry av (n := L) hL
  rw [lg_entry_eq]
  refine body p e s m av.toArray below meth c (va_A w s.heap.size) _ _ hx hb hml hown hts hA hK hP hD va_S.rf ?_ hl
  intro H locs pc ls hP1 hD1 hS1 hdg
  exact W.vret hx hb hr (fun t ht hW => ⟨⟨(), rfl, trivial, by rw [ht]; exact hP1, va_K.moved hW.alike hK, hD1⟩, hS1.F ht⟩) hS1.2.2 hdg
section KLC
variable {p : Program} {l : Launch} {e : Env} {R : Room} {s : State} {m : MethodId} {args : Array Value} {below : List Frame} {meth : Method} {c : Code} {H : Heap} {locs : List Loc} {cells slots : Nat} {Q : State → Prop}
variable {y : MethodName} {b cc : ByteArray} {maxL nL n index ci a pc : Nat} {rm : Room} {D : va_G} {d : ClassId} {As st rest fs : List Value} {w w' wr ws : va_W} {r : Int32} {own : String} {A : Nat → Prop} {ls : Array Slot}
theorem kl_free {H0 : Heap} (hD : va_D A w) (hS : va_S A H0 H locs) (hA : ∀ q, H0.size ≤ q → A q) : ∀ q, va_A w H.size q → A q := by
  intro q h
  rcases h with ⟨k, e, h⟩ | h
  · exact hD.2 k (q, e) h
  · exact hA q (Nat.le_trans hS.1 h)
/-- a call on the caller's own world -/
theorem kl_CI.call {C : vw_C} (hM : kl_CI l y b maxL rm D d (.ref a :: As) w r w') (F : CallFix p m c cc nL s args lw_all own) (cw : CallW R s args own C.1 index y b maxL (some .int) (ws_ y b maxL (some .int)) rm 0 0 n) (hc : vwCl[ci]? = some C) (he : w[0]? = some (a, .inr (ci, fs)))
    (hK : va_K D vwCl [(d, .int)] s) (hP : va_P D vwCl w H) (hD : va_D A w) (hS : va_S A s.heap H locs) (hA : ∀ q, s.heap.size ≤ q → A q)
    (hn : As.length = n) (hsize : ls.size = nL) (hst : st = As.reverse ++ .ref a :: rest) (hW : (rest.map fun v => v.category).sum ≤ 8) (hdg : decode cc pc = .ok (.invokevirtual index, 3)) (hf : cells ≤ R.cells ∧ slots ≤ R.slots)
    (kk : ∀ (H1 : Heap) (locs1 : List Loc), va_P D vwCl w' H1 → va_D A w' → va_S A s.heap H1 locs1 → W p l e R s m args below meth c H1 locs1 cells slots Q (F0 m (pc + 3) ls (.int r :: rest))) :
    W p l e R s m args below meth c H locs cells slots Q (F0 m pc ls st) := by
  have hFc := kl_free hD hS hA
  refine va_calli (va_runV (As := As) (rest := rest) (b := a) F (hM H.size) cw ⟨fun a U g mk q => by obtain ⟨q0, q1, qP, qK, qD⟩ := q; exact ⟨q0, q1, qP, va_K.moved (u := U) (U := U.calling g mk a) (Vm.Alike.refl U.vm) qK, qD⟩, va_recv hK hP hc he, fun U hU hW => ⟨rfl, by rw [hU], by rw [hU]; exact hP, va_K.moved hW.alike hK, hD.weaken (fun _ _ _ _ => trivial)⟩⟩ rfl hn hsize hst (lv_room hW) hdg hf) hS (fun q _ h => hFc q h) hFc (fun r_1 u t H1 locs1 ht hvm hw1 hB hz1 hk1 hS1 => ?_)
  obtain ⟨hP1, hK1, hD1⟩ := hB
  rw [ht] at hP1
  subst hw1
  exact kk H1 locs1 hP1 (hD1.weaken (fun _ q _ h => hFc q.1 h)) hS1
theorem kl_CV.call {C : vw_C} (hM : kl_CV l y b maxL rm D d (.ref a :: As) w w') (F : CallFix p m c cc nL s args lw_all own) (cw : CallW R s args own C.1 index y b maxL none (ws_ y b maxL none) rm 0 0 n) (hc : vwCl[ci]? = some C) (he : w[0]? = some (a, .inr (ci, fs)))
    (hK : va_K D vwCl [(d, .int)] s) (hP : va_P D vwCl w H) (hD : va_D A w) (hS : va_S A s.heap H locs) (hA : ∀ q, s.heap.size ≤ q → A q)
    (hn : As.length = n) (hsize : ls.size = nL) (hst : st = As.reverse ++ .ref a :: rest) (hW : (rest.map fun v => v.category).sum ≤ 8) (hdg : decode cc pc = .ok (.invokevirtual index, 3)) (hf : cells ≤ R.cells ∧ slots ≤ R.slots)
    (kk : ∀ (H1 : Heap) (locs1 : List Loc), va_P D vwCl w' H1 → va_D A w' → va_S A s.heap H1 locs1 → W p l e R s m args below meth c H1 locs1 cells slots Q (F0 m (pc + 3) ls rest)) :
    W p l e R s m args below meth c H locs cells slots Q (F0 m pc ls st) := by
  have hFc := kl_free hD hS hA
  refine va_callv (va_runV (As := As) (rest := rest) (b := a) F (hM H.size) cw ⟨fun a U g mk q => by obtain ⟨q0, q1, qP, qK, qD⟩ := q; exact ⟨q0, q1, qP, va_K.moved (u := U) (U := U.calling g mk a) (Vm.Alike.refl U.vm) qK, qD⟩, va_recv hK hP hc he, fun U hU hW => ⟨rfl, by rw [hU], by rw [hU]; exact hP, va_K.moved hW.alike hK, hD.weaken (fun _ _ _ _ => trivial)⟩⟩ rfl hn hsize hst (lv_room hW) hdg hf) hS (fun q _ h => hFc q h) hFc (fun u t H1 locs1 ht hvm hw1 hB hz1 hk1 hS1 => ?_)
  obtain ⟨hP1, hK1, hD1⟩ := hB
  rw [ht] at hP1
  exact kk H1 locs1 hP1 (hD1.weaken (fun _ q _ h => hFc q.1 h)) hS1
/-- a call on a part of the caller's world: places isC are the callee's, isR the rest -/
theorem kl_CI.callP {C : vw_C} (isC isR : List Nat) (hM : kl_CI l y b maxL rm D d (.ref a :: As) w r w') (F : CallFix p m c cc nL s args lw_all own) (cw : CallW R s args own C.1 index y b maxL (some .int) (ws_ y b maxL (some .int)) rm 0 0 n) (hc : vwCl[ci]? = some C) (he : w[0]? = some (a, .inr (ci, fs)))
    (hK : va_K D vwCl [(d, .int)] s) (hP : va_P D vwCl ws H) (hD : va_D A ws) (hS : va_S A s.heap H locs) (hA : ∀ q, s.heap.size ≤ q → A q)
    (hC0 : isC.filterMap (fun i => ws[i]?) = w) (hC : isC.map (fun i => ws[i]?) = w.map some) (hnC : va_nd isC = true) (hR : isR.map (fun i => ws[i]?) = wr.map some) (hnR : va_nd isR = true) (hdis : ∀ i ∈ isR, i ∉ isC)
    (hn : As.length = n) (hsize : ls.size = nL) (hst : st = As.reverse ++ .ref a :: rest) (hW : (rest.map fun v => v.category).sum ≤ 8) (hdg : decode cc pc = .ok (.invokevirtual index, 3)) (hf : cells ≤ R.cells ∧ slots ≤ R.slots)
    (kk : ∀ (H1 : Heap) (locs1 : List Loc), va_P D vwCl (wr ++ w') H1 → va_D A (wr ++ w') → va_S A s.heap H1 locs1 → W p l e R s m args below meth c H1 locs1 cells slots Q (F0 m (pc + 3) ls (.int r :: rest))) :
    W p l e R s m args below meth c H locs cells slots Q (F0 m pc ls st) := by
  have hPc := hP.sub (ws' := w) isC hC0
  have hDc := hD.sub (ws' := w) isC hnC hC
  have hFc := va_free (wc := w) hD hS hA isC hC
  refine va_calli (va_runV (As := As) (rest := rest) (b := a) F (hM H.size) cw ⟨fun a U g mk q => by obtain ⟨q0, q1, qP, qK, qD⟩ := q; exact ⟨q0, q1, qP, va_K.moved (u := U) (U := U.calling g mk a) (Vm.Alike.refl U.vm) qK, qD⟩, va_recv hK hPc hc he, fun U hU hW => ⟨rfl, by rw [hU], by rw [hU]; exact hPc, va_K.moved hW.alike hK, hDc.weaken (fun _ _ _ _ => trivial)⟩⟩ rfl hn hsize hst (lv_room hW) hdg hf) hS (fun q _ h => hFc q h) hFc (fun r_1 u t H1 locs1 ht hvm hw1 hB hz1 hk1 hS1 => ?_)
  obtain ⟨hP1, hK1, hD1⟩ := hB
  rw [ht] at hP1
  subst hw1
  obtain ⟨hP2, hD2⟩ := va_join (wr := wr) (w1 := w') hP hD isC isR hC hR hnR hdis hk1 hFc hP1 hD1
  exact kk H1 locs1 hP2 hD2 hS1
theorem kl_CV.callP {C : vw_C} (isC isR : List Nat) (hM : kl_CV l y b maxL rm D d (.ref a :: As) w w') (F : CallFix p m c cc nL s args lw_all own) (cw : CallW R s args own C.1 index y b maxL none (ws_ y b maxL none) rm 0 0 n) (hc : vwCl[ci]? = some C) (he : w[0]? = some (a, .inr (ci, fs)))
    (hK : va_K D vwCl [(d, .int)] s) (hP : va_P D vwCl ws H) (hD : va_D A ws) (hS : va_S A s.heap H locs) (hA : ∀ q, s.heap.size ≤ q → A q)
    (hC0 : isC.filterMap (fun i => ws[i]?) = w) (hC : isC.map (fun i => ws[i]?) = w.map some) (hnC : va_nd isC = true) (hR : isR.map (fun i => ws[i]?) = wr.map some) (hnR : va_nd isR = true) (hdis : ∀ i ∈ isR, i ∉ isC)
    (hn : As.length = n) (hsize : ls.size = nL) (hst : st = As.reverse ++ .ref a :: rest) (hW : (rest.map fun v => v.category).sum ≤ 8) (hdg : decode cc pc = .ok (.invokevirtual index, 3)) (hf : cells ≤ R.cells ∧ slots ≤ R.slots)
    (kk : ∀ (H1 : Heap) (locs1 : List Loc), va_P D vwCl (wr ++ w') H1 → va_D A (wr ++ w') → va_S A s.heap H1 locs1 → W p l e R s m args below meth c H1 locs1 cells slots Q (F0 m (pc + 3) ls rest)) :
    W p l e R s m args below meth c H locs cells slots Q (F0 m pc ls st) := by
  have hPc := hP.sub (ws' := w) isC hC0
  have hDc := hD.sub (ws' := w) isC hnC hC
  have hFc := va_free (wc := w) hD hS hA isC hC
  refine va_callv (va_runV (As := As) (rest := rest) (b := a) F (hM H.size) cw ⟨fun a U g mk q => by obtain ⟨q0, q1, qP, qK, qD⟩ := q; exact ⟨q0, q1, qP, va_K.moved (u := U) (U := U.calling g mk a) (Vm.Alike.refl U.vm) qK, qD⟩, va_recv hK hPc hc he, fun U hU hW => ⟨rfl, by rw [hU], by rw [hU]; exact hPc, va_K.moved hW.alike hK, hDc.weaken (fun _ _ _ _ => trivial)⟩⟩ rfl hn hsize hst (lv_room hW) hdg hf) hS (fun q _ h => hFc q h) hFc (fun u t H1 locs1 ht hvm hw1 hB hz1 hk1 hS1 => ?_)
  obtain ⟨hP1, hK1, hD1⟩ := hB
  rw [ht] at hP1
  obtain ⟨hP2, hD2⟩ := va_join (wr := wr) (w1 := w') hP hD isC isR hC hR hnR hdis hk1 hFc hP1 hD1
  exact kk H1 locs1 hP2 hD2 hS1
/-- the top of the stack under another name -/
theorem kl_top {x v : Int32} (h : x = v) (k : W p l e R s m args below meth c H locs cells slots Q (F0 m pc ls (.int v :: rest))) : W p l e R s m args below meth c H locs cells slots Q (F0 m pc ls (.int x :: rest)) := h ▸ k
end KLC
/-- addresses alone count for being apart -/
theorem kl_Dm {A : Nat → Prop} {ws ws' : va_W} (h : ws'.map Prod.fst = ws.map Prod.fst) (hD : va_D A ws) : va_D A ws' := by
  have key : ∀ (i : Nat) (q : Nat × va_E), ws'[i]? = some q → ∃ q' : Nat × va_E, ws[i]? = some q' ∧ q'.1 = q.1 := by
    intro i q hq
    have h1 : (ws'.map Prod.fst)[i]? = some q.1 := by rw [List.getElem?_map, hq]; rfl
    rw [h, List.getElem?_map] at h1
    cases hw : ws[i]? with
    | none => rw [hw] at h1; cases h1
    | some q' => rw [hw] at h1; exact ⟨q', rfl, Option.some.inj h1⟩
  refine ⟨fun i j x y hx hy hxy => ?_, fun k q hq => ?_⟩
  · obtain ⟨x', h1, h2⟩ := key i x hx
    obtain ⟨y', h3, h4⟩ := key j y hy
    exact hD.1 i j x' y' h1 h3 (by rw [h2, h4]; exact hxy)
  · obtain ⟨q', h1, h2⟩ := key k q hq
    rw [← h2]
    exact hD.2 k q' h1
theorem kl_cell {d : ClassId} {n : Nat} {f g : Nat → Int32} (h : ∀ j, j < n → f j = g j) : vp_cell d (n, .inl f) = vp_cell d (n, .inl g) := by
  rw [vp_cell_i, vp_cell_i]
  unfold arrV
  have e : (fun j : Fin n => Value.int (f j.val)) = (fun j : Fin n => Value.int (g j.val)) := funext fun j => by rw [h j.val j.isLt]
  rw [e]
theorem kl_set {D : va_G} {cl : List vw_C} {ws : va_W} {H : Heap} {q a n : Nat} {d : ClassId} {f g : Nat → Int32} (hP : va_P D cl ws H) (hq : ws[q]? = some (a, .inl (d, n, .inl f))) (h : ∀ j, j < n → f j = g j) : va_P D cl (ws.set q (a, .inl (d, n, .inl g))) H := by
  intro k z hz
  by_cases hk : q = k
  · subst hk
    have hlt : q < ws.length := (List.getElem?_eq_some_iff.mp hq).1
    rw [List.getElem?_set_self hlt] at hz
    have h0 := hP q _ hq
    have e : z = (a, .inl (d, n, .inl g)) := (Option.some.inj hz).symm
    subst e
    show H[a]? = some (vp_cell d (n, .inl g))
    rw [← kl_cell h]
    exact h0
  · rw [List.getElem?_set_ne hk] at hz
    exact hP k z hz
end
section
set_option maxRecDepth 100000
/-- the cells of a KineticLattice: ad 0 the object, ad 1 .. ad 6 rates, states, next, sum, tree, events -/
def kl_wB (ad : Nat → Nat) (d : ClassId) (fR fS fN fV fT : Nat → Int32) (pt : Int32) (fE : Nat → Int32) : va_W := [(ad 0, .inr (0, [.ref (ad 1), .ref (ad 2), .ref (ad 3), .ref (ad 4), .ref (ad 5), .int pt, .ref (ad 6)])), (ad 1, .inl (d, 7, .inl fR)), (ad 2, .inl (d, 48, .inl fS)), (ad 3, .inl (d, 192, .inl fN)), (ad 4, .inl (d, 48, .inl fV)), (ad 5, .inl (d, 65, .inl fT)), (ad 6, .inl (d, 3, .inl fE))]
/-- the cells of a KineticLatticeModel: ad 0 the object, ad 1 .. ad 3 rates, states, events -/
def kl_wM (ad : Nat → Nat) (d : ClassId) (fR fS fE : Nat → Int32) : va_W := [(ad 0, .inr (1, [.ref (ad 1), .ref (ad 2), .ref (ad 3)])), (ad 1, .inl (d, 7, .inl fR)), (ad 2, .inl (d, 48, .inl fS)), (ad 3, .inl (d, 3, .inl fE))]
theorem kl_D {A : Nat → Prop} {ad : Nat → Nat} {d : ClassId} {fR fS fN fV fT fR' fS' fN' fV' fT' : Nat → Int32} {pt pt' : Int32} {fE fE' : Nat → Int32} (h : va_D A (kl_wB ad d fR fS fN fV fT pt fE)) : va_D A (kl_wB ad d fR' fS' fN' fV' fT' pt' fE') := kl_Dm (ws := kl_wB ad d fR fS fN fV fT pt fE) rfl h
theorem kl_DM {A : Nat → Prop} {ad : Nat → Nat} {d : ClassId} {fR fS fR' fS' : Nat → Int32} {fE fE' : Nat → Int32} (h : va_D A (kl_wM ad d fR fS fE)) : va_D A (kl_wM ad d fR' fS' fE') := kl_Dm (ws := kl_wM ad d fR fS fE) rfl h
section KLR
variable {p : Program} {l : Launch} {e : Env} {R : Room} {s : State} {m : MethodId} {args : Array Value} {below : List Frame} {meth : Method} {c : Code} {H H0 : Heap} {locs : List Loc} {cells slots : Nat} {Q : State → Prop} {A : Nat → Prop}
variable {cc : ByteArray} {pc : Nat} {ls : Array Slot} {rest : List Value} {D : va_G} {d : ClassId} {ad : Nat → Nat} {fR fS fN fV fT fE : Nat → Int32} {pt : Int32}
theorem gX_rates (hx : p.tables.exec = Jvm.exec) (hb : c.code = cc) (hts : ∀ w ∈ lw_all, w.before args s = true) (hown : s.vm.findClass RX0 = some m.cls) (hK : va_K D vwCl [(d, .int)] s) (hP : va_P D vwCl (kl_wB ad d fR fS fN fV fT pt fE) H) (hdg : decode cc pc = .ok (.getfield 7, 3))
    (kk : W p l e R s m args below meth c H locs cells slots Q (F0 m (pc + 3) ls (.ref (ad 1) :: rest))) : W p l e R s m args below meth c H locs cells slots Q (F0 m pc ls (.ref (ad 0) :: rest)) :=
  va_get (D := D) (ci := 0) (v := .ref (ad 1)) (C := RX0) (T := TX0) (N := 7) hx hb hts in_X0 hown hK hP 0 rfl rfl 0 (by decide) (hts _ q50) (fun _ h9 => h9) rfl hdg kk
theorem ldX_rates (hx : p.tables.exec = Jvm.exec) (hb : c.code = cc) (hK : va_K D vwCl [(d, .int)] s) (hP : va_P D vwCl (kl_wB ad d fR fS fN fV fT pt fE) H) (k : Nat) (hk : k < 7) {i v : Int32} (hi : i = nI k) (hv : fR k = v) (hdg : decode cc pc = .ok (.iaload, 1))
    (kk : W p l e R s m args below meth c H locs cells slots Q (F0 m (pc + 1) ls (.int v :: rest))) : W p l e R s m args below meth c H locs cells slots Q (F0 m pc ls (.int i :: .ref (ad 1) :: rest)) := by
  subst hi; subst hv
  refine va_iald hx hb hK hP 1 0 rfl rfl (vp_in_nI hk (by decide)) hdg ?_
  rw [nI_clamp (Nat.lt_trans hk (by decide))]
  exact kk
theorem stX_rates (hx : p.tables.exec = Jvm.exec) (hb : c.code = cc) (hK : va_K D vwCl [(d, .int)] s) (hP : va_P D vwCl (kl_wB ad d fR fS fN fV fT pt fE) H) (hD : va_D A (kl_wB ad d fR fS fN fV fT pt fE)) (hS : va_S A H0 H locs) (k : Nat) (hk : k < 7) {i v : Int32} (hi : i = nI k) (g : Nat → Int32) (hg : ∀ j, j < 7 → (if j = k then v else fR j) = g j) (hdg : decode cc pc = .ok (.iastore, 1))
    (kk : ∀ (H1 : Heap) (locs1 : List Loc), va_P D vwCl (kl_wB ad d g fS fN fV fT pt fE) H1 → va_D A (kl_wB ad d g fS fN fV fT pt fE) → va_S A H0 H1 locs1 → W p l e R s m args below meth c H1 locs1 cells slots Q (F0 m (pc + 1) ls rest)) : W p l e R s m args below meth c H locs cells slots Q (F0 m pc ls (.int v :: .int i :: .ref (ad 1) :: rest)) := by
  subst hi
  refine va_iast hx hb hK hP hD hS 1 0 rfl rfl (vp_in_nI hk (by decide)) hdg (fun H1 locs1 hP1 hD1 hS1 => ?_)
  rw [nI_clamp (Nat.lt_trans hk (by decide))] at hP1
  exact kk H1 locs1 (kl_set (q := 1) hP1 rfl hg) (kl_D hD) hS1
theorem gX_states (hx : p.tables.exec = Jvm.exec) (hb : c.code = cc) (hts : ∀ w ∈ lw_all, w.before args s = true) (hown : s.vm.findClass RX0 = some m.cls) (hK : va_K D vwCl [(d, .int)] s) (hP : va_P D vwCl (kl_wB ad d fR fS fN fV fT pt fE) H) (hdg : decode cc pc = .ok (.getfield 13, 3))
    (kk : W p l e R s m args below meth c H locs cells slots Q (F0 m (pc + 3) ls (.ref (ad 2) :: rest))) : W p l e R s m args below meth c H locs cells slots Q (F0 m pc ls (.ref (ad 0) :: rest)) :=
  va_get (D := D) (ci := 0) (v := .ref (ad 2)) (C := RX0) (T := TX0) (N := 7) hx hb hts in_X0 hown hK hP 0 rfl rfl 1 (by decide) (hts _ q51) (fun _ h9 => h9) rfl hdg kk
theorem ldX_states (hx : p.tables.exec = Jvm.exec) (hb : c.code = cc) (hK : va_K D vwCl [(d, .int)] s) (hP : va_P D vwCl (kl_wB ad d fR fS fN fV fT pt fE) H) (k : Nat) (hk : k < 48) {i v : Int32} (hi : i = nI k) (hv : fS k = v) (hdg : decode cc pc = .ok (.iaload, 1))
    (kk : W p l e R s m args below meth c H locs cells slots Q (F0 m (pc + 1) ls (.int v :: rest))) : W p l e R s m args below meth c H locs cells slots Q (F0 m pc ls (.int i :: .ref (ad 2) :: rest)) := by
  subst hi; subst hv
  refine va_iald hx hb hK hP 2 0 rfl rfl (vp_in_nI hk (by decide)) hdg ?_
  rw [nI_clamp (Nat.lt_trans hk (by decide))]
  exact kk
theorem stX_states (hx : p.tables.exec = Jvm.exec) (hb : c.code = cc) (hK : va_K D vwCl [(d, .int)] s) (hP : va_P D vwCl (kl_wB ad d fR fS fN fV fT pt fE) H) (hD : va_D A (kl_wB ad d fR fS fN fV fT pt fE)) (hS : va_S A H0 H locs) (k : Nat) (hk : k < 48) {i v : Int32} (hi : i = nI k) (g : Nat → Int32) (hg : ∀ j, j < 48 → (if j = k then v else fS j) = g j) (hdg : decode cc pc = .ok (.iastore, 1))
    (kk : ∀ (H1 : Heap) (locs1 : List Loc), va_P D vwCl (kl_wB ad d fR g fN fV fT pt fE) H1 → va_D A (kl_wB ad d fR g fN fV fT pt fE) → va_S A H0 H1 locs1 → W p l e R s m args below meth c H1 locs1 cells slots Q (F0 m (pc + 1) ls rest)) : W p l e R s m args below meth c H locs cells slots Q (F0 m pc ls (.int v :: .int i :: .ref (ad 2) :: rest)) := by
  subst hi
  refine va_iast hx hb hK hP hD hS 2 0 rfl rfl (vp_in_nI hk (by decide)) hdg (fun H1 locs1 hP1 hD1 hS1 => ?_)
  rw [nI_clamp (Nat.lt_trans hk (by decide))] at hP1
  exact kk H1 locs1 (kl_set (q := 2) hP1 rfl hg) (kl_D hD) hS1
theorem gX_next (hx : p.tables.exec = Jvm.exec) (hb : c.code = cc) (hts : ∀ w ∈ lw_all, w.before args s = true) (hown : s.vm.findClass RX0 = some m.cls) (hK : va_K D vwCl [(d, .int)] s) (hP : va_P D vwCl (kl_wB ad d fR fS fN fV fT pt fE) H) (hdg : decode cc pc = .ok (.getfield 16, 3))
    (kk : W p l e R s m args below meth c H locs cells slots Q (F0 m (pc + 3) ls (.ref (ad 3) :: rest))) : W p l e R s m args below meth c H locs cells slots Q (F0 m pc ls (.ref (ad 0) :: rest)) :=
  va_get (D := D) (ci := 0) (v := .ref (ad 3)) (C := RX0) (T := TX0) (N := 7) hx hb hts in_X0 hown hK hP 0 rfl rfl 2 (by decide) (hts _ q52) (fun _ h9 => h9) rfl hdg kk
theorem ldX_next (hx : p.tables.exec = Jvm.exec) (hb : c.code = cc) (hK : va_K D vwCl [(d, .int)] s) (hP : va_P D vwCl (kl_wB ad d fR fS fN fV fT pt fE) H) (k : Nat) (hk : k < 192) {i v : Int32} (hi : i = nI k) (hv : fN k = v) (hdg : decode cc pc = .ok (.iaload, 1))
    (kk : W p l e R s m args below meth c H locs cells slots Q (F0 m (pc + 1) ls (.int v :: rest))) : W p l e R s m args below meth c H locs cells slots Q (F0 m pc ls (.int i :: .ref (ad 3) :: rest)) := by
  subst hi; subst hv
  refine va_iald hx hb hK hP 3 0 rfl rfl (vp_in_nI hk (by decide)) hdg ?_
  rw [nI_clamp (Nat.lt_trans hk (by decide))]
  exact kk
theorem stX_next (hx : p.tables.exec = Jvm.exec) (hb : c.code = cc) (hK : va_K D vwCl [(d, .int)] s) (hP : va_P D vwCl (kl_wB ad d fR fS fN fV fT pt fE) H) (hD : va_D A (kl_wB ad d fR fS fN fV fT pt fE)) (hS : va_S A H0 H locs) (k : Nat) (hk : k < 192) {i v : Int32} (hi : i = nI k) (g : Nat → Int32) (hg : ∀ j, j < 192 → (if j = k then v else fN j) = g j) (hdg : decode cc pc = .ok (.iastore, 1))
    (kk : ∀ (H1 : Heap) (locs1 : List Loc), va_P D vwCl (kl_wB ad d fR fS g fV fT pt fE) H1 → va_D A (kl_wB ad d fR fS g fV fT pt fE) → va_S A H0 H1 locs1 → W p l e R s m args below meth c H1 locs1 cells slots Q (F0 m (pc + 1) ls rest)) : W p l e R s m args below meth c H locs cells slots Q (F0 m pc ls (.int v :: .int i :: .ref (ad 3) :: rest)) := by
  subst hi
  refine va_iast hx hb hK hP hD hS 3 0 rfl rfl (vp_in_nI hk (by decide)) hdg (fun H1 locs1 hP1 hD1 hS1 => ?_)
  rw [nI_clamp (Nat.lt_trans hk (by decide))] at hP1
  exact kk H1 locs1 (kl_set (q := 3) hP1 rfl hg) (kl_D hD) hS1
theorem gX_sum (hx : p.tables.exec = Jvm.exec) (hb : c.code = cc) (hts : ∀ w ∈ lw_all, w.before args s = true) (hown : s.vm.findClass RX0 = some m.cls) (hK : va_K D vwCl [(d, .int)] s) (hP : va_P D vwCl (kl_wB ad d fR fS fN fV fT pt fE) H) (hdg : decode cc pc = .ok (.getfield 19, 3))
    (kk : W p l e R s m args below meth c H locs cells slots Q (F0 m (pc + 3) ls (.ref (ad 4) :: rest))) : W p l e R s m args below meth c H locs cells slots Q (F0 m pc ls (.ref (ad 0) :: rest)) :=
  va_get (D := D) (ci := 0) (v := .ref (ad 4)) (C := RX0) (T := TX0) (N := 7) hx hb hts in_X0 hown hK hP 0 rfl rfl 3 (by decide) (hts _ q53) (fun _ h9 => h9) rfl hdg kk
theorem ldX_sum (hx : p.tables.exec = Jvm.exec) (hb : c.code = cc) (hK : va_K D vwCl [(d, .int)] s) (hP : va_P D vwCl (kl_wB ad d fR fS fN fV fT pt fE) H) (k : Nat) (hk : k < 48) {i v : Int32} (hi : i = nI k) (hv : fV k = v) (hdg : decode cc pc = .ok (.iaload, 1))
    (kk : W p l e R s m args below meth c H locs cells slots Q (F0 m (pc + 1) ls (.int v :: rest))) : W p l e R s m args below meth c H locs cells slots Q (F0 m pc ls (.int i :: .ref (ad 4) :: rest)) := by
  subst hi; subst hv
  refine va_iald hx hb hK hP 4 0 rfl rfl (vp_in_nI hk (by decide)) hdg ?_
  rw [nI_clamp (Nat.lt_trans hk (by decide))]
  exact kk
theorem stX_sum (hx : p.tables.exec = Jvm.exec) (hb : c.code = cc) (hK : va_K D vwCl [(d, .int)] s) (hP : va_P D vwCl (kl_wB ad d fR fS fN fV fT pt fE) H) (hD : va_D A (kl_wB ad d fR fS fN fV fT pt fE)) (hS : va_S A H0 H locs) (k : Nat) (hk : k < 48) {i v : Int32} (hi : i = nI k) (g : Nat → Int32) (hg : ∀ j, j < 48 → (if j = k then v else fV j) = g j) (hdg : decode cc pc = .ok (.iastore, 1))
    (kk : ∀ (H1 : Heap) (locs1 : List Loc), va_P D vwCl (kl_wB ad d fR fS fN g fT pt fE) H1 → va_D A (kl_wB ad d fR fS fN g fT pt fE) → va_S A H0 H1 locs1 → W p l e R s m args below meth c H1 locs1 cells slots Q (F0 m (pc + 1) ls rest)) : W p l e R s m args below meth c H locs cells slots Q (F0 m pc ls (.int v :: .int i :: .ref (ad 4) :: rest)) := by
  subst hi
  refine va_iast hx hb hK hP hD hS 4 0 rfl rfl (vp_in_nI hk (by decide)) hdg (fun H1 locs1 hP1 hD1 hS1 => ?_)
  rw [nI_clamp (Nat.lt_trans hk (by decide))] at hP1
  exact kk H1 locs1 (kl_set (q := 4) hP1 rfl hg) (kl_D hD) hS1
theorem gX_tree (hx : p.tables.exec = Jvm.exec) (hb : c.code = cc) (hts : ∀ w ∈ lw_all, w.before args s = true) (hown : s.vm.findClass RX0 = some m.cls) (hK : va_K D vwCl [(d, .int)] s) (hP : va_P D vwCl (kl_wB ad d fR fS fN fV fT pt fE) H) (hdg : decode cc pc = .ok (.getfield 22, 3))
    (kk : W p l e R s m args below meth c H locs cells slots Q (F0 m (pc + 3) ls (.ref (ad 5) :: rest))) : W p l e R s m args below meth c H locs cells slots Q (F0 m pc ls (.ref (ad 0) :: rest)) :=
  va_get (D := D) (ci := 0) (v := .ref (ad 5)) (C := RX0) (T := TX0) (N := 7) hx hb hts in_X0 hown hK hP 0 rfl rfl 4 (by decide) (hts _ q54) (fun _ h9 => h9) rfl hdg kk
theorem ldX_tree (hx : p.tables.exec = Jvm.exec) (hb : c.code = cc) (hK : va_K D vwCl [(d, .int)] s) (hP : va_P D vwCl (kl_wB ad d fR fS fN fV fT pt fE) H) (k : Nat) (hk : k < 65) {i v : Int32} (hi : i = nI k) (hv : fT k = v) (hdg : decode cc pc = .ok (.iaload, 1))
    (kk : W p l e R s m args below meth c H locs cells slots Q (F0 m (pc + 1) ls (.int v :: rest))) : W p l e R s m args below meth c H locs cells slots Q (F0 m pc ls (.int i :: .ref (ad 5) :: rest)) := by
  subst hi; subst hv
  refine va_iald hx hb hK hP 5 0 rfl rfl (vp_in_nI hk (by decide)) hdg ?_
  rw [nI_clamp (Nat.lt_trans hk (by decide))]
  exact kk
theorem stX_tree (hx : p.tables.exec = Jvm.exec) (hb : c.code = cc) (hK : va_K D vwCl [(d, .int)] s) (hP : va_P D vwCl (kl_wB ad d fR fS fN fV fT pt fE) H) (hD : va_D A (kl_wB ad d fR fS fN fV fT pt fE)) (hS : va_S A H0 H locs) (k : Nat) (hk : k < 65) {i v : Int32} (hi : i = nI k) (g : Nat → Int32) (hg : ∀ j, j < 65 → (if j = k then v else fT j) = g j) (hdg : decode cc pc = .ok (.iastore, 1))
    (kk : ∀ (H1 : Heap) (locs1 : List Loc), va_P D vwCl (kl_wB ad d fR fS fN fV g pt fE) H1 → va_D A (kl_wB ad d fR fS fN fV g pt fE) → va_S A H0 H1 locs1 → W p l e R s m args below meth c H1 locs1 cells slots Q (F0 m (pc + 1) ls rest)) : W p l e R s m args below meth c H locs cells slots Q (F0 m pc ls (.int v :: .int i :: .ref (ad 5) :: rest)) := by
  subst hi
  refine va_iast hx hb hK hP hD hS 5 0 rfl rfl (vp_in_nI hk (by decide)) hdg (fun H1 locs1 hP1 hD1 hS1 => ?_)
  rw [nI_clamp (Nat.lt_trans hk (by decide))] at hP1
  exact kk H1 locs1 (kl_set (q := 5) hP1 rfl hg) (kl_D hD) hS1
theorem gX_events (hx : p.tables.exec = Jvm.exec) (hb : c.code = cc) (hts : ∀ w ∈ lw_all, w.before args s = true) (hown : s.vm.findClass RX0 = some m.cls) (hK : va_K D vwCl [(d, .int)] s) (hP : va_P D vwCl (kl_wB ad d fR fS fN fV fT pt fE) H) (hdg : decode cc pc = .ok (.getfield 25, 3))
    (kk : W p l e R s m args below meth c H locs cells slots Q (F0 m (pc + 3) ls (.ref (ad 6) :: rest))) : W p l e R s m args below meth c H locs cells slots Q (F0 m pc ls (.ref (ad 0) :: rest)) :=
  va_get (D := D) (ci := 0) (v := .ref (ad 6)) (C := RX0) (T := TX0) (N := 7) hx hb hts in_X0 hown hK hP 0 rfl rfl 6 (by decide) (hts _ q56) (fun _ h9 => h9) rfl hdg kk
theorem ldX_events (hx : p.tables.exec = Jvm.exec) (hb : c.code = cc) (hK : va_K D vwCl [(d, .int)] s) (hP : va_P D vwCl (kl_wB ad d fR fS fN fV fT pt fE) H) (k : Nat) (hk : k < 3) {i v : Int32} (hi : i = nI k) (hv : fE k = v) (hdg : decode cc pc = .ok (.iaload, 1))
    (kk : W p l e R s m args below meth c H locs cells slots Q (F0 m (pc + 1) ls (.int v :: rest))) : W p l e R s m args below meth c H locs cells slots Q (F0 m pc ls (.int i :: .ref (ad 6) :: rest)) := by
  subst hi; subst hv
  refine va_iald hx hb hK hP 6 0 rfl rfl (vp_in_nI hk (by decide)) hdg ?_
  rw [nI_clamp (Nat.lt_trans hk (by decide))]
  exact kk
theorem stX_events (hx : p.tables.exec = Jvm.exec) (hb : c.code = cc) (hK : va_K D vwCl [(d, .int)] s) (hP : va_P D vwCl (kl_wB ad d fR fS fN fV fT pt fE) H) (hD : va_D A (kl_wB ad d fR fS fN fV fT pt fE)) (hS : va_S A H0 H locs) (k : Nat) (hk : k < 3) {i v : Int32} (hi : i = nI k) (g : Nat → Int32) (hg : ∀ j, j < 3 → (if j = k then v else fE j) = g j) (hdg : decode cc pc = .ok (.iastore, 1))
    (kk : ∀ (H1 : Heap) (locs1 : List Loc), va_P D vwCl (kl_wB ad d fR fS fN fV fT pt g) H1 → va_D A (kl_wB ad d fR fS fN fV fT pt g) → va_S A H0 H1 locs1 → W p l e R s m args below meth c H1 locs1 cells slots Q (F0 m (pc + 1) ls rest)) : W p l e R s m args below meth c H locs cells slots Q (F0 m pc ls (.int v :: .int i :: .ref (ad 6) :: rest)) := by
  subst hi
  refine va_iast hx hb hK hP hD hS 6 0 rfl rfl (vp_in_nI hk (by decide)) hdg (fun H1 locs1 hP1 hD1 hS1 => ?_)
  rw [nI_clamp (Nat.lt_trans hk (by decide))] at hP1
  exact kk H1 locs1 (kl_set (q := 6) hP1 rfl hg) (kl_D hD) hS1
theorem gX_particles (hx : p.tables.exec = Jvm.exec) (hb : c.code = cc) (hts : ∀ w ∈ lw_all, w.before args s = true) (hown : s.vm.findClass RX0 = some m.cls) (hK : va_K D vwCl [(d, .int)] s) (hP : va_P D vwCl (kl_wB ad d fR fS fN fV fT pt fE) H) (hdg : decode cc pc = .ok (.getfield 49, 3))
    (kk : W p l e R s m args below meth c H locs cells slots Q (F0 m (pc + 3) ls (.int pt :: rest))) : W p l e R s m args below meth c H locs cells slots Q (F0 m pc ls (.ref (ad 0) :: rest)) :=
  va_get (D := D) (ci := 0) (v := .int pt) (C := RX0) (T := TX0) (N := 7) hx hb hts in_X0 hown hK hP 0 rfl rfl 5 (by decide) (hts _ q55) (fun _ h9 => h9) rfl hdg kk
theorem pX_particles (hx : p.tables.exec = Jvm.exec) (hb : c.code = cc) (hts : ∀ w ∈ lw_all, w.before args s = true) (hown : s.vm.findClass RX0 = some m.cls) (hK : va_K D vwCl [(d, .int)] s) (hP : va_P D vwCl (kl_wB ad d fR fS fN fV fT pt fE) H) (hD : va_D A (kl_wB ad d fR fS fN fV fT pt fE)) (hS : va_S A H0 H locs) {v : Int32} (hdg : decode cc pc = .ok (.putfield 49, 3))
    (kk : ∀ (H1 : Heap) (locs1 : List Loc), va_P D vwCl (kl_wB ad d fR fS fN fV fT v fE) H1 → va_D A (kl_wB ad d fR fS fN fV fT v fE) → va_S A H0 H1 locs1 → W p l e R s m args below meth c H1 locs1 cells slots Q (F0 m (pc + 3) ls rest)) : W p l e R s m args below meth c H locs cells slots Q (F0 m pc ls (.int v :: .ref (ad 0) :: rest)) :=
  va_put (D := D) (ci := 0) (v := .int v) (ty := .int) (C := RX0) (T := TX0) (N := 7) hx hb hts in_X0 tyX0 tyX0_ok nmX0 hown hK hP hD hS 0 rfl rfl 5 (by decide) (hts _ q55) (fun _ h9 => h9) rfl (by decide +kernel) rfl rfl (Nat.le_of_ble_eq_true rfl) hdg (fun H1 locs1 hP1 hD1 hS1 => kk H1 locs1 hP1 hD1 hS1)
theorem gM_rates (hx : p.tables.exec = Jvm.exec) (hb : c.code = cc) (hts : ∀ w ∈ lw_all, w.before args s = true) (hown : s.vm.findClass RX1 = some m.cls) (hK : va_K D vwCl [(d, .int)] s) (hP : va_P D vwCl (kl_wM ad d fR fS fE) H) (hdg : decode cc pc = .ok (.getfield 7, 3))
    (kk : W p l e R s m args below meth c H locs cells slots Q (F0 m (pc + 3) ls (.ref (ad 1) :: rest))) : W p l e R s m args below meth c H locs cells slots Q (F0 m pc ls (.ref (ad 0) :: rest)) :=
  va_get (D := D) (ci := 1) (v := .ref (ad 1)) (C := RX1) (T := TX1) (N := 3) hx hb hts in_X1 hown hK hP 0 rfl rfl 0 (by decide) (hts _ q150) (fun _ h9 => h9) rfl hdg kk
theorem ldM_rates (hx : p.tables.exec = Jvm.exec) (hb : c.code = cc) (hK : va_K D vwCl [(d, .int)] s) (hP : va_P D vwCl (kl_wM ad d fR fS fE) H) (k : Nat) (hk : k < 7) {i v : Int32} (hi : i = nI k) (hv : fR k = v) (hdg : decode cc pc = .ok (.iaload, 1))
    (kk : W p l e R s m args below meth c H locs cells slots Q (F0 m (pc + 1) ls (.int v :: rest))) : W p l e R s m args below meth c H locs cells slots Q (F0 m pc ls (.int i :: .ref (ad 1) :: rest)) := by
  subst hi; subst hv
  refine va_iald hx hb hK hP 1 0 rfl rfl (vp_in_nI hk (by decide)) hdg ?_
  rw [nI_clamp (Nat.lt_trans hk (by decide))]
  exact kk
theorem stM_rates (hx : p.tables.exec = Jvm.exec) (hb : c.code = cc) (hK : va_K D vwCl [(d, .int)] s) (hP : va_P D vwCl (kl_wM ad d fR fS fE) H) (hD : va_D A (kl_wM ad d fR fS fE)) (hS : va_S A H0 H locs) (k : Nat) (hk : k < 7) {i v : Int32} (hi : i = nI k) (g : Nat → Int32) (hg : ∀ j, j < 7 → (if j = k then v else fR j) = g j) (hdg : decode cc pc = .ok (.iastore, 1))
    (kk : ∀ (H1 : Heap) (locs1 : List Loc), va_P D vwCl (kl_wM ad d g fS fE) H1 → va_D A (kl_wM ad d g fS fE) → va_S A H0 H1 locs1 → W p l e R s m args below meth c H1 locs1 cells slots Q (F0 m (pc + 1) ls rest)) : W p l e R s m args below meth c H locs cells slots Q (F0 m pc ls (.int v :: .int i :: .ref (ad 1) :: rest)) := by
  subst hi
  refine va_iast hx hb hK hP hD hS 1 0 rfl rfl (vp_in_nI hk (by decide)) hdg (fun H1 locs1 hP1 hD1 hS1 => ?_)
  rw [nI_clamp (Nat.lt_trans hk (by decide))] at hP1
  exact kk H1 locs1 (kl_set (q := 1) hP1 rfl hg) (kl_DM hD) hS1
theorem gM_states (hx : p.tables.exec = Jvm.exec) (hb : c.code = cc) (hts : ∀ w ∈ lw_all, w.before args s = true) (hown : s.vm.findClass RX1 = some m.cls) (hK : va_K D vwCl [(d, .int)] s) (hP : va_P D vwCl (kl_wM ad d fR fS fE) H) (hdg : decode cc pc = .ok (.getfield 13, 3))
    (kk : W p l e R s m args below meth c H locs cells slots Q (F0 m (pc + 3) ls (.ref (ad 2) :: rest))) : W p l e R s m args below meth c H locs cells slots Q (F0 m pc ls (.ref (ad 0) :: rest)) :=
  va_get (D := D) (ci := 1) (v := .ref (ad 2)) (C := RX1) (T := TX1) (N := 3) hx hb hts in_X1 hown hK hP 0 rfl rfl 1 (by decide) (hts _ q151) (fun _ h9 => h9) rfl hdg kk
theorem ldM_states (hx : p.tables.exec = Jvm.exec) (hb : c.code = cc) (hK : va_K D vwCl [(d, .int)] s) (hP : va_P D vwCl (kl_wM ad d fR fS fE) H) (k : Nat) (hk : k < 48) {i v : Int32} (hi : i = nI k) (hv : fS k = v) (hdg : decode cc pc = .ok (.iaload, 1))
    (kk : W p l e R s m args below meth c H locs cells slots Q (F0 m (pc + 1) ls (.int v :: rest))) : W p l e R s m args below meth c H locs cells slots Q (F0 m pc ls (.int i :: .ref (ad 2) :: rest)) := by
  subst hi; subst hv
  refine va_iald hx hb hK hP 2 0 rfl rfl (vp_in_nI hk (by decide)) hdg ?_
  rw [nI_clamp (Nat.lt_trans hk (by decide))]
  exact kk
theorem stM_states (hx : p.tables.exec = Jvm.exec) (hb : c.code = cc) (hK : va_K D vwCl [(d, .int)] s) (hP : va_P D vwCl (kl_wM ad d fR fS fE) H) (hD : va_D A (kl_wM ad d fR fS fE)) (hS : va_S A H0 H locs) (k : Nat) (hk : k < 48) {i v : Int32} (hi : i = nI k) (g : Nat → Int32) (hg : ∀ j, j < 48 → (if j = k then v else fS j) = g j) (hdg : decode cc pc = .ok (.iastore, 1))
    (kk : ∀ (H1 : Heap) (locs1 : List Loc), va_P D vwCl (kl_wM ad d fR g fE) H1 → va_D A (kl_wM ad d fR g fE) → va_S A H0 H1 locs1 → W p l e R s m args below meth c H1 locs1 cells slots Q (F0 m (pc + 1) ls rest)) : W p l e R s m args below meth c H locs cells slots Q (F0 m pc ls (.int v :: .int i :: .ref (ad 2) :: rest)) := by
  subst hi
  refine va_iast hx hb hK hP hD hS 2 0 rfl rfl (vp_in_nI hk (by decide)) hdg (fun H1 locs1 hP1 hD1 hS1 => ?_)
  rw [nI_clamp (Nat.lt_trans hk (by decide))] at hP1
  exact kk H1 locs1 (kl_set (q := 2) hP1 rfl hg) (kl_DM hD) hS1
theorem gM_events (hx : p.tables.exec = Jvm.exec) (hb : c.code = cc) (hts : ∀ w ∈ lw_all, w.before args s = true) (hown : s.vm.findClass RX1 = some m.cls) (hK : va_K D vwCl [(d, .int)] s) (hP : va_P D vwCl (kl_wM ad d fR fS fE) H) (hdg : decode cc pc = .ok (.getfield 16, 3))
    (kk : W p l e R s m args below meth c H locs cells slots Q (F0 m (pc + 3) ls (.ref (ad 3) :: rest))) : W p l e R s m args below meth c H locs cells slots Q (F0 m pc ls (.ref (ad 0) :: rest)) :=
  va_get (D := D) (ci := 1) (v := .ref (ad 3)) (C := RX1) (T := TX1) (N := 3) hx hb hts in_X1 hown hK hP 0 rfl rfl 2 (by decide) (hts _ q152) (fun _ h9 => h9) rfl hdg kk
theorem ldM_events (hx : p.tables.exec = Jvm.exec) (hb : c.code = cc) (hK : va_K D vwCl [(d, .int)] s) (hP : va_P D vwCl (kl_wM ad d fR fS fE) H) (k : Nat) (hk : k < 3) {i v : Int32} (hi : i = nI k) (hv : fE k = v) (hdg : decode cc pc = .ok (.iaload, 1))
    (kk : W p l e R s m args below meth c H locs cells slots Q (F0 m (pc + 1) ls (.int v :: rest))) : W p l e R s m args below meth c H locs cells slots Q (F0 m pc ls (.int i :: .ref (ad 3) :: rest)) := by
  subst hi; subst hv
  refine va_iald hx hb hK hP 3 0 rfl rfl (vp_in_nI hk (by decide)) hdg ?_
  rw [nI_clamp (Nat.lt_trans hk (by decide))]
  exact kk
theorem stM_events (hx : p.tables.exec = Jvm.exec) (hb : c.code = cc) (hK : va_K D vwCl [(d, .int)] s) (hP : va_P D vwCl (kl_wM ad d fR fS fE) H) (hD : va_D A (kl_wM ad d fR fS fE)) (hS : va_S A H0 H locs) (k : Nat) (hk : k < 3) {i v : Int32} (hi : i = nI k) (g : Nat → Int32) (hg : ∀ j, j < 3 → (if j = k then v else fE j) = g j) (hdg : decode cc pc = .ok (.iastore, 1))
    (kk : ∀ (H1 : Heap) (locs1 : List Loc), va_P D vwCl (kl_wM ad d fR fS g) H1 → va_D A (kl_wM ad d fR fS g) → va_S A H0 H1 locs1 → W p l e R s m args below meth c H1 locs1 cells slots Q (F0 m (pc + 1) ls rest)) : W p l e R s m args below meth c H locs cells slots Q (F0 m pc ls (.int v :: .int i :: .ref (ad 3) :: rest)) := by
  subst hi
  refine va_iast hx hb hK hP hD hS 3 0 rfl rfl (vp_in_nI hk (by decide)) hdg (fun H1 locs1 hP1 hD1 hS1 => ?_)
  rw [nI_clamp (Nat.lt_trans hk (by decide))] at hP1
  exact kk H1 locs1 (kl_set (q := 3) hP1 rfl hg) (kl_DM hD) hS1
end KLR
theorem kl_cg {D : va_G} {cl : List vw_C} {H : Heap} {ad : Nat → Nat} {d : ClassId} {fR fS fN fV fT fR' fS' fN' fV' fT' : Nat → Int32} {pt pt' : Int32} {fE fE' : Nat → Int32} (hP : va_P D cl (kl_wB ad d fR fS fN fV fT pt fE) H) (h1 : ∀ j, j < 7 → fR j = fR' j) (h2 : ∀ j, j < 48 → fS j = fS' j) (h3 : ∀ j, j < 192 → fN j = fN' j) (h4 : ∀ j, j < 48 → fV j = fV' j) (h5 : ∀ j, j < 65 → fT j = fT' j) (h6 : pt = pt') (h7 : ∀ j, j < 3 → fE j = fE' j) : va_P D cl (kl_wB ad d fR' fS' fN' fV' fT' pt' fE') H := by
  subst h6
  have a1 := kl_set (q := 1) hP rfl h1
  have a2 := kl_set (q := 2) a1 rfl h2
  have a3 := kl_set (q := 3) a2 rfl h3
  have a4 := kl_set (q := 4) a3 rfl h4
  have a5 := kl_set (q := 5) a4 rfl h5
  exact kl_set (q := 6) a5 rfl h7
theorem kl_cgM {D : va_G} {cl : List vw_C} {H : Heap} {ad : Nat → Nat} {d : ClassId} {fR fS fR' fS' : Nat → Int32} {fE fE' : Nat → Int32} (hP : va_P D cl (kl_wM ad d fR fS fE) H) (h1 : ∀ j, j < 7 → fR j = fR' j) (h2 : ∀ j, j < 48 → fS j = fS' j) (h7 : ∀ j, j < 3 → fE j = fE' j) : va_P D cl (kl_wM ad d fR' fS' fE') H := by
  have a1 := kl_set (q := 1) hP rfl h1
  have a2 := kl_set (q := 2) a1 rfl h2
  exact kl_set (q := 3) a2 rfl h7
def R_law : String := "KineticLatticeLaw"
theorem cwX0_refreshAll {R : Room} {s : State} {args : Array Value} {rm : Room} (hts : ∀ w ∈ lw_all, w.before args s = true) (h1 : rm.cells = 0) (h2 : rm.slots = 0) (hR : rm.frames + 1 ≤ R.frames ∧ 8 + (2 + 11) + rm.locals ≤ R.locals) : CallW R s args RX0 RX0 28 yX0_refreshAll cX0_refreshAll 2 none (ws_ yX0_refreshAll cX0_refreshAll 2 none) rm 0 0 0 :=
  cwV 0 hts (lw_V q26 q28 qs0 q16 q29) rfl h1 h2 (by decide +kernel) hR
theorem cwX0_refresh {R : Room} {s : State} {args : Array Value} {rm : Room} (hts : ∀ w ∈ lw_all, w.before args s = true) (h1 : rm.cells = 0) (h2 : rm.slots = 0) (hR : rm.frames + 1 ≤ R.frames ∧ 8 + (3 + 11) + rm.locals ≤ R.locals) : CallW R s args RX0 RX0 45 yX0_refresh cX0_refresh 3 none (ws_ yX0_refresh cX0_refresh 3 none) rm 0 0 1 :=
  cwV 1 hts (lw_V q30 q32 qs1 q16 q33) rfl h1 h2 (by decide +kernel) hR
theorem cwX0_worth {R : Room} {s : State} {args : Array Value} {rm : Room} (hts : ∀ w ∈ lw_all, w.before args s = true) (h1 : rm.cells = 0) (h2 : rm.slots = 0) (hR : rm.frames + 1 ≤ R.frames ∧ 8 + (4 + 11) + rm.locals ≤ R.locals) : CallW R s args RX0 RX0 38 yX0_worth cX0_worth 4 (some .int) (ws_ yX0_worth cX0_worth 4 (some .int)) rm 0 0 1 :=
  cwV 1 hts (lw_V q34 q36 qs2 q16 q37) rfl h1 h2 (by decide +kernel) hR
theorem cwX0_occupiedAround {R : Room} {s : State} {args : Array Value} {rm : Room} (hts : ∀ w ∈ lw_all, w.before args s = true) (h1 : rm.cells = 0) (h2 : rm.slots = 0) (hR : rm.frames + 1 ≤ R.frames ∧ 8 + (4 + 11) + rm.locals ≤ R.locals) : CallW R s args RX0 RX0 31 yX0_occupiedAround cX0_occupiedAround 4 (some .int) (ws_ yX0_occupiedAround cX0_occupiedAround 4 (some .int)) rm 0 0 1 :=
  cwV 1 hts (lw_V q38 q40 qs3 q16 q41) rfl h1 h2 (by decide +kernel) hR
theorem cwX0_emptyAround {R : Room} {s : State} {args : Array Value} {rm : Room} (hts : ∀ w ∈ lw_all, w.before args s = true) (h1 : rm.cells = 0) (h2 : rm.slots = 0) (hR : rm.frames + 1 ≤ R.frames ∧ 8 + (4 + 11) + rm.locals ≤ R.locals) : CallW R s args RX0 RX0 35 yX0_emptyAround cX0_emptyAround 4 (some .int) (ws_ yX0_emptyAround cX0_emptyAround 4 (some .int)) rm 0 0 1 :=
  cwV 1 hts (lw_V q42 q44 qs4 q16 q45) rfl h1 h2 (by decide +kernel) hR
theorem cwX0_addTo {R : Room} {s : State} {args : Array Value} {rm : Room} (hts : ∀ w ∈ lw_all, w.before args s = true) (h1 : rm.cells = 0) (h2 : rm.slots = 0) (hR : rm.frames + 1 ≤ R.frames ∧ 8 + (4 + 11) + rm.locals ≤ R.locals) : CallW R s args RX0 RX0 41 yX0_addTo cX0_addTo 4 none (ws_ yX0_addTo cX0_addTo 4 none) rm 0 0 2 :=
  cwV 2 hts (lw_V q46 q48 qs5 q16 q49) rfl h1 h2 (by decide +kernel) hR
theorem cwLX0_rate {R : Room} {s : State} {args : Array Value} {rm : Room} (hts : ∀ w ∈ lw_all, w.before args s = true) (h1 : rm.cells = 0) (h2 : rm.slots = 0) (hR : rm.frames + 1 ≤ R.frames ∧ 8 + (4 + 11) + rm.locals ≤ R.locals) : CallW R s args R_law RX0 13 yX0_rate cX0_rate 4 (some .int) (ws_ yX0_rate cX0_rate 4 (some .int)) rm 0 0 2 :=
  cwV 2 hts (lw_V q73 q74 q75 q16 q76) rfl h1 h2 (by decide +kernel) hR
theorem cwLX0_set {R : Room} {s : State} {args : Array Value} {rm : Room} (hts : ∀ w ∈ lw_all, w.before args s = true) (h1 : rm.cells = 0) (h2 : rm.slots = 0) (hR : rm.frames + 1 ≤ R.frames ∧ 8 + (4 + 11) + rm.locals ≤ R.locals) : CallW R s args R_law RX0 18 yX0_set cX0_set 4 (some .int) (ws_ yX0_set cX0_set 4 (some .int)) rm 0 0 2 :=
  cwV 2 hts (lw_V q77 q78 q79 q16 q80) rfl h1 h2 (by decide +kernel) hR
theorem cwX0_become {R : Room} {s : State} {args : Array Value} {rm : Room} (hts : ∀ w ∈ lw_all, w.before args s = true) (h1 : rm.cells = 0) (h2 : rm.slots = 0) (hR : rm.frames + 1 ≤ R.frames ∧ 8 + (3 + 11) + rm.locals ≤ R.locals) : CallW R s args RX0 RX0 56 yX0_become cX0_become 3 none (ws_ yX0_become cX0_become 3 none) rm 0 0 2 :=
  cwV 2 hts (lw_V q81 q83 qs6 q16 q84) rfl h1 h2 (by decide +kernel) hR
theorem cwX0_refreshAround {R : Room} {s : State} {args : Array Value} {rm : Room} (hts : ∀ w ∈ lw_all, w.before args s = true) (h1 : rm.cells = 0) (h2 : rm.slots = 0) (hR : rm.frames + 1 ≤ R.frames ∧ 8 + (3 + 11) + rm.locals ≤ R.locals) : CallW R s args RX0 RX0 53 yX0_refreshAround cX0_refreshAround 3 none (ws_ yX0_refreshAround cX0_refreshAround 3 none) rm 0 0 1 :=
  cwV 1 hts (lw_V q85 q87 qs7 q16 q88) rfl h1 h2 (by decide +kernel) hR
theorem cwLX0_step {R : Room} {s : State} {args : Array Value} {rm : Room} (hts : ∀ w ∈ lw_all, w.before args s = true) (h1 : rm.cells = 0) (h2 : rm.slots = 0) (hR : rm.frames + 1 ≤ R.frames ∧ 8 + (7 + 11) + rm.locals ≤ R.locals) : CallW R s args R_law RX0 22 yX0_step cX0_step 7 (some .int) (ws_ yX0_step cX0_step 7 (some .int)) rm 0 0 1 :=
  cwV 1 hts (lw_V q89 q90 q91 q16 q92) rfl h1 h2 (by decide +kernel) hR
theorem cwX0_prefix {R : Room} {s : State} {args : Array Value} {rm : Room} (hts : ∀ w ∈ lw_all, w.before args s = true) (h1 : rm.cells = 0) (h2 : rm.slots = 0) (hR : rm.frames + 1 ≤ R.frames ∧ 8 + (4 + 11) + rm.locals ≤ R.locals) : CallW R s args RX0 RX0 59 yX0_prefix cX0_prefix 4 (some .int) (ws_ yX0_prefix cX0_prefix 4 (some .int)) rm 0 0 1 :=
  cwV 1 hts (lw_V q93 q95 qs8 q16 q96) rfl h1 h2 (by decide +kernel) hR
theorem cwX0_siteOf {R : Room} {s : State} {args : Array Value} {rm : Room} (hts : ∀ w ∈ lw_all, w.before args s = true) (h1 : rm.cells = 0) (h2 : rm.slots = 0) (hR : rm.frames + 1 ≤ R.frames ∧ 8 + (5 + 11) + rm.locals ≤ R.locals) : CallW R s args RX0 RX0 62 yX0_siteOf cX0_siteOf 5 (some .int) (ws_ yX0_siteOf cX0_siteOf 5 (some .int)) rm 0 0 1 :=
  cwV 1 hts (lw_V q97 q99 qs9 q16 q100) rfl h1 h2 (by decide +kernel) hR
theorem cwX0_hopOf {R : Room} {s : State} {args : Array Value} {rm : Room} (hts : ∀ w ∈ lw_all, w.before args s = true) (h1 : rm.cells = 0) (h2 : rm.slots = 0) (hR : rm.frames + 1 ≤ R.frames ∧ 8 + (6 + 11) + rm.locals ≤ R.locals) : CallW R s args RX0 RX0 65 yX0_hopOf cX0_hopOf 6 (some .int) (ws_ yX0_hopOf cX0_hopOf 6 (some .int)) rm 0 0 2 :=
  cwV 2 hts (lw_V q101 q103 qs10 q16 q104) rfl h1 h2 (by decide +kernel) hR
theorem cwLX0_run {R : Room} {s : State} {args : Array Value} {rm : Room} (hts : ∀ w ∈ lw_all, w.before args s = true) (h1 : rm.cells = 0) (h2 : rm.slots = 0) (hR : rm.frames + 1 ≤ R.frames ∧ 8 + (8 + 11) + rm.locals ≤ R.locals) : CallW R s args R_law RX0 27 yX0_run cX0_run 8 (some .int) (ws_ yX0_run cX0_run 8 (some .int)) rm 0 0 2 :=
  cwV 2 hts (lw_V q105 q106 q107 q16 q108) rfl h1 h2 (by decide +kernel) hR
theorem cwX0_step {R : Room} {s : State} {args : Array Value} {rm : Room} (hts : ∀ w ∈ lw_all, w.before args s = true) (h1 : rm.cells = 0) (h2 : rm.slots = 0) (hR : rm.frames + 1 ≤ R.frames ∧ 8 + (7 + 11) + rm.locals ≤ R.locals) : CallW R s args RX0 RX0 71 yX0_step cX0_step 7 (some .int) (ws_ yX0_step cX0_step 7 (some .int)) rm 0 0 1 :=
  cwV 1 hts (lw_V q111 q90 q91 q16 q92) rfl h1 h2 (by decide +kernel) hR
theorem cwLX0_clear {R : Room} {s : State} {args : Array Value} {rm : Room} (hts : ∀ w ∈ lw_all, w.before args s = true) (h1 : rm.cells = 0) (h2 : rm.slots = 0) (hR : rm.frames + 1 ≤ R.frames ∧ 8 + (2 + 11) + rm.locals ≤ R.locals) : CallW R s args R_law RX0 31 yX0_clear cX0_clear 2 none (ws_ yX0_clear cX0_clear 2 none) rm 0 0 0 :=
  cwV 0 hts (lw_V q112 q113 q114 q16 q115) rfl h1 h2 (by decide +kernel) hR
theorem cwLX0_state {R : Room} {s : State} {args : Array Value} {rm : Room} (hts : ∀ w ∈ lw_all, w.before args s = true) (h1 : rm.cells = 0) (h2 : rm.slots = 0) (hR : rm.frames + 1 ≤ R.frames ∧ 8 + (2 + 11) + rm.locals ≤ R.locals) : CallW R s args R_law RX0 35 yX0_state cX0_state 2 (some .int) (ws_ yX0_state cX0_state 2 (some .int)) rm 0 0 1 :=
  cwV 1 hts (lw_V q116 q117 q118 q16 q119) rfl h1 h2 (by decide +kernel) hR
theorem cwLX0_total {R : Room} {s : State} {args : Array Value} {rm : Room} (hts : ∀ w ∈ lw_all, w.before args s = true) (h1 : rm.cells = 0) (h2 : rm.slots = 0) (hR : rm.frames + 1 ≤ R.frames ∧ 8 + (1 + 11) + rm.locals ≤ R.locals) : CallW R s args R_law RX0 39 yX0_total cX0_total 1 (some .int) (ws_ yX0_total cX0_total 1 (some .int)) rm 0 0 0 :=
  cwV 0 hts (lw_V q120 q121 q122 q16 q123) rfl h1 h2 (by decide +kernel) hR
theorem cwLX0_siteRate {R : Room} {s : State} {args : Array Value} {rm : Room} (hts : ∀ w ∈ lw_all, w.before args s = true) (h1 : rm.cells = 0) (h2 : rm.slots = 0) (hR : rm.frames + 1 ≤ R.frames ∧ 8 + (2 + 11) + rm.locals ≤ R.locals) : CallW R s args R_law RX0 44 yX0_siteRate cX0_siteRate 2 (some .int) (ws_ yX0_siteRate cX0_siteRate 2 (some .int)) rm 0 0 1 :=
  cwV 1 hts (lw_V q124 q125 q126 q16 q127) rfl h1 h2 (by decide +kernel) hR
theorem cwLX0_occupied {R : Room} {s : State} {args : Array Value} {rm : Room} (hts : ∀ w ∈ lw_all, w.before args s = true) (h1 : rm.cells = 0) (h2 : rm.slots = 0) (hR : rm.frames + 1 ≤ R.frames ∧ 8 + (1 + 11) + rm.locals ≤ R.locals) : CallW R s args R_law RX0 48 yX0_occupied cX0_occupied 1 (some .int) (ws_ yX0_occupied cX0_occupied 1 (some .int)) rm 0 0 0 :=
  cwV 0 hts (lw_V q128 q129 q130 q16 q131) rfl h1 h2 (by decide +kernel) hR
theorem cwLX0_pairs {R : Room} {s : State} {args : Array Value} {rm : Room} (hts : ∀ w ∈ lw_all, w.before args s = true) (h1 : rm.cells = 0) (h2 : rm.slots = 0) (hR : rm.frames + 1 ≤ R.frames ∧ 8 + (3 + 11) + rm.locals ≤ R.locals) : CallW R s args R_law RX0 52 yX0_pairs cX0_pairs 3 (some .int) (ws_ yX0_pairs cX0_pairs 3 (some .int)) rm 0 0 0 :=
  cwV 0 hts (lw_V q132 q133 q134 q16 q135) rfl h1 h2 (by decide +kernel) hR
theorem cwLX0_happened {R : Room} {s : State} {args : Array Value} {rm : Room} (hts : ∀ w ∈ lw_all, w.before args s = true) (h1 : rm.cells = 0) (h2 : rm.slots = 0) (hR : rm.frames + 1 ≤ R.frames ∧ 8 + (2 + 11) + rm.locals ≤ R.locals) : CallW R s args R_law RX0 56 yX0_happened cX0_happened 2 (some .int) (ws_ yX0_happened cX0_happened 2 (some .int)) rm 0 0 1 :=
  cwV 1 hts (lw_V q136 q137 q138 q16 q139) rfl h1 h2 (by decide +kernel) hR
theorem cwLX0_before {R : Room} {s : State} {args : Array Value} {rm : Room} (hts : ∀ w ∈ lw_all, w.before args s = true) (h1 : rm.cells = 0) (h2 : rm.slots = 0) (hR : rm.frames + 1 ≤ R.frames ∧ 8 + (3 + 11) + rm.locals ≤ R.locals) : CallW R s args R_law RX0 60 yX0_before cX0_before 3 (some .int) (ws_ yX0_before cX0_before 3 (some .int)) rm 0 0 1 :=
  cwV 1 hts (lw_V q140 q141 q142 q16 q143) rfl h1 h2 (by decide +kernel) hR
theorem cwLX1_rate {R : Room} {s : State} {args : Array Value} {rm : Room} (hts : ∀ w ∈ lw_all, w.before args s = true) (h1 : rm.cells = 0) (h2 : rm.slots = 0) (hR : rm.frames + 1 ≤ R.frames ∧ 8 + (4 + 11) + rm.locals ≤ R.locals) : CallW R s args R_law RX1 17 yX1_rate cX1_rate 4 (some .int) (ws_ yX1_rate cX1_rate 4 (some .int)) rm 0 0 2 :=
  cwV 2 hts (lw_V q160 q161 q162 q17 q163) rfl h1 h2 (by decide +kernel) hR
theorem cwLX1_set {R : Room} {s : State} {args : Array Value} {rm : Room} (hts : ∀ w ∈ lw_all, w.before args s = true) (h1 : rm.cells = 0) (h2 : rm.slots = 0) (hR : rm.frames + 1 ≤ R.frames ∧ 8 + (4 + 11) + rm.locals ≤ R.locals) : CallW R s args R_law RX1 21 yX1_set cX1_set 4 (some .int) (ws_ yX1_set cX1_set 4 (some .int)) rm 0 0 2 :=
  cwV 2 hts (lw_V q164 q165 q166 q17 q167) rfl h1 h2 (by decide +kernel) hR
theorem cwLX1_step {R : Room} {s : State} {args : Array Value} {rm : Room} (hts : ∀ w ∈ lw_all, w.before args s = true) (h1 : rm.cells = 0) (h2 : rm.slots = 0) (hR : rm.frames + 1 ≤ R.frames ∧ 8 + (5 + 11) + rm.locals ≤ R.locals) : CallW R s args R_law RX1 26 yX1_step cX1_step 5 (some .int) (ws_ yX1_step cX1_step 5 (some .int)) rm 0 0 1 :=
  cwV 1 hts (lw_V q168 q169 q170 q17 q171) rfl h1 h2 (by decide +kernel) hR
theorem cwX1_total {R : Room} {s : State} {args : Array Value} {rm : Room} (hts : ∀ w ∈ lw_all, w.before args s = true) (h1 : rm.cells = 0) (h2 : rm.slots = 0) (hR : rm.frames + 1 ≤ R.frames ∧ 8 + (1 + 11) + rm.locals ≤ R.locals) : CallW R s args RX1 RX1 27 yX1_total cX1_total 1 (some .int) (ws_ yX1_total cX1_total 1 (some .int)) rm 0 0 0 :=
  cwV 0 hts (lw_V q172 q173 q174 q17 q175) rfl h1 h2 (by decide +kernel) hR
theorem cwX1_before {R : Room} {s : State} {args : Array Value} {rm : Room} (hts : ∀ w ∈ lw_all, w.before args s = true) (h1 : rm.cells = 0) (h2 : rm.slots = 0) (hR : rm.frames + 1 ≤ R.frames ∧ 8 + (4 + 11) + rm.locals ≤ R.locals) : CallW R s args RX1 RX1 42 yX1_before cX1_before 4 (some .int) (ws_ yX1_before cX1_before 4 (some .int)) rm 0 0 1 :=
  cwV 1 hts (lw_V q176 q177 q178 q17 q179) rfl h1 h2 (by decide +kernel) hR
theorem cwX1_siteRate {R : Room} {s : State} {args : Array Value} {rm : Room} (hts : ∀ w ∈ lw_all, w.before args s = true) (h1 : rm.cells = 0) (h2 : rm.slots = 0) (hR : rm.frames + 1 ≤ R.frames ∧ 8 + (4 + 11) + rm.locals ≤ R.locals) : CallW R s args RX1 RX1 45 yX1_siteRate cX1_siteRate 4 (some .int) (ws_ yX1_siteRate cX1_siteRate 4 (some .int)) rm 0 0 1 :=
  cwV 1 hts (lw_V q180 q181 q182 q17 q183) rfl h1 h2 (by decide +kernel) hR
theorem cwX1_eventRate {R : Room} {s : State} {args : Array Value} {rm : Room} (hts : ∀ w ∈ lw_all, w.before args s = true) (h1 : rm.cells = 0) (h2 : rm.slots = 0) (hR : rm.frames + 1 ≤ R.frames ∧ 8 + (3 + 11) + rm.locals ≤ R.locals) : CallW R s args RX1 RX1 31 yX1_eventRate cX1_eventRate 3 (some .int) (ws_ yX1_eventRate cX1_eventRate 3 (some .int)) rm 0 0 2 :=
  cwV 2 hts (lw_V q184 q186 qs11 q17 q187) rfl h1 h2 (by decide +kernel) hR
theorem cwX1_occupiedBeside {R : Room} {s : State} {args : Array Value} {rm : Room} (hts : ∀ w ∈ lw_all, w.before args s = true) (h1 : rm.cells = 0) (h2 : rm.slots = 0) (hR : rm.frames + 1 ≤ R.frames ∧ 8 + (4 + 11) + rm.locals ≤ R.locals) : CallW R s args RX1 RX1 23 yX1_occupiedBeside cX1_occupiedBeside 4 (some .int) (ws_ yX1_occupiedBeside cX1_occupiedBeside 4 (some .int)) rm 0 0 1 :=
  cwV 1 hts (lw_V q188 q190 qs12 q17 q191) rfl h1 h2 (by decide +kernel) hR
theorem cwX1_neighbour {R : Room} {s : State} {args : Array Value} {rm : Room} (hts : ∀ w ∈ lw_all, w.before args s = true) (h1 : rm.cells = 0) (h2 : rm.slots = 0) (hR : rm.frames + 1 ≤ R.frames ∧ 8 + (5 + 11) + rm.locals ≤ R.locals) : CallW R s args RX1 RX1 19 yX1_neighbour cX1_neighbour 5 (some .int) (ws_ yX1_neighbour cX1_neighbour 5 (some .int)) rm 0 0 2 :=
  cwV 2 hts (lw_V q192 q194 qs13 q17 q195) rfl h1 h2 (by decide +kernel) hR
theorem cwX1_happen {R : Room} {s : State} {args : Array Value} {rm : Room} (hts : ∀ w ∈ lw_all, w.before args s = true) (h1 : rm.cells = 0) (h2 : rm.slots = 0) (hR : rm.frames + 1 ≤ R.frames ∧ 8 + (4 + 11) + rm.locals ≤ R.locals) : CallW R s args RX1 RX1 34 yX1_happen cX1_happen 4 (some .int) (ws_ yX1_happen cX1_happen 4 (some .int)) rm 0 0 2 :=
  cwV 2 hts (lw_V q196 q198 qs14 q17 q199) rfl h1 h2 (by decide +kernel) hR
theorem cwLX1_run {R : Room} {s : State} {args : Array Value} {rm : Room} (hts : ∀ w ∈ lw_all, w.before args s = true) (h1 : rm.cells = 0) (h2 : rm.slots = 0) (hR : rm.frames + 1 ≤ R.frames ∧ 8 + (7 + 11) + rm.locals ≤ R.locals) : CallW R s args R_law RX1 30 yX1_run cX1_run 7 (some .int) (ws_ yX1_run cX1_run 7 (some .int)) rm 0 0 2 :=
  cwV 2 hts (lw_V q200 q201 q202 q17 q203) rfl h1 h2 (by decide +kernel) hR
theorem cwX1_step {R : Room} {s : State} {args : Array Value} {rm : Room} (hts : ∀ w ∈ lw_all, w.before args s = true) (h1 : rm.cells = 0) (h2 : rm.slots = 0) (hR : rm.frames + 1 ≤ R.frames ∧ 8 + (5 + 11) + rm.locals ≤ R.locals) : CallW R s args RX1 RX1 39 yX1_step cX1_step 5 (some .int) (ws_ yX1_step cX1_step 5 (some .int)) rm 0 0 1 :=
  cwV 1 hts (lw_V q206 q169 q170 q17 q171) rfl h1 h2 (by decide +kernel) hR
theorem cwLX1_clear {R : Room} {s : State} {args : Array Value} {rm : Room} (hts : ∀ w ∈ lw_all, w.before args s = true) (h1 : rm.cells = 0) (h2 : rm.slots = 0) (hR : rm.frames + 1 ≤ R.frames ∧ 8 + (2 + 11) + rm.locals ≤ R.locals) : CallW R s args R_law RX1 34 yX1_clear cX1_clear 2 none (ws_ yX1_clear cX1_clear 2 none) rm 0 0 0 :=
  cwV 0 hts (lw_V q207 q208 q209 q17 q210) rfl h1 h2 (by decide +kernel) hR
theorem cwLX1_state {R : Room} {s : State} {args : Array Value} {rm : Room} (hts : ∀ w ∈ lw_all, w.before args s = true) (h1 : rm.cells = 0) (h2 : rm.slots = 0) (hR : rm.frames + 1 ≤ R.frames ∧ 8 + (2 + 11) + rm.locals ≤ R.locals) : CallW R s args R_law RX1 38 yX1_state cX1_state 2 (some .int) (ws_ yX1_state cX1_state 2 (some .int)) rm 0 0 1 :=
  cwV 1 hts (lw_V q211 q212 q213 q17 q214) rfl h1 h2 (by decide +kernel) hR
theorem cwLX1_total {R : Room} {s : State} {args : Array Value} {rm : Room} (hts : ∀ w ∈ lw_all, w.before args s = true) (h1 : rm.cells = 0) (h2 : rm.slots = 0) (hR : rm.frames + 1 ≤ R.frames ∧ 8 + (1 + 11) + rm.locals ≤ R.locals) : CallW R s args R_law RX1 43 yX1_total cX1_total 1 (some .int) (ws_ yX1_total cX1_total 1 (some .int)) rm 0 0 0 :=
  cwV 0 hts (lw_V q215 q173 q174 q17 q175) rfl h1 h2 (by decide +kernel) hR
theorem cwLX1_siteRate {R : Room} {s : State} {args : Array Value} {rm : Room} (hts : ∀ w ∈ lw_all, w.before args s = true) (h1 : rm.cells = 0) (h2 : rm.slots = 0) (hR : rm.frames + 1 ≤ R.frames ∧ 8 + (4 + 11) + rm.locals ≤ R.locals) : CallW R s args R_law RX1 47 yX1_siteRate cX1_siteRate 4 (some .int) (ws_ yX1_siteRate cX1_siteRate 4 (some .int)) rm 0 0 1 :=
  cwV 1 hts (lw_V q216 q181 q182 q17 q183) rfl h1 h2 (by decide +kernel) hR
theorem cwLX1_occupied {R : Room} {s : State} {args : Array Value} {rm : Room} (hts : ∀ w ∈ lw_all, w.before args s = true) (h1 : rm.cells = 0) (h2 : rm.slots = 0) (hR : rm.frames + 1 ≤ R.frames ∧ 8 + (3 + 11) + rm.locals ≤ R.locals) : CallW R s args R_law RX1 51 yX1_occupied cX1_occupied 3 (some .int) (ws_ yX1_occupied cX1_occupied 3 (some .int)) rm 0 0 0 :=
  cwV 0 hts (lw_V q217 q218 q219 q17 q220) rfl h1 h2 (by decide +kernel) hR
theorem cwLX1_pairs {R : Room} {s : State} {args : Array Value} {rm : Room} (hts : ∀ w ∈ lw_all, w.before args s = true) (h1 : rm.cells = 0) (h2 : rm.slots = 0) (hR : rm.frames + 1 ≤ R.frames ∧ 8 + (3 + 11) + rm.locals ≤ R.locals) : CallW R s args R_law RX1 55 yX1_pairs cX1_pairs 3 (some .int) (ws_ yX1_pairs cX1_pairs 3 (some .int)) rm 0 0 0 :=
  cwV 0 hts (lw_V q221 q222 q223 q17 q224) rfl h1 h2 (by decide +kernel) hR
theorem cwLX1_happened {R : Room} {s : State} {args : Array Value} {rm : Room} (hts : ∀ w ∈ lw_all, w.before args s = true) (h1 : rm.cells = 0) (h2 : rm.slots = 0) (hR : rm.frames + 1 ≤ R.frames ∧ 8 + (2 + 11) + rm.locals ≤ R.locals) : CallW R s args R_law RX1 59 yX1_happened cX1_happened 2 (some .int) (ws_ yX1_happened cX1_happened 2 (some .int)) rm 0 0 1 :=
  cwV 1 hts (lw_V q225 q226 q227 q17 q228) rfl h1 h2 (by decide +kernel) hR
theorem cwLX1_before {R : Room} {s : State} {args : Array Value} {rm : Room} (hts : ∀ w ∈ lw_all, w.before args s = true) (h1 : rm.cells = 0) (h2 : rm.slots = 0) (hR : rm.frames + 1 ≤ R.frames ∧ 8 + (4 + 11) + rm.locals ≤ R.locals) : CallW R s args R_law RX1 63 yX1_before cX1_before 4 (some .int) (ws_ yX1_before cX1_before 4 (some .int)) rm 0 0 1 :=
  cwV 1 hts (lw_V q229 q177 q178 q17 q179) rfl h1 h2 (by decide +kernel) hR
end
section
set_option maxRecDepth 100000
/-- the neighbours of a site -/
def kl_nb (s k : Nat) : Nat := if k = 0 then s / 6 * 6 + (s % 6 + 1) % 6 else if k = 1 then s / 6 * 6 + (s % 6 + 5) % 6 else if k = 2 then (s / 6 + 1) % 8 * 6 + s % 6 else (s / 6 + 7) % 8 * 6 + s % 6
def kl_nr (j : Nat) : Nat := kl_nb (j / 4) (j % 4)
theorem kl_nb_lt {s : Nat} (hs : s < 48) (k : Nat) : kl_nb s k < 48 := by
  unfold kl_nb
  split
  · omega
  · split
    · omega
    · split <;> omega
theorem kl_nr_at {s k : Nat} (hk : k < 4) : kl_nr (s * 4 + k) = kl_nb s k := by
  unfold kl_nr
  rw [show (s * 4 + k) / 4 = s by omega, show (s * 4 + k) % 4 = k by omega]
/-- the neighbour's number seen from the other side -/
def kl_op (k : Nat) : Nat := if k = 0 then 1 else if k = 1 then 0 else if k = 2 then 3 else 2
theorem kl_nb_op : ∀ s, s < 48 → ∀ k, k < 4 → kl_nb (kl_nb s k) (kl_op k) = s := by decide +kernel
theorem kl_op_lt (k : Nat) : kl_op k < 4 := by
  unfold kl_op
  split
  · omega
  · split
    · omega
    · split <;> omega
def kl_u (f : Nat → Nat) (k x : Nat) : Nat → Nat := fun j => if j = k then x else f j
theorem kl_us {f : Nat → Nat} {k x : Nat} : kl_u f k x k = x := by simp [kl_u]
theorem kl_un {f : Nat → Nat} {k x j : Nat} (h : j ≠ k) : kl_u f k x j = f j := by simp [kl_u, h]
theorem kl_uI (f : Nat → Nat) (k x j : Nat) : (if j = k then nI x else nI (f j)) = nI (kl_u f k x j) := by
  unfold kl_u
  split <;> rfl
def kl_b1 (x : Nat) : Nat := if x = 1 then 1 else 0
def kl_b0 (x : Nat) : Nat := if x = 0 then 1 else 0
theorem kl_b1_le (x : Nat) : kl_b1 x ≤ 1 := by unfold kl_b1; split <;> omega
theorem kl_b0_le (x : Nat) : kl_b0 x ≤ 1 := by unfold kl_b0; split <;> omega
theorem kl_b1_1 {x : Nat} (h : x = 1) : kl_b1 x = 1 := if_pos h
theorem kl_b1_0 {x : Nat} (h : ¬ x = 1) : kl_b1 x = 0 := if_neg h
theorem kl_b0_1 {x : Nat} (h : x = 0) : kl_b0 x = 1 := if_pos h
theorem kl_b0_0 {x : Nat} (h : ¬ x = 0) : kl_b0 x = 0 := if_neg h
/-- how many of the first k neighbours are occupied, are empty -/
def kl_occ (S : Nat → Nat) (s : Nat) : Nat → Nat
  | 0 => 0
  | k + 1 => kl_occ S s k + kl_b1 (S (kl_nb s k))
def kl_emp (S : Nat → Nat) (s : Nat) : Nat → Nat
  | 0 => 0
  | k + 1 => kl_emp S s k + kl_b0 (S (kl_nb s k))
theorem kl_occ_le (S : Nat → Nat) (s k : Nat) : kl_occ S s k ≤ k := by
  induction k with
  | zero => exact Nat.le_refl _
  | succ k ih =>
    have := kl_b1_le (S (kl_nb s k))
    show kl_occ S s k + kl_b1 (S (kl_nb s k)) ≤ k + 1
    omega
theorem kl_emp_le (S : Nat → Nat) (s k : Nat) : kl_emp S s k ≤ k := by
  induction k with
  | zero => exact Nat.le_refl _
  | succ k ih =>
    have := kl_b0_le (S (kl_nb s k))
    show kl_emp S s k + kl_b0 (S (kl_nb s k)) ≤ k + 1
    omega
theorem kl_emp_mono (S : Nat → Nat) (s : Nat) {i j : Nat} (h : i ≤ j) : kl_emp S s i ≤ kl_emp S s j := by
  induction j with
  | zero => rw [Nat.le_zero.mp h]; exact Nat.le_refl _
  | succ j ih =>
    rcases Nat.lt_or_ge j i with h1 | h1
    · rw [show i = j + 1 by omega]; exact Nat.le_refl _
    · exact Nat.le_trans (ih h1) (Nat.le_add_right _ _)
/-- the rate of a site -/
def kl_w (R S : Nat → Nat) (s : Nat) : Nat := if S s = 0 then R 5 else if S s = 1 then R (kl_occ S s 4) + kl_emp S s 4 * R 6 else 0
/-- sums over the first n sites (none behind 48) -/
def kl_ps (v : Nat → Nat) : Nat → Nat
  | 0 => 0
  | n + 1 => kl_ps v n + (if n < 48 then v n else 0)
theorem kl_ps_s {v : Nat → Nat} {n : Nat} (h : n < 48) : kl_ps v (n + 1) = kl_ps v n + v n := by
  show kl_ps v n + (if n < 48 then v n else 0) = _
  rw [if_pos h]
theorem kl_ps_mono (v : Nat → Nat) {i j : Nat} (h : i ≤ j) : kl_ps v i ≤ kl_ps v j := by
  induction j with
  | zero => rw [Nat.le_zero.mp h]; exact Nat.le_refl _
  | succ j ih =>
    rcases Nat.lt_or_ge j i with h1 | h1
    · rw [show i = j + 1 by omega]; exact Nat.le_refl _
    · exact Nat.le_trans (ih h1) (Nat.le_add_right _ _)
theorem kl_ps_cg {v v' : Nat → Nat} (h : ∀ j, j < 48 → v j = v' j) (n : Nat) : kl_ps v n = kl_ps v' n := by
  induction n with
  | zero => rfl
  | succ n ih =>
    show kl_ps v n + (if n < 48 then v n else 0) = kl_ps v' n + (if n < 48 then v' n else 0)
    rw [ih]
    split
    · rename_i h1
      rw [h n h1]
    · rfl
/-- the lowest bit, below 65 -/
def kl_lb (i : Nat) : Nat := if i % 2 = 1 then 1 else if i % 4 = 2 then 2 else if i % 8 = 4 then 4 else if i % 16 = 8 then 8 else if i % 32 = 16 then 16 else if i % 64 = 32 then 32 else 64
theorem kl_lbI : ∀ i, i < 65 → 0 < i → nI i &&& -(nI i) = nI (kl_lb i) := by decide +kernel
theorem kl_lb_le : ∀ i, i < 65 → 0 < i → kl_lb i ≤ i ∧ 0 < kl_lb i := by decide +kernel
/-- a cell of the tree -/
def kl_F (v : Nat → Nat) (i : Nat) : Nat := kl_ps v i - kl_ps v (i - kl_lb i)
theorem kl_F_eq (v : Nat → Nat) (i : Nat) : kl_ps v (i - kl_lb i) + kl_F v i = kl_ps v i := by
  have := kl_ps_mono v (Nat.sub_le i (kl_lb i))
  unfold kl_F
  omega
theorem kl_F_cg {v v' : Nat → Nat} (h : ∀ j, j < 48 → v j = v' j) (i : Nat) : kl_F v i = kl_F v' i := by
  unfold kl_F
  rw [kl_ps_cg h, kl_ps_cg h]
/-- does cell i of the tree cover site s -/
def kl_cov (s i : Nat) : Bool := decide (i - kl_lb i ≤ s) && decide (s < i)
theorem kl_cov_0 : ∀ s, s < 48 → kl_cov s (s + 1) = true := by decide +kernel
theorem kl_cov_st : ∀ s, s < 48 → ∀ i, i < 65 → kl_cov s i = true → i + kl_lb i < 65 → kl_cov s (i + kl_lb i) = true := by decide +kernel
def kl_covn (s i : Nat) : Bool := (List.range (kl_lb i)).all (fun j => j == 0 || decide (65 ≤ i + j) || !kl_cov s (i + j))
theorem kl_cov_no0 : ∀ s, s < 48 → ∀ i, i < 65 → kl_cov s i = true → kl_covn s i = true := by decide +kernel
theorem kl_cov_no {s i j : Nat} (hs : s < 48) (hi : i < 65) (h : kl_cov s i = true) (hj : j < kl_lb i) (h0 : 0 < j) (hb : i + j < 65) : kl_cov s (i + j) = false := by
  have h1 := List.all_eq_true.mp (kl_cov_no0 s hs i hi h) j (List.mem_range.mpr hj)
  simp only [Bool.or_eq_true, beq_iff_eq, decide_eq_true_eq, Bool.not_eq_true'] at h1
  rcases h1 with (h1 | h1) | h1
  · omega
  · omega
  · exact h1
theorem kl_ps_u {v : Nat → Nat} {s x : Nat} (hs : s < 48) (n : Nat) : nI (kl_ps (kl_u v s x) n) = nI (kl_ps v n) + (if s < n then nI x - nI (v s) else 0) := by
  induction n with
  | zero =>
    rw [if_neg (by omega)]
    show nI 0 = nI 0 + 0
    decide
  | succ n ih =>
    show nI (kl_ps (kl_u v s x) n + (if n < 48 then kl_u v s x n else 0)) = nI (kl_ps v n + (if n < 48 then v n else 0)) + _
    rw [← nI_add, ← nI_add, ih]
    rcases Nat.lt_trichotomy s n with h | h | h
    · rw [if_pos h, if_pos (show s < n + 1 by omega)]
      rw [show kl_u v s x n = v n from kl_un (by omega)]
      generalize nI (if n < 48 then v n else 0) = z
      grind
    · subst h
      rw [if_neg (Nat.lt_irrefl _), if_pos (show s < s + 1 by omega), if_pos hs, if_pos hs, kl_us]
      grind
    · rw [if_neg (by omega), if_neg (show ¬ s < n + 1 by omega)]
      rw [show kl_u v s x n = v n from kl_un (by omega)]
      grind
theorem kl_F_u {v : Nat → Nat} {s x : Nat} (hs : s < 48) (i : Nat) : nI (kl_F (kl_u v s x) i) = nI (kl_F v i) + (if kl_cov s i = true then nI x - nI (v s) else 0) := by
  have h1 := kl_F_eq (kl_u v s x) i
  have h2 := kl_F_eq v i
  have e1 : nI (kl_ps (kl_u v s x) (i - kl_lb i)) + nI (kl_F (kl_u v s x) i) = nI (kl_ps (kl_u v s x) i) := by rw [nI_add, h1]
  have e2 : nI (kl_ps v (i - kl_lb i)) + nI (kl_F v i) = nI (kl_ps v i) := by rw [nI_add, h2]
  rw [kl_ps_u hs, kl_ps_u hs] at e1
  have hc : kl_cov s i = true ↔ (i - kl_lb i ≤ s ∧ s < i) := by simp [kl_cov]
  by_cases a : s < i
  · by_cases b : s < i - kl_lb i
    · rw [if_pos a, if_pos b] at e1
      rw [if_neg (by rw [hc]; omega)]
      grind
    · rw [if_pos a, if_neg b] at e1
      rw [if_pos (by rw [hc]; omega)]
      grind
  · rw [if_neg a, if_neg (show ¬ s < i - kl_lb i by omega)] at e1
    rw [if_neg (by rw [hc]; omega)]
    grind
/-- how many of the first n sites are occupied -/
def kl_cnt (S : Nat → Nat) : Nat → Nat
  | 0 => 0
  | n + 1 => kl_cnt S n + kl_b1 (S n)
theorem kl_cnt_u {S : Nat → Nat} {s t : Nat} (n : Nat) : kl_cnt (kl_u S s t) n + (if s < n then kl_b1 (S s) else 0) = kl_cnt S n + (if s < n then kl_b1 t else 0) := by
  induction n with
  | zero => simp [kl_cnt]
  | succ n ih =>
    show kl_cnt (kl_u S s t) n + kl_b1 (kl_u S s t n) + _ = kl_cnt S n + kl_b1 (S n) + _
    rcases Nat.lt_trichotomy s n with h | h | h
    · rw [if_pos h, if_pos h] at ih
      rw [if_pos (show s < n + 1 by omega), if_pos (show s < n + 1 by omega), show kl_u S s t n = S n from kl_un (by omega)]
      omega
    · subst h
      rw [if_neg (Nat.lt_irrefl _), if_neg (Nat.lt_irrefl _)] at ih
      rw [if_pos (show s < s + 1 by omega), if_pos (show s < s + 1 by omega), kl_us]
      omega
    · rw [if_neg (by omega), if_neg (by omega)] at ih
      rw [if_neg (show ¬ s < n + 1 by omega), if_neg (show ¬ s < n + 1 by omega), show kl_u S s t n = S n from kl_un (by omega)]
      omega
theorem kl_n0 {x : Nat} (h : x < 2 ^ 31) : nI x = 0 ↔ x = 0 := by rw [← nI_0]; exact nI_eq h (by decide)
theorem kl_nk {x : Nat} (k : Nat) (hk : k < 2 ^ 31) (h : x < 2 ^ 31) : nI x = nI k ↔ x = k := nI_eq h hk
/-- the world of a KineticLattice by numbers: rates R, states S, sums v, tree T -/
abbrev kl_wX (ad : Nat → Nat) (d : ClassId) (R S v : Nat → Nat) (T : Nat → Int32) (pt : Int32) (E : Nat → Int32) : va_W := kl_wB ad d (fun k => nI (R k)) (fun s => nI (S s)) (fun j => nI (kl_nr j)) (fun s => nI (v s)) T pt E
abbrev kl_wN (ad : Nat → Nat) (d : ClassId) (R S : Nat → Nat) (E : Nat → Int32) : va_W := kl_wM ad d (fun k => nI (R k)) (fun s => nI (S s)) E
/-- with sums and tree as they should be -/
abbrev kl_XX (ad : Nat → Nat) (d : ClassId) (R S : Nat → Nat) (pt : Int32) (E : Nat → Int32) : va_W := kl_wX ad d R S (kl_w R S) (fun i => nI (kl_F (kl_w R S) i)) pt E
end
section
set_option maxHeartbeats 4000000 in
set_option maxRecDepth 100000 in
/-- the sum over the first n sites -/
theorem mX_prefix (l : Launch) (D : va_G) (d : ClassId) (ad : Nat → Nat) (fR fS fN fV : Nat → Int32) (v : Nat → Nat) (pt : Int32) (fE : Nat → Int32) (n : Nat) (hn : n ≤ 48) : kl_CI l yX0_prefix cX0_prefix 4 (kl_rm 0 0) D d [.ref (ad 0), .int (nI n)] (kl_wB ad d fR fS fN fV (fun i => nI (kl_F v i)) pt fE) (nI (kl_ps v n)) (kl_wB ad d fR fS fN fV (fun i => nI (kl_F v i)) pt fE) := by
  refine kl_CI.of (by decide) (Nat.le_of_ble_eq_true rfl) ?_
  intro p e s m args below meth c A Q ls hx hb hml hown hts hA hK hP hD hS ret hl
  have hl : lv_has ls 4 [(0, .ref (ad 0)), (1, .int (nI n))] := hl
  have loop : ∀ (k i a : Nat) (ls : Array Slot), i < k → i ≤ 48 → a + kl_ps v i = kl_ps v n → lv_has ls 4 [(0, .ref (ad 0)), (1, .int (nI n)), (2, .int (nI a)), (3, .int (nI i))] → W p l e (kl_rm 0 0) s m args below meth c s.heap [] 0 0 Q (F0 m 4 ls []) := by
    intro k
    induction k with
    | zero => intro i a ls h; exact absurd h (Nat.not_lt_zero _)
    | succ k ih =>
      intro i a ls hik hi ha hl
      rcases Nat.eq_zero_or_pos i with h0 | h0
      · subst h0
        refine lv_iload_n hx hb dX0_prefix_4 rfl (lv_at hl 3 rfl) ?_
        refine lv_if_le (tgt := 27) hx hb dX0_prefix_5 (by decide) (fun _ => ?_) (fun hc => absurd (by decide) hc)
        refine lv_iload_n hx hb dX0_prefix_27 rfl (lv_at hl 2 rfl) ?_
        exact ret _ _ _ _ _ (hP) (hD) hS dX0_prefix_28 (by rw [← ha]; rfl)
      · refine lv_iload_n hx hb dX0_prefix_4 rfl (lv_at hl 3 rfl) ?_
        refine lv_if_le (tgt := 27) hx hb dX0_prefix_5 (by decide) (fun hc => absurd hc (nI_nle h0 (by omega))) (fun _ => ?_)
        refine lv_iload_n hx hb dX0_prefix_8 rfl (lv_at hl 2 rfl) ?_
        refine lv_aload_n hx hb dX0_prefix_9 rfl (lv_at hl 0 rfl) ?_
        refine gX_tree hx hb hts hown hK hP dX0_prefix_10 ?_
        refine lv_iload_n hx hb dX0_prefix_13 rfl (lv_at hl 3 rfl) ?_
        refine ldX_tree hx hb hK hP (i) (by omega) (v := nI (kl_F v i)) (rfl) (rfl) dX0_prefix_14 ?_
        refine lv_iadd hx hb dX0_prefix_15 ?_
        refine kl_top (v := nI (a + kl_F v i)) (nI_add _ _) ?_
        refine lv_istore_n (lv' := [(2, .int (nI (a + kl_F v i))), (0, .ref (ad 0)), (1, .int (nI n)), (3, .int (nI i))]) hx hb dX0_prefix_16 rfl hl (by decide) rfl (fun ls hl => ?_)
        refine lv_iload_n hx hb dX0_prefix_17 rfl (lv_at hl 3 rfl) ?_
        refine lv_iload_n hx hb dX0_prefix_18 rfl (lv_at hl 3 rfl) ?_
        refine lv_iload_n hx hb dX0_prefix_19 rfl (lv_at hl 3 rfl) ?_
        refine lv_ineg hx hb dX0_prefix_20 ?_
        refine lv_iand hx hb dX0_prefix_21 ?_
        refine kl_top (v := nI (kl_lb i)) (kl_lbI i (by omega) h0) ?_
        refine lv_isub hx hb dX0_prefix_22 ?_
        refine kl_top (v := nI (i - kl_lb i)) (pk_sub (kl_lb_le i (by omega) h0).1) ?_
        refine lv_istore_n (lv' := [(3, .int (nI (i - kl_lb i))), (2, .int (nI (a + kl_F v i))), (0, .ref (ad 0)), (1, .int (nI n))]) hx hb dX0_prefix_23 rfl hl (by decide) rfl (fun ls hl => ?_)
        refine lv_goto (tgt := 4) hx hb dX0_prefix_24 (by decide) ?_
        have h1 := kl_lb_le i (by omega) h0
        have h2 := kl_F_eq v i
        exact ih (i - kl_lb i) (a + kl_F v i) ls (by omega) (by omega) (by omega) (lv_sub hl [2, 3, 1, 0] rfl)
  refine lv_iconst (v := nI 0) hx hb dX0_prefix_0 (by decide) ?_
  refine lv_istore_n (lv' := [(2, .int (nI 0)), (0, .ref (ad 0)), (1, .int (nI n))]) hx hb dX0_prefix_1 rfl hl (by decide) rfl (fun ls hl => ?_)
  refine lv_iload_n hx hb dX0_prefix_2 rfl (lv_at hl 2 rfl) ?_
  refine lv_istore_n (lv' := [(3, .int (nI n)), (2, .int (nI 0)), (0, .ref (ad 0)), (1, .int (nI n))]) hx hb dX0_prefix_3 rfl hl (by decide) rfl (fun ls hl => ?_)
  exact loop (n + 1) n 0 ls (Nat.lt_succ_self n) hn (by omega) (lv_sub hl [2, 3, 1, 0] rfl)
set_option maxHeartbeats 4000000 in
set_option maxRecDepth 100000 in
/-- delta comes to the cells that cover the site -/
theorem mX_addTo (l : Launch) (D : va_G) (d : ClassId) (ad : Nat → Nat) (fR fS fN fV : Nat → Int32) (T : Nat → Int32) (pt : Int32) (fE : Nat → Int32) (t : Nat) (ht : t < 48) (δ : Int32) : kl_CV l yX0_addTo cX0_addTo 4 (kl_rm 0 0) D d [.ref (ad 0), .int (nI t), .int δ] (kl_wB ad d fR fS fN fV T pt fE) (kl_wB ad d fR fS fN fV (fun i => T i + if kl_cov t i = true then δ else 0) pt fE) := by
  refine kl_CV.of (by decide) (Nat.le_of_ble_eq_true rfl) ?_
  intro p e s m args below meth c A Q ls hx hb hml hown hts hA hK hP hD hS ret hl
  have hl : lv_has ls 4 [(0, .ref (ad 0)), (1, .int (nI t)), (2, .int δ)] := hl
  have loop : ∀ (k i : Nat) (T1 : Nat → Int32) (H : Heap) (locs : List Loc) (ls : Array Slot), 65 < i + k → 0 < i → i ≤ 128 → (i < 65 → kl_cov t i = true) → (∀ j, j < 65 → T1 j = T j + if kl_cov t j = true ∧ j < i then δ else 0) → va_P D vwCl (kl_wB ad d fR fS fN fV T1 pt fE) H → va_D A (kl_wB ad d fR fS fN fV T1 pt fE) → va_S A s.heap H locs → lv_has ls 4 [(0, .ref (ad 0)), (1, .int (nI t)), (2, .int δ), (3, .int (nI i))] → W p l e (kl_rm 0 0) s m args below meth c H locs 0 0 Q (F0 m 4 ls []) := by
    intro k
    induction k with
    | zero =>
      intro i T1 H locs ls h0 hi0 hi hcv hT hP hD hS hl
      refine lv_iload_n hx hb dX0_addTo_4 rfl (lv_at hl 3 rfl) ?_
      refine lv_bipush (v := nI 64) hx hb dX0_addTo_5 (by decide) ?_
      refine lv_icmp_gt (tgt := 30) hx hb dX0_addTo_7 (by decide) (fun _ => ?_) (fun hc => absurd (nI_lt (by omega) (by omega)) hc)
      exact ret _ _ _ _ (kl_cg hP (fun _ _ => rfl) (fun _ _ => rfl) (fun _ _ => rfl) (fun _ _ => rfl) (fun j hj => by rw [hT j hj]; simp [show j < i by omega]) rfl (fun _ _ => rfl)) (kl_D hD) hS dX0_addTo_30
    | succ k ih =>
      intro i T1 H locs ls h0 hi0 hi hcv hT hP hD hS hl
      rcases Nat.lt_or_ge 64 i with h1 | h1
      · refine lv_iload_n hx hb dX0_addTo_4 rfl (lv_at hl 3 rfl) ?_
        refine lv_bipush (v := nI 64) hx hb dX0_addTo_5 (by decide) ?_
        refine lv_icmp_gt (tgt := 30) hx hb dX0_addTo_7 (by decide) (fun _ => ?_) (fun hc => absurd (nI_lt (by omega) (by omega)) hc)
        exact ret _ _ _ _ (kl_cg hP (fun _ _ => rfl) (fun _ _ => rfl) (fun _ _ => rfl) (fun _ _ => rfl) (fun j hj => by rw [hT j hj]; simp [show j < i by omega]) rfl (fun _ _ => rfl)) (kl_D hD) hS dX0_addTo_30
      · refine lv_iload_n hx hb dX0_addTo_4 rfl (lv_at hl 3 rfl) ?_
        refine lv_bipush (v := nI 64) hx hb dX0_addTo_5 (by decide) ?_
        refine lv_icmp_gt (tgt := 30) hx hb dX0_addTo_7 (by decide) (fun hc => absurd hc (nI_nlt h1 (by omega))) (fun _ => ?_)
        refine lv_aload_n hx hb dX0_addTo_10 rfl (lv_at hl 0 rfl) ?_
        refine gX_tree hx hb hts hown hK hP dX0_addTo_11 ?_
        refine lv_iload_n hx hb dX0_addTo_14 rfl (lv_at hl 3 rfl) ?_
        refine lv_dup2_11 hx hb dX0_addTo_15 rfl rfl ?_
        refine ldX_tree hx hb hK hP (i) (by omega) (v := T1 i) (rfl) (rfl) dX0_addTo_16 ?_
        refine lv_iload_n hx hb dX0_addTo_17 rfl (lv_at hl 2 rfl) ?_
        refine lv_iadd hx hb dX0_addTo_18 ?_
        have hc : kl_cov t i = true := hcv (by omega)
        have h2 := kl_lb_le i (by omega) hi0
        refine stX_tree hx hb hK hP hD hS (i) (by omega) (rfl) (fun j => if j = i then T1 i + δ else T1 j) (fun j _ => rfl) dX0_addTo_19 (fun H locs hP hD hS => ?_)
        refine lv_iload_n hx hb dX0_addTo_20 rfl (lv_at hl 3 rfl) ?_
        refine lv_iload_n hx hb dX0_addTo_21 rfl (lv_at hl 3 rfl) ?_
        refine lv_iload_n hx hb dX0_addTo_22 rfl (lv_at hl 3 rfl) ?_
        refine lv_ineg hx hb dX0_addTo_23 ?_
        refine lv_iand hx hb dX0_addTo_24 ?_
        refine kl_top (v := nI (kl_lb i)) (kl_lbI i (by omega) hi0) ?_
        refine lv_iadd hx hb dX0_addTo_25 ?_
        refine kl_top (v := nI (i + kl_lb i)) (nI_add _ _) ?_
        refine lv_istore_n (lv' := [(3, .int (nI (i + kl_lb i))), (0, .ref (ad 0)), (1, .int (nI t)), (2, .int δ)]) hx hb dX0_addTo_26 rfl hl (by decide) rfl (fun ls hl => ?_)
        refine lv_goto (tgt := 4) hx hb dX0_addTo_27 (by decide) ?_
        refine ih (i + kl_lb i) _ H locs ls (by omega) (by omega) (by omega) (fun h => kl_cov_st t ht i (by omega) hc h) (fun j hj => ?_) hP hD hS (lv_sub hl [1, 2, 3, 0] rfl)
        by_cases hji : j = i
        · subst hji
          simp only [if_true]
          rw [hT j hj, if_neg (by omega), if_pos ⟨hc, by omega⟩]
          grind
        · simp only [if_neg hji]
          rw [hT j hj]
          by_cases hlt : j < i
          · by_cases hcj : kl_cov t j = true
            · rw [if_pos ⟨hcj, hlt⟩, if_pos ⟨hcj, by omega⟩]
            · rw [if_neg (fun z => hcj z.1), if_neg (fun z => hcj z.1)]
          · rw [if_neg (fun z => hlt z.2)]
            rw [if_neg (fun z => ?_)]
            have h3 := kl_cov_no ht (by omega : i < 65) hc (j := j - i) (by omega) (by omega) (by omega)
            rw [show i + (j - i) = j by omega, z.1] at h3
            cases h3
  refine lv_iload_n hx hb dX0_addTo_0 rfl (lv_at hl 1 rfl) ?_
  refine lv_iconst (v := nI 1) hx hb dX0_addTo_1 (by decide) ?_
  refine lv_iadd hx hb dX0_addTo_2 ?_
  refine kl_top (v := nI (t + 1)) (nI_add t 1) ?_
  refine lv_istore_n (lv' := [(3, .int (nI (t + 1))), (0, .ref (ad 0)), (1, .int (nI t)), (2, .int δ)]) hx hb dX0_addTo_3 rfl hl (by decide) rfl (fun ls hl => ?_)
  refine loop 65 (t + 1) T s.heap [] ls (by omega) (by omega) (by omega) (fun _ => kl_cov_0 t ht) (fun j hj => ?_) hP hD hS (lv_sub hl [1, 2, 3, 0] rfl)
  have h4 : ¬ (kl_cov t j = true ∧ j < t + 1) := by
    intro z
    have z1 := z.1
    simp [kl_cov] at z1
    omega
  rw [if_neg h4]
  grind
end
section
theorem kl_half : ∀ k, k < 6 → ∀ a, a < 64 → a % 2 ^ (k + 1) = 0 → a + 2 ^ (k + 1) ≤ 64 → a % 2 ^ k = 0 ∧ (a + 2 ^ k) % 2 ^ k = 0 ∧ kl_lb (a + 2 ^ k) = 2 ^ k := by decide +kernel
set_option maxHeartbeats 4000000 in
set_option maxRecDepth 100000 in
/-- the site that holds unit r -/
theorem mX_siteOf (l : Launch) (D : va_G) (d : ClassId) (ad : Nat → Nat) (fR fS fN fV : Nat → Int32) (v : Nat → Nat) (pt : Int32) (fE : Nat → Int32) (r s0 : Nat) (h48 : s0 < 48) (h1 : kl_ps v s0 ≤ r) (h2 : r < kl_ps v (s0 + 1)) (hbd : kl_ps v 64 < 2 ^ 31) : kl_CI l yX0_siteOf cX0_siteOf 5 (kl_rm 0 0) D d [.ref (ad 0), .int (nI r)] (kl_wB ad d fR fS fN fV (fun i => nI (kl_F v i)) pt fE) (nI s0) (kl_wB ad d fR fS fN fV (fun i => nI (kl_F v i)) pt fE) := by
  refine kl_CI.of (by decide) (Nat.le_of_ble_eq_true rfl) ?_
  intro p e s m args below meth c A Q ls hx hb hml hown hts hA hK hP hD hS ret hl
  have hl : lv_has ls 5 [(0, .ref (ad 0)), (1, .int (nI r))] := hl
  have hrb : r < 2 ^ 31 := Nat.lt_of_lt_of_le h2 (Nat.le_trans (kl_ps_mono v (show s0 + 1 ≤ 64 by omega)) (Nat.le_of_lt hbd))
  have loop : ∀ (k a : Nat) (ls : Array Slot), k ≤ 6 → a % 2 ^ k = 0 → a + 2 ^ k ≤ 64 → a ≤ s0 → s0 < a + 2 ^ k → lv_has ls 5 [(0, .ref (ad 0)), (1, .int (nI r)), (2, .int (nI a)), (3, .int (nI (r - kl_ps v a))), (4, .int (nI (2 ^ k / 2)))] → W p l e (kl_rm 0 0) s m args below meth c s.heap [] 0 0 Q (F0 m 8 ls []) := by
    intro k
    induction k with
    | zero =>
      intro a ls hk ha hb2 h3 h4 hl
      have e0 : (2 : Nat) ^ 0 = 1 := rfl
      rw [e0] at h4
      refine lv_iload hx hb dX0_siteOf_8 (lv_at hl 4 rfl) ?_
      refine lv_if_le (tgt := 49) hx hb dX0_siteOf_10 (by decide) (fun _ => ?_) (fun hc => absurd (by decide) hc)
      refine lv_iload_n hx hb dX0_siteOf_49 rfl (lv_at hl 2 rfl) ?_
      refine lv_bipush (v := nI 48) hx hb dX0_siteOf_50 (by decide) ?_
      refine lv_icmp_ge (tgt := 59) hx hb dX0_siteOf_52 (by decide) (fun hc => absurd hc (nI_ge (by omega) (by decide))) (fun _ => ?_)
      refine lv_iload_n hx hb dX0_siteOf_55 rfl (lv_at hl 2 rfl) ?_
      refine lv_goto (tgt := 61) hx hb dX0_siteOf_56 (by decide) ?_
      exact ret _ _ _ _ _ (hP) (hD) hS dX0_siteOf_61 (by rw [show a = s0 by omega])
    | succ k ih =>
      intro a ls hk ha hb2 h3 h4 hl
      have e1 : 2 ^ (k + 1) / 2 = 2 ^ k := by rw [Nat.pow_succ]; omega
      have e2 : 2 ^ (k + 1) = 2 ^ k * 2 := Nat.pow_succ 2 k
      have e3 : 2 ^ k ≤ 2 ^ 5 := Nat.pow_le_pow_right (by decide) (by omega)
      have e5 : (2 : Nat) ^ 5 = 32 := rfl
      have e4 : 0 < 2 ^ k := Nat.pow_pos (by decide)
      obtain ⟨f1, f2, f3⟩ := kl_half k (by omega) a (by omega) ha hb2
      rw [e1] at hl
      have hF := kl_F_eq v (a + 2 ^ k)
      rw [f3, show a + 2 ^ k - 2 ^ k = a by omega] at hF
      have hm1 := kl_ps_mono v h3
      have hm2 := kl_ps_mono v (show a + 2 ^ k ≤ 64 by omega)
      refine lv_iload hx hb dX0_siteOf_8 (lv_at hl 4 rfl) ?_
      refine lv_if_le (tgt := 49) hx hb dX0_siteOf_10 (by decide) (fun hc => absurd hc (nI_nle e4 (by omega))) (fun _ => ?_)
      refine lv_aload_n hx hb dX0_siteOf_13 rfl (lv_at hl 0 rfl) ?_
      refine gX_tree hx hb hts hown hK hP dX0_siteOf_14 ?_
      refine lv_iload_n hx hb dX0_siteOf_17 rfl (lv_at hl 2 rfl) ?_
      refine lv_iload hx hb dX0_siteOf_18 (lv_at hl 4 rfl) ?_
      refine lv_iadd hx hb dX0_siteOf_20 ?_
      refine kl_top (v := nI (a + 2 ^ k)) (nI_add _ _) ?_
      refine ldX_tree hx hb hK hP (a + 2 ^ k) (by omega) (v := nI (kl_F v (a + 2 ^ k))) (rfl) (rfl) dX0_siteOf_21 ?_
      refine lv_iload_n hx hb dX0_siteOf_22 rfl (lv_at hl 3 rfl) ?_
      rcases Nat.lt_or_ge s0 (a + 2 ^ k) with hlt | hge
      · have hm3 := kl_ps_mono v (show s0 + 1 ≤ a + 2 ^ k by omega)
        refine lv_icmp_gt (tgt := 40) hx hb dX0_siteOf_23 (by decide) (fun _ => ?_) (fun hc => absurd (nI_lt (by omega) (by omega)) hc)
        refine lv_iload hx hb dX0_siteOf_40 (lv_at hl 4 rfl) ?_
        refine lv_iconst (v := nI 2) hx hb dX0_siteOf_42 (by decide) ?_
        refine lv_idiv hx hb dX0_siteOf_43 (by decide) ?_
        refine kl_top (v := nI (2 ^ k / 2)) (pk_div (by omega) (by decide) (by decide)) ?_
        refine lv_istore (lv' := [(4, .int (nI (2 ^ k / 2))), (0, .ref (ad 0)), (1, .int (nI r)), (2, .int (nI a)), (3, .int (nI (r - kl_ps v a)))]) hx hb dX0_siteOf_44 hl (by decide) rfl (fun ls hl => ?_)
        refine lv_goto (tgt := 8) hx hb dX0_siteOf_46 (by decide) ?_
        exact ih a ls (by omega) f1 (by omega) h3 hlt (lv_sub hl [1, 2, 3, 4, 0] rfl)
      · have hm3 := kl_ps_mono v hge
        refine lv_icmp_gt (tgt := 40) hx hb dX0_siteOf_23 (by decide) (fun hc => absurd hc (nI_nlt (by omega) (by omega))) (fun _ => ?_)
        refine lv_iload_n hx hb dX0_siteOf_26 rfl (lv_at hl 2 rfl) ?_
        refine lv_iload hx hb dX0_siteOf_27 (lv_at hl 4 rfl) ?_
        refine lv_iadd hx hb dX0_siteOf_29 ?_
        refine kl_top (v := nI (a + 2 ^ k)) (nI_add _ _) ?_
        refine lv_istore_n (lv' := [(2, .int (nI (a + 2 ^ k))), (0, .ref (ad 0)), (1, .int (nI r)), (3, .int (nI (r - kl_ps v a))), (4, .int (nI (2 ^ k)))]) hx hb dX0_siteOf_30 rfl hl (by decide) rfl (fun ls hl => ?_)
        refine lv_iload_n hx hb dX0_siteOf_31 rfl (lv_at hl 3 rfl) ?_
        refine lv_aload_n hx hb dX0_siteOf_32 rfl (lv_at hl 1 rfl) ?_
        refine gX_tree hx hb hts hown hK hP dX0_siteOf_33 ?_
        refine lv_iload_n hx hb dX0_siteOf_36 rfl (lv_at hl 0 rfl) ?_
        refine ldX_tree hx hb hK hP (a + 2 ^ k) (by omega) (v := nI (kl_F v (a + 2 ^ k))) (rfl) (rfl) dX0_siteOf_37 ?_
        refine lv_isub hx hb dX0_siteOf_38 ?_
        refine kl_top (v := nI (r - kl_ps v (a + 2 ^ k))) ((pk_sub (by omega)).trans (congrArg nI (by omega))) ?_
        refine lv_istore_n (lv' := [(3, .int (nI (r - kl_ps v (a + 2 ^ k)))), (2, .int (nI (a + 2 ^ k))), (0, .ref (ad 0)), (1, .int (nI r)), (4, .int (nI (2 ^ k)))]) hx hb dX0_siteOf_39 rfl hl (by decide) rfl (fun ls hl => ?_)
        refine lv_iload hx hb dX0_siteOf_40 (lv_at hl 4 rfl) ?_
        refine lv_iconst (v := nI 2) hx hb dX0_siteOf_42 (by decide) ?_
        refine lv_idiv hx hb dX0_siteOf_43 (by decide) ?_
        refine kl_top (v := nI (2 ^ k / 2)) (pk_div (by omega) (by decide) (by decide)) ?_
        refine lv_istore (lv' := [(4, .int (nI (2 ^ k / 2))), (3, .int (nI (r - kl_ps v (a + 2 ^ k)))), (2, .int (nI (a + 2 ^ k))), (0, .ref (ad 0)), (1, .int (nI r))]) hx hb dX0_siteOf_44 hl (by decide) rfl (fun ls hl => ?_)
        refine lv_goto (tgt := 8) hx hb dX0_siteOf_46 (by decide) ?_
        exact ih (a + 2 ^ k) ls (by omega) f2 (by omega) hge (by omega) (lv_sub hl [3, 4, 2, 1, 0] rfl)
  refine lv_iconst (v := nI 0) hx hb dX0_siteOf_0 (by decide) ?_
  refine lv_istore_n (lv' := [(2, .int (nI 0)), (0, .ref (ad 0)), (1, .int (nI r))]) hx hb dX0_siteOf_1 rfl hl (by decide) rfl (fun ls hl => ?_)
  refine lv_iload_n hx hb dX0_siteOf_2 rfl (lv_at hl 2 rfl) ?_
  refine lv_istore_n (lv' := [(3, .int (nI r)), (2, .int (nI 0)), (0, .ref (ad 0)), (1, .int (nI r))]) hx hb dX0_siteOf_3 rfl hl (by decide) rfl (fun ls hl => ?_)
  refine lv_bipush (v := nI 32) hx hb dX0_siteOf_4 (by decide) ?_
  refine lv_istore (lv' := [(4, .int (nI 32)), (3, .int (nI r)), (2, .int (nI 0)), (0, .ref (ad 0)), (1, .int (nI r))]) hx hb dX0_siteOf_6 hl (by decide) rfl (fun ls hl => ?_)
  exact loop 6 0 ls (by decide) rfl (by decide) (Nat.zero_le _) (by omega) (lv_sub hl [3, 4, 2, 1, 0] rfl)
set_option maxHeartbeats 4000000 in
set_option maxRecDepth 100000 in
theorem mX_occ (l : Launch) (D : va_G) (d : ClassId) (ad : Nat → Nat) (R S v : Nat → Nat) (T : Nat → Int32) (pt : Int32) (E : Nat → Int32) (t : Nat) (ht : t < 48) (hS2 : ∀ j, j < 48 → S j ≤ 2) : kl_CI l yX0_occupiedAround cX0_occupiedAround 4 (kl_rm 0 0) D d [.ref (ad 0), .int (nI t)] (kl_wX ad d R S v T pt E) (nI (kl_occ S t 4)) (kl_wX ad d R S v T pt E) := by
  refine kl_CI.of (by decide) (Nat.le_of_ble_eq_true rfl) ?_
  intro p e s m args below meth c A Q ls hx hb hml hown hts hA hK hP hD hS ret hl
  have hl : lv_has ls 4 [(0, .ref (ad 0)), (1, .int (nI t))] := hl
  have loop : ∀ (n k : Nat) (ls : Array Slot), k + n = 4 → lv_has ls 4 [(0, .ref (ad 0)), (1, .int (nI t)), (2, .int (nI (kl_occ S t k))), (3, .int (nI k))] → W p l e (kl_rm 0 0) s m args below meth c s.heap [] 0 0 Q (F0 m 4 ls []) := by
    intro n
    induction n with
    | zero =>
      intro k ls hk hl
      have hk : k = 4 := by omega
      subst hk
      refine lv_iload_n hx hb dX0_occupiedAround_4 rfl (lv_at hl 3 rfl) ?_
      refine lv_iconst (v := nI 4) hx hb dX0_occupiedAround_5 (by decide) ?_
      refine lv_icmp_ge (tgt := 37) hx hb dX0_occupiedAround_6 (by decide) (fun _ => ?_) (fun hc => absurd (by decide) hc)
      refine lv_iload_n hx hb dX0_occupiedAround_37 rfl (lv_at hl 2 rfl) ?_
      exact ret _ _ _ _ _ (hP) (hD) hS dX0_occupiedAround_38 (rfl)
    | succ n ih =>
      intro k ls hk hl
      refine lv_iload_n hx hb dX0_occupiedAround_4 rfl (lv_at hl 3 rfl) ?_
      refine lv_iconst (v := nI 4) hx hb dX0_occupiedAround_5 (by decide) ?_
      refine lv_icmp_ge (tgt := 37) hx hb dX0_occupiedAround_6 (by decide) (fun hc => absurd hc (nI_ge (by omega) (by decide))) (fun _ => ?_)
      refine lv_aload_n hx hb dX0_occupiedAround_9 rfl (lv_at hl 0 rfl) ?_
      refine gX_states hx hb hts hown hK hP dX0_occupiedAround_10 ?_
      refine lv_aload_n hx hb dX0_occupiedAround_13 rfl (lv_at hl 0 rfl) ?_
      refine gX_next hx hb hts hown hK hP dX0_occupiedAround_14 ?_
      refine lv_iload_n hx hb dX0_occupiedAround_17 rfl (lv_at hl 1 rfl) ?_
      refine lv_iconst (v := nI 4) hx hb dX0_occupiedAround_18 (by decide) ?_
      refine lv_imul hx hb dX0_occupiedAround_19 ?_
      refine kl_top (v := nI (t * 4)) (pk_mul _ _) ?_
      refine lv_iload_n hx hb dX0_occupiedAround_20 rfl (lv_at hl 3 rfl) ?_
      refine lv_iadd hx hb dX0_occupiedAround_21 ?_
      refine kl_top (v := nI (t * 4 + k)) (nI_add _ _) ?_
      refine ldX_next hx hb hK hP (t * 4 + k) (by omega) (v := nI (kl_nb t k)) (rfl) (congrArg nI (kl_nr_at (by omega))) dX0_occupiedAround_22 ?_
      refine ldX_states hx hb hK hP (kl_nb t k) (kl_nb_lt ht k) (v := nI (S (kl_nb t k))) (rfl) (rfl) dX0_occupiedAround_23 ?_
      have hb2 := hS2 _ (kl_nb_lt ht k)
      refine lv_iconst (v := nI 1) hx hb dX0_occupiedAround_24 (by decide) ?_
      by_cases h : S (kl_nb t k) = 1
      · have e1 : kl_occ S t (k + 1) = kl_occ S t k + 1 := by show _ + _ = _; rw [kl_b1_1 h]
        refine lv_icmp_ne (tgt := 31) hx hb dX0_occupiedAround_25 (by decide) (fun hc => absurd (congrArg nI h) hc) (fun _ => ?_)
        refine lv_iinc (v := nI (kl_occ S t (k + 1))) (lv' := [(2, .int (nI (kl_occ S t (k + 1)))), (0, .ref (ad 0)), (1, .int (nI t)), (3, .int (nI k))]) hx hb dX0_occupiedAround_28 hl (k := 2) rfl ((nI_1 _).trans (congrArg nI e1.symm)) (by decide) rfl (fun ls hl => ?_)
        refine lv_iinc (v := nI (k + 1)) (lv' := [(3, .int (nI (k + 1))), (2, .int (nI (kl_occ S t (k + 1)))), (0, .ref (ad 0)), (1, .int (nI t))]) hx hb dX0_occupiedAround_31 hl (k := 3) rfl (nI_1 k) (by decide) rfl (fun ls hl => ?_)
        refine lv_goto (tgt := 4) hx hb dX0_occupiedAround_34 (by decide) ?_
        exact ih (k + 1) ls (by omega) (lv_sub hl [2, 3, 1, 0] rfl)
      · have e1 : kl_occ S t (k + 1) = kl_occ S t k := by show _ + _ = _; rw [kl_b1_0 h]; rfl
        refine lv_icmp_ne (tgt := 31) hx hb dX0_occupiedAround_25 (by decide) (fun _ => ?_) (fun hc => absurd hc (fun z => h ((kl_nk 1 (by decide) (by omega)).mp z)))
        refine lv_iinc (v := nI (k + 1)) (lv' := [(3, .int (nI (k + 1))), (0, .ref (ad 0)), (1, .int (nI t)), (2, .int (nI (kl_occ S t k)))]) hx hb dX0_occupiedAround_31 hl (k := 3) rfl (nI_1 k) (by decide) rfl (fun ls hl => ?_)
        refine lv_goto (tgt := 4) hx hb dX0_occupiedAround_34 (by decide) ?_
        exact ih (k + 1) ls (by omega) (by rw [e1]; exact (lv_sub hl [1, 2, 3, 0] rfl))
  refine lv_iconst (v := nI 0) hx hb dX0_occupiedAround_0 (by decide) ?_
  refine lv_istore_n (lv' := [(2, .int (nI 0)), (0, .ref (ad 0)), (1, .int (nI t))]) hx hb dX0_occupiedAround_1 rfl hl (by decide) rfl (fun ls hl => ?_)
  refine lv_iconst (v := nI 0) hx hb dX0_occupiedAround_2 (by decide) ?_
  refine lv_istore_n (lv' := [(3, .int (nI 0)), (2, .int (nI 0)), (0, .ref (ad 0)), (1, .int (nI t))]) hx hb dX0_occupiedAround_3 rfl hl (by decide) rfl (fun ls hl => ?_)
  exact loop 4 0 ls rfl (lv_sub hl [2, 3, 1, 0] rfl)
set_option maxHeartbeats 4000000 in
set_option maxRecDepth 100000 in
theorem mX_emp (l : Launch) (D : va_G) (d : ClassId) (ad : Nat → Nat) (R S v : Nat → Nat) (T : Nat → Int32) (pt : Int32) (E : Nat → Int32) (t : Nat) (ht : t < 48) (hS2 : ∀ j, j < 48 → S j ≤ 2) : kl_CI l yX0_emptyAround cX0_emptyAround 4 (kl_rm 0 0) D d [.ref (ad 0), .int (nI t)] (kl_wX ad d R S v T pt E) (nI (kl_emp S t 4)) (kl_wX ad d R S v T pt E) := by
  refine kl_CI.of (by decide) (Nat.le_of_ble_eq_true rfl) ?_
  intro p e s m args below meth c A Q ls hx hb hml hown hts hA hK hP hD hS ret hl
  have hl : lv_has ls 4 [(0, .ref (ad 0)), (1, .int (nI t))] := hl
  have loop : ∀ (n k : Nat) (ls : Array Slot), k + n = 4 → lv_has ls 4 [(0, .ref (ad 0)), (1, .int (nI t)), (2, .int (nI (kl_emp S t k))), (3, .int (nI k))] → W p l e (kl_rm 0 0) s m args below meth c s.heap [] 0 0 Q (F0 m 4 ls []) := by
    intro n
    induction n with
    | zero =>
      intro k ls hk hl
      have hk : k = 4 := by omega
      subst hk
      refine lv_iload_n hx hb dX0_emptyAround_4 rfl (lv_at hl 3 rfl) ?_
      refine lv_iconst (v := nI 4) hx hb dX0_emptyAround_5 (by decide) ?_
      refine lv_icmp_ge (tgt := 36) hx hb dX0_emptyAround_6 (by decide) (fun _ => ?_) (fun hc => absurd (by decide) hc)
      refine lv_iload_n hx hb dX0_emptyAround_36 rfl (lv_at hl 2 rfl) ?_
      exact ret _ _ _ _ _ (hP) (hD) hS dX0_emptyAround_37 (rfl)
    | succ n ih =>
      intro k ls hk hl
      refine lv_iload_n hx hb dX0_emptyAround_4 rfl (lv_at hl 3 rfl) ?_
      refine lv_iconst (v := nI 4) hx hb dX0_emptyAround_5 (by decide) ?_
      refine lv_icmp_ge (tgt := 36) hx hb dX0_emptyAround_6 (by decide) (fun hc => absurd hc (nI_ge (by omega) (by decide))) (fun _ => ?_)
      refine lv_aload_n hx hb dX0_emptyAround_9 rfl (lv_at hl 0 rfl) ?_
      refine gX_states hx hb hts hown hK hP dX0_emptyAround_10 ?_
      refine lv_aload_n hx hb dX0_emptyAround_13 rfl (lv_at hl 0 rfl) ?_
      refine gX_next hx hb hts hown hK hP dX0_emptyAround_14 ?_
      refine lv_iload_n hx hb dX0_emptyAround_17 rfl (lv_at hl 1 rfl) ?_
      refine lv_iconst (v := nI 4) hx hb dX0_emptyAround_18 (by decide) ?_
      refine lv_imul hx hb dX0_emptyAround_19 ?_
      refine kl_top (v := nI (t * 4)) (pk_mul _ _) ?_
      refine lv_iload_n hx hb dX0_emptyAround_20 rfl (lv_at hl 3 rfl) ?_
      refine lv_iadd hx hb dX0_emptyAround_21 ?_
      refine kl_top (v := nI (t * 4 + k)) (nI_add _ _) ?_
      refine ldX_next hx hb hK hP (t * 4 + k) (by omega) (v := nI (kl_nb t k)) (rfl) (congrArg nI (kl_nr_at (by omega))) dX0_emptyAround_22 ?_
      refine ldX_states hx hb hK hP (kl_nb t k) (kl_nb_lt ht k) (v := nI (S (kl_nb t k))) (rfl) (rfl) dX0_emptyAround_23 ?_
      have hb2 := hS2 _ (kl_nb_lt ht k)
      by_cases h : S (kl_nb t k) = 0
      · have e1 : kl_emp S t (k + 1) = kl_emp S t k + 1 := by show _ + _ = _; rw [kl_b0_1 h]
        refine lv_if_ne (tgt := 30) hx hb dX0_emptyAround_24 (by decide) (fun hc => absurd ((kl_n0 (by omega)).mpr h) hc) (fun _ => ?_)
        refine lv_iinc (v := nI (kl_emp S t (k + 1))) (lv' := [(2, .int (nI (kl_emp S t (k + 1)))), (0, .ref (ad 0)), (1, .int (nI t)), (3, .int (nI k))]) hx hb dX0_emptyAround_27 hl (k := 2) rfl ((nI_1 _).trans (congrArg nI e1.symm)) (by decide) rfl (fun ls hl => ?_)
        refine lv_iinc (v := nI (k + 1)) (lv' := [(3, .int (nI (k + 1))), (2, .int (nI (kl_emp S t (k + 1)))), (0, .ref (ad 0)), (1, .int (nI t))]) hx hb dX0_emptyAround_30 hl (k := 3) rfl (nI_1 k) (by decide) rfl (fun ls hl => ?_)
        refine lv_goto (tgt := 4) hx hb dX0_emptyAround_33 (by decide) ?_
        exact ih (k + 1) ls (by omega) (lv_sub hl [2, 3, 1, 0] rfl)
      · have e1 : kl_emp S t (k + 1) = kl_emp S t k := by show _ + _ = _; rw [kl_b0_0 h]; rfl
        refine lv_if_ne (tgt := 30) hx hb dX0_emptyAround_24 (by decide) (fun _ => ?_) (fun hc => absurd hc (fun z => h ((kl_n0 (by omega)).mp z)))
        refine lv_iinc (v := nI (k + 1)) (lv' := [(3, .int (nI (k + 1))), (0, .ref (ad 0)), (1, .int (nI t)), (2, .int (nI (kl_emp S t k)))]) hx hb dX0_emptyAround_30 hl (k := 3) rfl (nI_1 k) (by decide) rfl (fun ls hl => ?_)
        refine lv_goto (tgt := 4) hx hb dX0_emptyAround_33 (by decide) ?_
        exact ih (k + 1) ls (by omega) (by rw [e1]; exact (lv_sub hl [1, 2, 3, 0] rfl))
  refine lv_iconst (v := nI 0) hx hb dX0_emptyAround_0 (by decide) ?_
  refine lv_istore_n (lv' := [(2, .int (nI 0)), (0, .ref (ad 0)), (1, .int (nI t))]) hx hb dX0_emptyAround_1 rfl hl (by decide) rfl (fun ls hl => ?_)
  refine lv_iconst (v := nI 0) hx hb dX0_emptyAround_2 (by decide) ?_
  refine lv_istore_n (lv' := [(3, .int (nI 0)), (2, .int (nI 0)), (0, .ref (ad 0)), (1, .int (nI t))]) hx hb dX0_emptyAround_3 rfl hl (by decide) rfl (fun ls hl => ?_)
  exact loop 4 0 ls rfl (lv_sub hl [2, 3, 1, 0] rfl)
end
section
theorem kl_uE {v : Nat → Nat} {t x : Nat} (h : nI x = nI (v t)) (j : Nat) : nI (v j) = nI (kl_u v t x j) := by
  rw [← kl_uI, h]
  by_cases e : j = t
  · rw [if_pos e, e]
  · rw [if_neg e]
set_option maxHeartbeats 4000000 in
set_option maxRecDepth 100000 in
/-- the rate of a site out of states and rates -/
theorem mX_worth (l : Launch) (D : va_G) (d : ClassId) (ad : Nat → Nat) (R S v : Nat → Nat) (T : Nat → Int32) (pt : Int32) (E : Nat → Int32) (t : Nat) (ht : t < 48) (hS2 : ∀ j, j < 48 → S j ≤ 2) : kl_CI l yX0_worth cX0_worth 4 (kl_rm 1 23) D d [.ref (ad 0), .int (nI t)] (kl_wX ad d R S v T pt E) (nI (kl_w R S t)) (kl_wX ad d R S v T pt E) := by
  refine kl_CI.of (by decide) (Nat.le_of_ble_eq_true rfl) ?_
  intro p e s m args below meth c A Q ls hx hb hml hown hts hA hK hP hD hS ret hl
  have hl : lv_has ls 4 [(0, .ref (ad 0)), (1, .int (nI t))] := hl
  have hb2 := hS2 t ht
  refine lv_aload_n hx hb dX0_worth_0 rfl (lv_at hl 0 rfl) ?_
  refine gX_states hx hb hts hown hK hP dX0_worth_1 ?_
  refine lv_iload_n hx hb dX0_worth_4 rfl (lv_at hl 1 rfl) ?_
  refine ldX_states hx hb hK hP (t) (ht) (v := nI (S t)) (rfl) (rfl) dX0_worth_5 ?_
  by_cases h : S t = 0
  · refine lv_if_ne (tgt := 16) hx hb dX0_worth_6 (by decide) (fun hc => absurd ((kl_n0 (by omega)).mpr h) hc) (fun _ => ?_)
    refine lv_aload_n hx hb dX0_worth_9 rfl (lv_at hl 0 rfl) ?_
    refine gX_rates hx hb hts hown hK hP dX0_worth_10 ?_
    refine lv_iconst (v := nI 5) hx hb dX0_worth_13 (by decide) ?_
    refine ldX_rates hx hb hK hP (5) (by decide) (v := nI (R 5)) (rfl) (rfl) dX0_worth_14 ?_
    exact ret _ _ _ _ _ (hP) (hD) hS dX0_worth_15 (by unfold kl_w; rw [if_pos h])
  · refine lv_if_ne (tgt := 16) hx hb dX0_worth_6 (by decide) (fun _ => ?_) (fun hc => absurd hc (fun z => h ((kl_n0 (by omega)).mp z)))
    refine lv_aload_n hx hb dX0_worth_16 rfl (lv_at hl 0 rfl) ?_
    refine gX_states hx hb hts hown hK hP dX0_worth_17 ?_
    refine lv_iload_n hx hb dX0_worth_20 rfl (lv_at hl 1 rfl) ?_
    refine ldX_states hx hb hK hP (t) (ht) (v := nI (S t)) (rfl) (rfl) dX0_worth_21 ?_
    refine lv_iconst (v := nI 1) hx hb dX0_worth_22 (by decide) ?_
    by_cases h1 : S t = 1
    · refine lv_icmp_eq (tgt := 28) hx hb dX0_worth_23 (by decide) (fun _ => ?_) (fun hc => absurd (congrArg nI h1) hc)
      refine lv_aload_n hx hb dX0_worth_28 rfl (lv_at hl 0 rfl) ?_
      refine lv_iload_n hx hb dX0_worth_29 rfl (lv_at hl 1 rfl) ?_
      refine kl_CI.call (C := (RX0, TX0, 7)) (As := [.int (nI t)]) (rest := []) (mX_occ l D d ad R S v T pt E t ht hS2) ⟨hx, hb, hml, hown, hts⟩ (cwX0_occupiedAround hts rfl rfl ⟨Nat.le_of_ble_eq_true rfl, Nat.le_of_ble_eq_true rfl⟩) (ci := 0) rfl rfl hK hP hD hS hA rfl hl.1 rfl (Nat.le_of_ble_eq_true rfl) dX0_worth_30 ⟨Nat.zero_le _, Nat.zero_le _⟩ (fun H locs hP hD hS => ?_)
      refine lv_istore_n (lv' := [(2, .int (nI (kl_occ S t 4))), (0, .ref (ad 0)), (1, .int (nI t))]) hx hb dX0_worth_33 rfl hl (by decide) rfl (fun ls hl => ?_)
      refine lv_aload_n hx hb dX0_worth_34 rfl (lv_at hl 1 rfl) ?_
      refine lv_iload_n hx hb dX0_worth_35 rfl (lv_at hl 2 rfl) ?_
      refine kl_CI.call (C := (RX0, TX0, 7)) (As := [.int (nI t)]) (rest := []) (mX_emp l D d ad R S v T pt E t ht hS2) ⟨hx, hb, hml, hown, hts⟩ (cwX0_emptyAround hts rfl rfl ⟨Nat.le_of_ble_eq_true rfl, Nat.le_of_ble_eq_true rfl⟩) (ci := 0) rfl rfl hK hP hD hS hA rfl hl.1 rfl (Nat.le_of_ble_eq_true rfl) dX0_worth_36 ⟨Nat.zero_le _, Nat.zero_le _⟩ (fun H locs hP hD hS => ?_)
      refine lv_istore_n (lv' := [(3, .int (nI (kl_emp S t 4))), (2, .int (nI (kl_occ S t 4))), (0, .ref (ad 0)), (1, .int (nI t))]) hx hb dX0_worth_39 rfl hl (by decide) rfl (fun ls hl => ?_)
      refine lv_aload_n hx hb dX0_worth_40 rfl (lv_at hl 2 rfl) ?_
      refine gX_rates hx hb hts hown hK hP dX0_worth_41 ?_
      refine lv_iload_n hx hb dX0_worth_44 rfl (lv_at hl 1 rfl) ?_
      refine ldX_rates hx hb hK hP (kl_occ S t 4) (Nat.lt_of_le_of_lt (kl_occ_le S t 4) (by decide)) (v := nI (R (kl_occ S t 4))) (rfl) (rfl) dX0_worth_45 ?_
      refine lv_iload_n hx hb dX0_worth_46 rfl (lv_at hl 0 rfl) ?_
      refine lv_aload_n hx hb dX0_worth_47 rfl (lv_at hl 2 rfl) ?_
      refine gX_rates hx hb hts hown hK hP dX0_worth_48 ?_
      refine lv_bipush (v := nI 6) hx hb dX0_worth_51 (by decide) ?_
      refine ldX_rates hx hb hK hP (6) (by decide) (v := nI (R 6)) (rfl) (rfl) dX0_worth_53 ?_
      refine lv_imul hx hb dX0_worth_54 ?_
      refine kl_top (v := nI (kl_emp S t 4 * R 6)) (pk_mul _ _) ?_
      refine lv_iadd hx hb dX0_worth_55 ?_
      refine kl_top (v := nI (R (kl_occ S t 4) + kl_emp S t 4 * R 6)) (nI_add _ _) ?_
      exact ret _ _ _ _ _ (hP) (hD) hS dX0_worth_56 (by unfold kl_w; rw [if_neg h, if_pos h1])
    · refine lv_icmp_eq (tgt := 28) hx hb dX0_worth_23 (by decide) (fun hc => absurd hc (fun z => h1 ((kl_nk 1 (by decide) (by omega)).mp z))) (fun _ => ?_)
      refine lv_iconst (v := nI 0) hx hb dX0_worth_26 (by decide) ?_
      exact ret _ _ _ _ _ (hP) (hD) hS dX0_worth_27 (by unfold kl_w; rw [if_neg h, if_neg h1])
set_option maxHeartbeats 4000000 in
set_option maxRecDepth 100000 in
/-- a site is brought up to date -/
theorem mX_refresh (l : Launch) (D : va_G) (d : ClassId) (ad : Nat → Nat) (R S v : Nat → Nat) (pt : Int32) (E : Nat → Int32) (t : Nat) (ht : t < 48) (hS2 : ∀ j, j < 48 → S j ≤ 2) : kl_CV l yX0_refresh cX0_refresh 3 (kl_rm 2 46) D d [.ref (ad 0), .int (nI t)] (kl_wX ad d R S v (fun i => nI (kl_F v i)) pt E) (kl_wX ad d R S (kl_u v t (kl_w R S t)) (fun i => nI (kl_F (kl_u v t (kl_w R S t)) i)) pt E) := by
  refine kl_CV.of (by decide) (Nat.le_of_ble_eq_true rfl) ?_
  intro p e s m args below meth c A Q ls hx hb hml hown hts hA hK hP hD hS ret hl
  have hl : lv_has ls 3 [(0, .ref (ad 0)), (1, .int (nI t))] := hl
  refine lv_aload_n hx hb dX0_refresh_0 rfl (lv_at hl 0 rfl) ?_
  refine lv_iload_n hx hb dX0_refresh_1 rfl (lv_at hl 1 rfl) ?_
  refine kl_CI.call (C := (RX0, TX0, 7)) (As := [.int (nI t)]) (rest := []) (mX_worth l D d ad R S v _ pt E t ht hS2) ⟨hx, hb, hml, hown, hts⟩ (cwX0_worth hts rfl rfl ⟨Nat.le_of_ble_eq_true rfl, Nat.le_of_ble_eq_true rfl⟩) (ci := 0) rfl rfl hK hP hD hS hA rfl hl.1 rfl (Nat.le_of_ble_eq_true rfl) dX0_refresh_2 ⟨Nat.zero_le _, Nat.zero_le _⟩ (fun H locs hP hD hS => ?_)
  refine lv_istore_n (lv' := [(2, .int (nI (kl_w R S t))), (0, .ref (ad 0)), (1, .int (nI t))]) hx hb dX0_refresh_5 rfl hl (by decide) rfl (fun ls hl => ?_)
  refine lv_iload_n hx hb dX0_refresh_6 rfl (lv_at hl 0 rfl) ?_
  refine lv_aload_n hx hb dX0_refresh_7 rfl (lv_at hl 1 rfl) ?_
  refine gX_sum hx hb hts hown hK hP dX0_refresh_8 ?_
  refine lv_iload_n hx hb dX0_refresh_11 rfl (lv_at hl 2 rfl) ?_
  refine ldX_sum hx hb hK hP (t) (ht) (v := nI (v t)) (rfl) (rfl) dX0_refresh_12 ?_
  by_cases h : nI (kl_w R S t) = nI (v t)
  · refine lv_icmp_ne (tgt := 17) hx hb dX0_refresh_13 (by decide) (fun hc => absurd (h) hc) (fun _ => ?_)
    exact ret _ _ _ _ (kl_cg hP (fun _ _ => rfl) (fun _ _ => rfl) (fun _ _ => rfl) (fun j _ => kl_uE h j) (fun j _ => by rw [kl_F_u ht, h]; split <;> grind) rfl (fun _ _ => rfl)) (kl_D hD) hS dX0_refresh_16
  · refine lv_icmp_ne (tgt := 17) hx hb dX0_refresh_13 (by decide) (fun _ => ?_) (fun hc => absurd hc (h))
    refine lv_aload_n hx hb dX0_refresh_17 rfl (lv_at hl 1 rfl) ?_
    refine lv_iload_n hx hb dX0_refresh_18 rfl (lv_at hl 2 rfl) ?_
    refine lv_iload_n hx hb dX0_refresh_19 rfl (lv_at hl 0 rfl) ?_
    refine lv_aload_n hx hb dX0_refresh_20 rfl (lv_at hl 1 rfl) ?_
    refine gX_sum hx hb hts hown hK hP dX0_refresh_21 ?_
    refine lv_iload_n hx hb dX0_refresh_24 rfl (lv_at hl 2 rfl) ?_
    refine ldX_sum hx hb hK hP (t) (ht) (v := nI (v t)) (rfl) (rfl) dX0_refresh_25 ?_
    refine lv_isub hx hb dX0_refresh_26 ?_
    refine kl_CV.call (C := (RX0, TX0, 7)) (As := [.int (nI t), .int ((nI (kl_w R S t)) - (nI (v t)))]) (rest := []) (mX_addTo l D d ad _ _ _ _ _ _ _ t ht _) ⟨hx, hb, hml, hown, hts⟩ (cwX0_addTo hts rfl rfl ⟨Nat.le_of_ble_eq_true rfl, Nat.le_of_ble_eq_true rfl⟩) (ci := 0) rfl rfl hK hP hD hS hA rfl hl.1 rfl (Nat.le_of_ble_eq_true rfl) dX0_refresh_27 ⟨Nat.zero_le _, Nat.zero_le _⟩ (fun H locs hP hD hS => ?_)
    refine lv_aload_n hx hb dX0_refresh_30 rfl (lv_at hl 1 rfl) ?_
    refine gX_sum hx hb hts hown hK hP dX0_refresh_31 ?_
    refine lv_iload_n hx hb dX0_refresh_34 rfl (lv_at hl 2 rfl) ?_
    refine lv_iload_n hx hb dX0_refresh_35 rfl (lv_at hl 0 rfl) ?_
    refine stX_sum hx hb hK hP hD hS (t) (ht) (rfl) (fun j => nI ((kl_u v t (kl_w R S t)) j)) (fun j _ => kl_uI v t _ j) dX0_refresh_36 (fun H locs hP hD hS => ?_)
    exact ret _ _ _ _ (kl_cg hP (fun _ _ => rfl) (fun _ _ => rfl) (fun _ _ => rfl) (fun _ _ => rfl) (fun j _ => (kl_F_u ht j).symm) rfl (fun _ _ => rfl)) (kl_D hD) hS dX0_refresh_37
end
section
/-- the sums behind refreshAround, k neighbours done -/
def kl_ra (R S v : Nat → Nat) (t : Nat) : Nat → Nat → Nat
  | 0 => kl_u v t (kl_w R S t)
  | k + 1 => kl_u (kl_ra R S v t k) (kl_nb t k) (kl_w R S (kl_nb t k))
/-- the sums behind n rounds of refreshAll -/
def kl_rl (R S v : Nat → Nat) : Nat → Nat → Nat
  | 0 => v
  | n + 1 => kl_u (kl_rl R S v n) n (kl_w R S n)
theorem kl_rl_at (R S v : Nat → Nat) (n j : Nat) (h : j < n) : kl_rl R S v n j = kl_w R S j := by
  induction n with
  | zero => exact absurd h (Nat.not_lt_zero _)
  | succ n ih =>
    show kl_u (kl_rl R S v n) n (kl_w R S n) j = _
    by_cases e : j = n
    · subst e; rw [kl_us]
    · rw [kl_un e]; exact ih (by omega)
theorem kl_ra_in (R S v : Nat → Nat) (t k j : Nat) (h : j = t ∨ ∃ i, i < k ∧ j = kl_nb t i) : kl_ra R S v t k j = kl_w R S j := by
  induction k with
  | zero =>
    rcases h with h | ⟨i, hi, -⟩
    · subst h; exact kl_us
    · exact absurd hi (Nat.not_lt_zero _)
  | succ k ih =>
    show kl_u (kl_ra R S v t k) (kl_nb t k) (kl_w R S (kl_nb t k)) j = _
    by_cases e : j = kl_nb t k
    · subst e; rw [kl_us]
    · rw [kl_un e]
      refine ih ?_
      rcases h with h | ⟨i, hi, h⟩
      · exact Or.inl h
      · refine Or.inr ⟨i, ?_, h⟩
        by_cases e2 : i = k
        · subst e2; exact absurd h e
        · omega
theorem kl_ra_out (R S v : Nat → Nat) (t k j : Nat) (h0 : ¬ j = t) (h : ∀ i, i < k → ¬ j = kl_nb t i) : kl_ra R S v t k j = v j := by
  induction k with
  | zero => exact kl_un h0
  | succ k ih =>
    show kl_u (kl_ra R S v t k) (kl_nb t k) (kl_w R S (kl_nb t k)) j = _
    rw [kl_un (h k (Nat.lt_succ_self k))]
    exact ih (fun i hi => h i (by omega))
theorem kl_occ_cg {S S' : Nat → Nat} {j k : Nat} (h : ∀ i, i < k → S' (kl_nb j i) = S (kl_nb j i)) : kl_occ S' j k = kl_occ S j k := by
  induction k with
  | zero => rfl
  | succ k ih =>
    show kl_occ S' j k + kl_b1 (S' (kl_nb j k)) = kl_occ S j k + kl_b1 (S (kl_nb j k))
    rw [ih (fun i hi => h i (by omega)), h k (Nat.lt_succ_self k)]
theorem kl_emp_cg {S S' : Nat → Nat} {j k : Nat} (h : ∀ i, i < k → S' (kl_nb j i) = S (kl_nb j i)) : kl_emp S' j k = kl_emp S j k := by
  induction k with
  | zero => rfl
  | succ k ih =>
    show kl_emp S' j k + kl_b0 (S' (kl_nb j k)) = kl_emp S j k + kl_b0 (S (kl_nb j k))
    rw [ih (fun i hi => h i (by omega)), h k (Nat.lt_succ_self k)]
theorem kl_w_cg {R S S' : Nat → Nat} {j : Nat} (h0 : S' j = S j) (h : ∀ i, i < 4 → S' (kl_nb j i) = S (kl_nb j i)) : kl_w R S' j = kl_w R S j := by
  unfold kl_w
  rw [h0, kl_occ_cg h, kl_emp_cg h]
theorem kl_ra_at (R S : Nat → Nat) {t : Nat} (ht : t < 48) (x j : Nat) (hj : j < 48) : kl_ra R (kl_u S t x) (kl_w R S) t 4 j = kl_w R (kl_u S t x) j := by
  by_cases h0 : j = t
  · exact kl_ra_in _ _ _ _ _ _ (Or.inl h0)
  · by_cases h : ∃ i, i < 4 ∧ j = kl_nb t i
    · exact kl_ra_in _ _ _ _ _ _ (Or.inr h)
    · rw [kl_ra_out _ _ _ _ _ _ h0 (fun i hi e => h ⟨i, hi, e⟩)]
      refine (kl_w_cg (kl_un h0) (fun i hi => kl_un (fun e => h ⟨kl_op i, kl_op_lt i, ?_⟩))).symm
      rw [← e]
      exact (kl_nb_op j hj i hi).symm
set_option maxHeartbeats 4000000 in
set_option maxRecDepth 100000 in
/-- a site and its neighbours are brought up to date -/
theorem mX_refreshAround (l : Launch) (D : va_G) (d : ClassId) (ad : Nat → Nat) (R S v : Nat → Nat) (pt : Int32) (E : Nat → Int32) (t : Nat) (ht : t < 48) (hS2 : ∀ j, j < 48 → S j ≤ 2) : kl_CV l yX0_refreshAround cX0_refreshAround 3 (kl_rm 3 68) D d [.ref (ad 0), .int (nI t)] (kl_wX ad d R S (v) (fun i => nI (kl_F (v) i)) pt E) (kl_wX ad d R S (kl_ra R S v t 4) (fun i => nI (kl_F (kl_ra R S v t 4) i)) pt E) := by
  refine kl_CV.of (by decide) (Nat.le_of_ble_eq_true rfl) ?_
  intro p e s m args below meth c A Q ls hx hb hml hown hts hA hK hP hD hS ret hl
  have hl : lv_has ls 3 [(0, .ref (ad 0)), (1, .int (nI t))] := hl
  have loop : ∀ (n k : Nat) (H : Heap) (locs : List Loc) (ls : Array Slot), k + n = 4 → va_P D vwCl (kl_wX ad d R S (kl_ra R S v t k) (fun i => nI (kl_F (kl_ra R S v t k) i)) pt E) H → va_D A (kl_wX ad d R S (kl_ra R S v t k) (fun i => nI (kl_F (kl_ra R S v t k) i)) pt E) → va_S A s.heap H locs → lv_has ls 3 [(0, .ref (ad 0)), (1, .int (nI t)), (2, .int (nI k))] → W p l e (kl_rm 3 68) s m args below meth c H locs 0 0 Q (F0 m 7 ls []) := by
    intro n
    induction n with
    | zero =>
      intro k H locs ls hk hP hD hS hl
      have hk : k = 4 := by omega
      subst hk
      refine lv_iload_n hx hb dX0_refreshAround_7 rfl (lv_at hl 2 rfl) ?_
      refine lv_iconst (v := nI 4) hx hb dX0_refreshAround_8 (by decide) ?_
      refine lv_icmp_ge (tgt := 32) hx hb dX0_refreshAround_9 (by decide) (fun _ => ?_) (fun hc => absurd (by decide) hc)
      exact ret _ _ _ _ (hP) (hD) hS dX0_refreshAround_32
    | succ n ih =>
      intro k H locs ls hk hP hD hS hl
      refine lv_iload_n hx hb dX0_refreshAround_7 rfl (lv_at hl 2 rfl) ?_
      refine lv_iconst (v := nI 4) hx hb dX0_refreshAround_8 (by decide) ?_
      refine lv_icmp_ge (tgt := 32) hx hb dX0_refreshAround_9 (by decide) (fun hc => absurd hc (nI_ge (by omega) (by decide))) (fun _ => ?_)
      refine lv_aload_n hx hb dX0_refreshAround_12 rfl (lv_at hl 0 rfl) ?_
      refine lv_aload_n hx hb dX0_refreshAround_13 rfl (lv_at hl 0 rfl) ?_
      refine gX_next hx hb hts hown hK hP dX0_refreshAround_14 ?_
      refine lv_iload_n hx hb dX0_refreshAround_17 rfl (lv_at hl 1 rfl) ?_
      refine lv_iconst (v := nI 4) hx hb dX0_refreshAround_18 (by decide) ?_
      refine lv_imul hx hb dX0_refreshAround_19 ?_
      refine kl_top (v := nI (t * 4)) (pk_mul _ _) ?_
      refine lv_iload_n hx hb dX0_refreshAround_20 rfl (lv_at hl 2 rfl) ?_
      refine lv_iadd hx hb dX0_refreshAround_21 ?_
      refine kl_top (v := nI (t * 4 + k)) (nI_add _ _) ?_
      refine ldX_next hx hb hK hP (t * 4 + k) (by omega) (v := nI (kl_nb t k)) (rfl) (congrArg nI (kl_nr_at (by omega))) dX0_refreshAround_22 ?_
      refine kl_CV.call (C := (RX0, TX0, 7)) (As := [.int (nI (kl_nb t k))]) (rest := []) (mX_refresh l D d ad R S (kl_ra R S v t k) pt E (kl_nb t k) (kl_nb_lt ht k) hS2) ⟨hx, hb, hml, hown, hts⟩ (cwX0_refresh hts rfl rfl ⟨Nat.le_of_ble_eq_true rfl, Nat.le_of_ble_eq_true rfl⟩) (ci := 0) rfl rfl hK hP hD hS hA rfl hl.1 rfl (Nat.le_of_ble_eq_true rfl) dX0_refreshAround_23 ⟨Nat.zero_le _, Nat.zero_le _⟩ (fun H locs hP hD hS => ?_)
      refine lv_iinc (v := nI (k + 1)) (lv' := [(2, .int (nI (k + 1))), (0, .ref (ad 0)), (1, .int (nI t))]) hx hb dX0_refreshAround_26 hl (k := 2) rfl (nI_1 k) (by decide) rfl (fun ls hl => ?_)
      refine lv_goto (tgt := 7) hx hb dX0_refreshAround_29 (by decide) ?_
      exact ih (k + 1) H locs ls (by omega) hP hD hS (lv_sub hl [1, 2, 0] rfl)
  refine lv_aload_n hx hb dX0_refreshAround_0 rfl (lv_at hl 0 rfl) ?_
  refine lv_iload_n hx hb dX0_refreshAround_1 rfl (lv_at hl 1 rfl) ?_
  refine kl_CV.call (C := (RX0, TX0, 7)) (As := [.int (nI t)]) (rest := []) (mX_refresh l D d ad R S v pt E t ht hS2) ⟨hx, hb, hml, hown, hts⟩ (cwX0_refresh hts rfl rfl ⟨Nat.le_of_ble_eq_true rfl, Nat.le_of_ble_eq_true rfl⟩) (ci := 0) rfl rfl hK hP hD hS hA rfl hl.1 rfl (Nat.le_of_ble_eq_true rfl) dX0_refreshAround_2 ⟨Nat.zero_le _, Nat.zero_le _⟩ (fun H locs hP hD hS => ?_)
  refine lv_iconst (v := nI 0) hx hb dX0_refreshAround_5 (by decide) ?_
  refine lv_istore_n (lv' := [(2, .int (nI 0)), (0, .ref (ad 0)), (1, .int (nI t))]) hx hb dX0_refreshAround_6 rfl hl (by decide) rfl (fun ls hl => ?_)
  exact loop 4 0 H locs ls rfl hP hD hS (lv_sub hl [1, 2, 0] rfl)
set_option maxHeartbeats 4000000 in
set_option maxRecDepth 100000 in
/-- all sites are brought up to date -/
theorem mX_refreshAll (l : Launch) (D : va_G) (d : ClassId) (ad : Nat → Nat) (R S v : Nat → Nat) (pt : Int32) (E : Nat → Int32) (hS2 : ∀ j, j < 48 → S j ≤ 2) : kl_CV l yX0_refreshAll cX0_refreshAll 2 (kl_rm 3 68) D d [.ref (ad 0)] (kl_wX ad d R S (v) (fun i => nI (kl_F (v) i)) pt E) (kl_XX ad d R S pt E) := by
  refine kl_CV.of (by decide) (Nat.le_of_ble_eq_true rfl) ?_
  intro p e s m args below meth c A Q ls hx hb hml hown hts hA hK hP hD hS ret hl
  have hl : lv_has ls 2 [(0, .ref (ad 0))] := hl
  have loop : ∀ (n k : Nat) (H : Heap) (locs : List Loc) (ls : Array Slot), k + n = 48 → va_P D vwCl (kl_wX ad d R S (kl_rl R S v k) (fun i => nI (kl_F (kl_rl R S v k) i)) pt E) H → va_D A (kl_wX ad d R S (kl_rl R S v k) (fun i => nI (kl_F (kl_rl R S v k) i)) pt E) → va_S A s.heap H locs → lv_has ls 2 [(0, .ref (ad 0)), (1, .int (nI k))] → W p l e (kl_rm 3 68) s m args below meth c H locs 0 0 Q (F0 m 2 ls []) := by
    intro n
    induction n with
    | zero =>
      intro k H locs ls hk hP hD hS hl
      have hk : k = 48 := by omega
      subst hk
      refine lv_iload_n hx hb dX0_refreshAll_2 rfl (lv_at hl 1 rfl) ?_
      refine lv_bipush (v := nI 48) hx hb dX0_refreshAll_3 (by decide) ?_
      refine lv_icmp_ge (tgt := 19) hx hb dX0_refreshAll_5 (by decide) (fun _ => ?_) (fun hc => absurd (by decide) hc)
      exact ret _ _ _ _ (kl_cg hP (fun _ _ => rfl) (fun _ _ => rfl) (fun _ _ => rfl) (fun j hj => congrArg nI (kl_rl_at R S v 48 j hj)) (fun j _ => congrArg nI (kl_F_cg (fun i hi => kl_rl_at R S v 48 i hi) j)) rfl (fun _ _ => rfl)) (kl_D hD) hS dX0_refreshAll_19
    | succ n ih =>
      intro k H locs ls hk hP hD hS hl
      refine lv_iload_n hx hb dX0_refreshAll_2 rfl (lv_at hl 1 rfl) ?_
      refine lv_bipush (v := nI 48) hx hb dX0_refreshAll_3 (by decide) ?_
      refine lv_icmp_ge (tgt := 19) hx hb dX0_refreshAll_5 (by decide) (fun hc => absurd hc (nI_ge (by omega) (by decide))) (fun _ => ?_)
      refine lv_aload_n hx hb dX0_refreshAll_8 rfl (lv_at hl 0 rfl) ?_
      refine lv_iload_n hx hb dX0_refreshAll_9 rfl (lv_at hl 1 rfl) ?_
      refine kl_CV.call (C := (RX0, TX0, 7)) (As := [.int (nI k)]) (rest := []) (mX_refresh l D d ad R S (kl_rl R S v k) pt E k (by omega) hS2) ⟨hx, hb, hml, hown, hts⟩ (cwX0_refresh hts rfl rfl ⟨Nat.le_of_ble_eq_true rfl, Nat.le_of_ble_eq_true rfl⟩) (ci := 0) rfl rfl hK hP hD hS hA rfl hl.1 rfl (Nat.le_of_ble_eq_true rfl) dX0_refreshAll_10 ⟨Nat.zero_le _, Nat.zero_le _⟩ (fun H locs hP hD hS => ?_)
      refine lv_iinc (v := nI (k + 1)) (lv' := [(1, .int (nI (k + 1))), (0, .ref (ad 0))]) hx hb dX0_refreshAll_13 hl (k := 1) rfl (nI_1 k) (by decide) rfl (fun ls hl => ?_)
      refine lv_goto (tgt := 2) hx hb dX0_refreshAll_16 (by decide) ?_
      exact ih (k + 1) H locs ls (by omega) hP hD hS (lv_sub hl [1, 0] rfl)
  refine lv_iconst (v := nI 0) hx hb dX0_refreshAll_0 (by decide) ?_
  refine lv_istore_n (lv' := [(1, .int (nI 0)), (0, .ref (ad 0))]) hx hb dX0_refreshAll_1 rfl hl (by decide) rfl (fun ls hl => ?_)
  exact loop 48 0 s.heap [] ls rfl hP hD hS (lv_sub hl [1, 0] rfl)
set_option maxHeartbeats 4000000 in
set_option maxRecDepth 100000 in
/-- site t takes the state x -/
theorem mX_become (l : Launch) (D : va_G) (d : ClassId) (ad : Nat → Nat) (R S : Nat → Nat) (pt : Int32) (E : Nat → Int32) (t : Nat) (ht : t < 48) (hS2 : ∀ j, j < 48 → S j ≤ 2) (x : Nat) (hx2 : x ≤ 2) : kl_CV l yX0_become cX0_become 3 (kl_rm 4 90) D d [.ref (ad 0), .int (nI t), .int (nI x)] (kl_XX ad d R S pt E) (kl_XX ad d R (kl_u S t x) (pt - nI (kl_b1 (S t)) + nI (kl_b1 x)) E) := by
  refine kl_CV.of (by decide) (Nat.le_of_ble_eq_true rfl) ?_
  intro p e s m args below meth c A Q ls hx hb hml hown hts hA hK hP hD hS ret hl
  have hl : lv_has ls 3 [(0, .ref (ad 0)), (1, .int (nI t)), (2, .int (nI x))] := hl
  have hb2 := hS2 t ht
  have hS3 : ∀ j, j < 48 → kl_u S t x j ≤ 2 := by
    intro j hj
    by_cases e : j = t
    · rw [e, kl_us]; exact hx2
    · rw [kl_un e]; exact hS2 j hj
  have tail : ∀ (pt1 : Int32) (H : Heap) (locs : List Loc) (ls : Array Slot), pt1 = (pt - nI (kl_b1 (S t)) + nI (kl_b1 x)) → va_P D vwCl (kl_XX ad d R S pt1 E) H → va_D A (kl_XX ad d R S pt1 E) → va_S A s.heap H locs → lv_has ls 3 [(0, .ref (ad 0)), (1, .int (nI t)), (2, .int (nI x))] → W p l e (kl_rm 4 90) s m args below meth c H locs 0 0 Q (F0 m 35 ls []) := by
    intro pt1 H locs ls ep hP hD hS hl
    refine lv_aload_n hx hb dX0_become_35 rfl (lv_at hl 0 rfl) ?_
    refine gX_states hx hb hts hown hK hP dX0_become_36 ?_
    refine lv_iload_n hx hb dX0_become_39 rfl (lv_at hl 1 rfl) ?_
    refine lv_iload_n hx hb dX0_become_40 rfl (lv_at hl 2 rfl) ?_
    refine stX_states hx hb hK hP hD hS (t) (ht) (rfl) (fun j => nI (kl_u S t x j)) (fun j _ => kl_uI S t x j) dX0_become_41 (fun H locs hP hD hS => ?_)
    refine lv_aload_n hx hb dX0_become_42 rfl (lv_at hl 0 rfl) ?_
    refine lv_iload_n hx hb dX0_become_43 rfl (lv_at hl 1 rfl) ?_
    refine kl_CV.call (C := (RX0, TX0, 7)) (As := [.int (nI t)]) (rest := []) (mX_refreshAround l D d ad R (kl_u S t x) (kl_w R S) pt1 E t ht hS3) ⟨hx, hb, hml, hown, hts⟩ (cwX0_refreshAround hts rfl rfl ⟨Nat.le_of_ble_eq_true rfl, Nat.le_of_ble_eq_true rfl⟩) (ci := 0) rfl rfl hK hP hD hS hA rfl hl.1 rfl (Nat.le_of_ble_eq_true rfl) dX0_become_44 ⟨Nat.zero_le _, Nat.zero_le _⟩ (fun H locs hP hD hS => ?_)
    exact ret _ _ _ _ (kl_cg hP (fun _ _ => rfl) (fun _ _ => rfl) (fun _ _ => rfl) (fun j hj => congrArg nI (kl_ra_at R S ht x j hj)) (fun j _ => congrArg nI (kl_F_cg (fun i hi => kl_ra_at R S ht x i hi) j)) ep (fun _ _ => rfl)) (kl_D hD) hS dX0_become_47
  have mid : ∀ (pt1 : Int32) (H : Heap) (locs : List Loc) (ls : Array Slot), pt1 = pt - nI (kl_b1 (S t)) → va_P D vwCl (kl_XX ad d R S pt1 E) H → va_D A (kl_XX ad d R S pt1 E) → va_S A s.heap H locs → lv_has ls 3 [(0, .ref (ad 0)), (1, .int (nI t)), (2, .int (nI x))] → W p l e (kl_rm 4 90) s m args below meth c H locs 0 0 Q (F0 m 20 ls []) := by
    intro pt1 H locs ls ep hP hD hS hl
    refine lv_iload_n hx hb dX0_become_20 rfl (lv_at hl 2 rfl) ?_
    refine lv_iconst (v := nI 1) hx hb dX0_become_21 (by decide) ?_
    by_cases h : x = 1
    · refine lv_icmp_ne (tgt := 35) hx hb dX0_become_22 (by decide) (fun hc => absurd (congrArg nI h) hc) (fun _ => ?_)
      refine lv_aload_n hx hb dX0_become_25 rfl (lv_at hl 0 rfl) ?_
      refine lv_dup hx hb dX0_become_26 rfl ?_
      refine gX_particles hx hb hts hown hK hP dX0_become_27 ?_
      refine lv_iconst (v := nI 1) hx hb dX0_become_30 (by decide) ?_
      refine lv_iadd hx hb dX0_become_31 ?_
      refine pX_particles hx hb hts hown hK hP hD hS (v := pt1 + nI 1) dX0_become_32 (fun H locs hP hD hS => ?_)
      exact tail (pt1 + nI 1) H locs ls (by rw [ep, kl_b1_1 h]) hP hD hS hl
    · refine lv_icmp_ne (tgt := 35) hx hb dX0_become_22 (by decide) (fun _ => ?_) (fun hc => absurd hc (fun z => h ((kl_nk 1 (by decide) (by omega)).mp z)))
      exact tail pt1 H locs ls (by rw [ep, kl_b1_0 h, nI_0]; grind) hP hD hS hl
  refine lv_aload_n hx hb dX0_become_0 rfl (lv_at hl 0 rfl) ?_
  refine gX_states hx hb hts hown hK hP dX0_become_1 ?_
  refine lv_iload_n hx hb dX0_become_4 rfl (lv_at hl 1 rfl) ?_
  refine ldX_states hx hb hK hP (t) (ht) (v := nI (S t)) (rfl) (rfl) dX0_become_5 ?_
  refine lv_iconst (v := nI 1) hx hb dX0_become_6 (by decide) ?_
  by_cases h : S t = 1
  · refine lv_icmp_ne (tgt := 20) hx hb dX0_become_7 (by decide) (fun hc => absurd (congrArg nI h) hc) (fun _ => ?_)
    refine lv_aload_n hx hb dX0_become_10 rfl (lv_at hl 0 rfl) ?_
    refine lv_dup hx hb dX0_become_11 rfl ?_
    refine gX_particles hx hb hts hown hK hP dX0_become_12 ?_
    refine lv_iconst (v := nI 1) hx hb dX0_become_15 (by decide) ?_
    refine lv_isub hx hb dX0_become_16 ?_
    refine pX_particles hx hb hts hown hK hP hD hS (v := pt - nI 1) dX0_become_17 (fun H locs hP hD hS => ?_)
    exact mid (pt - nI 1) H locs ls (by rw [kl_b1_1 h]) hP hD hS hl
  · refine lv_icmp_ne (tgt := 20) hx hb dX0_become_7 (by decide) (fun _ => ?_) (fun hc => absurd hc (fun z => h ((kl_nk 1 (by decide) (by omega)).mp z)))
    exact mid pt s.heap [] ls (by rw [kl_b1_0 h, nI_0]; grind) hP hD hS hl
end
section
set_option maxRecDepth 100000
/-- f at x, or bad where x is no place below n -/
def kl_get (n : Nat) (f : Nat → Int32) (bad x : Int32) : Int32 := if x < 0 ∨ nI n ≤ x then bad else f x.toNatClampNeg
theorem kl_get_bad {n : Nat} {f : Nat → Int32} {bad x : Int32} (h : x < 0 ∨ nI n ≤ x) : kl_get n f bad x = bad := if_pos h
theorem kl_notin {n j : Nat} (hj : j < n) (hn : n < 2 ^ 31) : ¬ (nI j < 0 ∨ nI n ≤ nI j) := fun h => by
  rcases h with h | h
  · exact nI_pos (by omega) h
  · exact nI_ge hj hn h
theorem kl_get_at {n : Nat} {f : Nat → Int32} {bad : Int32} {j : Nat} (hj : j < n) (hn : n < 2 ^ 31) : kl_get n f bad (nI j) = f j := by
  unfold kl_get
  rw [if_neg (kl_notin hj hn), nI_clamp (by omega)]
/-- answer and new function of rate and set -/
def kl_pA (n1 n2 : Nat) (f : Nat → Nat) (x y : Int32) : Int32 := if x < 0 ∨ nI n1 ≤ x then -1 else if y < 0 ∨ nI n2 ≤ y then -2 else nI (f x.toNatClampNeg)
def kl_pF (n1 n2 : Nat) (f : Nat → Nat) (x y : Int32) : Nat → Nat := if x < 0 ∨ nI n1 ≤ x then f else if y < 0 ∨ nI n2 ≤ y then f else kl_u f x.toNatClampNeg y.toNatClampNeg
theorem kl_p1 {n1 n2 : Nat} {f : Nat → Nat} {x y : Int32} (h : x < 0 ∨ nI n1 ≤ x) : kl_pA n1 n2 f x y = -1 ∧ kl_pF n1 n2 f x y = f := ⟨if_pos h, if_pos h⟩
theorem kl_p2 {n1 n2 j : Nat} {f : Nat → Nat} {y : Int32} (hj : j < n1) (hn : n1 < 2 ^ 31) (h : y < 0 ∨ nI n2 ≤ y) : kl_pA n1 n2 f (nI j) y = -2 ∧ kl_pF n1 n2 f (nI j) y = f := by
  unfold kl_pA kl_pF
  rw [if_neg (kl_notin hj hn), if_neg (kl_notin hj hn), if_pos h, if_pos h]
  exact ⟨rfl, rfl⟩
theorem kl_p3 {n1 n2 j i : Nat} {f : Nat → Nat} (hj : j < n1) (hn : n1 < 2 ^ 31) (hi : i < n2) (hn2 : n2 < 2 ^ 31) : kl_pA n1 n2 f (nI j) (nI i) = nI (f j) ∧ kl_pF n1 n2 f (nI j) (nI i) = kl_u f j i := by
  unfold kl_pA kl_pF
  rw [if_neg (kl_notin hj hn), if_neg (kl_notin hj hn), if_neg (kl_notin hi hn2), if_neg (kl_notin hi hn2), nI_clamp (by omega), nI_clamp (by omega)]
  exact ⟨rfl, rfl⟩
theorem kl_pF_le {n1 n2 b : Nat} {f : Nat → Nat} {x y : Int32} (h1 : n1 < 2 ^ 31) (h2 : n2 < 2 ^ 31) (hb : n2 ≤ b + 1) (hf : ∀ j, j < n1 → f j ≤ b) : ∀ j, j < n1 → kl_pF n1 n2 f x y j ≤ b := by
  intro j hj
  rcases pk_ix x h1 with h | h | ⟨a, ha, rfl⟩
  · rw [(kl_p1 (Or.inl h)).2]; exact hf j hj
  · rw [(kl_p1 (Or.inr h)).2]; exact hf j hj
  · rcases pk_ix y h2 with h | h | ⟨c, hc, rfl⟩
    · rw [(kl_p2 ha h1 (Or.inl h)).2]; exact hf j hj
    · rw [(kl_p2 ha h1 (Or.inr h)).2]; exact hf j hj
    · rw [(kl_p3 ha h1 hc h2).2]
      by_cases e : j = a
      · rw [e, kl_us]; omega
      · rw [kl_un e]; exact hf j hj
/-- a place between 0 and n -/
def kl_cl (n : Nat) (x : Int32) : Nat := if x < 0 then 0 else if nI n ≤ x then n else x.toNatClampNeg
theorem kl_cl_neg {n : Nat} {x : Int32} (h : x < 0) : kl_cl n x = 0 := if_pos h
theorem kl_nlt {n : Nat} {x : Int32} (hn : n < 2 ^ 31) (h : nI n ≤ x) : ¬ x < 0 := fun z => by
  have h1 : nI n < 0 := Int32.lt_of_le_of_lt h z
  exact nI_pos hn h1
theorem kl_cl_big {n : Nat} {x : Int32} (hn : n < 2 ^ 31) (h : nI n ≤ x) : kl_cl n x = n := by
  unfold kl_cl
  rw [if_neg (kl_nlt hn h), if_pos h]
theorem kl_cl_at {n j : Nat} (hj : j < n) (hn : n < 2 ^ 31) : kl_cl n (nI j) = j := by
  unfold kl_cl
  rw [if_neg (nI_pos (by omega)), if_neg (nI_ge hj hn), nI_clamp (by omega)]
theorem kl_nle {n k : Nat} {x : Int32} (hk : k < n) (hn : n < 2 ^ 31) (h : nI n ≤ x) : ¬ x ≤ nI k := fun z => nI_ge hk hn (Int32.le_trans h z)
theorem kl_nlt' {n : Nat} {x : Int32} (h : nI n ≤ x) : ¬ x < nI n := Int32.not_lt.mpr h
/-- the rate of an event of a site -/
def kl_er (R S : Nat → Nat) (s e : Nat) : Nat := if S s = 0 then (if e = 0 then R 5 else 0) else if S s = 2 ∨ e = 0 then 0 else if e = 1 then R (kl_occ S s 4) else if S (kl_nb s (e - 2)) = 0 then R 6 else 0
def kl_es (R S : Nat → Nat) (s : Nat) : Nat → Nat
  | 0 => 0
  | e + 1 => kl_es R S s e + kl_er R S s e
theorem kl_es_mono (R S : Nat → Nat) (s : Nat) {i j : Nat} (h : i ≤ j) : kl_es R S s i ≤ kl_es R S s j := by
  induction j with
  | zero => rw [Nat.le_zero.mp h]; exact Nat.le_refl _
  | succ j ih =>
    rcases Nat.lt_or_ge j i with h1 | h1
    · rw [show i = j + 1 by omega]; exact Nat.le_refl _
    · exact Nat.le_trans (ih h1) (Nat.le_add_right _ _)
theorem kl_es1 {R S : Nat → Nat} {s : Nat} (h : S s = 1) (k : Nat) : kl_es R S s (k + 2) = R (kl_occ S s 4) + kl_emp S s k * R 6 := by
  induction k with
  | zero => simp [kl_es, kl_er, h, kl_emp]
  | succ k ih =>
    show kl_es R S s (k + 2) + kl_er R S s (k + 2) = R (kl_occ S s 4) + (kl_emp S s k + kl_b0 (S (kl_nb s k))) * R 6
    rw [ih, Nat.add_mul, ← Nat.add_assoc]
    congr 1
    unfold kl_er kl_b0
    rw [if_neg (by omega), if_neg (by omega), if_neg (by omega), show k + 2 - 2 = k by omega]
    split <;> simp
theorem kl_es0 {R S : Nat → Nat} {s : Nat} (h : S s = 0) (e : Nat) : kl_es R S s (e + 1) = R 5 := by
  induction e with
  | zero => simp [kl_es, kl_er, h]
  | succ e ih =>
    show kl_es R S s (e + 1) + kl_er R S s (e + 1) = R 5
    rw [ih]
    simp [kl_er, h]
theorem kl_es2 {R S : Nat → Nat} {s : Nat} (h : S s = 2) (e : Nat) : kl_es R S s e = 0 := by
  induction e with
  | zero => rfl
  | succ e ih =>
    show kl_es R S s e + kl_er R S s e = 0
    rw [ih]
    simp [kl_er, h]
theorem kl_es6 {R S : Nat → Nat} {s : Nat} (h : S s ≤ 2) : kl_es R S s 6 = kl_w R S s := by
  unfold kl_w
  by_cases h0 : S s = 0
  · rw [if_pos h0]; exact kl_es0 h0 5
  · by_cases h1 : S s = 1
    · rw [if_neg h0, if_pos h1]; exact kl_es1 h1 4
    · rw [if_neg h0, if_neg h1]; exact kl_es2 (by omega) 6
/-- unit r lies in event e of site s -/
def kl_isp (R S : Nat → Nat) (r s e : Nat) : Prop := s < 48 ∧ e < 6 ∧ kl_ps (kl_w R S) s + kl_es R S s e ≤ r ∧ r < kl_ps (kl_w R S) s + kl_es R S s (e + 1)
theorem kl_find (f : Nat → Nat) (h0 : f 0 = 0) (n r : Nat) (h : r < f n) : ∃ i, i < n ∧ f i ≤ r ∧ r < f (i + 1) := by
  induction n with
  | zero => omega
  | succ n ih =>
    rcases Nat.lt_or_ge r (f n) with h1 | h1
    · obtain ⟨i, a, b⟩ := ih h1
      exact ⟨i, by omega, b⟩
    · exact ⟨n, by omega, h1, h⟩
theorem kl_isp_ex {R S : Nat → Nat} (hS2 : ∀ j, j < 48 → S j ≤ 2) {r : Nat} (h : r < kl_ps (kl_w R S) 48) : ∃ q : Nat × Nat, kl_isp R S r q.1 q.2 := by
  obtain ⟨s, h1, h2, h3⟩ := kl_find (kl_ps (kl_w R S)) rfl 48 r h
  rw [kl_ps_s h1, ← kl_es6 (hS2 s h1)] at h3
  obtain ⟨e, h4, h5, h6⟩ := kl_find (kl_es R S s) rfl 6 (r - kl_ps (kl_w R S) s) (by omega)
  exact ⟨(s, e), h1, h4, by show kl_ps (kl_w R S) s + kl_es R S s e ≤ r; omega, by show r < kl_ps (kl_w R S) s + kl_es R S s (e + 1); omega⟩
noncomputable def kl_pk (R S : Nat → Nat) (r : Nat) : Nat × Nat := Classical.epsilon (fun q : Nat × Nat => kl_isp R S r q.1 q.2)
theorem kl_pk_sp {R S : Nat → Nat} (hS2 : ∀ j, j < 48 → S j ≤ 2) {r : Nat} (h : r < kl_ps (kl_w R S) 48) : kl_isp R S r (kl_pk R S r).1 (kl_pk R S r).2 := Classical.epsilon_spec (kl_isp_ex hS2 h)
/-- what an event does -/
def kl_kd (e : Nat) : Nat := if e < 2 then e else 2
def kl_hS (S : Nat → Nat) (s e : Nat) : Nat → Nat := if e = 0 then kl_u S s 1 else if e = 1 then kl_u S s 0 else kl_u (kl_u S s 0) (kl_nb s (e - 2)) 1
def kl_hE (E : Nat → Int32) (e : Nat) : Nat → Int32 := fun j => if j = kl_kd e then E (kl_kd e) + nI 1 else E j
def kl_hA (s e : Nat) : Int32 := nI (s + 64 * kl_kd e + (if e < 2 then 0 else 256 * (e - 2)))
theorem kl_u_le {S : Nat → Nat} {t x b : Nat} (h : ∀ j, j < 48 → S j ≤ b) (hx : x ≤ b) : ∀ j, j < 48 → kl_u S t x j ≤ b := by
  intro j hj
  by_cases e : j = t
  · rw [e, kl_us]; exact hx
  · rw [kl_un e]; exact h j hj
theorem kl_hS_le {S : Nat → Nat} {s e : Nat} (h : ∀ j, j < 48 → S j ≤ 2) : ∀ j, j < 48 → kl_hS S s e j ≤ 2 := by
  unfold kl_hS
  split
  · exact kl_u_le h (by decide)
  · split
    · exact kl_u_le h (by decide)
    · exact kl_u_le (kl_u_le h (by decide)) (by decide)
/-- step's answer, states, events -/
noncomputable def kl_tA (R S : Nat → Nat) (x : Int32) : Int32 := if x < 0 ∨ nI (kl_ps (kl_w R S) 48) ≤ x then -3 else kl_hA (kl_pk R S x.toNatClampNeg).1 (kl_pk R S x.toNatClampNeg).2
noncomputable def kl_tS (R S : Nat → Nat) (x : Int32) : Nat → Nat := if x < 0 ∨ nI (kl_ps (kl_w R S) 48) ≤ x then S else kl_hS S (kl_pk R S x.toNatClampNeg).1 (kl_pk R S x.toNatClampNeg).2
noncomputable def kl_tE (R S : Nat → Nat) (E : Nat → Int32) (x : Int32) : Nat → Int32 := if x < 0 ∨ nI (kl_ps (kl_w R S) 48) ≤ x then E else kl_hE E (kl_pk R S x.toNatClampNeg).2
theorem kl_t1 {R S : Nat → Nat} {E : Nat → Int32} {x : Int32} (h : x < 0 ∨ nI (kl_ps (kl_w R S) 48) ≤ x) : kl_tA R S x = -3 ∧ kl_tS R S x = S ∧ kl_tE R S E x = E := ⟨if_pos h, if_pos h, if_pos h⟩
theorem kl_t2 {R S : Nat → Nat} {E : Nat → Int32} {r : Nat} (hS2 : ∀ j, j < 48 → S j ≤ 2) (hb : kl_ps (kl_w R S) 48 < 2 ^ 31) (h : r < kl_ps (kl_w R S) 48) : ∃ s e, kl_isp R S r s e ∧ kl_tA R S (nI r) = kl_hA s e ∧ kl_tS R S (nI r) = kl_hS S s e ∧ kl_tE R S E (nI r) = kl_hE E e := by
  refine ⟨(kl_pk R S r).1, (kl_pk R S r).2, kl_pk_sp hS2 h, ?_, ?_, ?_⟩
  · unfold kl_tA
    rw [if_neg (kl_notin h hb), nI_clamp (by omega)]
  · unfold kl_tS
    rw [if_neg (kl_notin h hb), nI_clamp (by omega)]
  · unfold kl_tE
    rw [if_neg (kl_notin h hb), nI_clamp (by omega)]
theorem kl_tS_le {R S : Nat → Nat} {x : Int32} (h : ∀ j, j < 48 → S j ≤ 2) : ∀ j, j < 48 → kl_tS R S x j ≤ 2 := by
  unfold kl_tS
  split
  · exact h
  · exact kl_hS_le h
/-- bounds: no rate above 1000 -/
theorem kl_w_le {R S : Nat → Nat} (hR : ∀ k, k < 7 → R k ≤ 1000) (s : Nat) : kl_w R S s ≤ 5000 := by
  unfold kl_w
  have h5 := hR 5 (by decide)
  have h6 := hR 6 (by decide)
  have ho := hR (kl_occ S s 4) (Nat.lt_of_le_of_lt (kl_occ_le S s 4) (by decide))
  have he := kl_emp_le S s 4
  have hm : kl_emp S s 4 * R 6 ≤ 4 * 1000 := Nat.mul_le_mul he h6
  split
  · omega
  · split <;> omega
theorem kl_ps_le {R S : Nat → Nat} (hR : ∀ k, k < 7 → R k ≤ 1000) (n : Nat) : kl_ps (kl_w R S) n ≤ n * 5000 := by
  induction n with
  | zero => exact Nat.le_refl _
  | succ n ih =>
    have := kl_w_le (S := S) hR n
    show kl_ps (kl_w R S) n + (if n < 48 then kl_w R S n else 0) ≤ _
    split <;> omega
theorem kl_ps_bd {R S : Nat → Nat} (hR : ∀ k, k < 7 → R k ≤ 1000) : kl_ps (kl_w R S) 48 < 2 ^ 31 := Nat.lt_of_le_of_lt (kl_ps_le hR 48) (by decide)
theorem kl_ps_bd64 {R S : Nat → Nat} (hR : ∀ k, k < 7 → R k ≤ 1000) : kl_ps (kl_w R S) 64 < 2 ^ 31 := Nat.lt_of_le_of_lt (kl_ps_le hR 64) (by decide)
theorem kl_cntI {S : Nat → Nat} {t x : Nat} (ht : t < 48) : nI (kl_cnt S 48) - nI (kl_b1 (S t)) + nI (kl_b1 x) = nI (kl_cnt (kl_u S t x) 48) := by
  have h := kl_cnt_u (S := S) (s := t) (t := x) 48
  rw [if_pos ht, if_pos ht] at h
  have h2 : nI (kl_cnt (kl_u S t x) 48) + nI (kl_b1 (S t)) = nI (kl_cnt S 48) + nI (kl_b1 x) := by rw [nI_add, nI_add, h]
  grind
/-- the world of a KineticLattice between two calls -/
abbrev kl_X (ad : Nat → Nat) (d : ClassId) (R S : Nat → Nat) (E : Nat → Int32) : va_W := kl_XX ad d R S (nI (kl_cnt S 48)) E
/-- run: (states, events, seed, made) -/
abbrev kl_Q : Type := (Nat → Nat) × (Nat → Int32) × Int32 × Nat
def kl_lcg (x : Int32) : Int32 := x * 1103515245 + nI 12345
def kl_ar (x : Int32) (tot : Int32) : Int32 := ((x.toUInt32 >>> ((nI 8).toUInt32 &&& Int32.toUInt32 31)).toInt32 &&& 1048575) - ((x.toUInt32 >>> ((nI 8).toUInt32 &&& Int32.toUInt32 31)).toInt32 &&& 1048575) / tot * tot
noncomputable def kl_i1 (R : Nat → Nat) (q : kl_Q) : kl_Q := if 0 < kl_ps (kl_w R q.1) 48 then (kl_tS R q.1 (kl_ar (kl_lcg q.2.2.1) (nI (kl_ps (kl_w R q.1) 48))), kl_tE R q.1 q.2.1 (kl_ar (kl_lcg q.2.2.1) (nI (kl_ps (kl_w R q.1) 48))), kl_lcg q.2.2.1, q.2.2.2 + 1) else q
noncomputable def kl_it (R : Nat → Nat) (q : kl_Q) : Nat → kl_Q
  | 0 => q
  | n + 1 => kl_i1 R (kl_it R q n)
theorem kl_i1_le {R : Nat → Nat} {q : kl_Q} (h : ∀ j, j < 48 → q.1 j ≤ 2) : ∀ j, j < 48 → (kl_i1 R q).1 j ≤ 2 := by
  unfold kl_i1
  split
  · exact kl_tS_le h
  · exact h
theorem kl_it_le {R : Nat → Nat} {q : kl_Q} (h : ∀ j, j < 48 → q.1 j ≤ 2) (n : Nat) : ∀ j, j < 48 → (kl_it R q n).1 j ≤ 2 := by
  induction n with
  | zero => exact h
  | succ n ih => exact kl_i1_le ih
end
section
theorem kl_clr (S : Nat → Nat) (k j : Nat) : (if j = k then nI 0 else nI (if j < k then 0 else S j)) = nI (if j < k + 1 then 0 else S j) := by
  rcases Nat.lt_trichotomy j k with h | h | h
  · rw [if_neg (by omega), if_pos h, if_pos (by omega)]
  · rw [if_pos h, if_pos (by omega)]
  · rw [if_neg (by omega), if_neg (by omega), if_neg (by omega)]
set_option maxHeartbeats 4000000 in
set_option maxRecDepth 100000 in
theorem mX_state (l : Launch) (D : va_G) (d : ClassId) (ad : Nat → Nat) (R S : Nat → Nat) (E : Nat → Int32) (x : Int32) : kl_CI l yX0_state cX0_state 2 (kl_rm 0 0) D d [.ref (ad 0), .int x] (kl_X ad d R S E) (kl_get 48 (fun j => nI (S j)) (-1) x) (kl_X ad d R S E) := by
  refine kl_CI.of (by decide) (Nat.le_of_ble_eq_true rfl) ?_
  intro p e s m args below meth c A Q ls hx hb hml hown hts hA hK hP hD hS ret hl
  have hl : lv_has ls 2 [(0, .ref (ad 0)), (1, .int x)] := hl
  rcases pk_ix x (n := 48) (by decide) with h | h | ⟨j, hj, rfl⟩
  · refine lv_iload_n hx hb dX0_state_0 rfl (lv_at hl 1 rfl) ?_
    refine lv_if_lt (tgt := 10) hx hb dX0_state_1 (by decide) (fun _ => ?_) (fun hc => absurd (h) hc)
    refine lv_iconst (v := (-1)) hx hb dX0_state_10 (by decide) ?_
    refine lv_goto (tgt := 20) hx hb dX0_state_11 (by decide) ?_
    exact ret _ _ _ _ _ (hP) (hD) hS dX0_state_20 ((kl_get_bad (Or.inl h)).symm)
  · refine lv_iload_n hx hb dX0_state_0 rfl (lv_at hl 1 rfl) ?_
    refine lv_if_lt (tgt := 10) hx hb dX0_state_1 (by decide) (fun hc => absurd hc (kl_nlt (by decide) h)) (fun _ => ?_)
    refine lv_iload_n hx hb dX0_state_4 rfl (lv_at hl 1 rfl) ?_
    refine lv_bipush (v := nI 48) hx hb dX0_state_5 (by decide) ?_
    refine lv_icmp_lt (tgt := 14) hx hb dX0_state_7 (by decide) (fun hc => absurd hc (kl_nlt' h)) (fun _ => ?_)
    refine lv_iconst (v := (-1)) hx hb dX0_state_10 (by decide) ?_
    refine lv_goto (tgt := 20) hx hb dX0_state_11 (by decide) ?_
    exact ret _ _ _ _ _ (hP) (hD) hS dX0_state_20 ((kl_get_bad (Or.inr h)).symm)
  · refine lv_iload_n hx hb dX0_state_0 rfl (lv_at hl 1 rfl) ?_
    refine lv_if_lt (tgt := 10) hx hb dX0_state_1 (by decide) (fun hc => absurd hc (nI_pos (by omega))) (fun _ => ?_)
    refine lv_iload_n hx hb dX0_state_4 rfl (lv_at hl 1 rfl) ?_
    refine lv_bipush (v := nI 48) hx hb dX0_state_5 (by decide) ?_
    refine lv_icmp_lt (tgt := 14) hx hb dX0_state_7 (by decide) (fun _ => ?_) (fun hc => absurd (nI_lt hj (by decide)) hc)
    refine lv_aload_n hx hb dX0_state_14 rfl (lv_at hl 0 rfl) ?_
    refine gX_states hx hb hts hown hK hP dX0_state_15 ?_
    refine lv_iload_n hx hb dX0_state_18 rfl (lv_at hl 1 rfl) ?_
    refine ldX_states hx hb hK hP (j) (hj) (v := nI (S j)) (rfl) (rfl) dX0_state_19 ?_
    exact ret _ _ _ _ _ (hP) (hD) hS dX0_state_20 (by rw [kl_get_at hj (by decide)])
set_option maxHeartbeats 4000000 in
set_option maxRecDepth 100000 in
theorem mX_siteRate (l : Launch) (D : va_G) (d : ClassId) (ad : Nat → Nat) (R S : Nat → Nat) (E : Nat → Int32) (x : Int32) : kl_CI l yX0_siteRate cX0_siteRate 2 (kl_rm 0 0) D d [.ref (ad 0), .int x] (kl_X ad d R S E) (kl_get 48 (fun j => nI (kl_w R S j)) (-1) x) (kl_X ad d R S E) := by
  refine kl_CI.of (by decide) (Nat.le_of_ble_eq_true rfl) ?_
  intro p e s m args below meth c A Q ls hx hb hml hown hts hA hK hP hD hS ret hl
  have hl : lv_has ls 2 [(0, .ref (ad 0)), (1, .int x)] := hl
  rcases pk_ix x (n := 48) (by decide) with h | h | ⟨j, hj, rfl⟩
  · refine lv_iload_n hx hb dX0_siteRate_0 rfl (lv_at hl 1 rfl) ?_
    refine lv_if_lt (tgt := 10) hx hb dX0_siteRate_1 (by decide) (fun _ => ?_) (fun hc => absurd (h) hc)
    refine lv_iconst (v := (-1)) hx hb dX0_siteRate_10 (by decide) ?_
    refine lv_goto (tgt := 20) hx hb dX0_siteRate_11 (by decide) ?_
    exact ret _ _ _ _ _ (hP) (hD) hS dX0_siteRate_20 ((kl_get_bad (Or.inl h)).symm)
  · refine lv_iload_n hx hb dX0_siteRate_0 rfl (lv_at hl 1 rfl) ?_
    refine lv_if_lt (tgt := 10) hx hb dX0_siteRate_1 (by decide) (fun hc => absurd hc (kl_nlt (by decide) h)) (fun _ => ?_)
    refine lv_iload_n hx hb dX0_siteRate_4 rfl (lv_at hl 1 rfl) ?_
    refine lv_bipush (v := nI 48) hx hb dX0_siteRate_5 (by decide) ?_
    refine lv_icmp_lt (tgt := 14) hx hb dX0_siteRate_7 (by decide) (fun hc => absurd hc (kl_nlt' h)) (fun _ => ?_)
    refine lv_iconst (v := (-1)) hx hb dX0_siteRate_10 (by decide) ?_
    refine lv_goto (tgt := 20) hx hb dX0_siteRate_11 (by decide) ?_
    exact ret _ _ _ _ _ (hP) (hD) hS dX0_siteRate_20 ((kl_get_bad (Or.inr h)).symm)
  · refine lv_iload_n hx hb dX0_siteRate_0 rfl (lv_at hl 1 rfl) ?_
    refine lv_if_lt (tgt := 10) hx hb dX0_siteRate_1 (by decide) (fun hc => absurd hc (nI_pos (by omega))) (fun _ => ?_)
    refine lv_iload_n hx hb dX0_siteRate_4 rfl (lv_at hl 1 rfl) ?_
    refine lv_bipush (v := nI 48) hx hb dX0_siteRate_5 (by decide) ?_
    refine lv_icmp_lt (tgt := 14) hx hb dX0_siteRate_7 (by decide) (fun _ => ?_) (fun hc => absurd (nI_lt hj (by decide)) hc)
    refine lv_aload_n hx hb dX0_siteRate_14 rfl (lv_at hl 0 rfl) ?_
    refine gX_sum hx hb hts hown hK hP dX0_siteRate_15 ?_
    refine lv_iload_n hx hb dX0_siteRate_18 rfl (lv_at hl 1 rfl) ?_
    refine ldX_sum hx hb hK hP (j) (hj) (v := nI (kl_w R S j)) (rfl) (rfl) dX0_siteRate_19 ?_
    exact ret _ _ _ _ _ (hP) (hD) hS dX0_siteRate_20 (by rw [kl_get_at hj (by decide)])
set_option maxHeartbeats 4000000 in
set_option maxRecDepth 100000 in
theorem mX_happened (l : Launch) (D : va_G) (d : ClassId) (ad : Nat → Nat) (R S : Nat → Nat) (E : Nat → Int32) (x : Int32) : kl_CI l yX0_happened cX0_happened 2 (kl_rm 0 0) D d [.ref (ad 0), .int x] (kl_X ad d R S E) (kl_get 3 (E) (nI 0) x) (kl_X ad d R S E) := by
  refine kl_CI.of (by decide) (Nat.le_of_ble_eq_true rfl) ?_
  intro p e s m args below meth c A Q ls hx hb hml hown hts hA hK hP hD hS ret hl
  have hl : lv_has ls 2 [(0, .ref (ad 0)), (1, .int x)] := hl
  rcases pk_ix x (n := 3) (by decide) with h | h | ⟨j, hj, rfl⟩
  · refine lv_iload_n hx hb dX0_happened_0 rfl (lv_at hl 1 rfl) ?_
    refine lv_if_lt (tgt := 9) hx hb dX0_happened_1 (by decide) (fun _ => ?_) (fun hc => absurd (h) hc)
    refine lv_iconst (v := nI 0) hx hb dX0_happened_9 (by decide) ?_
    refine lv_goto (tgt := 19) hx hb dX0_happened_10 (by decide) ?_
    exact ret _ _ _ _ _ (hP) (hD) hS dX0_happened_19 ((kl_get_bad (Or.inl h)).symm)
  · refine lv_iload_n hx hb dX0_happened_0 rfl (lv_at hl 1 rfl) ?_
    refine lv_if_lt (tgt := 9) hx hb dX0_happened_1 (by decide) (fun hc => absurd hc (kl_nlt (by decide) h)) (fun _ => ?_)
    refine lv_iload_n hx hb dX0_happened_4 rfl (lv_at hl 1 rfl) ?_
    refine lv_iconst (v := nI 2) hx hb dX0_happened_5 (by decide) ?_
    refine lv_icmp_le (tgt := 13) hx hb dX0_happened_6 (by decide) (fun hc => absurd hc (kl_nle (by decide) (by decide) h)) (fun _ => ?_)
    refine lv_iconst (v := nI 0) hx hb dX0_happened_9 (by decide) ?_
    refine lv_goto (tgt := 19) hx hb dX0_happened_10 (by decide) ?_
    exact ret _ _ _ _ _ (hP) (hD) hS dX0_happened_19 ((kl_get_bad (Or.inr h)).symm)
  · refine lv_iload_n hx hb dX0_happened_0 rfl (lv_at hl 1 rfl) ?_
    refine lv_if_lt (tgt := 9) hx hb dX0_happened_1 (by decide) (fun hc => absurd hc (nI_pos (by omega))) (fun _ => ?_)
    refine lv_iload_n hx hb dX0_happened_4 rfl (lv_at hl 1 rfl) ?_
    refine lv_iconst (v := nI 2) hx hb dX0_happened_5 (by decide) ?_
    refine lv_icmp_le (tgt := 13) hx hb dX0_happened_6 (by decide) (fun _ => ?_) (fun hc => absurd (nI_le (by omega) (by decide)) hc)
    refine lv_aload_n hx hb dX0_happened_13 rfl (lv_at hl 0 rfl) ?_
    refine gX_events hx hb hts hown hK hP dX0_happened_14 ?_
    refine lv_iload_n hx hb dX0_happened_17 rfl (lv_at hl 1 rfl) ?_
    refine ldX_events hx hb hK hP (j) (hj) (v := E j) (rfl) (rfl) dX0_happened_18 ?_
    exact ret _ _ _ _ _ (hP) (hD) hS dX0_happened_19 (by rw [kl_get_at hj (by decide)])
set_option maxHeartbeats 4000000 in
set_option maxRecDepth 100000 in
theorem mX_total (l : Launch) (D : va_G) (d : ClassId) (ad : Nat → Nat) (R S : Nat → Nat) (E : Nat → Int32)  : kl_CI l yX0_total cX0_total 1 (kl_rm 1 23) D d [.ref (ad 0)] (kl_X ad d R S E) (nI (kl_ps (kl_w R S) 48)) (kl_X ad d R S E) := by
  refine kl_CI.of (by decide) (Nat.le_of_ble_eq_true rfl) ?_
  intro p e s m args below meth c A Q ls hx hb hml hown hts hA hK hP hD hS ret hl
  have hl : lv_has ls 1 [(0, .ref (ad 0))] := hl
  refine lv_aload_n hx hb dX0_total_0 rfl (lv_at hl 0 rfl) ?_
  refine lv_bipush (v := nI 48) hx hb dX0_total_1 (by decide) ?_
  refine kl_CI.call (C := (RX0, TX0, 7)) (As := [.int (nI 48)]) (rest := []) (mX_prefix l D d ad _ _ _ _ (kl_w R S) _ _ 48 (by decide)) ⟨hx, hb, hml, hown, hts⟩ (cwX0_prefix hts rfl rfl ⟨Nat.le_of_ble_eq_true rfl, Nat.le_of_ble_eq_true rfl⟩) (ci := 0) rfl rfl hK hP hD hS hA rfl hl.1 rfl (Nat.le_of_ble_eq_true rfl) dX0_total_3 ⟨Nat.zero_le _, Nat.zero_le _⟩ (fun H locs hP hD hS => ?_)
  exact ret _ _ _ _ _ (hP) (hD) hS dX0_total_6 (rfl)
set_option maxHeartbeats 4000000 in
set_option maxRecDepth 100000 in
theorem mX_occupied (l : Launch) (D : va_G) (d : ClassId) (ad : Nat → Nat) (R S : Nat → Nat) (E : Nat → Int32)  : kl_CI l yX0_occupied cX0_occupied 1 (kl_rm 0 0) D d [.ref (ad 0)] (kl_X ad d R S E) (nI (kl_cnt S 48)) (kl_X ad d R S E) := by
  refine kl_CI.of (by decide) (Nat.le_of_ble_eq_true rfl) ?_
  intro p e s m args below meth c A Q ls hx hb hml hown hts hA hK hP hD hS ret hl
  have hl : lv_has ls 1 [(0, .ref (ad 0))] := hl
  refine lv_aload_n hx hb dX0_occupied_0 rfl (lv_at hl 0 rfl) ?_
  refine gX_particles hx hb hts hown hK hP dX0_occupied_1 ?_
  exact ret _ _ _ _ _ (hP) (hD) hS dX0_occupied_4 (rfl)
set_option maxHeartbeats 4000000 in
set_option maxRecDepth 100000 in
theorem mX_before (l : Launch) (D : va_G) (d : ClassId) (ad : Nat → Nat) (R S : Nat → Nat) (E : Nat → Int32) (x : Int32) : kl_CI l yX0_before cX0_before 3 (kl_rm 1 23) D d [.ref (ad 0), .int x] (kl_X ad d R S E) (nI (kl_ps (kl_w R S) (kl_cl 48 x))) (kl_X ad d R S E) := by
  refine kl_CI.of (by decide) (Nat.le_of_ble_eq_true rfl) ?_
  intro p e s m args below meth c A Q ls hx hb hml hown hts hA hK hP hD hS ret hl
  have hl : lv_has ls 3 [(0, .ref (ad 0)), (1, .int x)] := hl
  rcases pk_ix x (n := 48) (by decide) with h | h | ⟨j, hj, rfl⟩
  · refine lv_iload_n hx hb dX0_before_0 rfl (lv_at hl 1 rfl) ?_
    refine lv_istore_n (lv' := [(2, .int x), (0, .ref (ad 0)), (1, .int x)]) hx hb dX0_before_1 rfl hl (by decide) rfl (fun ls hl => ?_)
    refine lv_iload_n hx hb dX0_before_2 rfl (lv_at hl 0 rfl) ?_
    refine lv_if_ge (tgt := 8) hx hb dX0_before_3 (by decide) (fun hc => absurd hc (Int32.not_le.mpr h)) (fun _ => ?_)
    refine lv_iconst (v := nI 0) hx hb dX0_before_6 (by decide) ?_
    refine lv_istore_n (lv' := [(2, .int (nI 0)), (0, .ref (ad 0)), (1, .int x)]) hx hb dX0_before_7 rfl hl (by decide) rfl (fun ls hl => ?_)
    refine lv_iload_n hx hb dX0_before_8 rfl (lv_at hl 0 rfl) ?_
    refine lv_bipush (v := nI 48) hx hb dX0_before_9 (by decide) ?_
    refine lv_icmp_le (tgt := 17) hx hb dX0_before_11 (by decide) (fun _ => ?_) (fun hc => absurd (by decide) hc)
    refine lv_aload_n hx hb dX0_before_17 rfl (lv_at hl 1 rfl) ?_
    refine lv_iload_n hx hb dX0_before_18 rfl (lv_at hl 0 rfl) ?_
    refine kl_CI.call (C := (RX0, TX0, 7)) (As := [.int (nI 0)]) (rest := []) (mX_prefix l D d ad _ _ _ _ (kl_w R S) _ _ (0) (by decide)) ⟨hx, hb, hml, hown, hts⟩ (cwX0_prefix hts rfl rfl ⟨Nat.le_of_ble_eq_true rfl, Nat.le_of_ble_eq_true rfl⟩) (ci := 0) rfl rfl hK hP hD hS hA rfl hl.1 rfl (Nat.le_of_ble_eq_true rfl) dX0_before_19 ⟨Nat.zero_le _, Nat.zero_le _⟩ (fun H locs hP hD hS => ?_)
    exact ret _ _ _ _ _ (hP) (hD) hS dX0_before_22 (by rw [kl_cl_neg h])
  · refine lv_iload_n hx hb dX0_before_0 rfl (lv_at hl 1 rfl) ?_
    refine lv_istore_n (lv' := [(2, .int x), (0, .ref (ad 0)), (1, .int x)]) hx hb dX0_before_1 rfl hl (by decide) rfl (fun ls hl => ?_)
    refine lv_iload_n hx hb dX0_before_2 rfl (lv_at hl 0 rfl) ?_
    refine lv_if_ge (tgt := 8) hx hb dX0_before_3 (by decide) (fun _ => ?_) (fun hc => absurd (Int32.not_lt.mp (kl_nlt (by decide) h)) hc)
    refine lv_iload_n hx hb dX0_before_8 rfl (lv_at hl 0 rfl) ?_
    refine lv_bipush (v := nI 48) hx hb dX0_before_9 (by decide) ?_
    refine lv_icmp_le (tgt := 17) hx hb dX0_before_11 (by decide) (fun hc => ?_) (fun hc => ?_)
    · have e1 : x = nI 48 := Int32.le_antisymm hc h
      subst e1
      refine lv_aload_n hx hb dX0_before_17 rfl (lv_at hl 1 rfl) ?_
      refine lv_iload_n hx hb dX0_before_18 rfl (lv_at hl 0 rfl) ?_
      refine kl_CI.call (C := (RX0, TX0, 7)) (As := [.int (nI 48)]) (rest := []) (mX_prefix l D d ad _ _ _ _ (kl_w R S) _ _ (48) (by decide)) ⟨hx, hb, hml, hown, hts⟩ (cwX0_prefix hts rfl rfl ⟨Nat.le_of_ble_eq_true rfl, Nat.le_of_ble_eq_true rfl⟩) (ci := 0) rfl rfl hK hP hD hS hA rfl hl.1 rfl (Nat.le_of_ble_eq_true rfl) dX0_before_19 ⟨Nat.zero_le _, Nat.zero_le _⟩ (fun H locs hP hD hS => ?_)
      exact ret _ _ _ _ _ (hP) (hD) hS dX0_before_22 (by rw [kl_cl_big (by decide) h])
    · refine lv_bipush (v := nI 48) hx hb dX0_before_14 (by decide) ?_
      refine lv_istore_n (lv' := [(2, .int (nI 48)), (0, .ref (ad 0)), (1, .int x)]) hx hb dX0_before_16 rfl hl (by decide) rfl (fun ls hl => ?_)
      refine lv_aload_n hx hb dX0_before_17 rfl (lv_at hl 1 rfl) ?_
      refine lv_iload_n hx hb dX0_before_18 rfl (lv_at hl 0 rfl) ?_
      refine kl_CI.call (C := (RX0, TX0, 7)) (As := [.int (nI 48)]) (rest := []) (mX_prefix l D d ad _ _ _ _ (kl_w R S) _ _ (48) (by decide)) ⟨hx, hb, hml, hown, hts⟩ (cwX0_prefix hts rfl rfl ⟨Nat.le_of_ble_eq_true rfl, Nat.le_of_ble_eq_true rfl⟩) (ci := 0) rfl rfl hK hP hD hS hA rfl hl.1 rfl (Nat.le_of_ble_eq_true rfl) dX0_before_19 ⟨Nat.zero_le _, Nat.zero_le _⟩ (fun H locs hP hD hS => ?_)
      exact ret _ _ _ _ _ (hP) (hD) hS dX0_before_22 (by rw [kl_cl_big (by decide) h])
  · refine lv_iload_n hx hb dX0_before_0 rfl (lv_at hl 1 rfl) ?_
    refine lv_istore_n (lv' := [(2, .int (nI j)), (0, .ref (ad 0)), (1, .int (nI j))]) hx hb dX0_before_1 rfl hl (by decide) rfl (fun ls hl => ?_)
    refine lv_iload_n hx hb dX0_before_2 rfl (lv_at hl 0 rfl) ?_
    refine lv_if_ge (tgt := 8) hx hb dX0_before_3 (by decide) (fun _ => ?_) (fun hc => absurd (nI_pos' (by omega)) hc)
    refine lv_iload_n hx hb dX0_before_8 rfl (lv_at hl 0 rfl) ?_
    refine lv_bipush (v := nI 48) hx hb dX0_before_9 (by decide) ?_
    refine lv_icmp_le (tgt := 17) hx hb dX0_before_11 (by decide) (fun _ => ?_) (fun hc => absurd (nI_le (by omega) (by decide)) hc)
    refine lv_aload_n hx hb dX0_before_17 rfl (lv_at hl 1 rfl) ?_
    refine lv_iload_n hx hb dX0_before_18 rfl (lv_at hl 0 rfl) ?_
    refine kl_CI.call (C := (RX0, TX0, 7)) (As := [.int (nI j)]) (rest := []) (mX_prefix l D d ad _ _ _ _ (kl_w R S) _ _ (j) (by omega)) ⟨hx, hb, hml, hown, hts⟩ (cwX0_prefix hts rfl rfl ⟨Nat.le_of_ble_eq_true rfl, Nat.le_of_ble_eq_true rfl⟩) (ci := 0) rfl rfl hK hP hD hS hA rfl hl.1 rfl (Nat.le_of_ble_eq_true rfl) dX0_before_19 ⟨Nat.zero_le _, Nat.zero_le _⟩ (fun H locs hP hD hS => ?_)
    exact ret _ _ _ _ _ (hP) (hD) hS dX0_before_22 (by rw [kl_cl_at hj (by decide)])
set_option maxHeartbeats 4000000 in
set_option maxRecDepth 100000 in
theorem mX_rate (l : Launch) (D : va_G) (d : ClassId) (ad : Nat → Nat) (R S : Nat → Nat) (E : Nat → Int32) (hS2 : ∀ j, j < 48 → S j ≤ 2) (x y : Int32) : kl_CI l yX0_rate cX0_rate 4 (kl_rm 4 90) D d [.ref (ad 0), .int x, .int y] (kl_X ad d R S E) (kl_pA 7 1001 R x y) (kl_X ad d (kl_pF 7 1001 R x y) S E) := by
  refine kl_CI.of (by decide) (Nat.le_of_ble_eq_true rfl) ?_
  intro p e s m args below meth c A Q ls hx hb hml hown hts hA hK hP hD hS ret hl
  have hl : lv_has ls 4 [(0, .ref (ad 0)), (1, .int x), (2, .int y)] := hl
  rcases pk_ix x (n := 7) (by decide) with h | h | ⟨j, hj, rfl⟩
  · obtain ⟨e1, e2⟩ := kl_p1 (n1 := 7) (n2 := 1001) (f := R) (y := y) (Or.inl h)
    rw [e1, e2] at ret
    refine lv_iload_n hx hb dX0_rate_0 rfl (lv_at hl 1 rfl) ?_
    refine lv_if_lt (tgt := 10) hx hb dX0_rate_1 (by decide) (fun _ => ?_) (fun hc => absurd (h) hc)
    refine lv_iconst (v := (-1)) hx hb dX0_rate_10 (by decide) ?_
    exact ret _ _ _ _ _ (hP) (hD) hS dX0_rate_11 (rfl)
  · obtain ⟨e1, e2⟩ := kl_p1 (n1 := 7) (n2 := 1001) (f := R) (y := y) (Or.inr h)
    rw [e1, e2] at ret
    refine lv_iload_n hx hb dX0_rate_0 rfl (lv_at hl 1 rfl) ?_
    refine lv_if_lt (tgt := 10) hx hb dX0_rate_1 (by decide) (fun hc => absurd hc (kl_nlt (by decide) h)) (fun _ => ?_)
    refine lv_iload_n hx hb dX0_rate_4 rfl (lv_at hl 1 rfl) ?_
    refine lv_bipush (v := nI 6) hx hb dX0_rate_5 (by decide) ?_
    refine lv_icmp_le (tgt := 12) hx hb dX0_rate_7 (by decide) (fun hc => absurd hc (kl_nle (by decide) (by decide) h)) (fun _ => ?_)
    refine lv_iconst (v := (-1)) hx hb dX0_rate_10 (by decide) ?_
    exact ret _ _ _ _ _ (hP) (hD) hS dX0_rate_11 (rfl)
  · refine lv_iload_n hx hb dX0_rate_0 rfl (lv_at hl 1 rfl) ?_
    refine lv_if_lt (tgt := 10) hx hb dX0_rate_1 (by decide) (fun hc => absurd hc (nI_pos (by omega))) (fun _ => ?_)
    refine lv_iload_n hx hb dX0_rate_4 rfl (lv_at hl 1 rfl) ?_
    refine lv_bipush (v := nI 6) hx hb dX0_rate_5 (by decide) ?_
    refine lv_icmp_le (tgt := 12) hx hb dX0_rate_7 (by decide) (fun _ => ?_) (fun hc => absurd (nI_le (by omega) (by decide)) hc)
    rcases pk_ix y (n := 1001) (by decide) with h | h | ⟨i, hi, rfl⟩
    · obtain ⟨e1, e2⟩ := kl_p2 (n1 := 7) (n2 := 1001) (f := R) (y := y) hj (by decide) (Or.inl h)
      rw [e1, e2] at ret
      refine lv_iload_n hx hb dX0_rate_12 rfl (lv_at hl 2 rfl) ?_
      refine lv_if_lt (tgt := 23) hx hb dX0_rate_13 (by decide) (fun _ => ?_) (fun hc => absurd (h) hc)
      refine lv_bipush (v := (-2)) hx hb dX0_rate_23 (by decide) ?_
      exact ret _ _ _ _ _ (hP) (hD) hS dX0_rate_25 (rfl)
    · obtain ⟨e1, e2⟩ := kl_p2 (n1 := 7) (n2 := 1001) (f := R) (y := y) hj (by decide) (Or.inr h)
      rw [e1, e2] at ret
      refine lv_iload_n hx hb dX0_rate_12 rfl (lv_at hl 2 rfl) ?_
      refine lv_if_lt (tgt := 23) hx hb dX0_rate_13 (by decide) (fun hc => absurd hc (kl_nlt (by decide) h)) (fun _ => ?_)
      refine lv_iload_n hx hb dX0_rate_16 rfl (lv_at hl 2 rfl) ?_
      refine lv_sipush (v := nI 1000) hx hb dX0_rate_17 (by decide) ?_
      refine lv_icmp_le (tgt := 26) hx hb dX0_rate_20 (by decide) (fun hc => absurd hc (kl_nle (by decide) (by decide) h)) (fun _ => ?_)
      refine lv_bipush (v := (-2)) hx hb dX0_rate_23 (by decide) ?_
      exact ret _ _ _ _ _ (hP) (hD) hS dX0_rate_25 (rfl)
    · obtain ⟨e1, e2⟩ := kl_p3 (n1 := 7) (n2 := 1001) (f := R) hj (by decide) hi (by decide)
      rw [e1, e2] at ret
      refine lv_iload_n hx hb dX0_rate_12 rfl (lv_at hl 2 rfl) ?_
      refine lv_if_lt (tgt := 23) hx hb dX0_rate_13 (by decide) (fun hc => absurd hc (nI_pos (by omega))) (fun _ => ?_)
      refine lv_iload_n hx hb dX0_rate_16 rfl (lv_at hl 2 rfl) ?_
      refine lv_sipush (v := nI 1000) hx hb dX0_rate_17 (by decide) ?_
      refine lv_icmp_le (tgt := 26) hx hb dX0_rate_20 (by decide) (fun _ => ?_) (fun hc => absurd (nI_le (by omega) (by decide)) hc)
      refine lv_aload_n hx hb dX0_rate_26 rfl (lv_at hl 0 rfl) ?_
      refine gX_rates hx hb hts hown hK hP dX0_rate_27 ?_
      refine lv_iload_n hx hb dX0_rate_30 rfl (lv_at hl 1 rfl) ?_
      refine ldX_rates hx hb hK hP (j) (hj) (v := nI (R j)) (rfl) (rfl) dX0_rate_31 ?_
      refine lv_istore_n (lv' := [(3, .int (nI (R j))), (0, .ref (ad 0)), (1, .int (nI j)), (2, .int (nI i))]) hx hb dX0_rate_32 rfl hl (by decide) rfl (fun ls hl => ?_)
      refine lv_aload_n hx hb dX0_rate_33 rfl (lv_at hl 1 rfl) ?_
      refine gX_rates hx hb hts hown hK hP dX0_rate_34 ?_
      refine lv_iload_n hx hb dX0_rate_37 rfl (lv_at hl 2 rfl) ?_
      refine lv_iload_n hx hb dX0_rate_38 rfl (lv_at hl 3 rfl) ?_
      refine stX_rates hx hb hK hP hD hS (j) (hj) (rfl) (fun k => nI (kl_u R j i k)) (fun k _ => kl_uI R j i k) dX0_rate_39 (fun H locs hP hD hS => ?_)
      refine lv_aload_n hx hb dX0_rate_40 rfl (lv_at hl 1 rfl) ?_
      refine kl_CV.call (C := (RX0, TX0, 7)) (As := []) (rest := []) (mX_refreshAll l D d ad (kl_u R j i) S (kl_w R S) _ E hS2) ⟨hx, hb, hml, hown, hts⟩ (cwX0_refreshAll hts rfl rfl ⟨Nat.le_of_ble_eq_true rfl, Nat.le_of_ble_eq_true rfl⟩) (ci := 0) rfl rfl hK hP hD hS hA rfl hl.1 rfl (Nat.le_of_ble_eq_true rfl) dX0_rate_41 ⟨Nat.zero_le _, Nat.zero_le _⟩ (fun H locs hP hD hS => ?_)
      refine lv_iload_n hx hb dX0_rate_44 rfl (lv_at hl 0 rfl) ?_
      exact ret _ _ _ _ _ (hP) (hD) hS dX0_rate_45 (rfl)
theorem mX_becomeX (l : Launch) (D : va_G) (d : ClassId) (ad : Nat → Nat) (R S : Nat → Nat) (E : Nat → Int32) (t : Nat) (ht : t < 48) (hS2 : ∀ j, j < 48 → S j ≤ 2) (x : Nat) (hx2 : x ≤ 2) : kl_CV l yX0_become cX0_become 3 (kl_rm 4 90) D d [.ref (ad 0), .int (nI t), .int (nI x)] (kl_X ad d R S E) (kl_X ad d R (kl_u S t x) E) := by
  have h := mX_become l D d ad R S (nI (kl_cnt S 48)) E t ht hS2 x hx2
  rw [kl_cntI ht] at h
  exact h
set_option maxHeartbeats 4000000 in
set_option maxRecDepth 100000 in
theorem mX_set (l : Launch) (D : va_G) (d : ClassId) (ad : Nat → Nat) (R S : Nat → Nat) (E : Nat → Int32) (hS2 : ∀ j, j < 48 → S j ≤ 2) (x y : Int32) : kl_CI l yX0_set cX0_set 4 (kl_rm 5 112) D d [.ref (ad 0), .int x, .int y] (kl_X ad d R S E) (kl_pA 48 3 S x y) (kl_X ad d R (kl_pF 48 3 S x y) E) := by
  refine kl_CI.of (by decide) (Nat.le_of_ble_eq_true rfl) ?_
  intro p e s m args below meth c A Q ls hx hb hml hown hts hA hK hP hD hS ret hl
  have hl : lv_has ls 4 [(0, .ref (ad 0)), (1, .int x), (2, .int y)] := hl
  rcases pk_ix x (n := 48) (by decide) with h | h | ⟨j, hj, rfl⟩
  · obtain ⟨e1, e2⟩ := kl_p1 (n1 := 48) (n2 := 3) (f := S) (y := y) (Or.inl h)
    rw [e1, e2] at ret
    refine lv_iload_n hx hb dX0_set_0 rfl (lv_at hl 1 rfl) ?_
    refine lv_if_lt (tgt := 10) hx hb dX0_set_1 (by decide) (fun _ => ?_) (fun hc => absurd (h) hc)
    refine lv_iconst (v := (-1)) hx hb dX0_set_10 (by decide) ?_
    exact ret _ _ _ _ _ (hP) (hD) hS dX0_set_11 (rfl)
  · obtain ⟨e1, e2⟩ := kl_p1 (n1 := 48) (n2 := 3) (f := S) (y := y) (Or.inr h)
    rw [e1, e2] at ret
    refine lv_iload_n hx hb dX0_set_0 rfl (lv_at hl 1 rfl) ?_
    refine lv_if_lt (tgt := 10) hx hb dX0_set_1 (by decide) (fun hc => absurd hc (kl_nlt (by decide) h)) (fun _ => ?_)
    refine lv_iload_n hx hb dX0_set_4 rfl (lv_at hl 1 rfl) ?_
    refine lv_bipush (v := nI 48) hx hb dX0_set_5 (by decide) ?_
    refine lv_icmp_lt (tgt := 12) hx hb dX0_set_7 (by decide) (fun hc => absurd hc (kl_nlt' h)) (fun _ => ?_)
    refine lv_iconst (v := (-1)) hx hb dX0_set_10 (by decide) ?_
    exact ret _ _ _ _ _ (hP) (hD) hS dX0_set_11 (rfl)
  · refine lv_iload_n hx hb dX0_set_0 rfl (lv_at hl 1 rfl) ?_
    refine lv_if_lt (tgt := 10) hx hb dX0_set_1 (by decide) (fun hc => absurd hc (nI_pos (by omega))) (fun _ => ?_)
    refine lv_iload_n hx hb dX0_set_4 rfl (lv_at hl 1 rfl) ?_
    refine lv_bipush (v := nI 48) hx hb dX0_set_5 (by decide) ?_
    refine lv_icmp_lt (tgt := 12) hx hb dX0_set_7 (by decide) (fun _ => ?_) (fun hc => absurd (nI_lt hj (by decide)) hc)
    rcases pk_ix y (n := 3) (by decide) with h | h | ⟨i, hi, rfl⟩
    · obtain ⟨e1, e2⟩ := kl_p2 (n1 := 48) (n2 := 3) (f := S) (y := y) hj (by decide) (Or.inl h)
      rw [e1, e2] at ret
      refine lv_iload_n hx hb dX0_set_12 rfl (lv_at hl 2 rfl) ?_
      refine lv_if_lt (tgt := 21) hx hb dX0_set_13 (by decide) (fun _ => ?_) (fun hc => absurd (h) hc)
      refine lv_bipush (v := (-2)) hx hb dX0_set_21 (by decide) ?_
      exact ret _ _ _ _ _ (hP) (hD) hS dX0_set_23 (rfl)
    · obtain ⟨e1, e2⟩ := kl_p2 (n1 := 48) (n2 := 3) (f := S) (y := y) hj (by decide) (Or.inr h)
      rw [e1, e2] at ret
      refine lv_iload_n hx hb dX0_set_12 rfl (lv_at hl 2 rfl) ?_
      refine lv_if_lt (tgt := 21) hx hb dX0_set_13 (by decide) (fun hc => absurd hc (kl_nlt (by decide) h)) (fun _ => ?_)
      refine lv_iload_n hx hb dX0_set_16 rfl (lv_at hl 2 rfl) ?_
      refine lv_iconst (v := nI 2) hx hb dX0_set_17 (by decide) ?_
      refine lv_icmp_le (tgt := 24) hx hb dX0_set_18 (by decide) (fun hc => absurd hc (kl_nle (by decide) (by decide) h)) (fun _ => ?_)
      refine lv_bipush (v := (-2)) hx hb dX0_set_21 (by decide) ?_
      exact ret _ _ _ _ _ (hP) (hD) hS dX0_set_23 (rfl)
    · obtain ⟨e1, e2⟩ := kl_p3 (n1 := 48) (n2 := 3) (f := S) hj (by decide) hi (by decide)
      rw [e1, e2] at ret
      refine lv_iload_n hx hb dX0_set_12 rfl (lv_at hl 2 rfl) ?_
      refine lv_if_lt (tgt := 21) hx hb dX0_set_13 (by decide) (fun hc => absurd hc (nI_pos (by omega))) (fun _ => ?_)
      refine lv_iload_n hx hb dX0_set_16 rfl (lv_at hl 2 rfl) ?_
      refine lv_iconst (v := nI 2) hx hb dX0_set_17 (by decide) ?_
      refine lv_icmp_le (tgt := 24) hx hb dX0_set_18 (by decide) (fun _ => ?_) (fun hc => absurd (nI_le (by omega) (by decide)) hc)
      refine lv_aload_n hx hb dX0_set_24 rfl (lv_at hl 0 rfl) ?_
      refine gX_states hx hb hts hown hK hP dX0_set_25 ?_
      refine lv_iload_n hx hb dX0_set_28 rfl (lv_at hl 1 rfl) ?_
      refine ldX_states hx hb hK hP (j) (hj) (v := nI (S j)) (rfl) (rfl) dX0_set_29 ?_
      refine lv_istore_n (lv' := [(3, .int (nI (S j))), (0, .ref (ad 0)), (1, .int (nI j)), (2, .int (nI i))]) hx hb dX0_set_30 rfl hl (by decide) rfl (fun ls hl => ?_)
      refine lv_aload_n hx hb dX0_set_31 rfl (lv_at hl 1 rfl) ?_
      refine lv_iload_n hx hb dX0_set_32 rfl (lv_at hl 2 rfl) ?_
      refine lv_iload_n hx hb dX0_set_33 rfl (lv_at hl 3 rfl) ?_
      refine kl_CV.call (C := (RX0, TX0, 7)) (As := [.int (nI j), .int (nI i)]) (rest := []) (mX_becomeX l D d ad R S E j hj hS2 i (by omega)) ⟨hx, hb, hml, hown, hts⟩ (cwX0_become hts rfl rfl ⟨Nat.le_of_ble_eq_true rfl, Nat.le_of_ble_eq_true rfl⟩) (ci := 0) rfl rfl hK hP hD hS hA rfl hl.1 rfl (Nat.le_of_ble_eq_true rfl) dX0_set_34 ⟨Nat.zero_le _, Nat.zero_le _⟩ (fun H locs hP hD hS => ?_)
      refine lv_iload_n hx hb dX0_set_37 rfl (lv_at hl 0 rfl) ?_
      exact ret _ _ _ _ _ (hP) (hD) hS dX0_set_38 (rfl)
set_option maxHeartbeats 4000000 in
set_option maxRecDepth 100000 in
theorem mX_clear (l : Launch) (D : va_G) (d : ClassId) (ad : Nat → Nat) (R S : Nat → Nat) (E : Nat → Int32)  : kl_CV l yX0_clear cX0_clear 2 (kl_rm 4 90) D d [.ref (ad 0)] (kl_X ad d R S E) (kl_X ad d R (fun _ => 0) E) := by
  refine kl_CV.of (by decide) (Nat.le_of_ble_eq_true rfl) ?_
  intro p e s m args below meth c A Q ls hx hb hml hown hts hA hK hP hD hS ret hl
  have hl : lv_has ls 2 [(0, .ref (ad 0))] := hl
  have loop : ∀ (n k : Nat) (H : Heap) (locs : List Loc) (ls : Array Slot), k + n = 48 → va_P D vwCl (kl_wX ad d R (fun j => if j < k then 0 else S j) (kl_w R S) (fun i => nI (kl_F (kl_w R S) i)) (nI (kl_cnt S 48)) E) H → va_D A (kl_wX ad d R (fun j => if j < k then 0 else S j) (kl_w R S) (fun i => nI (kl_F (kl_w R S) i)) (nI (kl_cnt S 48)) E) → va_S A s.heap H locs → lv_has ls 2 [(0, .ref (ad 0)), (1, .int (nI k))] → W p l e (kl_rm 4 90) s m args below meth c H locs 0 0 Q (F0 m 2 ls []) := by
    intro n
    induction n with
    | zero =>
      intro k H locs ls hk hP hD hS hl
      have hk : k = 48 := by omega
      subst hk
      refine lv_iload_n hx hb dX0_clear_2 rfl (lv_at hl 1 rfl) ?_
      refine lv_bipush (v := nI 48) hx hb dX0_clear_3 (by decide) ?_
      refine lv_icmp_ge (tgt := 21) hx hb dX0_clear_5 (by decide) (fun _ => ?_) (fun hc => absurd (by decide) hc)
      refine lv_aload_n hx hb dX0_clear_21 rfl (lv_at hl 0 rfl) ?_
      refine lv_iconst (v := nI 0) hx hb dX0_clear_22 (by decide) ?_
      refine pX_particles hx hb hts hown hK hP hD hS (v := nI 0) dX0_clear_23 (fun H locs hP hD hS => ?_)
      have hP : va_P D vwCl (kl_wX ad d R (fun _ => 0) (kl_w R S) (fun i => nI (kl_F (kl_w R S) i)) (nI 0) E) H := kl_cg hP (fun _ _ => rfl) (fun j hj => congrArg nI (if_pos hj)) (fun _ _ => rfl) (fun _ _ => rfl) (fun _ _ => rfl) rfl (fun _ _ => rfl)
      have hD : va_D A (kl_wX ad d R (fun _ => 0) (kl_w R S) (fun i => nI (kl_F (kl_w R S) i)) (nI 0) E) := kl_D hD
      refine lv_aload_n hx hb dX0_clear_26 rfl (lv_at hl 0 rfl) ?_
      refine kl_CV.call (C := (RX0, TX0, 7)) (As := []) (rest := []) (mX_refreshAll l D d ad R (fun _ => 0) (kl_w R S) _ E (fun _ _ => Nat.zero_le _)) ⟨hx, hb, hml, hown, hts⟩ (cwX0_refreshAll hts rfl rfl ⟨Nat.le_of_ble_eq_true rfl, Nat.le_of_ble_eq_true rfl⟩) (ci := 0) rfl rfl hK hP hD hS hA rfl hl.1 rfl (Nat.le_of_ble_eq_true rfl) dX0_clear_27 ⟨Nat.zero_le _, Nat.zero_le _⟩ (fun H locs hP hD hS => ?_)
      exact ret _ _ _ _ (hP) (hD) hS dX0_clear_30
    | succ n ih =>
      intro k H locs ls hk hP hD hS hl
      refine lv_iload_n hx hb dX0_clear_2 rfl (lv_at hl 1 rfl) ?_
      refine lv_bipush (v := nI 48) hx hb dX0_clear_3 (by decide) ?_
      refine lv_icmp_ge (tgt := 21) hx hb dX0_clear_5 (by decide) (fun hc => absurd hc (nI_ge (by omega) (by decide))) (fun _ => ?_)
      refine lv_aload_n hx hb dX0_clear_8 rfl (lv_at hl 0 rfl) ?_
      refine gX_states hx hb hts hown hK hP dX0_clear_9 ?_
      refine lv_iload_n hx hb dX0_clear_12 rfl (lv_at hl 1 rfl) ?_
      refine lv_iconst (v := nI 0) hx hb dX0_clear_13 (by decide) ?_
      refine stX_states hx hb hK hP hD hS (k) (by omega) (rfl) (fun j => nI (if j < k + 1 then 0 else S j)) (fun j _ => kl_clr S k j) dX0_clear_14 (fun H locs hP hD hS => ?_)
      refine lv_iinc (v := nI (k + 1)) (lv' := [(1, .int (nI (k + 1))), (0, .ref (ad 0))]) hx hb dX0_clear_15 hl (k := 1) rfl (nI_1 k) (by decide) rfl (fun ls hl => ?_)
      refine lv_goto (tgt := 2) hx hb dX0_clear_18 (by decide) ?_
      exact ih (k + 1) H locs ls (by omega) hP hD hS (lv_sub hl [1, 0] rfl)
  refine lv_iconst (v := nI 0) hx hb dX0_clear_0 (by decide) ?_
  refine lv_istore_n (lv' := [(1, .int (nI 0)), (0, .ref (ad 0))]) hx hb dX0_clear_1 rfl hl (by decide) rfl (fun ls hl => ?_)
  refine loop 48 0 s.heap [] ls rfl (kl_cg hP (fun _ _ => rfl) (fun _ _ => rfl) (fun _ _ => rfl) (fun _ _ => rfl) (fun _ _ => rfl) rfl (fun _ _ => rfl)) (kl_D hD) hS (lv_sub hl [1, 0] rfl)
/-- pairs, counted to the right and down, of the first k sites -/
def kl_pr (S : Nat → Nat) : Nat → Nat
  | 0 => 0
  | k + 1 => kl_pr S k + (if S k = 1 then kl_b1 (S (kl_nb k 0)) + kl_b1 (S (kl_nb k 2)) else 0)
set_option maxHeartbeats 4000000 in
set_option maxRecDepth 100000 in
theorem mX_pairs (l : Launch) (D : va_G) (d : ClassId) (ad : Nat → Nat) (R S : Nat → Nat) (E : Nat → Int32) (hS2 : ∀ j, j < 48 → S j ≤ 2) : kl_CI l yX0_pairs cX0_pairs 3 (kl_rm 0 0) D d [.ref (ad 0)] (kl_X ad d R S E) (nI (kl_pr S 48)) (kl_X ad d R S E) := by
  refine kl_CI.of (by decide) (Nat.le_of_ble_eq_true rfl) ?_
  intro p e s m args below meth c A Q ls hx hb hml hown hts hA hK hP hD hS ret hl
  have hl : lv_has ls 3 [(0, .ref (ad 0))] := hl
  have loop : ∀ (n k : Nat) (ls : Array Slot), k + n = 48 → lv_has ls 3 [(0, .ref (ad 0)), (1, .int (nI (kl_pr S k))), (2, .int (nI k))] → W p l e (kl_rm 0 0) s m args below meth c s.heap [] 0 0 Q (F0 m 4 ls []) := by
    intro n
    induction n with
    | zero =>
      intro k ls hk hl
      have hk : k = 48 := by omega
      subst hk
      refine lv_iload_n hx hb dX0_pairs_4 rfl (lv_at hl 2 rfl) ?_
      refine lv_bipush (v := nI 48) hx hb dX0_pairs_5 (by decide) ?_
      refine lv_icmp_ge (tgt := 68) hx hb dX0_pairs_7 (by decide) (fun _ => ?_) (fun hc => absurd (by decide) hc)
      refine lv_iload_n hx hb dX0_pairs_68 rfl (lv_at hl 1 rfl) ?_
      exact ret _ _ _ _ _ (hP) (hD) hS dX0_pairs_69 (rfl)
    | succ n ih =>
      intro k ls hk hl
      have hk48 : k < 48 := by omega
      have e0 : kl_pr S (k + 1) = kl_pr S k + (if S k = 1 then kl_b1 (S (kl_nb k 0)) + kl_b1 (S (kl_nb k 2)) else 0) := rfl
      have hb2 := hS2 k hk48
      have hb3 := hS2 _ (kl_nb_lt hk48 0)
      have hb4 := hS2 _ (kl_nb_lt hk48 2)
      have n62 : ∀ (a : Nat) (ls : Array Slot), a = kl_pr S (k + 1) → lv_has ls 3 [(0, .ref (ad 0)), (1, .int (nI (a))), (2, .int (nI k))] → W p l e (kl_rm 0 0) s m args below meth c s.heap [] 0 0 Q (F0 m 62 ls []) := by
        intro a ls ea hl
        subst ea
        refine lv_iinc (v := nI (k + 1)) (lv' := [(2, .int (nI (k + 1))), (0, .ref (ad 0)), (1, .int (nI (kl_pr S (k + 1))))]) hx hb dX0_pairs_62 hl (k := 2) rfl (nI_1 k) (by decide) rfl (fun ls hl => ?_)
        refine lv_goto (tgt := 4) hx hb dX0_pairs_65 (by decide) ?_
        exact ih (k + 1) ls (by omega) (lv_sub hl [1, 2, 0] rfl)
      have n40 : ∀ (a : Nat) (ls : Array Slot), a + kl_b1 (S (kl_nb k 2)) = kl_pr S (k + 1) → lv_has ls 3 [(0, .ref (ad 0)), (1, .int (nI (a))), (2, .int (nI k))] → W p l e (kl_rm 0 0) s m args below meth c s.heap [] 0 0 Q (F0 m 40 ls []) := by
        intro a ls ea hl
        refine lv_aload_n hx hb dX0_pairs_40 rfl (lv_at hl 0 rfl) ?_
        refine gX_states hx hb hts hown hK hP dX0_pairs_41 ?_
        refine lv_aload_n hx hb dX0_pairs_44 rfl (lv_at hl 0 rfl) ?_
        refine gX_next hx hb hts hown hK hP dX0_pairs_45 ?_
        refine lv_iload_n hx hb dX0_pairs_48 rfl (lv_at hl 2 rfl) ?_
        refine lv_iconst (v := nI 4) hx hb dX0_pairs_49 (by decide) ?_
        refine lv_imul hx hb dX0_pairs_50 ?_
        refine kl_top (v := nI (k * 4)) (pk_mul _ _) ?_
        refine lv_iconst (v := nI 2) hx hb dX0_pairs_51 (by decide) ?_
        refine lv_iadd hx hb dX0_pairs_52 ?_
        refine kl_top (v := nI (k * 4 + 2)) (nI_add _ _) ?_
        refine ldX_next hx hb hK hP (k * 4 + 2) (by omega) (v := nI (kl_nb k 2)) (rfl) (congrArg nI (kl_nr_at (by decide))) dX0_pairs_53 ?_
        refine ldX_states hx hb hK hP (kl_nb k 2) (kl_nb_lt hk48 2) (v := nI (S (kl_nb k 2))) (rfl) (rfl) dX0_pairs_54 ?_
        refine lv_iconst (v := nI 1) hx hb dX0_pairs_55 (by decide) ?_
        by_cases h : S (kl_nb k 2) = 1
        · refine lv_icmp_ne (tgt := 62) hx hb dX0_pairs_56 (by decide) (fun hc => absurd (congrArg nI h) hc) (fun _ => ?_)
          refine lv_iinc (v := nI (a + 1)) (lv' := [(1, .int (nI (a + 1))), (0, .ref (ad 0)), (2, .int (nI k))]) hx hb dX0_pairs_59 hl (k := 1) rfl (nI_1 a) (by decide) rfl (fun ls hl => ?_)
          exact n62 (a + 1) ls (by rw [← ea, kl_b1_1 h]) (lv_sub hl [1, 0, 2] rfl)
        · refine lv_icmp_ne (tgt := 62) hx hb dX0_pairs_56 (by decide) (fun _ => ?_) (fun hc => absurd hc (fun z => h ((kl_nk 1 (by decide) (by omega)).mp z)))
          exact n62 a ls (by rw [← ea, kl_b1_0 h]; rfl) (lv_sub hl [0, 1, 2] rfl)
      refine lv_iload_n hx hb dX0_pairs_4 rfl (lv_at hl 2 rfl) ?_
      refine lv_bipush (v := nI 48) hx hb dX0_pairs_5 (by decide) ?_
      refine lv_icmp_ge (tgt := 68) hx hb dX0_pairs_7 (by decide) (fun hc => absurd hc (nI_ge (by omega) (by decide))) (fun _ => ?_)
      refine lv_aload_n hx hb dX0_pairs_10 rfl (lv_at hl 0 rfl) ?_
      refine gX_states hx hb hts hown hK hP dX0_pairs_11 ?_
      refine lv_iload_n hx hb dX0_pairs_14 rfl (lv_at hl 2 rfl) ?_
      refine ldX_states hx hb hK hP (k) (hk48) (v := nI (S k)) (rfl) (rfl) dX0_pairs_15 ?_
      refine lv_iconst (v := nI 1) hx hb dX0_pairs_16 (by decide) ?_
      by_cases h1 : S k = 1
      · rw [if_pos h1] at e0
        refine lv_icmp_ne (tgt := 62) hx hb dX0_pairs_17 (by decide) (fun hc => absurd (congrArg nI h1) hc) (fun _ => ?_)
        refine lv_aload_n hx hb dX0_pairs_20 rfl (lv_at hl 0 rfl) ?_
        refine gX_states hx hb hts hown hK hP dX0_pairs_21 ?_
        refine lv_aload_n hx hb dX0_pairs_24 rfl (lv_at hl 0 rfl) ?_
        refine gX_next hx hb hts hown hK hP dX0_pairs_25 ?_
        refine lv_iload_n hx hb dX0_pairs_28 rfl (lv_at hl 2 rfl) ?_
        refine lv_iconst (v := nI 4) hx hb dX0_pairs_29 (by decide) ?_
        refine lv_imul hx hb dX0_pairs_30 ?_
        refine kl_top (v := nI (k * 4)) (pk_mul _ _) ?_
        refine ldX_next hx hb hK hP (k * 4) (by omega) (v := nI (kl_nb k 0)) (rfl) (congrArg nI (kl_nr_at (s := k) (k := 0) (by decide))) dX0_pairs_31 ?_
        refine ldX_states hx hb hK hP (kl_nb k 0) (kl_nb_lt hk48 0) (v := nI (S (kl_nb k 0))) (rfl) (rfl) dX0_pairs_32 ?_
        refine lv_iconst (v := nI 1) hx hb dX0_pairs_33 (by decide) ?_
        by_cases h : S (kl_nb k 0) = 1
        · refine lv_icmp_ne (tgt := 40) hx hb dX0_pairs_34 (by decide) (fun hc => absurd (congrArg nI h) hc) (fun _ => ?_)
          refine lv_iinc (v := nI (kl_pr S k + 1)) (lv' := [(1, .int (nI (kl_pr S k + 1))), (0, .ref (ad 0)), (2, .int (nI k))]) hx hb dX0_pairs_37 hl (k := 1) rfl (nI_1 _) (by decide) rfl (fun ls hl => ?_)
          exact n40 _ ls (by rw [e0, kl_b1_1 h]; omega) (lv_sub hl [1, 0, 2] rfl)
        · refine lv_icmp_ne (tgt := 40) hx hb dX0_pairs_34 (by decide) (fun _ => ?_) (fun hc => absurd hc (fun z => h ((kl_nk 1 (by decide) (by omega)).mp z)))
          exact n40 _ ls (by rw [e0, kl_b1_0 h]; omega) (lv_sub hl [0, 1, 2] rfl)
      · rw [if_neg h1] at e0
        refine lv_icmp_ne (tgt := 62) hx hb dX0_pairs_17 (by decide) (fun _ => ?_) (fun hc => absurd hc (fun z => h1 ((kl_nk 1 (by decide) (by omega)).mp z)))
        exact n62 _ ls (by rw [e0]; rfl) (lv_sub hl [0, 1, 2] rfl)
  refine lv_iconst (v := nI 0) hx hb dX0_pairs_0 (by decide) ?_
  refine lv_istore_n (lv' := [(1, .int (nI 0)), (0, .ref (ad 0))]) hx hb dX0_pairs_1 rfl hl (by decide) rfl (fun ls hl => ?_)
  refine lv_iconst (v := nI 0) hx hb dX0_pairs_2 (by decide) ?_
  refine lv_istore_n (lv' := [(2, .int (nI 0)), (1, .int (nI 0)), (0, .ref (ad 0))]) hx hb dX0_pairs_3 rfl hl (by decide) rfl (fun ls hl => ?_)
  exact loop 48 0 ls rfl (lv_sub hl [2, 1, 0] rfl)
end
section
set_option maxHeartbeats 4000000 in
set_option maxRecDepth 100000 in
/-- the neighbour that the hop goes to -/
theorem mX_hopOf (l : Launch) (D : va_G) (d : ClassId) (ad : Nat → Nat) (R S v : Nat → Nat) (T : Nat → Int32) (pt : Int32) (E : Nat → Int32) (t : Nat) (ht : t < 48) (hS2 : ∀ j, j < 48 → S j ≤ 2) (u k0 : Nat) (hk0 : k0 < 4) (he0 : S (kl_nb t k0) = 0) (h1 : kl_emp S t k0 * R 6 ≤ u) (h2 : u < (kl_emp S t k0 + 1) * R 6) (hR6 : R 6 ≤ 1000) (hu : u < 2 ^ 30) : kl_CI l yX0_hopOf cX0_hopOf 6 (kl_rm 0 0) D d [.ref (ad 0), .int (nI t), .int (nI u)] (kl_wX ad d R S v T pt E) (nI k0) (kl_wX ad d R S v T pt E) := by
  refine kl_CI.of (by decide) (Nat.le_of_ble_eq_true rfl) ?_
  intro p e s m args below meth c A Q ls hx hb hml hown hts hA hK hP hD hS ret hl
  have hl : lv_has ls 6 [(0, .ref (ad 0)), (1, .int (nI t)), (2, .int (nI u))] := hl
  have loop : ∀ (n i : Nat) (lf kc : Int32) (ls : Array Slot), i + n = 4 → lf = nI u - nI (kl_emp S t i * R 6) → (k0 < i → kc = nI k0) → lv_has ls 6 [(0, .ref (ad 0)), (1, .int (nI t)), (2, .int (nI u)), (3, .int (lf)), (4, .int (kc)), (5, .int (nI i))] → W p l e (kl_rm 0 0) s m args below meth c s.heap [] 0 0 Q (F0 m 8 ls []) := by
    intro n
    induction n with
    | zero =>
      intro i lf kc ls hi elf hk hl
      have hi : i = 4 := by omega
      subst hi
      refine lv_iload hx hb dX0_hopOf_8 (lv_at hl 5 rfl) ?_
      refine lv_iconst (v := nI 4) hx hb dX0_hopOf_10 (by decide) ?_
      refine lv_icmp_ge (tgt := 57) hx hb dX0_hopOf_11 (by decide) (fun _ => ?_) (fun hc => absurd (by decide) hc)
      refine lv_iload hx hb dX0_hopOf_57 (lv_at hl 4 rfl) ?_
      exact ret _ _ _ _ _ (hP) (hD) hS dX0_hopOf_59 (hk hk0)
    | succ n ih =>
      intro i lf kc ls hi elf hk hl
      have hb2 := hS2 _ (kl_nb_lt ht i)
      have hm : kl_emp S t i * R 6 ≤ 4 * 1000 := Nat.mul_le_mul (Nat.le_trans (kl_emp_le S t i) (by omega)) hR6
      refine lv_iload hx hb dX0_hopOf_8 (lv_at hl 5 rfl) ?_
      refine lv_iconst (v := nI 4) hx hb dX0_hopOf_10 (by decide) ?_
      refine lv_icmp_ge (tgt := 57) hx hb dX0_hopOf_11 (by decide) (fun hc => absurd hc (nI_ge (by omega) (by decide))) (fun _ => ?_)
      refine lv_aload_n hx hb dX0_hopOf_14 rfl (lv_at hl 0 rfl) ?_
      refine gX_states hx hb hts hown hK hP dX0_hopOf_15 ?_
      refine lv_aload_n hx hb dX0_hopOf_18 rfl (lv_at hl 0 rfl) ?_
      refine gX_next hx hb hts hown hK hP dX0_hopOf_19 ?_
      refine lv_iload_n hx hb dX0_hopOf_22 rfl (lv_at hl 1 rfl) ?_
      refine lv_iconst (v := nI 4) hx hb dX0_hopOf_23 (by decide) ?_
      refine lv_imul hx hb dX0_hopOf_24 ?_
      refine kl_top (v := nI (t * 4)) (pk_mul _ _) ?_
      refine lv_iload hx hb dX0_hopOf_25 (lv_at hl 5 rfl) ?_
      refine lv_iadd hx hb dX0_hopOf_27 ?_
      refine kl_top (v := nI (t * 4 + i)) (nI_add _ _) ?_
      refine ldX_next hx hb hK hP (t * 4 + i) (by omega) (v := nI (kl_nb t i)) (rfl) (congrArg nI (kl_nr_at (by omega))) dX0_hopOf_28 ?_
      refine ldX_states hx hb hK hP (kl_nb t i) (kl_nb_lt ht i) (v := nI (S (kl_nb t i))) (rfl) (rfl) dX0_hopOf_29 ?_
      by_cases h : S (kl_nb t i) = 0
      · have e1 : kl_emp S t (i + 1) = kl_emp S t i + 1 := by show _ + _ = _; rw [kl_b0_1 h]
        have n41 : ∀ (kc : Int32) (ls : Array Slot), (k0 < i + 1 → kc = nI k0) → lv_has ls 6 [(0, .ref (ad 0)), (1, .int (nI t)), (2, .int (nI u)), (3, .int (lf)), (4, .int (kc)), (5, .int (nI i))] → W p l e (kl_rm 0 0) s m args below meth c s.heap [] 0 0 Q (F0 m 41 ls []) := by
          intro kc ls hk hl
          refine lv_iload_n hx hb dX0_hopOf_41 rfl (lv_at hl 3 rfl) ?_
          refine lv_aload_n hx hb dX0_hopOf_42 rfl (lv_at hl 0 rfl) ?_
          refine gX_rates hx hb hts hown hK hP dX0_hopOf_43 ?_
          refine lv_bipush (v := nI 6) hx hb dX0_hopOf_46 (by decide) ?_
          refine ldX_rates hx hb hK hP (6) (by decide) (v := nI (R 6)) (rfl) (rfl) dX0_hopOf_48 ?_
          refine lv_isub hx hb dX0_hopOf_49 ?_
          refine lv_istore_n (lv' := [(3, .int ((lf) - (nI (R 6)))), (0, .ref (ad 0)), (1, .int (nI t)), (2, .int (nI u)), (4, .int (kc)), (5, .int (nI i))]) hx hb dX0_hopOf_50 rfl hl (by decide) rfl (fun ls hl => ?_)
          refine lv_iinc (v := nI (i + 1)) (lv' := [(5, .int (nI (i + 1))), (3, .int ((lf) - (nI (R 6)))), (0, .ref (ad 0)), (1, .int (nI t)), (2, .int (nI u)), (4, .int (kc))]) hx hb dX0_hopOf_51 hl (k := 5) rfl (nI_1 i) (by decide) rfl (fun ls hl => ?_)
          refine lv_goto (tgt := 8) hx hb dX0_hopOf_54 (by decide) ?_
          exact ih (i + 1) (lf - nI (R 6)) kc ls (by omega) (by rw [elf, e1, Nat.add_mul, Nat.one_mul, ← nI_add]; grind) hk (lv_sub hl [2, 3, 4, 1, 5, 0] rfl)
        refine lv_if_ne (tgt := 51) hx hb dX0_hopOf_30 (by decide) (fun hc => absurd ((kl_n0 (by omega)).mpr h) hc) (fun _ => ?_)
        refine lv_iload_n hx hb dX0_hopOf_33 rfl (lv_at hl 3 rfl) ?_
        rcases Nat.lt_or_ge u (kl_emp S t i * R 6) with hlt | hge
        · refine lv_if_lt (tgt := 41) hx hb dX0_hopOf_34 (by decide) (fun _ => ?_) (fun hc => absurd (by rw [elf]; exact pk_sneg (by omega) hlt) hc)
          refine n41 kc ls (fun hk1 => hk ?_) hl
          rcases Nat.lt_or_ge k0 i with z | z
          · exact z
          · have e2 : k0 = i := by omega
            subst e2
            omega
        · refine lv_if_lt (tgt := 41) hx hb dX0_hopOf_34 (by decide) (fun hc => absurd hc (by rw [elf, pk_sub hge]; exact nI_pos (by omega))) (fun _ => ?_)
          refine lv_iload hx hb dX0_hopOf_37 (lv_at hl 5 rfl) ?_
          refine lv_istore (lv' := [(4, .int (nI i)), (0, .ref (ad 0)), (1, .int (nI t)), (2, .int (nI u)), (3, .int (lf)), (5, .int (nI i))]) hx hb dX0_hopOf_39 hl (by decide) rfl (fun ls hl => ?_)
          refine n41 (nI i) ls (fun hk1 => ?_) (lv_sub hl [1, 2, 3, 4, 0, 5] rfl)
          rcases Nat.lt_or_ge k0 i with z | z
          · have e2 : kl_emp S t k0 + 1 ≤ kl_emp S t i := by
              have e3 := kl_emp_mono S t (show k0 + 1 ≤ i by omega)
              have e4 : kl_emp S t (k0 + 1) = kl_emp S t k0 + 1 := by show _ + _ = _; rw [kl_b0_1 he0]
              omega
            have e5 := Nat.mul_le_mul_right (R 6) e2
            omega
          · rw [show i = k0 by omega]
      · have e1 : kl_emp S t (i + 1) = kl_emp S t i := by show _ + _ = _; rw [kl_b0_0 h]; rfl
        refine lv_if_ne (tgt := 51) hx hb dX0_hopOf_30 (by decide) (fun _ => ?_) (fun hc => absurd hc (fun z => h ((kl_n0 (by omega)).mp z)))
        refine lv_iinc (v := nI (i + 1)) (lv' := [(5, .int (nI (i + 1))), (0, .ref (ad 0)), (1, .int (nI t)), (2, .int (nI u)), (3, .int (lf)), (4, .int (kc))]) hx hb dX0_hopOf_51 hl (k := 5) rfl (nI_1 i) (by decide) rfl (fun ls hl => ?_)
        refine lv_goto (tgt := 8) hx hb dX0_hopOf_54 (by decide) ?_
        refine ih (i + 1) lf kc ls (by omega) (by rw [elf, e1]) (fun hk1 => hk ?_) (lv_sub hl [1, 2, 3, 4, 5, 0] rfl)
        rcases Nat.lt_or_ge k0 i with z | z
        · exact z
        · have e2 : k0 = i := by omega
          subst e2
          exact absurd he0 h
  refine lv_iload_n hx hb dX0_hopOf_0 rfl (lv_at hl 2 rfl) ?_
  refine lv_istore_n (lv' := [(3, .int (nI u)), (0, .ref (ad 0)), (1, .int (nI t)), (2, .int (nI u))]) hx hb dX0_hopOf_1 rfl hl (by decide) rfl (fun ls hl => ?_)
  refine lv_iconst (v := nI 0) hx hb dX0_hopOf_2 (by decide) ?_
  refine lv_istore (lv' := [(4, .int (nI 0)), (3, .int (nI u)), (0, .ref (ad 0)), (1, .int (nI t)), (2, .int (nI u))]) hx hb dX0_hopOf_3 hl (by decide) rfl (fun ls hl => ?_)
  refine lv_iconst (v := nI 0) hx hb dX0_hopOf_5 (by decide) ?_
  refine lv_istore (lv' := [(5, .int (nI 0)), (4, .int (nI 0)), (3, .int (nI u)), (0, .ref (ad 0)), (1, .int (nI t)), (2, .int (nI u))]) hx hb dX0_hopOf_6 hl (by decide) rfl (fun ls hl => ?_)
  exact loop 4 0 (nI u) (nI 0) ls rfl (by show nI u = nI u - nI (0 * R 6); rw [Nat.zero_mul, nI_0]; grind) (fun h => absurd h (Nat.not_lt_zero _)) (lv_sub hl [3, 4, 5, 2, 1, 0] rfl)
theorem kl_hS2 (S : Nat → Nat) (s k : Nat) : kl_hS S s (k + 2) = kl_u (kl_u S s 0) (kl_nb s k) 1 := by
  unfold kl_hS
  rw [if_neg (by omega), if_neg (by omega), show k + 2 - 2 = k by omega]
theorem kl_kd2 (k : Nat) : kl_kd (k + 2) = 2 := if_neg (by omega)
theorem kl_hA2 (s k : Nat) : kl_hA s (k + 2) = nI (s + 128 + 256 * k) := by
  unfold kl_hA
  rw [kl_kd2, if_neg (by omega), show k + 2 - 2 = k by omega]
theorem kl_hE2 (E : Nat → Int32) (k j : Nat) : (if j = 2 then E 2 + nI 1 else E j) = kl_hE E (k + 2) j := by
  unfold kl_hE
  rw [kl_kd2]
/-- what a pick says of its site -/
theorem kl_isp_site {R S : Nat → Nat} {r s e : Nat} (hS2 : ∀ j, j < 48 → S j ≤ 2) (h : kl_isp R S r s e) : kl_ps (kl_w R S) s ≤ r ∧ r < kl_ps (kl_w R S) (s + 1) := by
  obtain ⟨h1, h2, h3, h4⟩ := h
  have h5 := kl_es_mono R S s (show e + 1 ≤ 6 by omega)
  rw [kl_es6 (hS2 s h1)] at h5
  rw [kl_ps_s h1]
  omega
theorem kl_isp_0 {R S : Nat → Nat} {r s e : Nat} (h : kl_isp R S r s e) (h0 : S s = 0) : e = 0 := by
  obtain ⟨h1, h2, h3, h4⟩ := h
  rcases e with _ | e
  · rfl
  · rw [kl_es0 h0] at h3 h4
    omega
theorem kl_isp_1 {R S : Nat → Nat} {r s e : Nat} (h : kl_isp R S r s e) (h0 : S s = 1) : (e = 1 ∧ r - kl_ps (kl_w R S) s < R (kl_occ S s 4)) ∨ ∃ k, e = k + 2 ∧ k < 4 ∧ R (kl_occ S s 4) ≤ r - kl_ps (kl_w R S) s ∧ S (kl_nb s k) = 0 ∧ kl_emp S s k * R 6 ≤ r - kl_ps (kl_w R S) s - R (kl_occ S s 4) ∧ r - kl_ps (kl_w R S) s - R (kl_occ S s 4) < (kl_emp S s k + 1) * R 6 := by
  obtain ⟨h1, h2, h3, h4⟩ := h
  rcases e with _ | _ | k
  · have e1 : kl_es R S s (0 + 1) = 0 := by simp [kl_es, kl_er, h0]
    rw [e1] at h4
    omega
  · have e1 : kl_es R S s (0 + 1 + 1) = R (kl_occ S s 4) := by
      have := kl_es1 (R := R) h0 0
      simp only [kl_emp, Nat.zero_mul, Nat.add_zero] at this
      exact this
    rw [e1] at h4
    left
    exact ⟨rfl, by omega⟩
  · right
    have e1 := kl_es1 (R := R) h0 k
    have e2 := kl_es1 (R := R) h0 (k + 1)
    have e3 : kl_emp S s (k + 1) = kl_emp S s k + kl_b0 (S (kl_nb s k)) := rfl
    rw [show k + 1 + 1 = k + 2 from rfl] at h3 h4
    rw [e1] at h3
    rw [show k + 2 + 1 = k + 1 + 2 from rfl, e2, e3] at h4
    by_cases h5 : S (kl_nb s k) = 0
    · rw [kl_b0_1 h5] at h4
      exact ⟨k, rfl, by omega, by omega, h5, by omega, by omega⟩
    · rw [kl_b0_0 h5, Nat.add_zero] at h4
      omega
theorem kl_isp_2 {R S : Nat → Nat} {r s e : Nat} (h : kl_isp R S r s e) (h0 : S s = 2) : False := by
  obtain ⟨h1, h2, h3, h4⟩ := h
  rw [kl_es2 h0] at h3 h4
  omega
set_option maxHeartbeats 4000000 in
set_option maxRecDepth 100000 in
/-- one event -/
theorem mX_step (l : Launch) (D : va_G) (d : ClassId) (ad : Nat → Nat) (R S : Nat → Nat) (E : Nat → Int32) (hR : ∀ k, k < 7 → R k ≤ 1000) (hS2 : ∀ j, j < 48 → S j ≤ 2) (x : Int32) : kl_CI l yX0_step cX0_step 7 (kl_rm 5 112) D d [.ref (ad 0), .int x] (kl_X ad d R S E) (kl_tA R S x) (kl_X ad d R (kl_tS R S x) (kl_tE R S E x)) := by
  refine kl_CI.of (by decide) (Nat.le_of_ble_eq_true rfl) ?_
  intro p e s m args below meth c A Q ls hx hb hml hown hts hA hK hP hD hS ret hl
  have hl : lv_has ls 7 [(0, .ref (ad 0)), (1, .int x)] := hl
  have hbd := kl_ps_bd (S := S) hR
  refine lv_aload_n hx hb dX0_step_0 rfl (lv_at hl 0 rfl) ?_
  refine lv_bipush (v := nI 48) hx hb dX0_step_1 (by decide) ?_
  refine kl_CI.call (C := (RX0, TX0, 7)) (As := [.int (nI 48)]) (rest := []) (mX_prefix l D d ad _ _ _ _ (kl_w R S) _ _ 48 (by decide)) ⟨hx, hb, hml, hown, hts⟩ (cwX0_prefix hts rfl rfl ⟨Nat.le_of_ble_eq_true rfl, Nat.le_of_ble_eq_true rfl⟩) (ci := 0) rfl rfl hK hP hD hS hA rfl hl.1 rfl (Nat.le_of_ble_eq_true rfl) dX0_step_3 ⟨Nat.zero_le _, Nat.zero_le _⟩ (fun H locs hP hD hS => ?_)
  refine lv_istore_n (lv' := [(2, .int (nI (kl_ps (kl_w R S) 48))), (0, .ref (ad 0)), (1, .int x)]) hx hb dX0_step_6 rfl hl (by decide) rfl (fun ls hl => ?_)
  refine lv_iload_n hx hb dX0_step_7 rfl (lv_at hl 2 rfl) ?_
  rcases pk_ix x (n := kl_ps (kl_w R S) 48) hbd with h | h | ⟨r, hr, rfl⟩
  · obtain ⟨e1, e2, e3⟩ := kl_t1 (E := E) (Or.inl h)
    rw [e1, e2, e3] at ret
    refine lv_if_lt (tgt := 16) hx hb dX0_step_8 (by decide) (fun _ => ?_) (fun hc => absurd (h) hc)
    refine lv_bipush (v := (-3)) hx hb dX0_step_16 (by decide) ?_
    exact ret _ _ _ _ _ (hP) (hD) hS dX0_step_18 (rfl)
  · obtain ⟨e1, e2, e3⟩ := kl_t1 (E := E) (Or.inr h)
    rw [e1, e2, e3] at ret
    refine lv_if_lt (tgt := 16) hx hb dX0_step_8 (by decide) (fun hc => absurd hc (kl_nlt hbd h)) (fun _ => ?_)
    refine lv_iload_n hx hb dX0_step_11 rfl (lv_at hl 2 rfl) ?_
    refine lv_iload_n hx hb dX0_step_12 rfl (lv_at hl 0 rfl) ?_
    refine lv_icmp_lt (tgt := 19) hx hb dX0_step_13 (by decide) (fun hc => absurd hc (kl_nlt' h)) (fun _ => ?_)
    refine lv_bipush (v := (-3)) hx hb dX0_step_16 (by decide) ?_
    exact ret _ _ _ _ _ (hP) (hD) hS dX0_step_18 (rfl)
  · obtain ⟨t, e, hp, e1, e2, e3⟩ := kl_t2 (E := E) hS2 hbd hr
    rw [e1, e2, e3] at ret
    have ht : t < 48 := hp.1
    obtain ⟨hs1, hs2⟩ := kl_isp_site hS2 hp
    refine lv_if_lt (tgt := 16) hx hb dX0_step_8 (by decide) (fun hc => absurd hc (nI_pos (by omega))) (fun _ => ?_)
    refine lv_iload_n hx hb dX0_step_11 rfl (lv_at hl 2 rfl) ?_
    refine lv_iload_n hx hb dX0_step_12 rfl (lv_at hl 0 rfl) ?_
    refine lv_icmp_lt (tgt := 19) hx hb dX0_step_13 (by decide) (fun _ => ?_) (fun hc => absurd (nI_lt hr hbd) hc)
    refine lv_aload_n hx hb dX0_step_19 rfl (lv_at hl 1 rfl) ?_
    refine lv_iload_n hx hb dX0_step_20 rfl (lv_at hl 2 rfl) ?_
    refine kl_CI.call (C := (RX0, TX0, 7)) (As := [.int (nI r)]) (rest := []) (mX_siteOf l D d ad _ _ _ _ (kl_w R S) _ _ r t ht hs1 hs2 (kl_ps_bd64 hR)) ⟨hx, hb, hml, hown, hts⟩ (cwX0_siteOf hts rfl rfl ⟨Nat.le_of_ble_eq_true rfl, Nat.le_of_ble_eq_true rfl⟩) (ci := 0) rfl rfl hK hP hD hS hA rfl hl.1 rfl (Nat.le_of_ble_eq_true rfl) dX0_step_21 ⟨Nat.zero_le _, Nat.zero_le _⟩ (fun H locs hP hD hS => ?_)
    refine lv_istore_n (lv' := [(3, .int (nI t)), (2, .int (nI (kl_ps (kl_w R S) 48))), (0, .ref (ad 0)), (1, .int (nI r))]) hx hb dX0_step_24 rfl hl (by decide) rfl (fun ls hl => ?_)
    refine lv_iload_n hx hb dX0_step_25 rfl (lv_at hl 3 rfl) ?_
    refine lv_aload_n hx hb dX0_step_26 rfl (lv_at hl 2 rfl) ?_
    refine lv_iload_n hx hb dX0_step_27 rfl (lv_at hl 0 rfl) ?_
    refine kl_CI.call (C := (RX0, TX0, 7)) (As := [.int (nI t)]) (rest := [.int (nI r)]) (mX_prefix l D d ad _ _ _ _ (kl_w R S) _ _ t (by omega)) ⟨hx, hb, hml, hown, hts⟩ (cwX0_prefix hts rfl rfl ⟨Nat.le_of_ble_eq_true rfl, Nat.le_of_ble_eq_true rfl⟩) (ci := 0) rfl rfl hK hP hD hS hA rfl hl.1 rfl (Nat.le_of_ble_eq_true rfl) dX0_step_28 ⟨Nat.zero_le _, Nat.zero_le _⟩ (fun H locs hP hD hS => ?_)
    refine lv_isub hx hb dX0_step_31 ?_
    refine kl_top (v := nI (r - kl_ps (kl_w R S) t)) (pk_sub hs1) ?_
    refine lv_istore (lv' := [(4, .int (nI (r - kl_ps (kl_w R S) t))), (3, .int (nI t)), (2, .int (nI (kl_ps (kl_w R S) 48))), (0, .ref (ad 0)), (1, .int (nI r))]) hx hb dX0_step_32 hl (by decide) rfl (fun ls hl => ?_)
    refine lv_aload_n hx hb dX0_step_34 rfl (lv_at hl 3 rfl) ?_
    refine gX_states hx hb hts hown hK hP dX0_step_35 ?_
    refine lv_iload_n hx hb dX0_step_38 rfl (lv_at hl 1 rfl) ?_
    refine ldX_states hx hb hK hP (t) (ht) (v := nI (S t)) (rfl) (rfl) dX0_step_39 ?_
    have hb2 := hS2 t ht
    by_cases h0 : S t = 0
    · have e0 := kl_isp_0 hp h0
      subst e0
      refine lv_if_ne (tgt := 61) hx hb dX0_step_40 (by decide) (fun hc => absurd ((kl_n0 (by omega)).mpr h0) hc) (fun _ => ?_)
      refine lv_aload_n hx hb dX0_step_43 rfl (lv_at hl 3 rfl) ?_
      refine lv_iload_n hx hb dX0_step_44 rfl (lv_at hl 1 rfl) ?_
      refine lv_iconst (v := nI 1) hx hb dX0_step_45 (by decide) ?_
      refine kl_CV.call (C := (RX0, TX0, 7)) (As := [.int (nI t), .int (nI 1)]) (rest := []) (mX_becomeX l D d ad R S E t ht hS2 1 (by decide)) ⟨hx, hb, hml, hown, hts⟩ (cwX0_become hts rfl rfl ⟨Nat.le_of_ble_eq_true rfl, Nat.le_of_ble_eq_true rfl⟩) (ci := 0) rfl rfl hK hP hD hS hA rfl hl.1 rfl (Nat.le_of_ble_eq_true rfl) dX0_step_46 ⟨Nat.zero_le _, Nat.zero_le _⟩ (fun H locs hP hD hS => ?_)
      refine lv_aload_n hx hb dX0_step_49 rfl (lv_at hl 3 rfl) ?_
      refine gX_events hx hb hts hown hK hP dX0_step_50 ?_
      refine lv_iconst (v := nI 0) hx hb dX0_step_53 (by decide) ?_
      refine lv_dup2_11 hx hb dX0_step_54 rfl rfl ?_
      refine ldX_events hx hb hK hP (0) (by decide) (v := E 0) (rfl) (rfl) dX0_step_55 ?_
      refine lv_iconst (v := nI 1) hx hb dX0_step_56 (by decide) ?_
      refine lv_iadd hx hb dX0_step_57 ?_
      refine stX_events hx hb hK hP hD hS (0) (by decide) (rfl) (kl_hE E 0) (fun j _ => rfl) dX0_step_58 (fun H locs hP hD hS => ?_)
      refine lv_iload_n hx hb dX0_step_59 rfl (lv_at hl 1 rfl) ?_
      exact ret _ _ _ _ _ (hP) (hD) hS dX0_step_60 (rfl)
    · have h1 : S t = 1 := by
        rcases Nat.lt_or_ge (S t) 2 with z | z
        · omega
        · exact (kl_isp_2 hp (by omega)).elim
      refine lv_if_ne (tgt := 61) hx hb dX0_step_40 (by decide) (fun _ => ?_) (fun hc => absurd hc (fun z => h0 ((kl_n0 (by omega)).mp z)))
      refine lv_aload_n hx hb dX0_step_61 rfl (lv_at hl 3 rfl) ?_
      refine lv_iload_n hx hb dX0_step_62 rfl (lv_at hl 1 rfl) ?_
      refine kl_CI.call (C := (RX0, TX0, 7)) (As := [.int (nI t)]) (rest := []) (mX_occ l D d ad R S _ _ _ E t ht hS2) ⟨hx, hb, hml, hown, hts⟩ (cwX0_occupiedAround hts rfl rfl ⟨Nat.le_of_ble_eq_true rfl, Nat.le_of_ble_eq_true rfl⟩) (ci := 0) rfl rfl hK hP hD hS hA rfl hl.1 rfl (Nat.le_of_ble_eq_true rfl) dX0_step_63 ⟨Nat.zero_le _, Nat.zero_le _⟩ (fun H locs hP hD hS => ?_)
      refine lv_istore (lv' := [(5, .int (nI (kl_occ S t 4))), (4, .int (nI (r - kl_ps (kl_w R S) t))), (3, .int (nI t)), (2, .int (nI (kl_ps (kl_w R S) 48))), (0, .ref (ad 0)), (1, .int (nI r))]) hx hb dX0_step_66 hl (by decide) rfl (fun ls hl => ?_)
      refine lv_iload hx hb dX0_step_68 (lv_at hl 1 rfl) ?_
      refine lv_aload_n hx hb dX0_step_70 rfl (lv_at hl 4 rfl) ?_
      refine gX_rates hx hb hts hown hK hP dX0_step_71 ?_
      refine lv_iload hx hb dX0_step_74 (lv_at hl 0 rfl) ?_
      have ho7 : kl_occ S t 4 < 7 := Nat.lt_of_le_of_lt (kl_occ_le S t 4) (by decide)
      have hRo := hR _ ho7
      refine ldX_rates hx hb hK hP (kl_occ S t 4) (ho7) (v := nI (R (kl_occ S t 4))) (rfl) (rfl) dX0_step_76 ?_
      rcases kl_isp_1 hp h1 with ⟨he, hlt⟩ | ⟨k, he, hk4, hge, hz, ha, hbb⟩
      · subst he
        refine lv_icmp_ge (tgt := 101) hx hb dX0_step_77 (by decide) (fun hc => absurd hc (nI_ge hlt (by omega))) (fun _ => ?_)
        refine lv_aload_n hx hb dX0_step_80 rfl (lv_at hl 4 rfl) ?_
        refine lv_iload_n hx hb dX0_step_81 rfl (lv_at hl 2 rfl) ?_
        refine lv_iconst (v := nI 0) hx hb dX0_step_82 (by decide) ?_
        refine kl_CV.call (C := (RX0, TX0, 7)) (As := [.int (nI t), .int (nI 0)]) (rest := []) (mX_becomeX l D d ad R S E t ht hS2 0 (by decide)) ⟨hx, hb, hml, hown, hts⟩ (cwX0_become hts rfl rfl ⟨Nat.le_of_ble_eq_true rfl, Nat.le_of_ble_eq_true rfl⟩) (ci := 0) rfl rfl hK hP hD hS hA rfl hl.1 rfl (Nat.le_of_ble_eq_true rfl) dX0_step_83 ⟨Nat.zero_le _, Nat.zero_le _⟩ (fun H locs hP hD hS => ?_)
        refine lv_aload_n hx hb dX0_step_86 rfl (lv_at hl 4 rfl) ?_
        refine gX_events hx hb hts hown hK hP dX0_step_87 ?_
        refine lv_iconst (v := nI 1) hx hb dX0_step_90 (by decide) ?_
        refine lv_dup2_11 hx hb dX0_step_91 rfl rfl ?_
        refine ldX_events hx hb hK hP (1) (by decide) (v := E 1) (rfl) (rfl) dX0_step_92 ?_
        refine lv_iconst (v := nI 1) hx hb dX0_step_93 (by decide) ?_
        refine lv_iadd hx hb dX0_step_94 ?_
        refine stX_events hx hb hK hP hD hS (1) (by decide) (rfl) (kl_hE E 1) (fun j _ => rfl) dX0_step_95 (fun H locs hP hD hS => ?_)
        refine lv_iload_n hx hb dX0_step_96 rfl (lv_at hl 2 rfl) ?_
        refine lv_bipush (v := nI 64) hx hb dX0_step_97 (by decide) ?_
        refine lv_iadd hx hb dX0_step_99 ?_
        refine kl_top (v := nI (t + 64)) (nI_add _ _) ?_
        exact ret _ _ _ _ _ (hP) (hD) hS dX0_step_100 (rfl)
      · subst he
        rw [kl_hS2, kl_hA2] at ret
        refine lv_icmp_ge (tgt := 101) hx hb dX0_step_77 (by decide) (fun _ => ?_) (fun hc => absurd (nI_le hge (by omega)) hc)
        refine lv_aload_n hx hb dX0_step_101 rfl (lv_at hl 4 rfl) ?_
        refine lv_iload_n hx hb dX0_step_102 rfl (lv_at hl 2 rfl) ?_
        refine lv_iload hx hb dX0_step_103 (lv_at hl 1 rfl) ?_
        refine lv_aload_n hx hb dX0_step_105 rfl (lv_at hl 4 rfl) ?_
        refine gX_rates hx hb hts hown hK hP dX0_step_106 ?_
        refine lv_iload hx hb dX0_step_109 (lv_at hl 0 rfl) ?_
        refine ldX_rates hx hb hK hP (kl_occ S t 4) (ho7) (v := nI (R (kl_occ S t 4))) (rfl) (rfl) dX0_step_111 ?_
        refine lv_isub hx hb dX0_step_112 ?_
        refine kl_top (v := nI (r - kl_ps (kl_w R S) t - R (kl_occ S t 4))) (pk_sub hge) ?_
        refine kl_CI.call (C := (RX0, TX0, 7)) (As := [.int (nI t), .int (nI (r - kl_ps (kl_w R S) t - R (kl_occ S t 4)))]) (rest := []) (mX_hopOf l D d ad R S _ _ _ E t ht hS2 _ k hk4 hz ha hbb (hR 6 (by decide)) (by have := kl_ps_le (S := S) hR 48; omega)) ⟨hx, hb, hml, hown, hts⟩ (cwX0_hopOf hts rfl rfl ⟨Nat.le_of_ble_eq_true rfl, Nat.le_of_ble_eq_true rfl⟩) (ci := 0) rfl rfl hK hP hD hS hA rfl hl.1 rfl (Nat.le_of_ble_eq_true rfl) dX0_step_113 ⟨Nat.zero_le _, Nat.zero_le _⟩ (fun H locs hP hD hS => ?_)
        refine lv_istore (lv' := [(6, .int (nI k)), (5, .int (nI (kl_occ S t 4))), (4, .int (nI (r - kl_ps (kl_w R S) t))), (3, .int (nI t)), (2, .int (nI (kl_ps (kl_w R S) 48))), (0, .ref (ad 0)), (1, .int (nI r))]) hx hb dX0_step_116 hl (by decide) rfl (fun ls hl => ?_)
        refine lv_aload_n hx hb dX0_step_118 rfl (lv_at hl 5 rfl) ?_
        refine lv_iload_n hx hb dX0_step_119 rfl (lv_at hl 3 rfl) ?_
        refine lv_iconst (v := nI 0) hx hb dX0_step_120 (by decide) ?_
        refine kl_CV.call (C := (RX0, TX0, 7)) (As := [.int (nI t), .int (nI 0)]) (rest := []) (mX_becomeX l D d ad R S E t ht hS2 0 (by decide)) ⟨hx, hb, hml, hown, hts⟩ (cwX0_become hts rfl rfl ⟨Nat.le_of_ble_eq_true rfl, Nat.le_of_ble_eq_true rfl⟩) (ci := 0) rfl rfl hK hP hD hS hA rfl hl.1 rfl (Nat.le_of_ble_eq_true rfl) dX0_step_121 ⟨Nat.zero_le _, Nat.zero_le _⟩ (fun H locs hP hD hS => ?_)
        refine lv_aload_n hx hb dX0_step_124 rfl (lv_at hl 5 rfl) ?_
        refine lv_aload_n hx hb dX0_step_125 rfl (lv_at hl 5 rfl) ?_
        refine gX_next hx hb hts hown hK hP dX0_step_126 ?_
        refine lv_iload_n hx hb dX0_step_129 rfl (lv_at hl 3 rfl) ?_
        refine lv_iconst (v := nI 4) hx hb dX0_step_130 (by decide) ?_
        refine lv_imul hx hb dX0_step_131 ?_
        refine kl_top (v := nI (t * 4)) (pk_mul _ _) ?_
        refine lv_iload hx hb dX0_step_132 (lv_at hl 0 rfl) ?_
        refine lv_iadd hx hb dX0_step_134 ?_
        refine kl_top (v := nI (t * 4 + k)) (nI_add _ _) ?_
        refine ldX_next hx hb hK hP (t * 4 + k) (by omega) (v := nI (kl_nb t k)) (rfl) (congrArg nI (kl_nr_at hk4)) dX0_step_135 ?_
        refine lv_iconst (v := nI 1) hx hb dX0_step_136 (by decide) ?_
        refine kl_CV.call (C := (RX0, TX0, 7)) (As := [.int (nI (kl_nb t k)), .int (nI 1)]) (rest := []) (mX_becomeX l D d ad R (kl_u S t 0) E (kl_nb t k) (kl_nb_lt ht k) (kl_u_le hS2 (by decide)) 1 (by decide)) ⟨hx, hb, hml, hown, hts⟩ (cwX0_become hts rfl rfl ⟨Nat.le_of_ble_eq_true rfl, Nat.le_of_ble_eq_true rfl⟩) (ci := 0) rfl rfl hK hP hD hS hA rfl hl.1 rfl (Nat.le_of_ble_eq_true rfl) dX0_step_137 ⟨Nat.zero_le _, Nat.zero_le _⟩ (fun H locs hP hD hS => ?_)
        refine lv_aload_n hx hb dX0_step_140 rfl (lv_at hl 5 rfl) ?_
        refine gX_events hx hb hts hown hK hP dX0_step_141 ?_
        refine lv_iconst (v := nI 2) hx hb dX0_step_144 (by decide) ?_
        refine lv_dup2_11 hx hb dX0_step_145 rfl rfl ?_
        refine ldX_events hx hb hK hP (2) (by decide) (v := E 2) (rfl) (rfl) dX0_step_146 ?_
        refine lv_iconst (v := nI 1) hx hb dX0_step_147 (by decide) ?_
        refine lv_iadd hx hb dX0_step_148 ?_
        refine stX_events hx hb hK hP hD hS (2) (by decide) (rfl) (kl_hE E (k + 2)) (fun j _ => kl_hE2 E k j) dX0_step_149 (fun H locs hP hD hS => ?_)
        refine lv_iload_n hx hb dX0_step_150 rfl (lv_at hl 3 rfl) ?_
        refine lv_sipush (v := nI 128) hx hb dX0_step_151 (by decide) ?_
        refine lv_iadd hx hb dX0_step_154 ?_
        refine kl_top (v := nI (t + 128)) (nI_add _ _) ?_
        refine lv_sipush (v := nI 256) hx hb dX0_step_155 (by decide) ?_
        refine lv_iload hx hb dX0_step_158 (lv_at hl 0 rfl) ?_
        refine lv_imul hx hb dX0_step_160 ?_
        refine kl_top (v := nI (256 * k)) (pk_mul _ _) ?_
        refine lv_iadd hx hb dX0_step_161 ?_
        refine kl_top (v := nI (t + 128 + 256 * k)) (nI_add _ _) ?_
        exact ret _ _ _ _ _ (hP) (hD) hS dX0_step_162 (rfl)
set_option maxHeartbeats 4000000 in
set_option maxRecDepth 100000 in
/-- many events -/
theorem mX_run (l : Launch) (D : va_G) (d : ClassId) (ad : Nat → Nat) (R S : Nat → Nat) (E : Nat → Int32) (hR : ∀ k, k < 7 → R k ≤ 1000) (hS2 : ∀ j, j < 48 → S j ≤ 2) (x y : Int32) : kl_CI l yX0_run cX0_run 8 (kl_rm 6 138) D d [.ref (ad 0), .int x, .int y] (kl_X ad d R S E) (nI (kl_it R (S, E, y, 0) (kl_cl 200 x)).2.2.2) (kl_X ad d R (kl_it R (S, E, y, 0) (kl_cl 200 x)).1 (kl_it R (S, E, y, 0) (kl_cl 200 x)).2.1) := by
  refine kl_CI.of (by decide) (Nat.le_of_ble_eq_true rfl) ?_
  intro p e s m args below meth c A Q ls hx hb hml hown hts hA hK hP hD hS ret hl
  have hl : lv_has ls 8 [(0, .ref (ad 0)), (1, .int x), (2, .int y)] := hl
  have loop : ∀ (M : Int32), (∀ i, i ≤ kl_cl 200 x → (M ≤ nI i ↔ kl_cl 200 x ≤ i)) → ∀ (n i : Nat) (q : kl_Q) (H : Heap) (locs : List Loc) (ls : Array Slot), i + n = kl_cl 200 x → q = kl_it R (S, E, y, 0) i → va_P D vwCl (kl_X ad d R q.1 q.2.1) H → va_D A (kl_X ad d R q.1 q.2.1) → va_S A s.heap H locs → lv_has ls 8 [(0, .ref (ad 0)), (3, .int M), (4, .int q.2.2.1), (5, .int (nI q.2.2.2)), (6, .int (nI i))] → W p l e (kl_rm 6 138) s m args below meth c H locs 0 0 Q (F0 m 24 ls []) := by
    intro M hM n
    induction n with
    | zero =>
      intro i q H locs ls hi eq hP hD hS hl
      have hi : i = kl_cl 200 x := by omega
      subst hi
      subst eq
      refine lv_iload hx hb dX0_run_24 (lv_at hl 4 rfl) ?_
      refine lv_iload_n hx hb dX0_run_26 rfl (lv_at hl 1 rfl) ?_
      refine lv_icmp_ge (tgt := 79) hx hb dX0_run_27 (by decide) (fun _ => ?_) (fun hc => absurd ((hM _ (Nat.le_refl _)).mpr (Nat.le_refl _)) hc)
      refine lv_iload hx hb dX0_run_79 (lv_at hl 3 rfl) ?_
      exact ret _ _ _ _ _ (hP) (hD) hS dX0_run_81 (rfl)
    | succ n ih =>
      intro i q H locs ls hi eq hP hD hS hl
      have hq : ∀ j, j < 48 → q.1 j ≤ 2 := by rw [eq]; exact kl_it_le hS2 i
      have hbd := kl_ps_bd (S := q.1) hR
      have e1 : kl_it R (S, E, y, 0) (i + 1) = kl_i1 R q := by rw [eq]; rfl
      refine lv_iload hx hb dX0_run_24 (lv_at hl 4 rfl) ?_
      refine lv_iload_n hx hb dX0_run_26 rfl (lv_at hl 1 rfl) ?_
      refine lv_icmp_ge (tgt := 79) hx hb dX0_run_27 (by decide) (fun hc => absurd hc (fun z => absurd ((hM i (by omega)).mp z) (by omega))) (fun _ => ?_)
      refine lv_aload_n hx hb dX0_run_30 rfl (lv_at hl 0 rfl) ?_
      refine lv_bipush (v := nI 48) hx hb dX0_run_31 (by decide) ?_
      refine kl_CI.call (C := (RX0, TX0, 7)) (As := [.int (nI 48)]) (rest := []) (mX_prefix l D d ad _ _ _ _ (kl_w R q.1) _ _ 48 (by decide)) ⟨hx, hb, hml, hown, hts⟩ (cwX0_prefix hts rfl rfl ⟨Nat.le_of_ble_eq_true rfl, Nat.le_of_ble_eq_true rfl⟩) (ci := 0) rfl rfl hK hP hD hS hA rfl hl.1 rfl (Nat.le_of_ble_eq_true rfl) dX0_run_33 ⟨Nat.zero_le _, Nat.zero_le _⟩ (fun H locs hP hD hS => ?_)
      refine lv_istore (lv' := [(7, .int (nI (kl_ps (kl_w R q.1) 48))), (0, .ref (ad 0)), (3, .int M), (4, .int q.2.2.1), (5, .int (nI q.2.2.2)), (6, .int (nI i))]) hx hb dX0_run_36 hl (by decide) rfl (fun ls hl => ?_)
      refine lv_iload hx hb dX0_run_38 (lv_at hl 0 rfl) ?_
      by_cases h0 : 0 < kl_ps (kl_w R q.1) 48
      · have e2 : kl_i1 R q = _ := if_pos h0
        refine lv_if_le (tgt := 73) hx hb dX0_run_40 (by decide) (fun hc => absurd hc (nI_nle h0 hbd)) (fun _ => ?_)
        refine lv_iload hx hb dX0_run_43 (lv_at hl 3 rfl) ?_
        refine lv_ldc hx hb hown (hts _ q109) dX0_run_45 ?_
        refine lv_imul hx hb dX0_run_47 ?_
        refine lv_sipush (v := nI 12345) hx hb dX0_run_48 (by decide) ?_
        refine lv_iadd hx hb dX0_run_51 ?_
        refine kl_top (v := kl_lcg q.2.2.1) (rfl) ?_
        refine lv_istore (lv' := [(4, .int (kl_lcg q.2.2.1)), (7, .int (nI (kl_ps (kl_w R q.1) 48))), (0, .ref (ad 0)), (3, .int M), (5, .int (nI q.2.2.2)), (6, .int (nI i))]) hx hb dX0_run_52 hl (by decide) rfl (fun ls hl => ?_)
        refine lv_aload_n hx hb dX0_run_54 rfl (lv_at hl 2 rfl) ?_
        refine lv_iload hx hb dX0_run_55 (lv_at hl 0 rfl) ?_
        refine lv_bipush (v := nI 8) hx hb dX0_run_57 (by decide) ?_
        refine lv_iushr (v := (((kl_lcg q.2.2.1)).toUInt32 >>> (((nI 8)).toUInt32 &&& Int32.toUInt32 31)).toInt32) hx hb dX0_run_59 rfl ?_
        refine lv_ldc hx hb hown (hts _ q110) dX0_run_60 ?_
        refine lv_iand hx hb dX0_run_62 ?_
        refine lv_iload hx hb dX0_run_63 (lv_at hl 1 rfl) ?_
        refine lv_irem hx hb dX0_run_65 (nI_ne0 h0 hbd) ?_
        refine kl_top (v := kl_ar (kl_lcg q.2.2.1) (nI (kl_ps (kl_w R q.1) 48))) (rfl) ?_
        refine kl_CI.call (C := (RX0, TX0, 7)) (As := [.int (kl_ar (kl_lcg q.2.2.1) (nI (kl_ps (kl_w R q.1) 48)))]) (rest := []) (mX_step l D d ad R q.1 q.2.1 hR hq _) ⟨hx, hb, hml, hown, hts⟩ (cwX0_step hts rfl rfl ⟨Nat.le_of_ble_eq_true rfl, Nat.le_of_ble_eq_true rfl⟩) (ci := 0) rfl rfl hK hP hD hS hA rfl hl.1 rfl (Nat.le_of_ble_eq_true rfl) dX0_run_66 ⟨Nat.zero_le _, Nat.zero_le _⟩ (fun H locs hP hD hS => ?_)
        refine lv_pop hx hb dX0_run_69 rfl ?_
        refine lv_iinc (v := nI (q.2.2.2 + 1)) (lv' := [(5, .int (nI (q.2.2.2 + 1))), (4, .int (kl_lcg q.2.2.1)), (7, .int (nI (kl_ps (kl_w R q.1) 48))), (0, .ref (ad 0)), (3, .int M), (6, .int (nI i))]) hx hb dX0_run_70 hl (k := 4) rfl (nI_1 _) (by decide) rfl (fun ls hl => ?_)
        refine lv_iinc (v := nI (i + 1)) (lv' := [(6, .int (nI (i + 1))), (5, .int (nI (q.2.2.2 + 1))), (4, .int (kl_lcg q.2.2.1)), (7, .int (nI (kl_ps (kl_w R q.1) 48))), (0, .ref (ad 0)), (3, .int M)]) hx hb dX0_run_73 hl (k := 5) rfl (nI_1 i) (by decide) rfl (fun ls hl => ?_)
        refine lv_goto (tgt := 24) hx hb dX0_run_76 (by decide) ?_
        exact ih (i + 1) _ H locs ls (by omega) (e2.symm.trans e1.symm) hP hD hS (lv_sub hl [4, 5, 2, 1, 0] rfl)
      · have e2 : kl_i1 R q = q := if_neg h0
        refine lv_if_le (tgt := 73) hx hb dX0_run_40 (by decide) (fun _ => ?_) (fun hc => absurd (by rw [show kl_ps (kl_w R q.1) 48 = 0 by omega]; decide) hc)
        refine lv_iinc (v := nI (i + 1)) (lv' := [(6, .int (nI (i + 1))), (7, .int (nI (kl_ps (kl_w R q.1) 48))), (0, .ref (ad 0)), (3, .int M), (4, .int q.2.2.1), (5, .int (nI q.2.2.2))]) hx hb dX0_run_73 hl (k := 5) rfl (nI_1 i) (by decide) rfl (fun ls hl => ?_)
        refine lv_goto (tgt := 24) hx hb dX0_run_76 (by decide) ?_
        exact ih (i + 1) q H locs ls (by omega) (e2.symm.trans e1.symm) hP hD hS (lv_sub hl [2, 3, 4, 5, 0] rfl)
  refine lv_iload_n hx hb dX0_run_0 rfl (lv_at hl 1 rfl) ?_
  refine lv_sipush (v := nI 200) hx hb dX0_run_1 (by decide) ?_
  rcases pk_ix x (n := 200) (by decide) with h | h | ⟨j, hj, rfl⟩
  · refine lv_icmp_le (tgt := 13) hx hb dX0_run_4 (by decide) (fun _ => ?_) (fun hc => absurd (Int32.le_of_lt (Int32.lt_of_lt_of_le h (by decide))) hc)
    refine lv_iload_n hx hb dX0_run_13 rfl (lv_at hl 1 rfl) ?_
    refine lv_istore_n (lv' := [(3, .int x), (0, .ref (ad 0)), (1, .int x), (2, .int y)]) hx hb dX0_run_14 rfl hl (by decide) rfl (fun ls hl => ?_)
    refine lv_iload_n hx hb dX0_run_15 rfl (lv_at hl 3 rfl) ?_
    refine lv_istore (lv' := [(4, .int y), (3, .int x), (0, .ref (ad 0)), (1, .int x), (2, .int y)]) hx hb dX0_run_16 hl (by decide) rfl (fun ls hl => ?_)
    refine lv_iconst (v := nI 0) hx hb dX0_run_18 (by decide) ?_
    refine lv_istore (lv' := [(5, .int (nI 0)), (4, .int y), (3, .int x), (0, .ref (ad 0)), (1, .int x), (2, .int y)]) hx hb dX0_run_19 hl (by decide) rfl (fun ls hl => ?_)
    refine lv_iconst (v := nI 0) hx hb dX0_run_21 (by decide) ?_
    refine lv_istore (lv' := [(6, .int (nI 0)), (5, .int (nI 0)), (4, .int y), (3, .int x), (0, .ref (ad 0)), (1, .int x), (2, .int y)]) hx hb dX0_run_22 hl (by decide) rfl (fun ls hl => ?_)
    exact loop (x) (fun i hi => by rw [kl_cl_neg h]; exact ⟨fun _ => Nat.zero_le _, fun _ => Int32.le_of_lt (Int32.lt_of_lt_of_le h (nI_pos' (by rw [kl_cl_neg h] at hi; omega)))⟩) (kl_cl 200 x) 0 (S, E, y, 0) s.heap [] ls (Nat.zero_add _) rfl hP hD hS (lv_sub hl [4, 3, 2, 1, 0] rfl)
  · refine lv_icmp_le (tgt := 13) hx hb dX0_run_4 (by decide) (fun hc => ?_) (fun hc => ?_)
    · have ex : x = nI 200 := Int32.le_antisymm hc h
      subst ex
      refine lv_iload_n hx hb dX0_run_13 rfl (lv_at hl 1 rfl) ?_
      refine lv_istore_n (lv' := [(3, .int (nI 200)), (0, .ref (ad 0)), (1, .int (nI 200)), (2, .int y)]) hx hb dX0_run_14 rfl hl (by decide) rfl (fun ls hl => ?_)
      refine lv_iload_n hx hb dX0_run_15 rfl (lv_at hl 3 rfl) ?_
      refine lv_istore (lv' := [(4, .int y), (3, .int (nI 200)), (0, .ref (ad 0)), (1, .int (nI 200)), (2, .int y)]) hx hb dX0_run_16 hl (by decide) rfl (fun ls hl => ?_)
      refine lv_iconst (v := nI 0) hx hb dX0_run_18 (by decide) ?_
      refine lv_istore (lv' := [(5, .int (nI 0)), (4, .int y), (3, .int (nI 200)), (0, .ref (ad 0)), (1, .int (nI 200)), (2, .int y)]) hx hb dX0_run_19 hl (by decide) rfl (fun ls hl => ?_)
      refine lv_iconst (v := nI 0) hx hb dX0_run_21 (by decide) ?_
      refine lv_istore (lv' := [(6, .int (nI 0)), (5, .int (nI 0)), (4, .int y), (3, .int (nI 200)), (0, .ref (ad 0)), (1, .int (nI 200)), (2, .int y)]) hx hb dX0_run_22 hl (by decide) rfl (fun ls hl => ?_)
      exact loop (nI 200) (fun i hi => by rw [kl_cl_big (by decide) h] at hi ⊢; exact nI_leI (by decide) (by omega)) (kl_cl 200 (nI 200)) 0 (S, E, y, 0) s.heap [] ls (Nat.zero_add _) rfl hP hD hS (lv_sub hl [4, 3, 2, 1, 0] rfl)
    · refine lv_sipush (v := nI 200) hx hb dX0_run_7 (by decide) ?_
      refine lv_goto (tgt := 14) hx hb dX0_run_10 (by decide) ?_
      refine lv_istore_n (lv' := [(3, .int (nI 200)), (0, .ref (ad 0)), (1, .int x), (2, .int y)]) hx hb dX0_run_14 rfl hl (by decide) rfl (fun ls hl => ?_)
      refine lv_iload_n hx hb dX0_run_15 rfl (lv_at hl 3 rfl) ?_
      refine lv_istore (lv' := [(4, .int y), (3, .int (nI 200)), (0, .ref (ad 0)), (1, .int x), (2, .int y)]) hx hb dX0_run_16 hl (by decide) rfl (fun ls hl => ?_)
      refine lv_iconst (v := nI 0) hx hb dX0_run_18 (by decide) ?_
      refine lv_istore (lv' := [(5, .int (nI 0)), (4, .int y), (3, .int (nI 200)), (0, .ref (ad 0)), (1, .int x), (2, .int y)]) hx hb dX0_run_19 hl (by decide) rfl (fun ls hl => ?_)
      refine lv_iconst (v := nI 0) hx hb dX0_run_21 (by decide) ?_
      refine lv_istore (lv' := [(6, .int (nI 0)), (5, .int (nI 0)), (4, .int y), (3, .int (nI 200)), (0, .ref (ad 0)), (1, .int x), (2, .int y)]) hx hb dX0_run_22 hl (by decide) rfl (fun ls hl => ?_)
      exact loop (nI 200) (fun i hi => by rw [kl_cl_big (by decide) h] at hi ⊢; exact nI_leI (by decide) (by omega)) (kl_cl 200 x) 0 (S, E, y, 0) s.heap [] ls (Nat.zero_add _) rfl hP hD hS (lv_sub hl [4, 3, 2, 1, 0] rfl)
  · refine lv_icmp_le (tgt := 13) hx hb dX0_run_4 (by decide) (fun _ => ?_) (fun hc => absurd (nI_le (by omega) (by decide)) hc)
    refine lv_iload_n hx hb dX0_run_13 rfl (lv_at hl 1 rfl) ?_
    refine lv_istore_n (lv' := [(3, .int (nI j)), (0, .ref (ad 0)), (1, .int (nI j)), (2, .int y)]) hx hb dX0_run_14 rfl hl (by decide) rfl (fun ls hl => ?_)
    refine lv_iload_n hx hb dX0_run_15 rfl (lv_at hl 3 rfl) ?_
    refine lv_istore (lv' := [(4, .int y), (3, .int (nI j)), (0, .ref (ad 0)), (1, .int (nI j)), (2, .int y)]) hx hb dX0_run_16 hl (by decide) rfl (fun ls hl => ?_)
    refine lv_iconst (v := nI 0) hx hb dX0_run_18 (by decide) ?_
    refine lv_istore (lv' := [(5, .int (nI 0)), (4, .int y), (3, .int (nI j)), (0, .ref (ad 0)), (1, .int (nI j)), (2, .int y)]) hx hb dX0_run_19 hl (by decide) rfl (fun ls hl => ?_)
    refine lv_iconst (v := nI 0) hx hb dX0_run_21 (by decide) ?_
    refine lv_istore (lv' := [(6, .int (nI 0)), (5, .int (nI 0)), (4, .int y), (3, .int (nI j)), (0, .ref (ad 0)), (1, .int (nI j)), (2, .int y)]) hx hb dX0_run_22 hl (by decide) rfl (fun ls hl => ?_)
    exact loop (nI j) (fun i hi => by rw [kl_cl_at hj (by decide)] at hi ⊢; exact nI_leI (by omega) (by omega)) (kl_cl 200 (nI j)) 0 (S, E, y, 0) s.heap [] ls (Nat.zero_add _) rfl hP hD hS (lv_sub hl [4, 3, 2, 1, 0] rfl)
end
section
set_option maxHeartbeats 4000000 in
set_option maxRecDepth 100000 in
theorem mM_neighbour (l : Launch) (D : va_G) (d : ClassId) (ad : Nat → Nat) (fR fS fE : Nat → Int32) (t : Nat) (ht : t < 48) (k : Nat) (hk : k < 4) : kl_CI l yX1_neighbour cX1_neighbour 5 (kl_rm 0 0) D d [.ref (ad 0), .int (nI t), .int (nI k)] (kl_wM ad d fR fS fE) (nI (kl_nb t k)) (kl_wM ad d fR fS fE) := by
  refine kl_CI.of (by decide) (Nat.le_of_ble_eq_true rfl) ?_
  intro p e s m args below meth c A Q ls hx hb hml hown hts hA hK hP hD hS ret hl
  have hl : lv_has ls 5 [(0, .ref (ad 0)), (1, .int (nI t)), (2, .int (nI k))] := hl
  refine lv_iload_n hx hb dX1_neighbour_0 rfl (lv_at hl 1 rfl) ?_
  refine lv_bipush (v := nI 6) hx hb dX1_neighbour_1 (by decide) ?_
  refine lv_irem hx hb dX1_neighbour_3 (by decide) ?_
  refine kl_top (v := nI (t % 6)) (pk_rem (by omega) (by decide) (by decide)) ?_
  refine lv_istore_n (lv' := [(3, .int (nI (t % 6))), (0, .ref (ad 0)), (1, .int (nI t)), (2, .int (nI k))]) hx hb dX1_neighbour_4 rfl hl (by decide) rfl (fun ls hl => ?_)
  refine lv_iload_n hx hb dX1_neighbour_5 rfl (lv_at hl 2 rfl) ?_
  refine lv_bipush (v := nI 6) hx hb dX1_neighbour_6 (by decide) ?_
  refine lv_idiv hx hb dX1_neighbour_8 (by decide) ?_
  refine kl_top (v := nI (t / 6)) (pk_div (by omega) (by decide) (by decide)) ?_
  refine lv_istore (lv' := [(4, .int (nI (t / 6))), (3, .int (nI (t % 6))), (0, .ref (ad 0)), (1, .int (nI t)), (2, .int (nI k))]) hx hb dX1_neighbour_9 hl (by decide) rfl (fun ls hl => ?_)
  refine lv_iload_n hx hb dX1_neighbour_11 rfl (lv_at hl 4 rfl) ?_
  rcases (show k = 0 ∨ k = 1 ∨ k = 2 ∨ k = 3 by omega) with rfl | rfl | rfl | rfl
  · refine lv_if_ne (tgt := 22) hx hb dX1_neighbour_12 (by decide) (fun hc => absurd (by decide) hc) (fun _ => ?_)
    refine lv_iload_n hx hb dX1_neighbour_15 rfl (lv_at hl 1 rfl) ?_
    refine lv_iconst (v := nI 1) hx hb dX1_neighbour_16 (by decide) ?_
    refine lv_iadd hx hb dX1_neighbour_17 ?_
    refine kl_top (v := nI (t % 6 + 1)) (nI_add _ _) ?_
    refine lv_bipush (v := nI 6) hx hb dX1_neighbour_18 (by decide) ?_
    refine lv_irem hx hb dX1_neighbour_20 (by decide) ?_
    refine kl_top (v := nI ((t % 6 + 1) % 6)) (pk_rem (by omega) (by decide) (by decide)) ?_
    refine lv_istore_n (lv' := [(3, .int (nI ((t % 6 + 1) % 6))), (4, .int (nI (t / 6))), (0, .ref (ad 0)), (1, .int (nI t)), (2, .int (nI 0))]) hx hb dX1_neighbour_21 rfl hl (by decide) rfl (fun ls hl => ?_)
    refine lv_iload_n hx hb dX1_neighbour_22 rfl (lv_at hl 4 rfl) ?_
    refine lv_iconst (v := nI 1) hx hb dX1_neighbour_23 (by decide) ?_
    refine lv_icmp_ne (tgt := 34) hx hb dX1_neighbour_24 (by decide) (fun _ => ?_) (fun hc => absurd hc (by decide))
    refine lv_iload_n hx hb dX1_neighbour_34 rfl (lv_at hl 4 rfl) ?_
    refine lv_iconst (v := nI 2) hx hb dX1_neighbour_35 (by decide) ?_
    refine lv_icmp_ne (tgt := 48) hx hb dX1_neighbour_36 (by decide) (fun _ => ?_) (fun hc => absurd hc (by decide))
    refine lv_iload_n hx hb dX1_neighbour_48 rfl (lv_at hl 4 rfl) ?_
    refine lv_iconst (v := nI 3) hx hb dX1_neighbour_49 (by decide) ?_
    refine lv_icmp_ne (tgt := 63) hx hb dX1_neighbour_50 (by decide) (fun _ => ?_) (fun hc => absurd hc (by decide))
    refine lv_iload hx hb dX1_neighbour_63 (lv_at hl 1 rfl) ?_
    refine lv_bipush (v := nI 6) hx hb dX1_neighbour_65 (by decide) ?_
    refine lv_imul hx hb dX1_neighbour_67 ?_
    refine kl_top (v := nI (t / 6 * 6)) (pk_mul _ _) ?_
    refine lv_iload_n hx hb dX1_neighbour_68 rfl (lv_at hl 0 rfl) ?_
    refine lv_iadd hx hb dX1_neighbour_69 ?_
    refine kl_top (v := nI (t / 6 * 6 + (t % 6 + 1) % 6)) (nI_add _ _) ?_
    exact ret _ _ _ _ _ (hP) (hD) hS dX1_neighbour_70 (rfl)
  · refine lv_if_ne (tgt := 22) hx hb dX1_neighbour_12 (by decide) (fun _ => ?_) (fun hc => absurd hc (by decide))
    refine lv_iload_n hx hb dX1_neighbour_22 rfl (lv_at hl 4 rfl) ?_
    refine lv_iconst (v := nI 1) hx hb dX1_neighbour_23 (by decide) ?_
    refine lv_icmp_ne (tgt := 34) hx hb dX1_neighbour_24 (by decide) (fun hc => absurd (rfl) hc) (fun _ => ?_)
    refine lv_iload_n hx hb dX1_neighbour_27 rfl (lv_at hl 1 rfl) ?_
    refine lv_iconst (v := nI 5) hx hb dX1_neighbour_28 (by decide) ?_
    refine lv_iadd hx hb dX1_neighbour_29 ?_
    refine kl_top (v := nI (t % 6 + 5)) (nI_add _ _) ?_
    refine lv_bipush (v := nI 6) hx hb dX1_neighbour_30 (by decide) ?_
    refine lv_irem hx hb dX1_neighbour_32 (by decide) ?_
    refine kl_top (v := nI ((t % 6 + 5) % 6)) (pk_rem (by omega) (by decide) (by decide)) ?_
    refine lv_istore_n (lv' := [(3, .int (nI ((t % 6 + 5) % 6))), (4, .int (nI (t / 6))), (0, .ref (ad 0)), (1, .int (nI t)), (2, .int (nI 1))]) hx hb dX1_neighbour_33 rfl hl (by decide) rfl (fun ls hl => ?_)
    refine lv_iload_n hx hb dX1_neighbour_34 rfl (lv_at hl 4 rfl) ?_
    refine lv_iconst (v := nI 2) hx hb dX1_neighbour_35 (by decide) ?_
    refine lv_icmp_ne (tgt := 48) hx hb dX1_neighbour_36 (by decide) (fun _ => ?_) (fun hc => absurd hc (by decide))
    refine lv_iload_n hx hb dX1_neighbour_48 rfl (lv_at hl 4 rfl) ?_
    refine lv_iconst (v := nI 3) hx hb dX1_neighbour_49 (by decide) ?_
    refine lv_icmp_ne (tgt := 63) hx hb dX1_neighbour_50 (by decide) (fun _ => ?_) (fun hc => absurd hc (by decide))
    refine lv_iload hx hb dX1_neighbour_63 (lv_at hl 1 rfl) ?_
    refine lv_bipush (v := nI 6) hx hb dX1_neighbour_65 (by decide) ?_
    refine lv_imul hx hb dX1_neighbour_67 ?_
    refine kl_top (v := nI (t / 6 * 6)) (pk_mul _ _) ?_
    refine lv_iload_n hx hb dX1_neighbour_68 rfl (lv_at hl 0 rfl) ?_
    refine lv_iadd hx hb dX1_neighbour_69 ?_
    refine kl_top (v := nI (t / 6 * 6 + (t % 6 + 5) % 6)) (nI_add _ _) ?_
    exact ret _ _ _ _ _ (hP) (hD) hS dX1_neighbour_70 (rfl)
  · refine lv_if_ne (tgt := 22) hx hb dX1_neighbour_12 (by decide) (fun _ => ?_) (fun hc => absurd hc (by decide))
    refine lv_iload_n hx hb dX1_neighbour_22 rfl (lv_at hl 4 rfl) ?_
    refine lv_iconst (v := nI 1) hx hb dX1_neighbour_23 (by decide) ?_
    refine lv_icmp_ne (tgt := 34) hx hb dX1_neighbour_24 (by decide) (fun _ => ?_) (fun hc => absurd hc (by decide))
    refine lv_iload_n hx hb dX1_neighbour_34 rfl (lv_at hl 4 rfl) ?_
    refine lv_iconst (v := nI 2) hx hb dX1_neighbour_35 (by decide) ?_
    refine lv_icmp_ne (tgt := 48) hx hb dX1_neighbour_36 (by decide) (fun hc => absurd (rfl) hc) (fun _ => ?_)
    refine lv_iload hx hb dX1_neighbour_39 (lv_at hl 0 rfl) ?_
    refine lv_iconst (v := nI 1) hx hb dX1_neighbour_41 (by decide) ?_
    refine lv_iadd hx hb dX1_neighbour_42 ?_
    refine kl_top (v := nI (t / 6 + 1)) (nI_add _ _) ?_
    refine lv_bipush (v := nI 8) hx hb dX1_neighbour_43 (by decide) ?_
    refine lv_irem hx hb dX1_neighbour_45 (by decide) ?_
    refine kl_top (v := nI ((t / 6 + 1) % 8)) (pk_rem (by omega) (by decide) (by decide)) ?_
    refine lv_istore (lv' := [(4, .int (nI ((t / 6 + 1) % 8))), (3, .int (nI (t % 6))), (0, .ref (ad 0)), (1, .int (nI t)), (2, .int (nI 2))]) hx hb dX1_neighbour_46 hl (by decide) rfl (fun ls hl => ?_)
    refine lv_iload_n hx hb dX1_neighbour_48 rfl (lv_at hl 4 rfl) ?_
    refine lv_iconst (v := nI 3) hx hb dX1_neighbour_49 (by decide) ?_
    refine lv_icmp_ne (tgt := 63) hx hb dX1_neighbour_50 (by decide) (fun _ => ?_) (fun hc => absurd hc (by decide))
    refine lv_iload hx hb dX1_neighbour_63 (lv_at hl 0 rfl) ?_
    refine lv_bipush (v := nI 6) hx hb dX1_neighbour_65 (by decide) ?_
    refine lv_imul hx hb dX1_neighbour_67 ?_
    refine kl_top (v := nI ((t / 6 + 1) % 8 * 6)) (pk_mul _ _) ?_
    refine lv_iload_n hx hb dX1_neighbour_68 rfl (lv_at hl 1 rfl) ?_
    refine lv_iadd hx hb dX1_neighbour_69 ?_
    refine kl_top (v := nI ((t / 6 + 1) % 8 * 6 + t % 6)) (nI_add _ _) ?_
    exact ret _ _ _ _ _ (hP) (hD) hS dX1_neighbour_70 (rfl)
  · refine lv_if_ne (tgt := 22) hx hb dX1_neighbour_12 (by decide) (fun _ => ?_) (fun hc => absurd hc (by decide))
    refine lv_iload_n hx hb dX1_neighbour_22 rfl (lv_at hl 4 rfl) ?_
    refine lv_iconst (v := nI 1) hx hb dX1_neighbour_23 (by decide) ?_
    refine lv_icmp_ne (tgt := 34) hx hb dX1_neighbour_24 (by decide) (fun _ => ?_) (fun hc => absurd hc (by decide))
    refine lv_iload_n hx hb dX1_neighbour_34 rfl (lv_at hl 4 rfl) ?_
    refine lv_iconst (v := nI 2) hx hb dX1_neighbour_35 (by decide) ?_
    refine lv_icmp_ne (tgt := 48) hx hb dX1_neighbour_36 (by decide) (fun _ => ?_) (fun hc => absurd hc (by decide))
    refine lv_iload_n hx hb dX1_neighbour_48 rfl (lv_at hl 4 rfl) ?_
    refine lv_iconst (v := nI 3) hx hb dX1_neighbour_49 (by decide) ?_
    refine lv_icmp_ne (tgt := 63) hx hb dX1_neighbour_50 (by decide) (fun hc => absurd (rfl) hc) (fun _ => ?_)
    refine lv_iload hx hb dX1_neighbour_53 (lv_at hl 0 rfl) ?_
    refine lv_bipush (v := nI 7) hx hb dX1_neighbour_55 (by decide) ?_
    refine lv_iadd hx hb dX1_neighbour_57 ?_
    refine kl_top (v := nI (t / 6 + 7)) (nI_add _ _) ?_
    refine lv_bipush (v := nI 8) hx hb dX1_neighbour_58 (by decide) ?_
    refine lv_irem hx hb dX1_neighbour_60 (by decide) ?_
    refine kl_top (v := nI ((t / 6 + 7) % 8)) (pk_rem (by omega) (by decide) (by decide)) ?_
    refine lv_istore (lv' := [(4, .int (nI ((t / 6 + 7) % 8))), (3, .int (nI (t % 6))), (0, .ref (ad 0)), (1, .int (nI t)), (2, .int (nI 3))]) hx hb dX1_neighbour_61 hl (by decide) rfl (fun ls hl => ?_)
    refine lv_iload hx hb dX1_neighbour_63 (lv_at hl 0 rfl) ?_
    refine lv_bipush (v := nI 6) hx hb dX1_neighbour_65 (by decide) ?_
    refine lv_imul hx hb dX1_neighbour_67 ?_
    refine kl_top (v := nI ((t / 6 + 7) % 8 * 6)) (pk_mul _ _) ?_
    refine lv_iload_n hx hb dX1_neighbour_68 rfl (lv_at hl 1 rfl) ?_
    refine lv_iadd hx hb dX1_neighbour_69 ?_
    refine kl_top (v := nI ((t / 6 + 7) % 8 * 6 + t % 6)) (nI_add _ _) ?_
    exact ret _ _ _ _ _ (hP) (hD) hS dX1_neighbour_70 (rfl)
set_option maxHeartbeats 4000000 in
set_option maxRecDepth 100000 in
theorem mM_occ (l : Launch) (D : va_G) (d : ClassId) (ad : Nat → Nat) (R S : Nat → Nat) (E : Nat → Int32) (t : Nat) (ht : t < 48) (hS2 : ∀ j, j < 48 → S j ≤ 2) : kl_CI l yX1_occupiedBeside cX1_occupiedBeside 4 (kl_rm 1 24) D d [.ref (ad 0), .int (nI t)] (kl_wN ad d R S E) (nI (kl_occ S t 4)) (kl_wN ad d R S E) := by
  refine kl_CI.of (by decide) (Nat.le_of_ble_eq_true rfl) ?_
  intro p e s m args below meth c A Q ls hx hb hml hown hts hA hK hP hD hS ret hl
  have hl : lv_has ls 4 [(0, .ref (ad 0)), (1, .int (nI t))] := hl
  have loop : ∀ (n k : Nat) (H : Heap) (locs : List Loc) (ls : Array Slot), k + n = 4 → va_P D vwCl (kl_wN ad d R S E) H → va_D A (kl_wN ad d R S E) → va_S A s.heap H locs → lv_has ls 4 [(0, .ref (ad 0)), (1, .int (nI t)), (2, .int (nI (kl_occ S t k))), (3, .int (nI k))] → W p l e (kl_rm 1 24) s m args below meth c H locs 0 0 Q (F0 m 4 ls []) := by
    intro n
    induction n with
    | zero =>
      intro k H locs ls hk hP hD hS hl
      have hk : k = 4 := by omega
      subst hk
      refine lv_iload_n hx hb dX1_occupiedBeside_4 rfl (lv_at hl 3 rfl) ?_
      refine lv_iconst (v := nI 4) hx hb dX1_occupiedBeside_5 (by decide) ?_
      refine lv_icmp_ge (tgt := 33) hx hb dX1_occupiedBeside_6 (by decide) (fun _ => ?_) (fun hc => absurd (by decide) hc)
      refine lv_iload_n hx hb dX1_occupiedBeside_33 rfl (lv_at hl 2 rfl) ?_
      exact ret _ _ _ _ _ (hP) (hD) hS dX1_occupiedBeside_34 (rfl)
    | succ n ih =>
      intro k H locs ls hk hP hD hS hl
      refine lv_iload_n hx hb dX1_occupiedBeside_4 rfl (lv_at hl 3 rfl) ?_
      refine lv_iconst (v := nI 4) hx hb dX1_occupiedBeside_5 (by decide) ?_
      refine lv_icmp_ge (tgt := 33) hx hb dX1_occupiedBeside_6 (by decide) (fun hc => absurd hc (nI_ge (by omega) (by decide))) (fun _ => ?_)
      refine lv_aload_n hx hb dX1_occupiedBeside_9 rfl (lv_at hl 0 rfl) ?_
      refine gM_states hx hb hts hown hK hP dX1_occupiedBeside_10 ?_
      refine lv_aload_n hx hb dX1_occupiedBeside_13 rfl (lv_at hl 0 rfl) ?_
      refine lv_iload_n hx hb dX1_occupiedBeside_14 rfl (lv_at hl 1 rfl) ?_
      refine lv_iload_n hx hb dX1_occupiedBeside_15 rfl (lv_at hl 3 rfl) ?_
      refine kl_CI.call (C := (RX1, TX1, 3)) (As := [.int (nI t), .int (nI k)]) (rest := [.ref (ad 2)]) (mM_neighbour l D d ad _ _ _ t ht k (by omega)) ⟨hx, hb, hml, hown, hts⟩ (cwX1_neighbour hts rfl rfl ⟨Nat.le_of_ble_eq_true rfl, Nat.le_of_ble_eq_true rfl⟩) (ci := 1) rfl rfl hK hP hD hS hA rfl hl.1 rfl (Nat.le_of_ble_eq_true rfl) dX1_occupiedBeside_16 ⟨Nat.zero_le _, Nat.zero_le _⟩ (fun H locs hP hD hS => ?_)
      refine ldM_states hx hb hK hP (kl_nb t k) (kl_nb_lt ht k) (v := nI (S (kl_nb t k))) (rfl) (rfl) dX1_occupiedBeside_19 ?_
      refine lv_iconst (v := nI 1) hx hb dX1_occupiedBeside_20 (by decide) ?_
      have hb2 := hS2 _ (kl_nb_lt ht k)
      by_cases h : S (kl_nb t k) = 1
      · have e1 : kl_occ S t (k + 1) = kl_occ S t k + 1 := by show _ + _ = _; rw [kl_b1_1 h]
        refine lv_icmp_ne (tgt := 27) hx hb dX1_occupiedBeside_21 (by decide) (fun hc => absurd (congrArg nI h) hc) (fun _ => ?_)
        refine lv_iinc (v := nI (kl_occ S t (k + 1))) (lv' := [(2, .int (nI (kl_occ S t (k + 1)))), (0, .ref (ad 0)), (1, .int (nI t)), (3, .int (nI k))]) hx hb dX1_occupiedBeside_24 hl (k := 2) rfl ((nI_1 _).trans (congrArg nI e1.symm)) (by decide) rfl (fun ls hl => ?_)
        refine lv_iinc (v := nI (k + 1)) (lv' := [(3, .int (nI (k + 1))), (2, .int (nI (kl_occ S t (k + 1)))), (0, .ref (ad 0)), (1, .int (nI t))]) hx hb dX1_occupiedBeside_27 hl (k := 3) rfl (nI_1 k) (by decide) rfl (fun ls hl => ?_)
        refine lv_goto (tgt := 4) hx hb dX1_occupiedBeside_30 (by decide) ?_
        exact ih (k + 1) H locs ls (by omega) hP hD hS (lv_sub hl [2, 3, 1, 0] rfl)
      · have e1 : kl_occ S t (k + 1) = kl_occ S t k := by show _ + _ = _; rw [kl_b1_0 h]; rfl
        refine lv_icmp_ne (tgt := 27) hx hb dX1_occupiedBeside_21 (by decide) (fun _ => ?_) (fun hc => absurd hc (fun z => h ((kl_nk 1 (by decide) (by omega)).mp z)))
        refine lv_iinc (v := nI (k + 1)) (lv' := [(3, .int (nI (k + 1))), (0, .ref (ad 0)), (1, .int (nI t)), (2, .int (nI (kl_occ S t k)))]) hx hb dX1_occupiedBeside_27 hl (k := 3) rfl (nI_1 k) (by decide) rfl (fun ls hl => ?_)
        refine lv_goto (tgt := 4) hx hb dX1_occupiedBeside_30 (by decide) ?_
        exact ih (k + 1) H locs ls (by omega) hP hD hS (by rw [e1]; exact (lv_sub hl [1, 2, 3, 0] rfl))
  refine lv_iconst (v := nI 0) hx hb dX1_occupiedBeside_0 (by decide) ?_
  refine lv_istore_n (lv' := [(2, .int (nI 0)), (0, .ref (ad 0)), (1, .int (nI t))]) hx hb dX1_occupiedBeside_1 rfl hl (by decide) rfl (fun ls hl => ?_)
  refine lv_iconst (v := nI 0) hx hb dX1_occupiedBeside_2 (by decide) ?_
  refine lv_istore_n (lv' := [(3, .int (nI 0)), (2, .int (nI 0)), (0, .ref (ad 0)), (1, .int (nI t))]) hx hb dX1_occupiedBeside_3 rfl hl (by decide) rfl (fun ls hl => ?_)
  exact loop 4 0 s.heap [] ls rfl hP hD hS (lv_sub hl [2, 3, 1, 0] rfl)
set_option maxHeartbeats 4000000 in
set_option maxRecDepth 100000 in
theorem mM_eventRate (l : Launch) (D : va_G) (d : ClassId) (ad : Nat → Nat) (R S : Nat → Nat) (E : Nat → Int32) (t : Nat) (ht : t < 48) (hS2 : ∀ j, j < 48 → S j ≤ 2) (ev : Nat) (hev : ev < 6) : kl_CI l yX1_eventRate cX1_eventRate 3 (kl_rm 2 47) D d [.ref (ad 0), .int (nI t), .int (nI ev)] (kl_wN ad d R S E) (nI (kl_er R S t ev)) (kl_wN ad d R S E) := by
  refine kl_CI.of (by decide) (Nat.le_of_ble_eq_true rfl) ?_
  intro p e s m args below meth c A Q ls hx hb hml hown hts hA hK hP hD hS ret hl
  have hl : lv_has ls 3 [(0, .ref (ad 0)), (1, .int (nI t)), (2, .int (nI ev))] := hl
  have hb2 := hS2 t ht
  refine lv_aload_n hx hb dX1_eventRate_0 rfl (lv_at hl 0 rfl) ?_
  refine gM_states hx hb hts hown hK hP dX1_eventRate_1 ?_
  refine lv_iload_n hx hb dX1_eventRate_4 rfl (lv_at hl 1 rfl) ?_
  refine ldM_states hx hb hK hP (t) (ht) (v := nI (S t)) (rfl) (rfl) dX1_eventRate_5 ?_
  by_cases h0 : S t = 0
  · refine lv_if_ne (tgt := 24) hx hb dX1_eventRate_6 (by decide) (fun hc => absurd ((kl_n0 (by omega)).mpr h0) hc) (fun _ => ?_)
    refine lv_iload_n hx hb dX1_eventRate_9 rfl (lv_at hl 2 rfl) ?_
    by_cases he : ev = 0
    · refine lv_if_ne (tgt := 22) hx hb dX1_eventRate_10 (by decide) (fun hc => absurd ((kl_n0 (by omega)).mpr he) hc) (fun _ => ?_)
      refine lv_aload_n hx hb dX1_eventRate_13 rfl (lv_at hl 0 rfl) ?_
      refine gM_rates hx hb hts hown hK hP dX1_eventRate_14 ?_
      refine lv_iconst (v := nI 5) hx hb dX1_eventRate_17 (by decide) ?_
      refine ldM_rates hx hb hK hP (5) (by decide) (v := nI (R 5)) (rfl) (rfl) dX1_eventRate_18 ?_
      refine lv_goto (tgt := 23) hx hb dX1_eventRate_19 (by decide) ?_
      exact ret _ _ _ _ _ (hP) (hD) hS dX1_eventRate_23 (by unfold kl_er; rw [if_pos h0, if_pos he])
    · refine lv_if_ne (tgt := 22) hx hb dX1_eventRate_10 (by decide) (fun _ => ?_) (fun hc => absurd hc (fun z => he ((kl_n0 (by omega)).mp z)))
      refine lv_iconst (v := nI 0) hx hb dX1_eventRate_22 (by decide) ?_
      exact ret _ _ _ _ _ (hP) (hD) hS dX1_eventRate_23 (by unfold kl_er; rw [if_pos h0, if_neg he])
  · refine lv_if_ne (tgt := 24) hx hb dX1_eventRate_6 (by decide) (fun _ => ?_) (fun hc => absurd hc (fun z => h0 ((kl_n0 (by omega)).mp z)))
    refine lv_aload_n hx hb dX1_eventRate_24 rfl (lv_at hl 0 rfl) ?_
    refine gM_states hx hb hts hown hK hP dX1_eventRate_25 ?_
    refine lv_iload_n hx hb dX1_eventRate_28 rfl (lv_at hl 1 rfl) ?_
    refine ldM_states hx hb hK hP (t) (ht) (v := nI (S t)) (rfl) (rfl) dX1_eventRate_29 ?_
    refine lv_iconst (v := nI 2) hx hb dX1_eventRate_30 (by decide) ?_
    by_cases h2 : S t = 2
    · refine lv_icmp_eq (tgt := 38) hx hb dX1_eventRate_31 (by decide) (fun _ => ?_) (fun hc => absurd (congrArg nI h2) hc)
      refine lv_iconst (v := nI 0) hx hb dX1_eventRate_38 (by decide) ?_
      exact ret _ _ _ _ _ (hP) (hD) hS dX1_eventRate_39 (by unfold kl_er; rw [if_neg h0, if_pos (Or.inl h2)])
    · refine lv_icmp_eq (tgt := 38) hx hb dX1_eventRate_31 (by decide) (fun hc => absurd hc (fun z => h2 ((kl_nk 2 (by decide) (by omega)).mp z))) (fun _ => ?_)
      refine lv_iload_n hx hb dX1_eventRate_34 rfl (lv_at hl 2 rfl) ?_
      by_cases he : ev = 0
      · refine lv_if_ne (tgt := 40) hx hb dX1_eventRate_35 (by decide) (fun hc => absurd ((kl_n0 (by omega)).mpr he) hc) (fun _ => ?_)
        refine lv_iconst (v := nI 0) hx hb dX1_eventRate_38 (by decide) ?_
        exact ret _ _ _ _ _ (hP) (hD) hS dX1_eventRate_39 (by unfold kl_er; rw [if_neg h0, if_pos (Or.inr he)])
      · have hno : ¬ (S t = 2 ∨ ev = 0) := by omega
        refine lv_if_ne (tgt := 40) hx hb dX1_eventRate_35 (by decide) (fun _ => ?_) (fun hc => absurd hc (fun z => he ((kl_n0 (by omega)).mp z)))
        refine lv_iload_n hx hb dX1_eventRate_40 rfl (lv_at hl 2 rfl) ?_
        refine lv_iconst (v := nI 1) hx hb dX1_eventRate_41 (by decide) ?_
        by_cases h1 : ev = 1
        · refine lv_icmp_ne (tgt := 56) hx hb dX1_eventRate_42 (by decide) (fun hc => absurd (congrArg nI h1) hc) (fun _ => ?_)
          refine lv_aload_n hx hb dX1_eventRate_45 rfl (lv_at hl 0 rfl) ?_
          refine gM_rates hx hb hts hown hK hP dX1_eventRate_46 ?_
          refine lv_aload_n hx hb dX1_eventRate_49 rfl (lv_at hl 0 rfl) ?_
          refine lv_iload_n hx hb dX1_eventRate_50 rfl (lv_at hl 1 rfl) ?_
          refine kl_CI.call (C := (RX1, TX1, 3)) (As := [.int (nI t)]) (rest := [.ref (ad 1)]) (mM_occ l D d ad R S E t ht hS2) ⟨hx, hb, hml, hown, hts⟩ (cwX1_occupiedBeside hts rfl rfl ⟨Nat.le_of_ble_eq_true rfl, Nat.le_of_ble_eq_true rfl⟩) (ci := 1) rfl rfl hK hP hD hS hA rfl hl.1 rfl (Nat.le_of_ble_eq_true rfl) dX1_eventRate_51 ⟨Nat.zero_le _, Nat.zero_le _⟩ (fun H locs hP hD hS => ?_)
          refine ldM_rates hx hb hK hP (kl_occ S t 4) (Nat.lt_of_le_of_lt (kl_occ_le S t 4) (by decide)) (v := nI (R (kl_occ S t 4))) (rfl) (rfl) dX1_eventRate_54 ?_
          exact ret _ _ _ _ _ (hP) (hD) hS dX1_eventRate_55 (by unfold kl_er; rw [if_neg h0, if_neg hno, if_pos h1])
        · refine lv_icmp_ne (tgt := 56) hx hb dX1_eventRate_42 (by decide) (fun _ => ?_) (fun hc => absurd hc (fun z => h1 ((kl_nk 1 (by decide) (by omega)).mp z)))
          refine lv_aload_n hx hb dX1_eventRate_56 rfl (lv_at hl 0 rfl) ?_
          refine gM_states hx hb hts hown hK hP dX1_eventRate_57 ?_
          refine lv_aload_n hx hb dX1_eventRate_60 rfl (lv_at hl 0 rfl) ?_
          refine lv_iload_n hx hb dX1_eventRate_61 rfl (lv_at hl 1 rfl) ?_
          refine lv_iload_n hx hb dX1_eventRate_62 rfl (lv_at hl 2 rfl) ?_
          refine lv_iconst (v := nI 2) hx hb dX1_eventRate_63 (by decide) ?_
          refine lv_isub hx hb dX1_eventRate_64 ?_
          refine kl_top (v := nI (ev - 2)) (pk_sub (by omega)) ?_
          refine kl_CI.call (C := (RX1, TX1, 3)) (As := [.int (nI t), .int (nI (ev - 2))]) (rest := [.ref (ad 2)]) (mM_neighbour l D d ad _ _ _ t ht (ev - 2) (by omega)) ⟨hx, hb, hml, hown, hts⟩ (cwX1_neighbour hts rfl rfl ⟨Nat.le_of_ble_eq_true rfl, Nat.le_of_ble_eq_true rfl⟩) (ci := 1) rfl rfl hK hP hD hS hA rfl hl.1 rfl (Nat.le_of_ble_eq_true rfl) dX1_eventRate_65 ⟨Nat.zero_le _, Nat.zero_le _⟩ (fun H locs hP hD hS => ?_)
          refine ldM_states hx hb hK hP (kl_nb t (ev - 2)) (kl_nb_lt ht _) (v := nI (S (kl_nb t (ev - 2)))) (rfl) (rfl) dX1_eventRate_68 ?_
          have hb3 := hS2 _ (kl_nb_lt ht (ev - 2))
          by_cases h3 : S (kl_nb t (ev - 2)) = 0
          · refine lv_if_ne (tgt := 82) hx hb dX1_eventRate_69 (by decide) (fun hc => absurd ((kl_n0 (by omega)).mpr h3) hc) (fun _ => ?_)
            refine lv_aload_n hx hb dX1_eventRate_72 rfl (lv_at hl 0 rfl) ?_
            refine gM_rates hx hb hts hown hK hP dX1_eventRate_73 ?_
            refine lv_bipush (v := nI 6) hx hb dX1_eventRate_76 (by decide) ?_
            refine ldM_rates hx hb hK hP (6) (by decide) (v := nI (R 6)) (rfl) (rfl) dX1_eventRate_78 ?_
            refine lv_goto (tgt := 83) hx hb dX1_eventRate_79 (by decide) ?_
            exact ret _ _ _ _ _ (hP) (hD) hS dX1_eventRate_83 (by unfold kl_er; rw [if_neg h0, if_neg hno, if_neg h1, if_pos h3])
          · refine lv_if_ne (tgt := 82) hx hb dX1_eventRate_69 (by decide) (fun _ => ?_) (fun hc => absurd hc (fun z => h3 ((kl_n0 (by omega)).mp z)))
            refine lv_iconst (v := nI 0) hx hb dX1_eventRate_82 (by decide) ?_
            exact ret _ _ _ _ _ (hP) (hD) hS dX1_eventRate_83 (by unfold kl_er; rw [if_neg h0, if_neg hno, if_neg h1, if_neg h3])
set_option maxHeartbeats 4000000 in
set_option maxRecDepth 100000 in
theorem mM_siteRate (l : Launch) (D : va_G) (d : ClassId) (ad : Nat → Nat) (R S : Nat → Nat) (E : Nat → Int32) (hS2 : ∀ j, j < 48 → S j ≤ 2) (x : Int32) : kl_CI l yX1_siteRate cX1_siteRate 4 (kl_rm 3 69) D d [.ref (ad 0), .int x] (kl_wN ad d R S E) (kl_get 48 (fun j => nI (kl_w R S j)) (-1) x) (kl_wN ad d R S E) := by
  refine kl_CI.of (by decide) (Nat.le_of_ble_eq_true rfl) ?_
  intro p e s m args below meth c A Q ls hx hb hml hown hts hA hK hP hD hS ret hl
  have hl : lv_has ls 4 [(0, .ref (ad 0)), (1, .int x)] := hl
  rcases pk_ix x (n := 48) (by decide) with h | h | ⟨j, hj, rfl⟩
  · refine lv_iload_n hx hb dX1_siteRate_0 rfl (lv_at hl 1 rfl) ?_
    refine lv_if_lt (tgt := 10) hx hb dX1_siteRate_1 (by decide) (fun _ => ?_) (fun hc => absurd (h) hc)
    refine lv_iconst (v := (-1)) hx hb dX1_siteRate_10 (by decide) ?_
    exact ret _ _ _ _ _ (hP) (hD) hS dX1_siteRate_11 ((kl_get_bad (Or.inl h)).symm)
  · refine lv_iload_n hx hb dX1_siteRate_0 rfl (lv_at hl 1 rfl) ?_
    refine lv_if_lt (tgt := 10) hx hb dX1_siteRate_1 (by decide) (fun hc => absurd hc (kl_nlt (by decide) h)) (fun _ => ?_)
    refine lv_iload_n hx hb dX1_siteRate_4 rfl (lv_at hl 1 rfl) ?_
    refine lv_bipush (v := nI 47) hx hb dX1_siteRate_5 (by decide) ?_
    refine lv_icmp_le (tgt := 12) hx hb dX1_siteRate_7 (by decide) (fun hc => absurd hc (kl_nle (by decide) (by decide) h)) (fun _ => ?_)
    refine lv_iconst (v := (-1)) hx hb dX1_siteRate_10 (by decide) ?_
    exact ret _ _ _ _ _ (hP) (hD) hS dX1_siteRate_11 ((kl_get_bad (Or.inr h)).symm)
  · have loop : ∀ (n k : Nat) (H : Heap) (locs : List Loc) (ls : Array Slot), k + n = 6 → va_P D vwCl (kl_wN ad d R S E) H → va_D A (kl_wN ad d R S E) → va_S A s.heap H locs → lv_has ls 4 [(0, .ref (ad 0)), (1, .int (nI j)), (2, .int (nI (kl_es R S j k))), (3, .int (nI k))] → W p l e (kl_rm 3 69) s m args below meth c H locs 0 0 Q (F0 m 16 ls []) := by
      intro n
      induction n with
      | zero =>
        intro k H locs ls hk hP hD hS hl
        have hk : k = 6 := by omega
        subst hk
        refine lv_iload_n hx hb dX1_siteRate_16 rfl (lv_at hl 3 rfl) ?_
        refine lv_bipush (v := nI 6) hx hb dX1_siteRate_17 (by decide) ?_
        refine lv_icmp_ge (tgt := 37) hx hb dX1_siteRate_19 (by decide) (fun _ => ?_) (fun hc => absurd (by decide) hc)
        refine lv_iload_n hx hb dX1_siteRate_37 rfl (lv_at hl 2 rfl) ?_
        exact ret _ _ _ _ _ (hP) (hD) hS dX1_siteRate_38 (by rw [kl_get_at hj (by decide), kl_es6 (hS2 j hj)])
      | succ n ih =>
        intro k H locs ls hk hP hD hS hl
        refine lv_iload_n hx hb dX1_siteRate_16 rfl (lv_at hl 3 rfl) ?_
        refine lv_bipush (v := nI 6) hx hb dX1_siteRate_17 (by decide) ?_
        refine lv_icmp_ge (tgt := 37) hx hb dX1_siteRate_19 (by decide) (fun hc => absurd hc (nI_ge (by omega) (by decide))) (fun _ => ?_)
        refine lv_iload_n hx hb dX1_siteRate_22 rfl (lv_at hl 2 rfl) ?_
        refine lv_aload_n hx hb dX1_siteRate_23 rfl (lv_at hl 0 rfl) ?_
        refine lv_iload_n hx hb dX1_siteRate_24 rfl (lv_at hl 1 rfl) ?_
        refine lv_iload_n hx hb dX1_siteRate_25 rfl (lv_at hl 3 rfl) ?_
        refine kl_CI.call (C := (RX1, TX1, 3)) (As := [.int (nI j), .int (nI k)]) (rest := [.int (nI (kl_es R S j k))]) (mM_eventRate l D d ad R S E j hj hS2 k (by omega)) ⟨hx, hb, hml, hown, hts⟩ (cwX1_eventRate hts rfl rfl ⟨Nat.le_of_ble_eq_true rfl, Nat.le_of_ble_eq_true rfl⟩) (ci := 1) rfl rfl hK hP hD hS hA rfl hl.1 rfl (Nat.le_of_ble_eq_true rfl) dX1_siteRate_26 ⟨Nat.zero_le _, Nat.zero_le _⟩ (fun H locs hP hD hS => ?_)
        refine lv_iadd hx hb dX1_siteRate_29 ?_
        refine kl_top (v := nI (kl_es R S j (k + 1))) (nI_add _ _) ?_
        refine lv_istore_n (lv' := [(2, .int (nI (kl_es R S j (k + 1)))), (0, .ref (ad 0)), (1, .int (nI j)), (3, .int (nI k))]) hx hb dX1_siteRate_30 rfl hl (by decide) rfl (fun ls hl => ?_)
        refine lv_iinc (v := nI (k + 1)) (lv' := [(3, .int (nI (k + 1))), (2, .int (nI (kl_es R S j (k + 1)))), (0, .ref (ad 0)), (1, .int (nI j))]) hx hb dX1_siteRate_31 hl (k := 3) rfl (nI_1 k) (by decide) rfl (fun ls hl => ?_)
        refine lv_goto (tgt := 16) hx hb dX1_siteRate_34 (by decide) ?_
        exact ih (k + 1) H locs ls (by omega) hP hD hS (lv_sub hl [2, 3, 1, 0] rfl)
    refine lv_iload_n hx hb dX1_siteRate_0 rfl (lv_at hl 1 rfl) ?_
    refine lv_if_lt (tgt := 10) hx hb dX1_siteRate_1 (by decide) (fun hc => absurd hc (nI_pos (by omega))) (fun _ => ?_)
    refine lv_iload_n hx hb dX1_siteRate_4 rfl (lv_at hl 1 rfl) ?_
    refine lv_bipush (v := nI 47) hx hb dX1_siteRate_5 (by decide) ?_
    refine lv_icmp_le (tgt := 12) hx hb dX1_siteRate_7 (by decide) (fun _ => ?_) (fun hc => absurd (nI_le (by omega) (by decide)) hc)
    refine lv_iconst (v := nI 0) hx hb dX1_siteRate_12 (by decide) ?_
    refine lv_istore_n (lv' := [(2, .int (nI 0)), (0, .ref (ad 0)), (1, .int (nI j))]) hx hb dX1_siteRate_13 rfl hl (by decide) rfl (fun ls hl => ?_)
    refine lv_iconst (v := nI 0) hx hb dX1_siteRate_14 (by decide) ?_
    refine lv_istore_n (lv' := [(3, .int (nI 0)), (2, .int (nI 0)), (0, .ref (ad 0)), (1, .int (nI j))]) hx hb dX1_siteRate_15 rfl hl (by decide) rfl (fun ls hl => ?_)
    exact loop 6 0 s.heap [] ls rfl hP hD hS (lv_sub hl [2, 3, 1, 0] rfl)
set_option maxHeartbeats 4000000 in
set_option maxRecDepth 100000 in
theorem mM_before (l : Launch) (D : va_G) (d : ClassId) (ad : Nat → Nat) (R S : Nat → Nat) (E : Nat → Int32) (hS2 : ∀ j, j < 48 → S j ≤ 2) (x : Int32) : kl_CI l yX1_before cX1_before 4 (kl_rm 4 92) D d [.ref (ad 0), .int x] (kl_wN ad d R S E) (nI (kl_ps (kl_w R S) (kl_cl 48 x))) (kl_wN ad d R S E) := by
  refine kl_CI.of (by decide) (Nat.le_of_ble_eq_true rfl) ?_
  intro p e s m args below meth c A Q ls hx hb hml hown hts hA hK hP hD hS ret hl
  have hl : lv_has ls 4 [(0, .ref (ad 0)), (1, .int x)] := hl
  have hN : kl_cl 48 x ≤ 48 ∧ (∀ i, i < kl_cl 48 x → ¬ x ≤ nI i) ∧ (x ≤ nI (kl_cl 48 x) ∨ kl_cl 48 x = 48) := by
    rcases pk_ix x (n := 48) (by decide) with h | h | ⟨j, hj, rfl⟩
    · rw [kl_cl_neg h]
      exact ⟨by omega, fun i hi => absurd hi (Nat.not_lt_zero _), Or.inl (Int32.le_of_lt h)⟩
    · rw [kl_cl_big (by decide) h]
      exact ⟨Nat.le_refl _, fun i hi => kl_nle hi (by decide) h, Or.inr rfl⟩
    · rw [kl_cl_at hj (by decide)]
      exact ⟨by omega, fun i hi => nI_ge hi (by omega), Or.inl (Int32.le_refl _)⟩
  obtain ⟨hN1, hN2, hN3⟩ := hN
  generalize kl_cl 48 x = N at hN1 hN2 hN3 ret
  have loop : ∀ (n k : Nat) (H : Heap) (locs : List Loc) (ls : Array Slot), k + n = N → va_P D vwCl (kl_wN ad d R S E) H → va_D A (kl_wN ad d R S E) → va_S A s.heap H locs → lv_has ls 4 [(0, .ref (ad 0)), (1, .int x), (2, .int (nI (kl_ps (kl_w R S) k))), (3, .int (nI k))] → W p l e (kl_rm 4 92) s m args below meth c H locs 0 0 Q (F0 m 4 ls []) := by
    intro n
    induction n with
    | zero =>
      intro k H locs ls hk hP hD hS hl
      have hk : k = N := by omega
      subst hk
      rcases hN3 with h3 | h3
      · refine lv_iload_n hx hb dX1_before_4 rfl (lv_at hl 3 rfl) ?_
        refine lv_iload_n hx hb dX1_before_5 rfl (lv_at hl 1 rfl) ?_
        refine lv_icmp_ge (tgt := 29) hx hb dX1_before_6 (by decide) (fun _ => ?_) (fun hc => absurd (h3) hc)
        refine lv_iload_n hx hb dX1_before_29 rfl (lv_at hl 2 rfl) ?_
        exact ret _ _ _ _ _ (hP) (hD) hS dX1_before_30 (rfl)
      · refine lv_iload_n hx hb dX1_before_4 rfl (lv_at hl 3 rfl) ?_
        refine lv_iload_n hx hb dX1_before_5 rfl (lv_at hl 1 rfl) ?_
        refine lv_icmp_ge (tgt := 29) hx hb dX1_before_6 (by decide) (fun hc => ?_) (fun hc => ?_)
        · refine lv_iload_n hx hb dX1_before_29 rfl (lv_at hl 2 rfl) ?_
          exact ret _ _ _ _ _ (hP) (hD) hS dX1_before_30 (rfl)
        · refine lv_iload_n hx hb dX1_before_9 rfl (lv_at hl 3 rfl) ?_
          refine lv_bipush (v := nI 48) hx hb dX1_before_10 (by decide) ?_
          refine lv_icmp_ge (tgt := 29) hx hb dX1_before_12 (by decide) (fun _ => ?_) (fun hc => absurd (nI_le (by omega) (by omega)) hc)
          refine lv_iload_n hx hb dX1_before_29 rfl (lv_at hl 2 rfl) ?_
          exact ret _ _ _ _ _ (hP) (hD) hS dX1_before_30 (rfl)
    | succ n ih =>
      intro k H locs ls hk hP hD hS hl
      have hk48 : k < 48 := by omega
      refine lv_iload_n hx hb dX1_before_4 rfl (lv_at hl 3 rfl) ?_
      refine lv_iload_n hx hb dX1_before_5 rfl (lv_at hl 1 rfl) ?_
      refine lv_icmp_ge (tgt := 29) hx hb dX1_before_6 (by decide) (fun hc => absurd hc (hN2 k (by omega))) (fun _ => ?_)
      refine lv_iload_n hx hb dX1_before_9 rfl (lv_at hl 3 rfl) ?_
      refine lv_bipush (v := nI 48) hx hb dX1_before_10 (by decide) ?_
      refine lv_icmp_ge (tgt := 29) hx hb dX1_before_12 (by decide) (fun hc => absurd hc (nI_ge hk48 (by decide))) (fun _ => ?_)
      refine lv_iload_n hx hb dX1_before_15 rfl (lv_at hl 2 rfl) ?_
      refine lv_aload_n hx hb dX1_before_16 rfl (lv_at hl 0 rfl) ?_
      refine lv_iload_n hx hb dX1_before_17 rfl (lv_at hl 3 rfl) ?_
      refine kl_CI.call (C := (RX1, TX1, 3)) (As := [.int (nI k)]) (rest := [.int (nI (kl_ps (kl_w R S) k))]) (mM_siteRate l D d ad R S E hS2 (nI k)) ⟨hx, hb, hml, hown, hts⟩ (cwX1_siteRate hts rfl rfl ⟨Nat.le_of_ble_eq_true rfl, Nat.le_of_ble_eq_true rfl⟩) (ci := 1) rfl rfl hK hP hD hS hA rfl hl.1 rfl (Nat.le_of_ble_eq_true rfl) dX1_before_18 ⟨Nat.zero_le _, Nat.zero_le _⟩ (fun H locs hP hD hS => ?_)
      refine lv_iadd hx hb dX1_before_21 ?_
      refine kl_top (v := nI (kl_ps (kl_w R S) (k + 1))) (by rw [kl_get_at hk48 (by decide), kl_ps_s hk48]; exact nI_add _ _) ?_
      refine lv_istore_n (lv' := [(2, .int (nI (kl_ps (kl_w R S) (k + 1)))), (0, .ref (ad 0)), (1, .int x), (3, .int (nI k))]) hx hb dX1_before_22 rfl hl (by decide) rfl (fun ls hl => ?_)
      refine lv_iinc (v := nI (k + 1)) (lv' := [(3, .int (nI (k + 1))), (2, .int (nI (kl_ps (kl_w R S) (k + 1)))), (0, .ref (ad 0)), (1, .int x)]) hx hb dX1_before_23 hl (k := 3) rfl (nI_1 k) (by decide) rfl (fun ls hl => ?_)
      refine lv_goto (tgt := 4) hx hb dX1_before_26 (by decide) ?_
      exact ih (k + 1) H locs ls (by omega) hP hD hS (lv_sub hl [2, 3, 1, 0] rfl)
  refine lv_iconst (v := nI 0) hx hb dX1_before_0 (by decide) ?_
  refine lv_istore_n (lv' := [(2, .int (nI 0)), (0, .ref (ad 0)), (1, .int x)]) hx hb dX1_before_1 rfl hl (by decide) rfl (fun ls hl => ?_)
  refine lv_iconst (v := nI 0) hx hb dX1_before_2 (by decide) ?_
  refine lv_istore_n (lv' := [(3, .int (nI 0)), (2, .int (nI 0)), (0, .ref (ad 0)), (1, .int x)]) hx hb dX1_before_3 rfl hl (by decide) rfl (fun ls hl => ?_)
  exact loop N 0 s.heap [] ls (Nat.zero_add _) hP hD hS (lv_sub hl [2, 3, 1, 0] rfl)
set_option maxHeartbeats 4000000 in
set_option maxRecDepth 100000 in
theorem mM_total (l : Launch) (D : va_G) (d : ClassId) (ad : Nat → Nat) (R S : Nat → Nat) (E : Nat → Int32) (hS2 : ∀ j, j < 48 → S j ≤ 2) : kl_CI l yX1_total cX1_total 1 (kl_rm 5 115) D d [.ref (ad 0)] (kl_wN ad d R S E) (nI (kl_ps (kl_w R S) 48)) (kl_wN ad d R S E) := by
  refine kl_CI.of (by decide) (Nat.le_of_ble_eq_true rfl) ?_
  intro p e s m args below meth c A Q ls hx hb hml hown hts hA hK hP hD hS ret hl
  have hl : lv_has ls 1 [(0, .ref (ad 0))] := hl
  refine lv_aload_n hx hb dX1_total_0 rfl (lv_at hl 0 rfl) ?_
  refine lv_bipush (v := nI 48) hx hb dX1_total_1 (by decide) ?_
  refine kl_CI.call (C := (RX1, TX1, 3)) (As := [.int (nI 48)]) (rest := []) (mM_before l D d ad R S E hS2 (nI 48)) ⟨hx, hb, hml, hown, hts⟩ (cwX1_before hts rfl rfl ⟨Nat.le_of_ble_eq_true rfl, Nat.le_of_ble_eq_true rfl⟩) (ci := 1) rfl rfl hK hP hD hS hA rfl hl.1 rfl (Nat.le_of_ble_eq_true rfl) dX1_total_3 ⟨Nat.zero_le _, Nat.zero_le _⟩ (fun H locs hP hD hS => ?_)
  exact ret _ _ _ _ _ (hP) (hD) hS dX1_total_6 (by rw [kl_cl_big (by decide) (Int32.le_refl _)])
end
section
set_option maxHeartbeats 4000000 in
set_option maxRecDepth 100000 in
theorem mM_state (l : Launch) (D : va_G) (d : ClassId) (ad : Nat → Nat) (R S : Nat → Nat) (E : Nat → Int32) (x : Int32) : kl_CI l yX1_state cX1_state 2 (kl_rm 0 0) D d [.ref (ad 0), .int x] (kl_wN ad d R S E) (kl_get 48 (fun j => nI (S j)) (-1) x) (kl_wN ad d R S E) := by
  refine kl_CI.of (by decide) (Nat.le_of_ble_eq_true rfl) ?_
  intro p e s m args below meth c A Q ls hx hb hml hown hts hA hK hP hD hS ret hl
  have hl : lv_has ls 2 [(0, .ref (ad 0)), (1, .int x)] := hl
  rcases pk_ix x (n := 48) (by decide) with h | h | ⟨j, hj, rfl⟩
  · refine lv_iload_n hx hb dX1_state_0 rfl (lv_at hl 1 rfl) ?_
    refine lv_if_lt (tgt := 10) hx hb dX1_state_1 (by decide) (fun _ => ?_) (fun hc => absurd (h) hc)
    refine lv_iconst (v := (-1)) hx hb dX1_state_10 (by decide) ?_
    refine lv_goto (tgt := 20) hx hb dX1_state_11 (by decide) ?_
    exact ret _ _ _ _ _ (hP) (hD) hS dX1_state_20 ((kl_get_bad (Or.inl h)).symm)
  · refine lv_iload_n hx hb dX1_state_0 rfl (lv_at hl 1 rfl) ?_
    refine lv_if_lt (tgt := 10) hx hb dX1_state_1 (by decide) (fun hc => absurd hc (kl_nlt (by decide) h)) (fun _ => ?_)
    refine lv_iload_n hx hb dX1_state_4 rfl (lv_at hl 1 rfl) ?_
    refine lv_bipush (v := nI 47) hx hb dX1_state_5 (by decide) ?_
    refine lv_icmp_le (tgt := 14) hx hb dX1_state_7 (by decide) (fun hc => absurd hc (kl_nle (by decide) (by decide) h)) (fun _ => ?_)
    refine lv_iconst (v := (-1)) hx hb dX1_state_10 (by decide) ?_
    refine lv_goto (tgt := 20) hx hb dX1_state_11 (by decide) ?_
    exact ret _ _ _ _ _ (hP) (hD) hS dX1_state_20 ((kl_get_bad (Or.inr h)).symm)
  · refine lv_iload_n hx hb dX1_state_0 rfl (lv_at hl 1 rfl) ?_
    refine lv_if_lt (tgt := 10) hx hb dX1_state_1 (by decide) (fun hc => absurd hc (nI_pos (by omega))) (fun _ => ?_)
    refine lv_iload_n hx hb dX1_state_4 rfl (lv_at hl 1 rfl) ?_
    refine lv_bipush (v := nI 47) hx hb dX1_state_5 (by decide) ?_
    refine lv_icmp_le (tgt := 14) hx hb dX1_state_7 (by decide) (fun _ => ?_) (fun hc => absurd (nI_le (by omega) (by decide)) hc)
    refine lv_aload_n hx hb dX1_state_14 rfl (lv_at hl 0 rfl) ?_
    refine gM_states hx hb hts hown hK hP dX1_state_15 ?_
    refine lv_iload_n hx hb dX1_state_18 rfl (lv_at hl 1 rfl) ?_
    refine ldM_states hx hb hK hP (j) (hj) (v := nI (S j)) (rfl) (rfl) dX1_state_19 ?_
    exact ret _ _ _ _ _ (hP) (hD) hS dX1_state_20 (by rw [kl_get_at hj (by decide)])
set_option maxHeartbeats 4000000 in
set_option maxRecDepth 100000 in
theorem mM_happened (l : Launch) (D : va_G) (d : ClassId) (ad : Nat → Nat) (R S : Nat → Nat) (E : Nat → Int32) (x : Int32) : kl_CI l yX1_happened cX1_happened 2 (kl_rm 0 0) D d [.ref (ad 0), .int x] (kl_wN ad d R S E) (kl_get 3 (E) (nI 0) x) (kl_wN ad d R S E) := by
  refine kl_CI.of (by decide) (Nat.le_of_ble_eq_true rfl) ?_
  intro p e s m args below meth c A Q ls hx hb hml hown hts hA hK hP hD hS ret hl
  have hl : lv_has ls 2 [(0, .ref (ad 0)), (1, .int x)] := hl
  rcases pk_ix x (n := 3) (by decide) with h | h | ⟨j, hj, rfl⟩
  · refine lv_iload_n hx hb dX1_happened_0 rfl (lv_at hl 1 rfl) ?_
    refine lv_if_lt (tgt := 9) hx hb dX1_happened_1 (by decide) (fun _ => ?_) (fun hc => absurd (h) hc)
    refine lv_iconst (v := nI 0) hx hb dX1_happened_9 (by decide) ?_
    refine lv_goto (tgt := 19) hx hb dX1_happened_10 (by decide) ?_
    exact ret _ _ _ _ _ (hP) (hD) hS dX1_happened_19 ((kl_get_bad (Or.inl h)).symm)
  · refine lv_iload_n hx hb dX1_happened_0 rfl (lv_at hl 1 rfl) ?_
    refine lv_if_lt (tgt := 9) hx hb dX1_happened_1 (by decide) (fun hc => absurd hc (kl_nlt (by decide) h)) (fun _ => ?_)
    refine lv_iload_n hx hb dX1_happened_4 rfl (lv_at hl 1 rfl) ?_
    refine lv_iconst (v := nI 2) hx hb dX1_happened_5 (by decide) ?_
    refine lv_icmp_le (tgt := 13) hx hb dX1_happened_6 (by decide) (fun hc => absurd hc (kl_nle (by decide) (by decide) h)) (fun _ => ?_)
    refine lv_iconst (v := nI 0) hx hb dX1_happened_9 (by decide) ?_
    refine lv_goto (tgt := 19) hx hb dX1_happened_10 (by decide) ?_
    exact ret _ _ _ _ _ (hP) (hD) hS dX1_happened_19 ((kl_get_bad (Or.inr h)).symm)
  · refine lv_iload_n hx hb dX1_happened_0 rfl (lv_at hl 1 rfl) ?_
    refine lv_if_lt (tgt := 9) hx hb dX1_happened_1 (by decide) (fun hc => absurd hc (nI_pos (by omega))) (fun _ => ?_)
    refine lv_iload_n hx hb dX1_happened_4 rfl (lv_at hl 1 rfl) ?_
    refine lv_iconst (v := nI 2) hx hb dX1_happened_5 (by decide) ?_
    refine lv_icmp_le (tgt := 13) hx hb dX1_happened_6 (by decide) (fun _ => ?_) (fun hc => absurd (nI_le (by omega) (by decide)) hc)
    refine lv_aload_n hx hb dX1_happened_13 rfl (lv_at hl 0 rfl) ?_
    refine gM_events hx hb hts hown hK hP dX1_happened_14 ?_
    refine lv_iload_n hx hb dX1_happened_17 rfl (lv_at hl 1 rfl) ?_
    refine ldM_events hx hb hK hP (j) (hj) (v := E j) (rfl) (rfl) dX1_happened_18 ?_
    exact ret _ _ _ _ _ (hP) (hD) hS dX1_happened_19 (by rw [kl_get_at hj (by decide)])
set_option maxHeartbeats 4000000 in
set_option maxRecDepth 100000 in
theorem mM_rate (l : Launch) (D : va_G) (d : ClassId) (ad : Nat → Nat) (R S : Nat → Nat) (E : Nat → Int32)  (x y : Int32) : kl_CI l yX1_rate cX1_rate 4 (kl_rm 0 0) D d [.ref (ad 0), .int x, .int y] (kl_wN ad d R S E) (kl_pA 7 1001 R x y) (kl_wN ad d (kl_pF 7 1001 R x y) S E) := by
  refine kl_CI.of (by decide) (Nat.le_of_ble_eq_true rfl) ?_
  intro p e s m args below meth c A Q ls hx hb hml hown hts hA hK hP hD hS ret hl
  have hl : lv_has ls 4 [(0, .ref (ad 0)), (1, .int x), (2, .int y)] := hl
  rcases pk_ix x (n := 7) (by decide) with h | h | ⟨j, hj, rfl⟩
  · obtain ⟨e1, e2⟩ := kl_p1 (n1 := 7) (n2 := 1001) (f := R) (y := y) (Or.inl h)
    rw [e1, e2] at ret
    refine lv_iload_n hx hb dX1_rate_0 rfl (lv_at hl 1 rfl) ?_
    refine lv_if_lt (tgt := 10) hx hb dX1_rate_1 (by decide) (fun _ => ?_) (fun hc => absurd (h) hc)
    refine lv_iconst (v := (-1)) hx hb dX1_rate_10 (by decide) ?_
    exact ret _ _ _ _ _ (hP) (hD) hS dX1_rate_11 (rfl)
  · obtain ⟨e1, e2⟩ := kl_p1 (n1 := 7) (n2 := 1001) (f := R) (y := y) (Or.inr h)
    rw [e1, e2] at ret
    refine lv_iload_n hx hb dX1_rate_0 rfl (lv_at hl 1 rfl) ?_
    refine lv_if_lt (tgt := 10) hx hb dX1_rate_1 (by decide) (fun hc => absurd hc (kl_nlt (by decide) h)) (fun _ => ?_)
    refine lv_iload_n hx hb dX1_rate_4 rfl (lv_at hl 1 rfl) ?_
    refine lv_bipush (v := nI 6) hx hb dX1_rate_5 (by decide) ?_
    refine lv_icmp_le (tgt := 12) hx hb dX1_rate_7 (by decide) (fun hc => absurd hc (kl_nle (by decide) (by decide) h)) (fun _ => ?_)
    refine lv_iconst (v := (-1)) hx hb dX1_rate_10 (by decide) ?_
    exact ret _ _ _ _ _ (hP) (hD) hS dX1_rate_11 (rfl)
  · refine lv_iload_n hx hb dX1_rate_0 rfl (lv_at hl 1 rfl) ?_
    refine lv_if_lt (tgt := 10) hx hb dX1_rate_1 (by decide) (fun hc => absurd hc (nI_pos (by omega))) (fun _ => ?_)
    refine lv_iload_n hx hb dX1_rate_4 rfl (lv_at hl 1 rfl) ?_
    refine lv_bipush (v := nI 6) hx hb dX1_rate_5 (by decide) ?_
    refine lv_icmp_le (tgt := 12) hx hb dX1_rate_7 (by decide) (fun _ => ?_) (fun hc => absurd (nI_le (by omega) (by decide)) hc)
    rcases pk_ix y (n := 1001) (by decide) with h | h | ⟨i, hi, rfl⟩
    · obtain ⟨e1, e2⟩ := kl_p2 (n1 := 7) (n2 := 1001) (f := R) (y := y) hj (by decide) (Or.inl h)
      rw [e1, e2] at ret
      refine lv_iload_n hx hb dX1_rate_12 rfl (lv_at hl 2 rfl) ?_
      refine lv_if_lt (tgt := 23) hx hb dX1_rate_13 (by decide) (fun _ => ?_) (fun hc => absurd (h) hc)
      refine lv_bipush (v := (-2)) hx hb dX1_rate_23 (by decide) ?_
      exact ret _ _ _ _ _ (hP) (hD) hS dX1_rate_25 (rfl)
    · obtain ⟨e1, e2⟩ := kl_p2 (n1 := 7) (n2 := 1001) (f := R) (y := y) hj (by decide) (Or.inr h)
      rw [e1, e2] at ret
      refine lv_iload_n hx hb dX1_rate_12 rfl (lv_at hl 2 rfl) ?_
      refine lv_if_lt (tgt := 23) hx hb dX1_rate_13 (by decide) (fun hc => absurd hc (kl_nlt (by decide) h)) (fun _ => ?_)
      refine lv_iload_n hx hb dX1_rate_16 rfl (lv_at hl 2 rfl) ?_
      refine lv_sipush (v := nI 1000) hx hb dX1_rate_17 (by decide) ?_
      refine lv_icmp_le (tgt := 26) hx hb dX1_rate_20 (by decide) (fun hc => absurd hc (kl_nle (by decide) (by decide) h)) (fun _ => ?_)
      refine lv_bipush (v := (-2)) hx hb dX1_rate_23 (by decide) ?_
      exact ret _ _ _ _ _ (hP) (hD) hS dX1_rate_25 (rfl)
    · obtain ⟨e1, e2⟩ := kl_p3 (n1 := 7) (n2 := 1001) (f := R) hj (by decide) hi (by decide)
      rw [e1, e2] at ret
      refine lv_iload_n hx hb dX1_rate_12 rfl (lv_at hl 2 rfl) ?_
      refine lv_if_lt (tgt := 23) hx hb dX1_rate_13 (by decide) (fun hc => absurd hc (nI_pos (by omega))) (fun _ => ?_)
      refine lv_iload_n hx hb dX1_rate_16 rfl (lv_at hl 2 rfl) ?_
      refine lv_sipush (v := nI 1000) hx hb dX1_rate_17 (by decide) ?_
      refine lv_icmp_le (tgt := 26) hx hb dX1_rate_20 (by decide) (fun _ => ?_) (fun hc => absurd (nI_le (by omega) (by decide)) hc)
      refine lv_aload_n hx hb dX1_rate_26 rfl (lv_at hl 0 rfl) ?_
      refine gM_rates hx hb hts hown hK hP dX1_rate_27 ?_
      refine lv_iload_n hx hb dX1_rate_30 rfl (lv_at hl 1 rfl) ?_
      refine ldM_rates hx hb hK hP (j) (hj) (v := nI (R j)) (rfl) (rfl) dX1_rate_31 ?_
      refine lv_istore_n (lv' := [(3, .int (nI (R j))), (0, .ref (ad 0)), (1, .int (nI j)), (2, .int (nI i))]) hx hb dX1_rate_32 rfl hl (by decide) rfl (fun ls hl => ?_)
      refine lv_aload_n hx hb dX1_rate_33 rfl (lv_at hl 1 rfl) ?_
      refine gM_rates hx hb hts hown hK hP dX1_rate_34 ?_
      refine lv_iload_n hx hb dX1_rate_37 rfl (lv_at hl 2 rfl) ?_
      refine lv_iload_n hx hb dX1_rate_38 rfl (lv_at hl 3 rfl) ?_
      refine stM_rates hx hb hK hP hD hS (j) (hj) (rfl) (fun k => nI (kl_u R j i k)) (fun k _ => kl_uI R j i k) dX1_rate_39 (fun H locs hP hD hS => ?_)
      refine lv_iload_n hx hb dX1_rate_40 rfl (lv_at hl 0 rfl) ?_
      exact ret _ _ _ _ _ (hP) (hD) hS dX1_rate_41 (rfl)
set_option maxHeartbeats 4000000 in
set_option maxRecDepth 100000 in
theorem mM_set (l : Launch) (D : va_G) (d : ClassId) (ad : Nat → Nat) (R S : Nat → Nat) (E : Nat → Int32)  (x y : Int32) : kl_CI l yX1_set cX1_set 4 (kl_rm 0 0) D d [.ref (ad 0), .int x, .int y] (kl_wN ad d R S E) (kl_pA 48 3 S x y) (kl_wN ad d R (kl_pF 48 3 S x y) E) := by
  refine kl_CI.of (by decide) (Nat.le_of_ble_eq_true rfl) ?_
  intro p e s m args below meth c A Q ls hx hb hml hown hts hA hK hP hD hS ret hl
  have hl : lv_has ls 4 [(0, .ref (ad 0)), (1, .int x), (2, .int y)] := hl
  rcases pk_ix x (n := 48) (by decide) with h | h | ⟨j, hj, rfl⟩
  · obtain ⟨e1, e2⟩ := kl_p1 (n1 := 48) (n2 := 3) (f := S) (y := y) (Or.inl h)
    rw [e1, e2] at ret
    refine lv_iload_n hx hb dX1_set_0 rfl (lv_at hl 1 rfl) ?_
    refine lv_if_lt (tgt := 10) hx hb dX1_set_1 (by decide) (fun _ => ?_) (fun hc => absurd (h) hc)
    refine lv_iconst (v := (-1)) hx hb dX1_set_10 (by decide) ?_
    exact ret _ _ _ _ _ (hP) (hD) hS dX1_set_11 (rfl)
  · obtain ⟨e1, e2⟩ := kl_p1 (n1 := 48) (n2 := 3) (f := S) (y := y) (Or.inr h)
    rw [e1, e2] at ret
    refine lv_iload_n hx hb dX1_set_0 rfl (lv_at hl 1 rfl) ?_
    refine lv_if_lt (tgt := 10) hx hb dX1_set_1 (by decide) (fun hc => absurd hc (kl_nlt (by decide) h)) (fun _ => ?_)
    refine lv_iload_n hx hb dX1_set_4 rfl (lv_at hl 1 rfl) ?_
    refine lv_bipush (v := nI 47) hx hb dX1_set_5 (by decide) ?_
    refine lv_icmp_le (tgt := 12) hx hb dX1_set_7 (by decide) (fun hc => absurd hc (kl_nle (by decide) (by decide) h)) (fun _ => ?_)
    refine lv_iconst (v := (-1)) hx hb dX1_set_10 (by decide) ?_
    exact ret _ _ _ _ _ (hP) (hD) hS dX1_set_11 (rfl)
  · refine lv_iload_n hx hb dX1_set_0 rfl (lv_at hl 1 rfl) ?_
    refine lv_if_lt (tgt := 10) hx hb dX1_set_1 (by decide) (fun hc => absurd hc (nI_pos (by omega))) (fun _ => ?_)
    refine lv_iload_n hx hb dX1_set_4 rfl (lv_at hl 1 rfl) ?_
    refine lv_bipush (v := nI 47) hx hb dX1_set_5 (by decide) ?_
    refine lv_icmp_le (tgt := 12) hx hb dX1_set_7 (by decide) (fun _ => ?_) (fun hc => absurd (nI_le (by omega) (by decide)) hc)
    rcases pk_ix y (n := 3) (by decide) with h | h | ⟨i, hi, rfl⟩
    · obtain ⟨e1, e2⟩ := kl_p2 (n1 := 48) (n2 := 3) (f := S) (y := y) hj (by decide) (Or.inl h)
      rw [e1, e2] at ret
      refine lv_iload_n hx hb dX1_set_12 rfl (lv_at hl 2 rfl) ?_
      refine lv_if_lt (tgt := 21) hx hb dX1_set_13 (by decide) (fun _ => ?_) (fun hc => absurd (h) hc)
      refine lv_bipush (v := (-2)) hx hb dX1_set_21 (by decide) ?_
      exact ret _ _ _ _ _ (hP) (hD) hS dX1_set_23 (rfl)
    · obtain ⟨e1, e2⟩ := kl_p2 (n1 := 48) (n2 := 3) (f := S) (y := y) hj (by decide) (Or.inr h)
      rw [e1, e2] at ret
      refine lv_iload_n hx hb dX1_set_12 rfl (lv_at hl 2 rfl) ?_
      refine lv_if_lt (tgt := 21) hx hb dX1_set_13 (by decide) (fun hc => absurd hc (kl_nlt (by decide) h)) (fun _ => ?_)
      refine lv_iload_n hx hb dX1_set_16 rfl (lv_at hl 2 rfl) ?_
      refine lv_iconst (v := nI 2) hx hb dX1_set_17 (by decide) ?_
      refine lv_icmp_le (tgt := 24) hx hb dX1_set_18 (by decide) (fun hc => absurd hc (kl_nle (by decide) (by decide) h)) (fun _ => ?_)
      refine lv_bipush (v := (-2)) hx hb dX1_set_21 (by decide) ?_
      exact ret _ _ _ _ _ (hP) (hD) hS dX1_set_23 (rfl)
    · obtain ⟨e1, e2⟩ := kl_p3 (n1 := 48) (n2 := 3) (f := S) hj (by decide) hi (by decide)
      rw [e1, e2] at ret
      refine lv_iload_n hx hb dX1_set_12 rfl (lv_at hl 2 rfl) ?_
      refine lv_if_lt (tgt := 21) hx hb dX1_set_13 (by decide) (fun hc => absurd hc (nI_pos (by omega))) (fun _ => ?_)
      refine lv_iload_n hx hb dX1_set_16 rfl (lv_at hl 2 rfl) ?_
      refine lv_iconst (v := nI 2) hx hb dX1_set_17 (by decide) ?_
      refine lv_icmp_le (tgt := 24) hx hb dX1_set_18 (by decide) (fun _ => ?_) (fun hc => absurd (nI_le (by omega) (by decide)) hc)
      refine lv_aload_n hx hb dX1_set_24 rfl (lv_at hl 0 rfl) ?_
      refine gM_states hx hb hts hown hK hP dX1_set_25 ?_
      refine lv_iload_n hx hb dX1_set_28 rfl (lv_at hl 1 rfl) ?_
      refine ldM_states hx hb hK hP (j) (hj) (v := nI (S j)) (rfl) (rfl) dX1_set_29 ?_
      refine lv_istore_n (lv' := [(3, .int (nI (S j))), (0, .ref (ad 0)), (1, .int (nI j)), (2, .int (nI i))]) hx hb dX1_set_30 rfl hl (by decide) rfl (fun ls hl => ?_)
      refine lv_aload_n hx hb dX1_set_31 rfl (lv_at hl 1 rfl) ?_
      refine gM_states hx hb hts hown hK hP dX1_set_32 ?_
      refine lv_iload_n hx hb dX1_set_35 rfl (lv_at hl 2 rfl) ?_
      refine lv_iload_n hx hb dX1_set_36 rfl (lv_at hl 3 rfl) ?_
      refine stM_states hx hb hK hP hD hS (j) (hj) (rfl) (fun k => nI (kl_u S j i k)) (fun k _ => kl_uI S j i k) dX1_set_37 (fun H locs hP hD hS => ?_)
      refine lv_iload_n hx hb dX1_set_38 rfl (lv_at hl 0 rfl) ?_
      exact ret _ _ _ _ _ (hP) (hD) hS dX1_set_39 (rfl)
set_option maxHeartbeats 4000000 in
set_option maxRecDepth 100000 in
theorem mM_clear (l : Launch) (D : va_G) (d : ClassId) (ad : Nat → Nat) (R S : Nat → Nat) (E : Nat → Int32)  : kl_CV l yX1_clear cX1_clear 2 (kl_rm 0 0) D d [.ref (ad 0)] (kl_wN ad d R S E) (kl_wN ad d R (fun _ => 0) E) := by
  refine kl_CV.of (by decide) (Nat.le_of_ble_eq_true rfl) ?_
  intro p e s m args below meth c A Q ls hx hb hml hown hts hA hK hP hD hS ret hl
  have hl : lv_has ls 2 [(0, .ref (ad 0))] := hl
  have loop : ∀ (n k : Nat) (H : Heap) (locs : List Loc) (ls : Array Slot), k + n = 48 → va_P D vwCl (kl_wN ad d R (fun j => if j < k then 0 else S j) E) H → va_D A (kl_wN ad d R (fun j => if j < k then 0 else S j) E) → va_S A s.heap H locs → lv_has ls 2 [(0, .ref (ad 0)), (1, .int (nI k))] → W p l e (kl_rm 0 0) s m args below meth c H locs 0 0 Q (F0 m 2 ls []) := by
    intro n
    induction n with
    | zero =>
      intro k H locs ls hk hP hD hS hl
      have hk : k = 48 := by omega
      subst hk
      refine lv_iload_n hx hb dX1_clear_2 rfl (lv_at hl 1 rfl) ?_
      refine lv_bipush (v := nI 48) hx hb dX1_clear_3 (by decide) ?_
      refine lv_icmp_ge (tgt := 21) hx hb dX1_clear_5 (by decide) (fun _ => ?_) (fun hc => absurd (by decide) hc)
      exact ret _ _ _ _ (kl_cgM hP (fun _ _ => rfl) (fun j hj => congrArg nI (if_pos hj)) (fun _ _ => rfl)) (kl_DM hD) hS dX1_clear_21
    | succ n ih =>
      intro k H locs ls hk hP hD hS hl
      refine lv_iload_n hx hb dX1_clear_2 rfl (lv_at hl 1 rfl) ?_
      refine lv_bipush (v := nI 48) hx hb dX1_clear_3 (by decide) ?_
      refine lv_icmp_ge (tgt := 21) hx hb dX1_clear_5 (by decide) (fun hc => absurd hc (nI_ge (by omega) (by decide))) (fun _ => ?_)
      refine lv_aload_n hx hb dX1_clear_8 rfl (lv_at hl 0 rfl) ?_
      refine gM_states hx hb hts hown hK hP dX1_clear_9 ?_
      refine lv_iload_n hx hb dX1_clear_12 rfl (lv_at hl 1 rfl) ?_
      refine lv_iconst (v := nI 0) hx hb dX1_clear_13 (by decide) ?_
      refine stM_states hx hb hK hP hD hS (k) (by omega) (rfl) (fun j => nI (if j < k + 1 then 0 else S j)) (fun j _ => kl_clr S k j) dX1_clear_14 (fun H locs hP hD hS => ?_)
      refine lv_iinc (v := nI (k + 1)) (lv' := [(1, .int (nI (k + 1))), (0, .ref (ad 0))]) hx hb dX1_clear_15 hl (k := 1) rfl (nI_1 k) (by decide) rfl (fun ls hl => ?_)
      refine lv_goto (tgt := 2) hx hb dX1_clear_18 (by decide) ?_
      exact ih (k + 1) H locs ls (by omega) hP hD hS (lv_sub hl [1, 0] rfl)
  refine lv_iconst (v := nI 0) hx hb dX1_clear_0 (by decide) ?_
  refine lv_istore_n (lv' := [(1, .int (nI 0)), (0, .ref (ad 0))]) hx hb dX1_clear_1 rfl hl (by decide) rfl (fun ls hl => ?_)
  exact loop 48 0 s.heap [] ls rfl (kl_cgM hP (fun _ _ => rfl) (fun _ _ => rfl) (fun _ _ => rfl)) (kl_DM hD) hS (lv_sub hl [1, 0] rfl)
set_option maxHeartbeats 4000000 in
set_option maxRecDepth 100000 in
theorem mM_occupied (l : Launch) (D : va_G) (d : ClassId) (ad : Nat → Nat) (R S : Nat → Nat) (E : Nat → Int32) (hS2 : ∀ j, j < 48 → S j ≤ 2) : kl_CI l yX1_occupied cX1_occupied 3 (kl_rm 0 0) D d [.ref (ad 0)] (kl_wN ad d R S E) (nI (kl_cnt S 48)) (kl_wN ad d R S E) := by
  refine kl_CI.of (by decide) (Nat.le_of_ble_eq_true rfl) ?_
  intro p e s m args below meth c A Q ls hx hb hml hown hts hA hK hP hD hS ret hl
  have hl : lv_has ls 3 [(0, .ref (ad 0))] := hl
  have loop : ∀ (n k : Nat) (ls : Array Slot), k + n = 48 → lv_has ls 3 [(0, .ref (ad 0)), (1, .int (nI (kl_cnt S k))), (2, .int (nI k))] → W p l e (kl_rm 0 0) s m args below meth c s.heap [] 0 0 Q (F0 m 4 ls []) := by
    intro n
    induction n with
    | zero =>
      intro k ls hk hl
      have hk : k = 48 := by omega
      subst hk
      refine lv_iload_n hx hb dX1_occupied_4 rfl (lv_at hl 2 rfl) ?_
      refine lv_bipush (v := nI 48) hx hb dX1_occupied_5 (by decide) ?_
      refine lv_icmp_ge (tgt := 29) hx hb dX1_occupied_7 (by decide) (fun _ => ?_) (fun hc => absurd (by decide) hc)
      refine lv_iload_n hx hb dX1_occupied_29 rfl (lv_at hl 1 rfl) ?_
      exact ret _ _ _ _ _ (hP) (hD) hS dX1_occupied_30 (rfl)
    | succ n ih =>
      intro k ls hk hl
      have hb2 := hS2 k (by omega)
      refine lv_iload_n hx hb dX1_occupied_4 rfl (lv_at hl 2 rfl) ?_
      refine lv_bipush (v := nI 48) hx hb dX1_occupied_5 (by decide) ?_
      refine lv_icmp_ge (tgt := 29) hx hb dX1_occupied_7 (by decide) (fun hc => absurd hc (nI_ge (by omega) (by decide))) (fun _ => ?_)
      refine lv_aload_n hx hb dX1_occupied_10 rfl (lv_at hl 0 rfl) ?_
      refine gM_states hx hb hts hown hK hP dX1_occupied_11 ?_
      refine lv_iload_n hx hb dX1_occupied_14 rfl (lv_at hl 2 rfl) ?_
      refine ldM_states hx hb hK hP (k) (by omega) (v := nI (S k)) (rfl) (rfl) dX1_occupied_15 ?_
      refine lv_iconst (v := nI 1) hx hb dX1_occupied_16 (by decide) ?_
      by_cases h : S k = 1
      · have e1 : kl_cnt S (k + 1) = kl_cnt S k + 1 := by show _ + _ = _; rw [kl_b1_1 h]
        refine lv_icmp_ne (tgt := 23) hx hb dX1_occupied_17 (by decide) (fun hc => absurd (congrArg nI h) hc) (fun _ => ?_)
        refine lv_iinc (v := nI (kl_cnt S (k + 1))) (lv' := [(1, .int (nI (kl_cnt S (k + 1)))), (0, .ref (ad 0)), (2, .int (nI k))]) hx hb dX1_occupied_20 hl (k := 1) rfl ((nI_1 _).trans (congrArg nI e1.symm)) (by decide) rfl (fun ls hl => ?_)
        refine lv_iinc (v := nI (k + 1)) (lv' := [(2, .int (nI (k + 1))), (1, .int (nI (kl_cnt S (k + 1)))), (0, .ref (ad 0))]) hx hb dX1_occupied_23 hl (k := 2) rfl (nI_1 k) (by decide) rfl (fun ls hl => ?_)
        refine lv_goto (tgt := 4) hx hb dX1_occupied_26 (by decide) ?_
        exact ih (k + 1) ls (by omega) (lv_sub hl [2, 1, 0] rfl)
      · have e1 : kl_cnt S (k + 1) = kl_cnt S k := by show _ + _ = _; rw [kl_b1_0 h]; rfl
        refine lv_icmp_ne (tgt := 23) hx hb dX1_occupied_17 (by decide) (fun _ => ?_) (fun hc => absurd hc (fun z => h ((kl_nk 1 (by decide) (by omega)).mp z)))
        refine lv_iinc (v := nI (k + 1)) (lv' := [(2, .int (nI (k + 1))), (0, .ref (ad 0)), (1, .int (nI (kl_cnt S k)))]) hx hb dX1_occupied_23 hl (k := 2) rfl (nI_1 k) (by decide) rfl (fun ls hl => ?_)
        refine lv_goto (tgt := 4) hx hb dX1_occupied_26 (by decide) ?_
        exact ih (k + 1) ls (by omega) (by rw [e1]; exact (lv_sub hl [1, 2, 0] rfl))
  refine lv_iconst (v := nI 0) hx hb dX1_occupied_0 (by decide) ?_
  refine lv_istore_n (lv' := [(1, .int (nI 0)), (0, .ref (ad 0))]) hx hb dX1_occupied_1 rfl hl (by decide) rfl (fun ls hl => ?_)
  refine lv_iconst (v := nI 0) hx hb dX1_occupied_2 (by decide) ?_
  refine lv_istore_n (lv' := [(2, .int (nI 0)), (1, .int (nI 0)), (0, .ref (ad 0))]) hx hb dX1_occupied_3 rfl hl (by decide) rfl (fun ls hl => ?_)
  exact loop 48 0 ls rfl (lv_sub hl [2, 1, 0] rfl)
/-- pairs counted from both sides -/
def kl_tw (S : Nat → Nat) : Nat → Nat
  | 0 => 0
  | k + 1 => kl_tw S k + (if S k = 1 then kl_occ S k 4 else 0)
def kl_sm (f : Nat → Nat) : Nat → Nat
  | 0 => 0
  | k + 1 => kl_sm f k + f k
theorem kl_sm_add (f g : Nat → Nat) (n : Nat) : kl_sm (fun k => f k + g k) n = kl_sm f n + kl_sm g n := by
  induction n with
  | zero => rfl
  | succ n ih =>
    show kl_sm (fun k => f k + g k) n + (f n + g n) = (kl_sm f n + f n) + (kl_sm g n + g n)
    omega
theorem kl_sm_list (f : Nat → Nat) (n : Nat) : kl_sm f n = ((List.range n).map f).sum := by
  induction n with
  | zero => rfl
  | succ n ih =>
    rw [List.range_succ, List.map_append, List.sum_append]
    show kl_sm f n + f n = _
    rw [ih]
    simp
def kl_pc (S : Nat → Nat) (k s : Nat) : Nat := kl_b1 (S s) * kl_b1 (S (kl_nb s k))
theorem kl_nbp1 : List.Perm ((List.range 48).map (fun s => kl_nb s 1)) (List.range 48) := by decide +kernel
theorem kl_nbp3 : List.Perm ((List.range 48).map (fun s => kl_nb s 3)) (List.range 48) := by decide +kernel
theorem kl_sm_flip (S : Nat → Nat) (k k' : Nat) (hk : k < 4) (ho : kl_op k = k') (hp : List.Perm ((List.range 48).map (fun s => kl_nb s k)) (List.range 48)) : kl_sm (kl_pc S k) 48 = kl_sm (kl_pc S k') 48 := by
  rw [kl_sm_list, kl_sm_list]
  have h1 : (List.range 48).map (kl_pc S k) = ((List.range 48).map (fun s => kl_nb s k)).map (kl_pc S k') := by
    rw [List.map_map]
    refine List.map_congr_left (fun s hs => ?_)
    have hs : s < 48 := List.mem_range.mp hs
    show kl_b1 (S s) * kl_b1 (S (kl_nb s k)) = kl_b1 (S (kl_nb s k)) * kl_b1 (S (kl_nb (kl_nb s k) k'))
    rw [← ho, kl_nb_op s hs k hk, Nat.mul_comm]
  rw [h1]
  exact (hp.map _).sum_nat
theorem kl_tw_sm (S : Nat → Nat) (n : Nat) : kl_tw S n = kl_sm (fun s => (kl_pc S 0 s + kl_pc S 1 s) + (kl_pc S 2 s + kl_pc S 3 s)) n := by
  induction n with
  | zero => rfl
  | succ n ih =>
    show kl_tw S n + (if S n = 1 then kl_occ S n 4 else 0) = kl_sm _ n + ((kl_pc S 0 n + kl_pc S 1 n) + (kl_pc S 2 n + kl_pc S 3 n))
    rw [ih]
    congr 1
    unfold kl_pc
    by_cases h : S n = 1
    · rw [if_pos h, kl_b1_1 h]
      simp only [kl_occ, Nat.one_mul]
      omega
    · rw [if_neg h, kl_b1_0 h]
      simp
theorem kl_pr_sm (S : Nat → Nat) (n : Nat) : kl_pr S n = kl_sm (fun s => kl_pc S 0 s + kl_pc S 2 s) n := by
  induction n with
  | zero => rfl
  | succ n ih =>
    show kl_pr S n + (if S n = 1 then kl_b1 (S (kl_nb n 0)) + kl_b1 (S (kl_nb n 2)) else 0) = kl_sm _ n + (kl_pc S 0 n + kl_pc S 2 n)
    rw [ih]
    congr 1
    unfold kl_pc
    by_cases h : S n = 1
    · rw [if_pos h, kl_b1_1 h, Nat.one_mul, Nat.one_mul]
    · rw [if_neg h, kl_b1_0 h, Nat.zero_mul, Nat.zero_mul]
theorem kl_pairs (S : Nat → Nat) : kl_tw S 48 = kl_pr S 48 * 2 := by
  rw [kl_tw_sm, kl_pr_sm, kl_sm_add, kl_sm_add, kl_sm_add, kl_sm_add]
  rw [kl_sm_flip S 1 0 (by decide) rfl kl_nbp1, kl_sm_flip S 3 2 (by decide) rfl kl_nbp3]
  omega
theorem kl_tw_le (S : Nat → Nat) (n : Nat) : kl_tw S n ≤ n * 4 := by
  induction n with
  | zero => exact Nat.le_refl _
  | succ n ih =>
    have := kl_occ_le S n 4
    show kl_tw S n + (if S n = 1 then kl_occ S n 4 else 0) ≤ _
    split <;> omega
set_option maxHeartbeats 4000000 in
set_option maxRecDepth 100000 in
theorem mM_pairs (l : Launch) (D : va_G) (d : ClassId) (ad : Nat → Nat) (R S : Nat → Nat) (E : Nat → Int32) (hS2 : ∀ j, j < 48 → S j ≤ 2) : kl_CI l yX1_pairs cX1_pairs 3 (kl_rm 2 47) D d [.ref (ad 0)] (kl_wN ad d R S E) (nI (kl_pr S 48)) (kl_wN ad d R S E) := by
  refine kl_CI.of (by decide) (Nat.le_of_ble_eq_true rfl) ?_
  intro p e s m args below meth c A Q ls hx hb hml hown hts hA hK hP hD hS ret hl
  have hl : lv_has ls 3 [(0, .ref (ad 0))] := hl
  have loop : ∀ (n k : Nat) (H : Heap) (locs : List Loc) (ls : Array Slot), k + n = 48 → va_P D vwCl (kl_wN ad d R S E) H → va_D A (kl_wN ad d R S E) → va_S A s.heap H locs → lv_has ls 3 [(0, .ref (ad 0)), (1, .int (nI (kl_tw S k))), (2, .int (nI k))] → W p l e (kl_rm 2 47) s m args below meth c H locs 0 0 Q (F0 m 4 ls []) := by
    intro n
    induction n with
    | zero =>
      intro k H locs ls hk hP hD hS hl
      have hk : k = 48 := by omega
      subst hk
      refine lv_iload_n hx hb dX1_pairs_4 rfl (lv_at hl 2 rfl) ?_
      refine lv_bipush (v := nI 48) hx hb dX1_pairs_5 (by decide) ?_
      refine lv_icmp_ge (tgt := 34) hx hb dX1_pairs_7 (by decide) (fun _ => ?_) (fun hc => absurd (by decide) hc)
      refine lv_iload_n hx hb dX1_pairs_34 rfl (lv_at hl 1 rfl) ?_
      refine lv_iconst (v := nI 2) hx hb dX1_pairs_35 (by decide) ?_
      refine lv_idiv hx hb dX1_pairs_36 (by decide) ?_
      refine kl_top (v := nI (kl_tw S 48 / 2)) (pk_div (Nat.lt_of_le_of_lt (kl_tw_le S 48) (by decide)) (by decide) (by decide)) ?_
      exact ret _ _ _ _ _ (hP) (hD) hS dX1_pairs_37 (by rw [kl_pairs, Nat.mul_div_cancel _ (by decide)])
    | succ n ih =>
      intro k H locs ls hk hP hD hS hl
      have hk48 : k < 48 := by omega
      have hb2 := hS2 k hk48
      have e0 : kl_tw S (k + 1) = kl_tw S k + (if S k = 1 then kl_occ S k 4 else 0) := rfl
      refine lv_iload_n hx hb dX1_pairs_4 rfl (lv_at hl 2 rfl) ?_
      refine lv_bipush (v := nI 48) hx hb dX1_pairs_5 (by decide) ?_
      refine lv_icmp_ge (tgt := 34) hx hb dX1_pairs_7 (by decide) (fun hc => absurd hc (nI_ge (by omega) (by decide))) (fun _ => ?_)
      refine lv_aload_n hx hb dX1_pairs_10 rfl (lv_at hl 0 rfl) ?_
      refine gM_states hx hb hts hown hK hP dX1_pairs_11 ?_
      refine lv_iload_n hx hb dX1_pairs_14 rfl (lv_at hl 2 rfl) ?_
      refine ldM_states hx hb hK hP (k) (hk48) (v := nI (S k)) (rfl) (rfl) dX1_pairs_15 ?_
      refine lv_iconst (v := nI 1) hx hb dX1_pairs_16 (by decide) ?_
      by_cases h : S k = 1
      · rw [if_pos h] at e0
        refine lv_icmp_ne (tgt := 28) hx hb dX1_pairs_17 (by decide) (fun hc => absurd (congrArg nI h) hc) (fun _ => ?_)
        refine lv_iload_n hx hb dX1_pairs_20 rfl (lv_at hl 1 rfl) ?_
        refine lv_aload_n hx hb dX1_pairs_21 rfl (lv_at hl 0 rfl) ?_
        refine lv_iload_n hx hb dX1_pairs_22 rfl (lv_at hl 2 rfl) ?_
        refine kl_CI.call (C := (RX1, TX1, 3)) (As := [.int (nI k)]) (rest := [.int (nI (kl_tw S k))]) (mM_occ l D d ad R S E k hk48 hS2) ⟨hx, hb, hml, hown, hts⟩ (cwX1_occupiedBeside hts rfl rfl ⟨Nat.le_of_ble_eq_true rfl, Nat.le_of_ble_eq_true rfl⟩) (ci := 1) rfl rfl hK hP hD hS hA rfl hl.1 rfl (Nat.le_of_ble_eq_true rfl) dX1_pairs_23 ⟨Nat.zero_le _, Nat.zero_le _⟩ (fun H locs hP hD hS => ?_)
        refine lv_iadd hx hb dX1_pairs_26 ?_
        refine kl_top (v := nI (kl_tw S (k + 1))) (by rw [e0]; exact nI_add _ _) ?_
        refine lv_istore_n (lv' := [(1, .int (nI (kl_tw S (k + 1)))), (0, .ref (ad 0)), (2, .int (nI k))]) hx hb dX1_pairs_27 rfl hl (by decide) rfl (fun ls hl => ?_)
        refine lv_iinc (v := nI (k + 1)) (lv' := [(2, .int (nI (k + 1))), (1, .int (nI (kl_tw S (k + 1)))), (0, .ref (ad 0))]) hx hb dX1_pairs_28 hl (k := 2) rfl (nI_1 k) (by decide) rfl (fun ls hl => ?_)
        refine lv_goto (tgt := 4) hx hb dX1_pairs_31 (by decide) ?_
        exact ih (k + 1) H locs ls (by omega) hP hD hS (lv_sub hl [2, 1, 0] rfl)
      · rw [if_neg h, Nat.add_zero] at e0
        refine lv_icmp_ne (tgt := 28) hx hb dX1_pairs_17 (by decide) (fun _ => ?_) (fun hc => absurd hc (fun z => h ((kl_nk 1 (by decide) (by omega)).mp z)))
        refine lv_iinc (v := nI (k + 1)) (lv' := [(2, .int (nI (k + 1))), (0, .ref (ad 0)), (1, .int (nI (kl_tw S k)))]) hx hb dX1_pairs_28 hl (k := 2) rfl (nI_1 k) (by decide) rfl (fun ls hl => ?_)
        refine lv_goto (tgt := 4) hx hb dX1_pairs_31 (by decide) ?_
        exact ih (k + 1) H locs ls (by omega) hP hD hS (by rw [e0]; exact (lv_sub hl [1, 2, 0] rfl))
  refine lv_iconst (v := nI 0) hx hb dX1_pairs_0 (by decide) ?_
  refine lv_istore_n (lv' := [(1, .int (nI 0)), (0, .ref (ad 0))]) hx hb dX1_pairs_1 rfl hl (by decide) rfl (fun ls hl => ?_)
  refine lv_iconst (v := nI 0) hx hb dX1_pairs_2 (by decide) ?_
  refine lv_istore_n (lv' := [(2, .int (nI 0)), (1, .int (nI 0)), (0, .ref (ad 0))]) hx hb dX1_pairs_3 rfl hl (by decide) rfl (fun ls hl => ?_)
  exact loop 48 0 s.heap [] ls rfl hP hD hS (lv_sub hl [2, 1, 0] rfl)
end
section
set_option maxHeartbeats 4000000 in
set_option maxRecDepth 100000 in
theorem mM_happen (l : Launch) (D : va_G) (d : ClassId) (ad : Nat → Nat) (R S : Nat → Nat) (E : Nat → Int32) (t : Nat) (ht : t < 48) (ev : Nat) (hev : ev < 6) : kl_CI l yX1_happen cX1_happen 4 (kl_rm 1 24) D d [.ref (ad 0), .int (nI t), .int (nI ev)] (kl_wN ad d R S E) (kl_hA t ev) (kl_wN ad d R (kl_hS S t ev) (kl_hE E ev)) := by
  refine kl_CI.of (by decide) (Nat.le_of_ble_eq_true rfl) ?_
  intro p e s m args below meth c A Q ls hx hb hml hown hts hA hK hP hD hS ret hl
  have hl : lv_has ls 4 [(0, .ref (ad 0)), (1, .int (nI t)), (2, .int (nI ev))] := hl
  rcases (show ev = 0 ∨ ev = 1 ∨ ∃ k, ev = k + 2 by rcases ev with _ | _ | k; exact Or.inl rfl; exact Or.inr (Or.inl rfl); exact Or.inr (Or.inr ⟨k, rfl⟩)) with rfl | rfl | ⟨k, rfl⟩
  · refine lv_aload_n hx hb dX1_happen_0 rfl (lv_at hl 0 rfl) ?_
    refine gM_states hx hb hts hown hK hP dX1_happen_1 ?_
    refine lv_iload_n hx hb dX1_happen_4 rfl (lv_at hl 1 rfl) ?_
    refine lv_iload_n hx hb dX1_happen_5 rfl (lv_at hl 2 rfl) ?_
    refine lv_if_ne (tgt := 13) hx hb dX1_happen_6 (by decide) (fun hc => absurd (by decide) hc) (fun _ => ?_)
    refine lv_iconst (v := nI 1) hx hb dX1_happen_9 (by decide) ?_
    refine lv_goto (tgt := 14) hx hb dX1_happen_10 (by decide) ?_
    refine stM_states hx hb hK hP hD hS (t) (ht) (rfl) (fun j => nI (kl_u S t 1 j)) (fun j _ => kl_uI S t 1 j) dX1_happen_14 (fun H locs hP hD hS => ?_)
    refine lv_iload_n hx hb dX1_happen_15 rfl (lv_at hl 2 rfl) ?_
    refine lv_iconst (v := nI 2) hx hb dX1_happen_16 (by decide) ?_
    refine lv_icmp_lt (tgt := 34) hx hb dX1_happen_17 (by decide) (fun _ => ?_) (fun hc => absurd (by decide) hc)
    refine lv_iload_n hx hb dX1_happen_34 rfl (lv_at hl 2 rfl) ?_
    refine lv_iconst (v := nI 2) hx hb dX1_happen_35 (by decide) ?_
    refine lv_icmp_ge (tgt := 43) hx hb dX1_happen_36 (by decide) (fun hc => absurd hc (by decide)) (fun _ => ?_)
    refine lv_iload_n hx hb dX1_happen_39 rfl (lv_at hl 2 rfl) ?_
    refine lv_goto (tgt := 44) hx hb dX1_happen_40 (by decide) ?_
    refine lv_istore_n (lv' := [(3, .int (nI 0)), (0, .ref (ad 0)), (1, .int (nI t)), (2, .int (nI 0))]) hx hb dX1_happen_44 rfl hl (by decide) rfl (fun ls hl => ?_)
    refine lv_aload_n hx hb dX1_happen_45 rfl (lv_at hl 1 rfl) ?_
    refine gM_events hx hb hts hown hK hP dX1_happen_46 ?_
    refine lv_iload_n hx hb dX1_happen_49 rfl (lv_at hl 0 rfl) ?_
    refine lv_dup2_11 hx hb dX1_happen_50 rfl rfl ?_
    refine ldM_events hx hb hK hP (0) (by decide) (v := E 0) (rfl) (rfl) dX1_happen_51 ?_
    refine lv_iconst (v := nI 1) hx hb dX1_happen_52 (by decide) ?_
    refine lv_iadd hx hb dX1_happen_53 ?_
    refine stM_events hx hb hK hP hD hS (0) (by decide) (rfl) (kl_hE E 0) (fun j _ => rfl) dX1_happen_54 (fun H locs hP hD hS => ?_)
    refine lv_iload_n hx hb dX1_happen_55 rfl (lv_at hl 2 rfl) ?_
    refine lv_bipush (v := nI 64) hx hb dX1_happen_56 (by decide) ?_
    refine lv_iload_n hx hb dX1_happen_58 rfl (lv_at hl 0 rfl) ?_
    refine lv_imul hx hb dX1_happen_59 ?_
    refine kl_top (v := nI (64 * 0)) (pk_mul _ _) ?_
    refine lv_iadd hx hb dX1_happen_60 ?_
    refine kl_top (v := nI (t + 64 * 0)) (nI_add _ _) ?_
    refine lv_iload_n hx hb dX1_happen_61 rfl (lv_at hl 3 rfl) ?_
    refine lv_iconst (v := nI 2) hx hb dX1_happen_62 (by decide) ?_
    refine lv_icmp_ge (tgt := 70) hx hb dX1_happen_63 (by decide) (fun hc => absurd hc (by decide)) (fun _ => ?_)
    refine lv_iconst (v := nI 0) hx hb dX1_happen_66 (by decide) ?_
    refine lv_goto (tgt := 77) hx hb dX1_happen_67 (by decide) ?_
    refine lv_iadd hx hb dX1_happen_77 ?_
    refine kl_top (v := nI (t + 64 * 0 + 0)) (nI_add _ _) ?_
    exact ret _ _ _ _ _ (hP) (hD) hS dX1_happen_78 (rfl)
  · refine lv_aload_n hx hb dX1_happen_0 rfl (lv_at hl 0 rfl) ?_
    refine gM_states hx hb hts hown hK hP dX1_happen_1 ?_
    refine lv_iload_n hx hb dX1_happen_4 rfl (lv_at hl 1 rfl) ?_
    refine lv_iload_n hx hb dX1_happen_5 rfl (lv_at hl 2 rfl) ?_
    refine lv_if_ne (tgt := 13) hx hb dX1_happen_6 (by decide) (fun _ => ?_) (fun hc => absurd hc (by decide))
    refine lv_iconst (v := nI 0) hx hb dX1_happen_13 (by decide) ?_
    refine stM_states hx hb hK hP hD hS (t) (ht) (rfl) (fun j => nI (kl_u S t 0 j)) (fun j _ => kl_uI S t 0 j) dX1_happen_14 (fun H locs hP hD hS => ?_)
    refine lv_iload_n hx hb dX1_happen_15 rfl (lv_at hl 2 rfl) ?_
    refine lv_iconst (v := nI 2) hx hb dX1_happen_16 (by decide) ?_
    refine lv_icmp_lt (tgt := 34) hx hb dX1_happen_17 (by decide) (fun _ => ?_) (fun hc => absurd (by decide) hc)
    refine lv_iload_n hx hb dX1_happen_34 rfl (lv_at hl 2 rfl) ?_
    refine lv_iconst (v := nI 2) hx hb dX1_happen_35 (by decide) ?_
    refine lv_icmp_ge (tgt := 43) hx hb dX1_happen_36 (by decide) (fun hc => absurd hc (by decide)) (fun _ => ?_)
    refine lv_iload_n hx hb dX1_happen_39 rfl (lv_at hl 2 rfl) ?_
    refine lv_goto (tgt := 44) hx hb dX1_happen_40 (by decide) ?_
    refine lv_istore_n (lv' := [(3, .int (nI 1)), (0, .ref (ad 0)), (1, .int (nI t)), (2, .int (nI 1))]) hx hb dX1_happen_44 rfl hl (by decide) rfl (fun ls hl => ?_)
    refine lv_aload_n hx hb dX1_happen_45 rfl (lv_at hl 1 rfl) ?_
    refine gM_events hx hb hts hown hK hP dX1_happen_46 ?_
    refine lv_iload_n hx hb dX1_happen_49 rfl (lv_at hl 0 rfl) ?_
    refine lv_dup2_11 hx hb dX1_happen_50 rfl rfl ?_
    refine ldM_events hx hb hK hP (1) (by decide) (v := E 1) (rfl) (rfl) dX1_happen_51 ?_
    refine lv_iconst (v := nI 1) hx hb dX1_happen_52 (by decide) ?_
    refine lv_iadd hx hb dX1_happen_53 ?_
    refine stM_events hx hb hK hP hD hS (1) (by decide) (rfl) (kl_hE E 1) (fun j _ => rfl) dX1_happen_54 (fun H locs hP hD hS => ?_)
    refine lv_iload_n hx hb dX1_happen_55 rfl (lv_at hl 2 rfl) ?_
    refine lv_bipush (v := nI 64) hx hb dX1_happen_56 (by decide) ?_
    refine lv_iload_n hx hb dX1_happen_58 rfl (lv_at hl 0 rfl) ?_
    refine lv_imul hx hb dX1_happen_59 ?_
    refine kl_top (v := nI (64 * 1)) (pk_mul _ _) ?_
    refine lv_iadd hx hb dX1_happen_60 ?_
    refine kl_top (v := nI (t + 64 * 1)) (nI_add _ _) ?_
    refine lv_iload_n hx hb dX1_happen_61 rfl (lv_at hl 3 rfl) ?_
    refine lv_iconst (v := nI 2) hx hb dX1_happen_62 (by decide) ?_
    refine lv_icmp_ge (tgt := 70) hx hb dX1_happen_63 (by decide) (fun hc => absurd hc (by decide)) (fun _ => ?_)
    refine lv_iconst (v := nI 0) hx hb dX1_happen_66 (by decide) ?_
    refine lv_goto (tgt := 77) hx hb dX1_happen_67 (by decide) ?_
    refine lv_iadd hx hb dX1_happen_77 ?_
    refine kl_top (v := nI (t + 64 * 1 + 0)) (nI_add _ _) ?_
    exact ret _ _ _ _ _ (hP) (hD) hS dX1_happen_78 (rfl)
  · have hk4 : k < 4 := by omega
    rw [kl_hS2, kl_hA2] at ret
    refine lv_aload_n hx hb dX1_happen_0 rfl (lv_at hl 0 rfl) ?_
    refine gM_states hx hb hts hown hK hP dX1_happen_1 ?_
    refine lv_iload_n hx hb dX1_happen_4 rfl (lv_at hl 1 rfl) ?_
    refine lv_iload_n hx hb dX1_happen_5 rfl (lv_at hl 2 rfl) ?_
    refine lv_if_ne (tgt := 13) hx hb dX1_happen_6 (by decide) (fun _ => ?_) (fun hc => absurd hc (nI_ne0 (by omega) (by omega)))
    refine lv_iconst (v := nI 0) hx hb dX1_happen_13 (by decide) ?_
    refine stM_states hx hb hK hP hD hS (t) (ht) (rfl) (fun j => nI (kl_u S t 0 j)) (fun j _ => kl_uI S t 0 j) dX1_happen_14 (fun H locs hP hD hS => ?_)
    refine lv_iload_n hx hb dX1_happen_15 rfl (lv_at hl 2 rfl) ?_
    refine lv_iconst (v := nI 2) hx hb dX1_happen_16 (by decide) ?_
    refine lv_icmp_lt (tgt := 34) hx hb dX1_happen_17 (by decide) (fun hc => absurd hc (nI_nlt (by omega) (by omega))) (fun _ => ?_)
    refine lv_aload_n hx hb dX1_happen_20 rfl (lv_at hl 0 rfl) ?_
    refine gM_states hx hb hts hown hK hP dX1_happen_21 ?_
    refine lv_aload_n hx hb dX1_happen_24 rfl (lv_at hl 0 rfl) ?_
    refine lv_iload_n hx hb dX1_happen_25 rfl (lv_at hl 1 rfl) ?_
    refine lv_iload_n hx hb dX1_happen_26 rfl (lv_at hl 2 rfl) ?_
    refine lv_iconst (v := nI 2) hx hb dX1_happen_27 (by decide) ?_
    refine lv_isub hx hb dX1_happen_28 ?_
    refine kl_top (v := nI k) ((pk_sub (by omega)).trans (congrArg nI (by omega))) ?_
    refine kl_CI.call (C := (RX1, TX1, 3)) (As := [.int (nI t), .int (nI k)]) (rest := [.ref (ad 2)]) (mM_neighbour l D d ad _ _ _ t ht k hk4) ⟨hx, hb, hml, hown, hts⟩ (cwX1_neighbour hts rfl rfl ⟨Nat.le_of_ble_eq_true rfl, Nat.le_of_ble_eq_true rfl⟩) (ci := 1) rfl rfl hK hP hD hS hA rfl hl.1 rfl (Nat.le_of_ble_eq_true rfl) dX1_happen_29 ⟨Nat.zero_le _, Nat.zero_le _⟩ (fun H locs hP hD hS => ?_)
    refine lv_iconst (v := nI 1) hx hb dX1_happen_32 (by decide) ?_
    refine stM_states hx hb hK hP hD hS (kl_nb t k) (kl_nb_lt ht k) (rfl) (fun j => nI (kl_u (kl_u S t 0) (kl_nb t k) 1 j)) (fun j _ => kl_uI (kl_u S t 0) (kl_nb t k) 1 j) dX1_happen_33 (fun H locs hP hD hS => ?_)
    refine lv_iload_n hx hb dX1_happen_34 rfl (lv_at hl 2 rfl) ?_
    refine lv_iconst (v := nI 2) hx hb dX1_happen_35 (by decide) ?_
    refine lv_icmp_ge (tgt := 43) hx hb dX1_happen_36 (by decide) (fun _ => ?_) (fun hc => absurd (nI_le (by omega) (by omega)) hc)
    refine lv_iconst (v := nI 2) hx hb dX1_happen_43 (by decide) ?_
    refine lv_istore_n (lv' := [(3, .int (nI 2)), (0, .ref (ad 0)), (1, .int (nI t)), (2, .int (nI (k + 2)))]) hx hb dX1_happen_44 rfl hl (by decide) rfl (fun ls hl => ?_)
    refine lv_aload_n hx hb dX1_happen_45 rfl (lv_at hl 1 rfl) ?_
    refine gM_events hx hb hts hown hK hP dX1_happen_46 ?_
    refine lv_iload_n hx hb dX1_happen_49 rfl (lv_at hl 0 rfl) ?_
    refine lv_dup2_11 hx hb dX1_happen_50 rfl rfl ?_
    refine ldM_events hx hb hK hP (2) (by decide) (v := E 2) (rfl) (rfl) dX1_happen_51 ?_
    refine lv_iconst (v := nI 1) hx hb dX1_happen_52 (by decide) ?_
    refine lv_iadd hx hb dX1_happen_53 ?_
    refine stM_events hx hb hK hP hD hS (2) (by decide) (rfl) (kl_hE E (k + 2)) (fun j _ => kl_hE2 E k j) dX1_happen_54 (fun H locs hP hD hS => ?_)
    refine lv_iload_n hx hb dX1_happen_55 rfl (lv_at hl 2 rfl) ?_
    refine lv_bipush (v := nI 64) hx hb dX1_happen_56 (by decide) ?_
    refine lv_iload_n hx hb dX1_happen_58 rfl (lv_at hl 0 rfl) ?_
    refine lv_imul hx hb dX1_happen_59 ?_
    refine kl_top (v := nI (64 * 2)) (pk_mul _ _) ?_
    refine lv_iadd hx hb dX1_happen_60 ?_
    refine kl_top (v := nI (t + 64 * 2)) (nI_add _ _) ?_
    refine lv_iload_n hx hb dX1_happen_61 rfl (lv_at hl 3 rfl) ?_
    refine lv_iconst (v := nI 2) hx hb dX1_happen_62 (by decide) ?_
    refine lv_icmp_ge (tgt := 70) hx hb dX1_happen_63 (by decide) (fun _ => ?_) (fun hc => absurd (nI_le (by omega) (by omega)) hc)
    refine lv_sipush (v := nI 256) hx hb dX1_happen_70 (by decide) ?_
    refine lv_iload_n hx hb dX1_happen_73 rfl (lv_at hl 3 rfl) ?_
    refine lv_iconst (v := nI 2) hx hb dX1_happen_74 (by decide) ?_
    refine lv_isub hx hb dX1_happen_75 ?_
    refine kl_top (v := nI k) ((pk_sub (by omega)).trans (congrArg nI (by omega))) ?_
    refine lv_imul hx hb dX1_happen_76 ?_
    refine kl_top (v := nI (256 * k)) (pk_mul _ _) ?_
    refine lv_iadd hx hb dX1_happen_77 ?_
    refine kl_top (v := nI (t + 64 * 2 + 256 * k)) (nI_add _ _) ?_
    exact ret _ _ _ _ _ (hP) (hD) hS dX1_happen_78 (rfl)
/-- rates of the first i events of all -/
def kl_cu (R S : Nat → Nat) (i : Nat) : Nat := kl_ps (kl_w R S) (i / 6) + kl_es R S (i / 6) (i % 6)
theorem kl_cu_s {R S : Nat → Nat} (hS2 : ∀ j, j < 48 → S j ≤ 2) {i : Nat} (hi : i < 288) : kl_cu R S (i + 1) = kl_cu R S i + kl_er R S (i / 6) (i % 6) := by
  unfold kl_cu
  rcases Nat.lt_or_ge (i % 6) 5 with h | h
  · rw [show (i + 1) / 6 = i / 6 by omega, show (i + 1) % 6 = i % 6 + 1 by omega]
    show kl_ps (kl_w R S) (i / 6) + (kl_es R S (i / 6) (i % 6) + kl_er R S (i / 6) (i % 6)) = _
    omega
  · have h48 : i / 6 < 48 := by omega
    rw [show (i + 1) / 6 = i / 6 + 1 by omega, show (i + 1) % 6 = 0 by omega, kl_ps_s h48, ← kl_es6 (hS2 _ h48), show i % 6 = 5 by omega]
    show kl_ps (kl_w R S) (i / 6) + (kl_es R S (i / 6) 5 + kl_er R S (i / 6) 5) + 0 = _
    omega
theorem kl_cu_mono {R S : Nat → Nat} (hS2 : ∀ j, j < 48 → S j ≤ 2) {i j : Nat} (h : i ≤ j) (hj : j ≤ 288) : kl_cu R S i ≤ kl_cu R S j := by
  induction j with
  | zero => rw [Nat.le_zero.mp h]; exact Nat.le_refl _
  | succ j ih =>
    rcases Nat.lt_or_ge j i with h1 | h1
    · rw [show i = j + 1 by omega]; exact Nat.le_refl _
    · rw [kl_cu_s hS2 (by omega)]
      exact Nat.le_trans (ih h1 (by omega)) (Nat.le_add_right _ _)
set_option maxHeartbeats 4000000 in
set_option maxRecDepth 100000 in
theorem mM_step (l : Launch) (D : va_G) (d : ClassId) (ad : Nat → Nat) (R S : Nat → Nat) (E : Nat → Int32) (hR : ∀ k, k < 7 → R k ≤ 1000) (hS2 : ∀ j, j < 48 → S j ≤ 2) (x : Int32) : kl_CI l yX1_step cX1_step 5 (kl_rm 6 135) D d [.ref (ad 0), .int x] (kl_wN ad d R S E) (kl_tA R S x) (kl_wN ad d R (kl_tS R S x) (kl_tE R S E x)) := by
  refine kl_CI.of (by decide) (Nat.le_of_ble_eq_true rfl) ?_
  intro p e s m args below meth c A Q ls hx hb hml hown hts hA hK hP hD hS ret hl
  have hl : lv_has ls 5 [(0, .ref (ad 0)), (1, .int x)] := hl
  have hbd := kl_ps_bd (S := S) hR
  rcases pk_ix x (n := kl_ps (kl_w R S) 48) hbd with h | h | ⟨r, hr, rfl⟩
  · obtain ⟨e1, e2, e3⟩ := kl_t1 (E := E) (Or.inl h)
    rw [e1, e2, e3] at ret
    refine lv_iload_n hx hb dX1_step_0 rfl (lv_at hl 1 rfl) ?_
    refine lv_if_lt (tgt := 12) hx hb dX1_step_1 (by decide) (fun _ => ?_) (fun hc => absurd (h) hc)
    refine lv_bipush (v := (-3)) hx hb dX1_step_12 (by decide) ?_
    exact ret _ _ _ _ _ (hP) (hD) hS dX1_step_14 (rfl)
  · obtain ⟨e1, e2, e3⟩ := kl_t1 (E := E) (Or.inr h)
    rw [e1, e2, e3] at ret
    refine lv_iload_n hx hb dX1_step_0 rfl (lv_at hl 1 rfl) ?_
    refine lv_if_lt (tgt := 12) hx hb dX1_step_1 (by decide) (fun hc => absurd hc (kl_nlt hbd h)) (fun _ => ?_)
    refine lv_iload_n hx hb dX1_step_4 rfl (lv_at hl 1 rfl) ?_
    refine lv_aload_n hx hb dX1_step_5 rfl (lv_at hl 0 rfl) ?_
    refine kl_CI.call (C := (RX1, TX1, 3)) (As := []) (rest := [.int x]) (mM_total l D d ad R S E hS2) ⟨hx, hb, hml, hown, hts⟩ (cwX1_total hts rfl rfl ⟨Nat.le_of_ble_eq_true rfl, Nat.le_of_ble_eq_true rfl⟩) (ci := 1) rfl rfl hK hP hD hS hA rfl hl.1 rfl (Nat.le_of_ble_eq_true rfl) dX1_step_6 ⟨Nat.zero_le _, Nat.zero_le _⟩ (fun H locs hP hD hS => ?_)
    refine lv_icmp_lt (tgt := 15) hx hb dX1_step_9 (by decide) (fun hc => absurd hc (kl_nlt' h)) (fun _ => ?_)
    refine lv_bipush (v := (-3)) hx hb dX1_step_12 (by decide) ?_
    exact ret _ _ _ _ _ (hP) (hD) hS dX1_step_14 (rfl)
  · obtain ⟨t, ev, hp, e1, e2, e3⟩ := kl_t2 (E := E) hS2 hbd hr
    rw [e1, e2, e3] at ret
    obtain ⟨ht, hev, hp1, hp2⟩ := hp
    have hI : kl_cu R S (t * 6 + ev) ≤ r := by
      unfold kl_cu
      rw [show (t * 6 + ev) / 6 = t by omega, show (t * 6 + ev) % 6 = ev by omega]
      exact hp1
    have hI2 : r < kl_cu R S (t * 6 + ev) + kl_er R S t ev := by
      have z : kl_es R S t (ev + 1) = kl_es R S t ev + kl_er R S t ev := rfl
      rw [z] at hp2
      unfold kl_cu
      rw [show (t * 6 + ev) / 6 = t by omega, show (t * 6 + ev) % 6 = ev by omega]
      omega
    have hbig : ∀ i, i < 288 → kl_cu R S i + kl_er R S (i / 6) (i % 6) < 2 ^ 31 := by
      intro i hi
      rw [← kl_cu_s hS2 hi]
      refine Nat.lt_of_le_of_lt (kl_cu_mono hS2 (show i + 1 ≤ 288 by omega) (Nat.le_refl _)) ?_
      unfold kl_cu
      rw [show 288 / 6 = 48 from rfl, show 288 % 6 = 0 from rfl]
      exact hbd
    have loop : ∀ (n i : Nat) (H : Heap) (locs : List Loc) (ls : Array Slot), i + n = t * 6 + ev → va_P D vwCl (kl_wN ad d R S E) H → va_D A (kl_wN ad d R S E) → va_S A s.heap H locs → lv_has ls 5 [(0, .ref (ad 0)), (1, .int (nI r)), (2, .int (nI (kl_cu R S i))), (3, .int (nI i))] → W p l e (kl_rm 6 135) s m args below meth c H locs 0 0 Q (F0 m 19 ls []) := by
      intro n
      induction n with
      | zero =>
        intro i H locs ls hi hP hD hS hl
        have hi : i = t * 6 + ev := by omega
        have hd1 : i / 6 = t := by omega
        have hd2 : i % 6 = ev := by omega
        have hb3 := hbig i (by omega)
        rw [hd1, hd2] at hb3
        rw [← hi] at hI hI2
        refine lv_iload_n hx hb dX1_step_19 rfl (lv_at hl 3 rfl) ?_
        refine lv_sipush (v := nI 288) hx hb dX1_step_20 (by decide) ?_
        refine lv_icmp_ge (tgt := 77) hx hb dX1_step_23 (by decide) (fun hc => absurd hc (nI_ge (by omega) (by decide))) (fun _ => ?_)
        refine lv_aload_n hx hb dX1_step_26 rfl (lv_at hl 0 rfl) ?_
        refine lv_iload_n hx hb dX1_step_27 rfl (lv_at hl 3 rfl) ?_
        refine lv_bipush (v := nI 6) hx hb dX1_step_28 (by decide) ?_
        refine lv_idiv hx hb dX1_step_30 (by decide) ?_
        refine kl_top (v := nI (i / 6)) (pk_div (by omega) (by decide) (by decide)) ?_
        refine lv_iload_n hx hb dX1_step_31 rfl (lv_at hl 3 rfl) ?_
        refine lv_bipush (v := nI 6) hx hb dX1_step_32 (by decide) ?_
        refine lv_irem hx hb dX1_step_34 (by decide) ?_
        refine kl_top (v := nI (i % 6)) (pk_rem (by omega) (by decide) (by decide)) ?_
        refine kl_CI.call (C := (RX1, TX1, 3)) (As := [.int (nI (i / 6)), .int (nI (i % 6))]) (rest := []) (mM_eventRate l D d ad R S E (i / 6) (by omega) hS2 (i % 6) (by omega)) ⟨hx, hb, hml, hown, hts⟩ (cwX1_eventRate hts rfl rfl ⟨Nat.le_of_ble_eq_true rfl, Nat.le_of_ble_eq_true rfl⟩) (ci := 1) rfl rfl hK hP hD hS hA rfl hl.1 rfl (Nat.le_of_ble_eq_true rfl) dX1_step_35 ⟨Nat.zero_le _, Nat.zero_le _⟩ (fun H locs hP hD hS => ?_)
        refine lv_istore (lv' := [(4, .int (nI (kl_er R S (i / 6) (i % 6)))), (0, .ref (ad 0)), (1, .int (nI r)), (2, .int (nI (kl_cu R S i))), (3, .int (nI i))]) hx hb dX1_step_38 hl (by decide) rfl (fun ls hl => ?_)
        refine lv_iload_n hx hb dX1_step_40 rfl (lv_at hl 3 rfl) ?_
        refine lv_iload_n hx hb dX1_step_41 rfl (lv_at hl 2 rfl) ?_
        rw [hd1, hd2] at hl
        refine lv_icmp_gt (tgt := 66) hx hb dX1_step_42 (by decide) (fun hc => absurd hc (nI_nlt hI (by omega))) (fun _ => ?_)
        refine lv_iload_n hx hb dX1_step_45 rfl (lv_at hl 2 rfl) ?_
        refine lv_iload_n hx hb dX1_step_46 rfl (lv_at hl 3 rfl) ?_
        refine lv_iload hx hb dX1_step_47 (lv_at hl 0 rfl) ?_
        refine lv_iadd hx hb dX1_step_49 ?_
        refine kl_top (v := nI (kl_cu R S i + kl_er R S t ev)) (nI_add _ _) ?_
        refine lv_icmp_ge (tgt := 66) hx hb dX1_step_50 (by decide) (fun hc => absurd hc (nI_ge hI2 (by omega))) (fun _ => ?_)
        refine lv_aload_n hx hb dX1_step_53 rfl (lv_at hl 1 rfl) ?_
        refine lv_iload_n hx hb dX1_step_54 rfl (lv_at hl 4 rfl) ?_
        refine lv_bipush (v := nI 6) hx hb dX1_step_55 (by decide) ?_
        refine lv_idiv hx hb dX1_step_57 (by decide) ?_
        refine kl_top (v := nI t) ((pk_div (by omega) (by decide) (by decide)).trans (congrArg nI hd1)) ?_
        refine lv_iload_n hx hb dX1_step_58 rfl (lv_at hl 4 rfl) ?_
        refine lv_bipush (v := nI 6) hx hb dX1_step_59 (by decide) ?_
        refine lv_irem hx hb dX1_step_61 (by decide) ?_
        refine kl_top (v := nI ev) ((pk_rem (by omega) (by decide) (by decide)).trans (congrArg nI hd2)) ?_
        refine kl_CI.call (C := (RX1, TX1, 3)) (As := [.int (nI t), .int (nI ev)]) (rest := []) (mM_happen l D d ad R S E t ht ev hev) ⟨hx, hb, hml, hown, hts⟩ (cwX1_happen hts rfl rfl ⟨Nat.le_of_ble_eq_true rfl, Nat.le_of_ble_eq_true rfl⟩) (ci := 1) rfl rfl hK hP hD hS hA rfl hl.1 rfl (Nat.le_of_ble_eq_true rfl) dX1_step_62 ⟨Nat.zero_le _, Nat.zero_le _⟩ (fun H locs hP hD hS => ?_)
        exact ret _ _ _ _ _ (hP) (hD) hS dX1_step_65 (rfl)
      | succ n ih =>
        intro i H locs ls hi hP hD hS hl
        have hi2 : i < 288 := by omega
        have hcs := kl_cu_s (R := R) hS2 hi2
        have hm := kl_cu_mono (R := R) hS2 (show i + 1 ≤ t * 6 + ev by omega) (by omega)
        have hb3 := hbig i hi2
        refine lv_iload_n hx hb dX1_step_19 rfl (lv_at hl 3 rfl) ?_
        refine lv_sipush (v := nI 288) hx hb dX1_step_20 (by decide) ?_
        refine lv_icmp_ge (tgt := 77) hx hb dX1_step_23 (by decide) (fun hc => absurd hc (nI_ge (by omega) (by decide))) (fun _ => ?_)
        refine lv_aload_n hx hb dX1_step_26 rfl (lv_at hl 0 rfl) ?_
        refine lv_iload_n hx hb dX1_step_27 rfl (lv_at hl 3 rfl) ?_
        refine lv_bipush (v := nI 6) hx hb dX1_step_28 (by decide) ?_
        refine lv_idiv hx hb dX1_step_30 (by decide) ?_
        refine kl_top (v := nI (i / 6)) (pk_div (by omega) (by decide) (by decide)) ?_
        refine lv_iload_n hx hb dX1_step_31 rfl (lv_at hl 3 rfl) ?_
        refine lv_bipush (v := nI 6) hx hb dX1_step_32 (by decide) ?_
        refine lv_irem hx hb dX1_step_34 (by decide) ?_
        refine kl_top (v := nI (i % 6)) (pk_rem (by omega) (by decide) (by decide)) ?_
        refine kl_CI.call (C := (RX1, TX1, 3)) (As := [.int (nI (i / 6)), .int (nI (i % 6))]) (rest := []) (mM_eventRate l D d ad R S E (i / 6) (by omega) hS2 (i % 6) (by omega)) ⟨hx, hb, hml, hown, hts⟩ (cwX1_eventRate hts rfl rfl ⟨Nat.le_of_ble_eq_true rfl, Nat.le_of_ble_eq_true rfl⟩) (ci := 1) rfl rfl hK hP hD hS hA rfl hl.1 rfl (Nat.le_of_ble_eq_true rfl) dX1_step_35 ⟨Nat.zero_le _, Nat.zero_le _⟩ (fun H locs hP hD hS => ?_)
        refine lv_istore (lv' := [(4, .int (nI (kl_er R S (i / 6) (i % 6)))), (0, .ref (ad 0)), (1, .int (nI r)), (2, .int (nI (kl_cu R S i))), (3, .int (nI i))]) hx hb dX1_step_38 hl (by decide) rfl (fun ls hl => ?_)
        refine lv_iload_n hx hb dX1_step_40 rfl (lv_at hl 3 rfl) ?_
        refine lv_iload_n hx hb dX1_step_41 rfl (lv_at hl 2 rfl) ?_
        refine lv_icmp_gt (tgt := 66) hx hb dX1_step_42 (by decide) (fun hc => absurd hc (nI_nlt (by omega) (by omega))) (fun _ => ?_)
        refine lv_iload_n hx hb dX1_step_45 rfl (lv_at hl 2 rfl) ?_
        refine lv_iload_n hx hb dX1_step_46 rfl (lv_at hl 3 rfl) ?_
        refine lv_iload hx hb dX1_step_47 (lv_at hl 0 rfl) ?_
        refine lv_iadd hx hb dX1_step_49 ?_
        refine kl_top (v := nI (kl_cu R S i + kl_er R S (i / 6) (i % 6))) (nI_add _ _) ?_
        refine lv_icmp_ge (tgt := 66) hx hb dX1_step_50 (by decide) (fun _ => ?_) (fun hc => absurd (nI_le (by omega) (by omega)) hc)
        refine lv_iload_n hx hb dX1_step_66 rfl (lv_at hl 3 rfl) ?_
        refine lv_iload hx hb dX1_step_67 (lv_at hl 0 rfl) ?_
        refine lv_iadd hx hb dX1_step_69 ?_
        refine kl_top (v := nI (kl_cu R S (i + 1))) (by rw [hcs]; exact nI_add _ _) ?_
        refine lv_istore_n (lv' := [(2, .int (nI (kl_cu R S (i + 1)))), (4, .int (nI (kl_er R S (i / 6) (i % 6)))), (0, .ref (ad 0)), (1, .int (nI r)), (3, .int (nI i))]) hx hb dX1_step_70 rfl hl (by decide) rfl (fun ls hl => ?_)
        refine lv_iinc (v := nI (i + 1)) (lv' := [(3, .int (nI (i + 1))), (2, .int (nI (kl_cu R S (i + 1)))), (4, .int (nI (kl_er R S (i / 6) (i % 6)))), (0, .ref (ad 0)), (1, .int (nI r))]) hx hb dX1_step_71 hl (k := 4) rfl (nI_1 i) (by decide) rfl (fun ls hl => ?_)
        refine lv_goto (tgt := 19) hx hb dX1_step_74 (by decide) ?_
        exact ih (i + 1) H locs ls (by omega) hP hD hS (lv_sub hl [3, 4, 1, 0] rfl)
    refine lv_iload_n hx hb dX1_step_0 rfl (lv_at hl 1 rfl) ?_
    refine lv_if_lt (tgt := 12) hx hb dX1_step_1 (by decide) (fun hc => absurd hc (nI_pos (by omega))) (fun _ => ?_)
    refine lv_iload_n hx hb dX1_step_4 rfl (lv_at hl 1 rfl) ?_
    refine lv_aload_n hx hb dX1_step_5 rfl (lv_at hl 0 rfl) ?_
    refine kl_CI.call (C := (RX1, TX1, 3)) (As := []) (rest := [.int (nI r)]) (mM_total l D d ad R S E hS2) ⟨hx, hb, hml, hown, hts⟩ (cwX1_total hts rfl rfl ⟨Nat.le_of_ble_eq_true rfl, Nat.le_of_ble_eq_true rfl⟩) (ci := 1) rfl rfl hK hP hD hS hA rfl hl.1 rfl (Nat.le_of_ble_eq_true rfl) dX1_step_6 ⟨Nat.zero_le _, Nat.zero_le _⟩ (fun H locs hP hD hS => ?_)
    refine lv_icmp_lt (tgt := 15) hx hb dX1_step_9 (by decide) (fun _ => ?_) (fun hc => absurd (nI_lt hr hbd) hc)
    refine lv_iconst (v := nI 0) hx hb dX1_step_15 (by decide) ?_
    refine lv_istore_n (lv' := [(2, .int (nI 0)), (0, .ref (ad 0)), (1, .int (nI r))]) hx hb dX1_step_16 rfl hl (by decide) rfl (fun ls hl => ?_)
    refine lv_iconst (v := nI 0) hx hb dX1_step_17 (by decide) ?_
    refine lv_istore_n (lv' := [(3, .int (nI 0)), (2, .int (nI 0)), (0, .ref (ad 0)), (1, .int (nI r))]) hx hb dX1_step_18 rfl hl (by decide) rfl (fun ls hl => ?_)
    exact loop (t * 6 + ev) 0 H locs ls (Nat.zero_add _) hP hD hS (lv_sub hl [2, 3, 1, 0] rfl)
set_option maxHeartbeats 4000000 in
set_option maxRecDepth 100000 in
theorem mM_run (l : Launch) (D : va_G) (d : ClassId) (ad : Nat → Nat) (R S : Nat → Nat) (E : Nat → Int32) (hR : ∀ k, k < 7 → R k ≤ 1000) (hS2 : ∀ j, j < 48 → S j ≤ 2) (x y : Int32) : kl_CI l yX1_run cX1_run 7 (kl_rm 7 159) D d [.ref (ad 0), .int x, .int y] (kl_wN ad d R S E) (nI (kl_it R (S, E, y, 0) (kl_cl 200 x)).2.2.2) (kl_wN ad d R (kl_it R (S, E, y, 0) (kl_cl 200 x)).1 (kl_it R (S, E, y, 0) (kl_cl 200 x)).2.1) := by
  refine kl_CI.of (by decide) (Nat.le_of_ble_eq_true rfl) ?_
  intro p e s m args below meth c A Q ls hx hb hml hown hts hA hK hP hD hS ret hl
  have hl : lv_has ls 7 [(0, .ref (ad 0)), (1, .int x), (2, .int y)] := hl
  have hN : kl_cl 200 x ≤ 200 ∧ (∀ i, i < kl_cl 200 x → ¬ x ≤ nI i) ∧ (x ≤ nI (kl_cl 200 x) ∨ kl_cl 200 x = 200) := by
    rcases pk_ix x (n := 200) (by decide) with h | h | ⟨j, hj, rfl⟩
    · rw [kl_cl_neg h]
      exact ⟨by omega, fun i hi => absurd hi (Nat.not_lt_zero _), Or.inl (Int32.le_of_lt h)⟩
    · rw [kl_cl_big (by decide) h]
      exact ⟨Nat.le_refl _, fun i hi => kl_nle hi (by decide) h, Or.inr rfl⟩
    · rw [kl_cl_at hj (by decide)]
      exact ⟨by omega, fun i hi => nI_ge hi (by omega), Or.inl (Int32.le_refl _)⟩
  obtain ⟨hN1, hN2, hN3⟩ := hN
  generalize kl_cl 200 x = N at hN1 hN2 hN3 ret
  have loop : ∀ (n i : Nat) (q : kl_Q) (H : Heap) (locs : List Loc) (ls : Array Slot), i + n = N → q = kl_it R (S, E, y, 0) i → va_P D vwCl (kl_wN ad d R q.1 q.2.1) H → va_D A (kl_wN ad d R q.1 q.2.1) → va_S A s.heap H locs → lv_has ls 7 [(0, .ref (ad 0)), (1, .int x), (3, .int q.2.2.1), (4, .int (nI q.2.2.2)), (5, .int (nI i))] → W p l e (kl_rm 7 159) s m args below meth c H locs 0 0 Q (F0 m 8 ls []) := by
    intro n
    induction n with
    | zero =>
      intro i q H locs ls hi eq hP hD hS hl
      have hi : i = N := by omega
      subst hi
      subst eq
      rcases hN3 with h3 | h3
      · refine lv_iload hx hb dX1_run_8 (lv_at hl 4 rfl) ?_
        refine lv_iload_n hx hb dX1_run_10 rfl (lv_at hl 1 rfl) ?_
        refine lv_icmp_ge (tgt := 66) hx hb dX1_run_11 (by decide) (fun _ => ?_) (fun hc => absurd (h3) hc)
        refine lv_iload hx hb dX1_run_66 (lv_at hl 3 rfl) ?_
        exact ret _ _ _ _ _ (hP) (hD) hS dX1_run_68 (rfl)
      · refine lv_iload hx hb dX1_run_8 (lv_at hl 4 rfl) ?_
        refine lv_iload_n hx hb dX1_run_10 rfl (lv_at hl 1 rfl) ?_
        refine lv_icmp_ge (tgt := 66) hx hb dX1_run_11 (by decide) (fun hc => ?_) (fun hc => ?_)
        · refine lv_iload hx hb dX1_run_66 (lv_at hl 3 rfl) ?_
          exact ret _ _ _ _ _ (hP) (hD) hS dX1_run_68 (rfl)
        · refine lv_iload hx hb dX1_run_14 (lv_at hl 4 rfl) ?_
          refine lv_sipush (v := nI 200) hx hb dX1_run_16 (by decide) ?_
          refine lv_icmp_ge (tgt := 66) hx hb dX1_run_19 (by decide) (fun _ => ?_) (fun hc => absurd (nI_le (by omega) (by omega)) hc)
          refine lv_iload hx hb dX1_run_66 (lv_at hl 3 rfl) ?_
          exact ret _ _ _ _ _ (hP) (hD) hS dX1_run_68 (rfl)
    | succ n ih =>
      intro i q H locs ls hi eq hP hD hS hl
      have hq : ∀ j, j < 48 → q.1 j ≤ 2 := by rw [eq]; exact kl_it_le hS2 i
      have hbd := kl_ps_bd (S := q.1) hR
      have e1 : kl_it R (S, E, y, 0) (i + 1) = kl_i1 R q := by rw [eq]; rfl
      refine lv_iload hx hb dX1_run_8 (lv_at hl 4 rfl) ?_
      refine lv_iload_n hx hb dX1_run_10 rfl (lv_at hl 1 rfl) ?_
      refine lv_icmp_ge (tgt := 66) hx hb dX1_run_11 (by decide) (fun hc => absurd hc (hN2 i (by omega))) (fun _ => ?_)
      refine lv_iload hx hb dX1_run_14 (lv_at hl 4 rfl) ?_
      refine lv_sipush (v := nI 200) hx hb dX1_run_16 (by decide) ?_
      refine lv_icmp_ge (tgt := 66) hx hb dX1_run_19 (by decide) (fun hc => absurd hc (nI_ge (by omega) (by decide))) (fun _ => ?_)
      refine lv_aload_n hx hb dX1_run_22 rfl (lv_at hl 0 rfl) ?_
      refine kl_CI.call (C := (RX1, TX1, 3)) (As := []) (rest := []) (mM_total l D d ad R q.1 q.2.1 hq) ⟨hx, hb, hml, hown, hts⟩ (cwX1_total hts rfl rfl ⟨Nat.le_of_ble_eq_true rfl, Nat.le_of_ble_eq_true rfl⟩) (ci := 1) rfl rfl hK hP hD hS hA rfl hl.1 rfl (Nat.le_of_ble_eq_true rfl) dX1_run_23 ⟨Nat.zero_le _, Nat.zero_le _⟩ (fun H locs hP hD hS => ?_)
      refine lv_istore (lv' := [(6, .int (nI (kl_ps (kl_w R q.1) 48))), (0, .ref (ad 0)), (1, .int x), (3, .int q.2.2.1), (4, .int (nI q.2.2.2)), (5, .int (nI i))]) hx hb dX1_run_26 hl (by decide) rfl (fun ls hl => ?_)
      refine lv_iload hx hb dX1_run_28 (lv_at hl 0 rfl) ?_
      by_cases h0 : 0 < kl_ps (kl_w R q.1) 48
      · have e2 : kl_i1 R q = _ := if_pos h0
        refine lv_if_le (tgt := 60) hx hb dX1_run_30 (by decide) (fun hc => absurd hc (nI_nle h0 hbd)) (fun _ => ?_)
        refine lv_iload_n hx hb dX1_run_33 rfl (lv_at hl 3 rfl) ?_
        refine lv_ldc hx hb hown (hts _ q204) dX1_run_34 ?_
        refine lv_imul hx hb dX1_run_36 ?_
        refine lv_sipush (v := nI 12345) hx hb dX1_run_37 (by decide) ?_
        refine lv_iadd hx hb dX1_run_40 ?_
        refine kl_top (v := kl_lcg q.2.2.1) (rfl) ?_
        refine lv_istore_n (lv' := [(3, .int (kl_lcg q.2.2.1)), (6, .int (nI (kl_ps (kl_w R q.1) 48))), (0, .ref (ad 0)), (1, .int x), (4, .int (nI q.2.2.2)), (5, .int (nI i))]) hx hb dX1_run_41 rfl hl (by decide) rfl (fun ls hl => ?_)
        refine lv_aload_n hx hb dX1_run_42 rfl (lv_at hl 2 rfl) ?_
        refine lv_iload_n hx hb dX1_run_43 rfl (lv_at hl 0 rfl) ?_
        refine lv_bipush (v := nI 8) hx hb dX1_run_44 (by decide) ?_
        refine lv_iushr (v := (((kl_lcg q.2.2.1)).toUInt32 >>> (((nI 8)).toUInt32 &&& Int32.toUInt32 31)).toInt32) hx hb dX1_run_46 rfl ?_
        refine lv_ldc hx hb hown (hts _ q205) dX1_run_47 ?_
        refine lv_iand hx hb dX1_run_49 ?_
        refine lv_iload hx hb dX1_run_50 (lv_at hl 1 rfl) ?_
        refine lv_irem hx hb dX1_run_52 (nI_ne0 h0 hbd) ?_
        refine kl_top (v := kl_ar (kl_lcg q.2.2.1) (nI (kl_ps (kl_w R q.1) 48))) (rfl) ?_
        refine kl_CI.call (C := (RX1, TX1, 3)) (As := [.int (kl_ar (kl_lcg q.2.2.1) (nI (kl_ps (kl_w R q.1) 48)))]) (rest := []) (mM_step l D d ad R q.1 q.2.1 hR hq _) ⟨hx, hb, hml, hown, hts⟩ (cwX1_step hts rfl rfl ⟨Nat.le_of_ble_eq_true rfl, Nat.le_of_ble_eq_true rfl⟩) (ci := 1) rfl rfl hK hP hD hS hA rfl hl.1 rfl (Nat.le_of_ble_eq_true rfl) dX1_run_53 ⟨Nat.zero_le _, Nat.zero_le _⟩ (fun H locs hP hD hS => ?_)
        refine lv_pop hx hb dX1_run_56 rfl ?_
        refine lv_iinc (v := nI (q.2.2.2 + 1)) (lv' := [(4, .int (nI (q.2.2.2 + 1))), (3, .int (kl_lcg q.2.2.1)), (6, .int (nI (kl_ps (kl_w R q.1) 48))), (0, .ref (ad 0)), (1, .int x), (5, .int (nI i))]) hx hb dX1_run_57 hl (k := 4) rfl (nI_1 _) (by decide) rfl (fun ls hl => ?_)
        refine lv_iinc (v := nI (i + 1)) (lv' := [(5, .int (nI (i + 1))), (4, .int (nI (q.2.2.2 + 1))), (3, .int (kl_lcg q.2.2.1)), (6, .int (nI (kl_ps (kl_w R q.1) 48))), (0, .ref (ad 0)), (1, .int x)]) hx hb dX1_run_60 hl (k := 5) rfl (nI_1 i) (by decide) rfl (fun ls hl => ?_)
        refine lv_goto (tgt := 8) hx hb dX1_run_63 (by decide) ?_
        exact ih (i + 1) _ H locs ls (by omega) (e2.symm.trans e1.symm) hP hD hS (lv_sub hl [4, 5, 2, 1, 0] rfl)
      · have e2 : kl_i1 R q = q := if_neg h0
        refine lv_if_le (tgt := 60) hx hb dX1_run_30 (by decide) (fun _ => ?_) (fun hc => absurd (by rw [show kl_ps (kl_w R q.1) 48 = 0 by omega]; decide) hc)
        refine lv_iinc (v := nI (i + 1)) (lv' := [(5, .int (nI (i + 1))), (6, .int (nI (kl_ps (kl_w R q.1) 48))), (0, .ref (ad 0)), (1, .int x), (3, .int q.2.2.1), (4, .int (nI q.2.2.2))]) hx hb dX1_run_60 hl (k := 5) rfl (nI_1 i) (by decide) rfl (fun ls hl => ?_)
        refine lv_goto (tgt := 8) hx hb dX1_run_63 (by decide) ?_
        exact ih (i + 1) q H locs ls (by omega) (e2.symm.trans e1.symm) hP hD hS (lv_sub hl [2, 3, 4, 5, 0] rfl)
  refine lv_iload_n hx hb dX1_run_0 rfl (lv_at hl 2 rfl) ?_
  refine lv_istore_n (lv' := [(3, .int y), (0, .ref (ad 0)), (1, .int x), (2, .int y)]) hx hb dX1_run_1 rfl hl (by decide) rfl (fun ls hl => ?_)
  refine lv_iconst (v := nI 0) hx hb dX1_run_2 (by decide) ?_
  refine lv_istore (lv' := [(4, .int (nI 0)), (3, .int y), (0, .ref (ad 0)), (1, .int x), (2, .int y)]) hx hb dX1_run_3 hl (by decide) rfl (fun ls hl => ?_)
  refine lv_iconst (v := nI 0) hx hb dX1_run_5 (by decide) ?_
  refine lv_istore (lv' := [(5, .int (nI 0)), (4, .int (nI 0)), (3, .int y), (0, .ref (ad 0)), (1, .int x), (2, .int y)]) hx hb dX1_run_6 hl (by decide) rfl (fun ls hl => ?_)
  exact loop N 0 (S, E, y, 0) s.heap [] ls (Nat.zero_add _) rfl hP hD hS (lv_sub hl [3, 4, 2, 1, 0] rfl)
end
section
set_option maxRecDepth 100000
/-- a constructor's contract: from the bare object w0 to a world wf ad -/
def kl_CN (l : Launch) (y : MethodName) (b : ByteArray) (L : Nat) (rm : Room) (D : va_G) (d : ClassId) (h0 : Nat) (w0 : va_W) (wf : (Nat → Nat) → va_W) (mc ms : Nat) : Prop :=
  ∀ sz : Nat, Met l y (ws_ y b L none) rm (va_Pc [.ref h0] (fun U => U.heap.size = sz ∧ kl_H D d (fun _ => True) w0 U)) (va_Qv (fun (ad : Nat → Nat) => ad 0 = h0) (fun ad t => kl_H D d (va_A w0 sz) (wf ad) t) (va_A w0 sz)) mc ms (va_A w0 sz)
theorem kl_CN.of {l : Launch} {y : MethodName} {b : ByteArray} {L : Nat} {rm : Room} {D : va_G} {d : ClassId} {h0 : Nat} {w0 : va_W} {wf : (Nat → Nat) → va_W} {mc ms : Nat} (hy : plainName y.cls = true) (hyn : y.name = "<init>") (hL : (lg_sl [.ref h0]).length ≤ L)
    (body : ∀ (p : Program) (e : Env) (s : State) (m : MethodId) (args : Array Value) (below : List Frame) (meth : Method) (c : Code) (A : Nat → Prop) (Q : State → Prop) (ls : Array Slot),
      p.tables.exec = Jvm.exec → c.code = b → c.maxLocals = L → s.vm.findClass y.cls = some m.cls → (∀ w ∈ lw_all, w.before args s = true) → (∀ q : Nat, s.heap.size ≤ q → A q) → meth.name = "<init>" →
      va_K D vwCl [(d, .int)] s → va_P D vwCl w0 s.heap → va_D A w0 → va_S A s.heap s.heap [] →
      (∀ (H : Heap) (locs : List Loc) (pc : Nat) (ls : Array Slot) (ad : Nat → Nat), ad 0 = h0 → va_P D vwCl (wf ad) H → va_D A (wf ad) → va_S A s.heap H locs → decode b pc = .ok (.return_, 1) → W p l e rm s m args below meth c H locs mc ms Q (F0 m pc ls [])) →
      lv_has ls L (lv_args 0 [.ref h0]) → W p l e rm s m args below meth c s.heap [] 0 0 Q (F0 m 0 ls [])) : kl_CN l y b L rm D d h0 w0 wf mc ms := by
  intro sz
  refine Met.ofW (cc := b) (maxL := L) (ret := none) hy rfl ?_
  intro p e s m args below meth c s₁ B hml hv
  obtain ⟨rfl, hsz, hP, hK, hD0⟩ := hv
  have hx := B.exec
  have hb := B.bytes
  have hr := B.returns
  have hts := atoms_spec (ws := ws_ y b L none) B.pre
  have hts : ∀ w ∈ lw_all, w.before _ s = true := fun w h => hts w (List.mem_cons_of_mem _ h)
  have hown : s.vm.findClass y.cls = some m.cls := findClass_of_methodNamed B.named
  have hlocks := B.notSynchronized
  have hin : meth.name = "<init>" := (name_of_methodNamed B.named B.method).1.trans hyn
  subst hsz
  have hD := hD0.self (sz := s.heap.size)
  have hA : ∀ q : Nat, s.heap.size ≤ q → va_A w0 s.heap.size q := fun q h => Or.inr h
  have hl := lv_entry [.ref h0] (n := L) hL
  rw [lg_entry_eq]
  refine body p e s m _ below meth c (va_A w0 s.heap.size) _ _ hx hb hml hown hts hA hin hK hP hD va_S.rf ?_ hl
  intro H locs pc ls ad ea hP1 hD1 hS1 hdg
  exact W.vret hx hb hr (fun t ht hW => ⟨⟨ad, rfl, ea, by rw [ht]; exact hP1, va_K.moved hW.alike hK, hD1⟩, hS1.F ht⟩) hS1.2.2 hdg
theorem kl_arr1 {D : va_G} {cl : List vw_C} {s : State} {c1 c2 : ClassId} (hK : va_K D cl ([(c1, .int)] ++ [(c2, .int)]) s) : c2 = c1 := by
  have h1 : s.vm.findClass ("[" ++ FieldType.int.toString) = some c1 := (hK.2 0 _ rfl).2
  have h2 : s.vm.findClass ("[" ++ FieldType.int.toString) = some c2 := (hK.2 1 _ rfl).2
  exact Option.some.inj (h2.symm.trans h1)
section KLN
variable {p : Program} {l : Launch} {e : Env} {R : Room} {s : State} {m : MethodId} {args : Array Value} {below : List Frame} {meth : Method} {c : Code} {H H0 : Heap} {locs : List Loc} {cells slots : Nat} {Q : State → Prop} {A : Nat → Prop}
variable {cc : ByteArray} {pc : Nat} {ls : Array Slot} {rest : List Value} {D : va_G} {cl : List vw_C} {d : ClassId} {ws : va_W}
theorem kl_newI (hx : p.tables.exec = Jvm.exec) (hb : c.code = cc) (harr : (Cond.arrayClass .int).before args s = true) (hK : va_K D cl [(d, .int)] s) (hP : va_P D cl ws H) (hD : va_D A ws) (hS : va_S A H0 H locs) (hA : ∀ q, H0.size ≤ q → A q) (k : Nat) (hk : k < 1000) (hcells : cells + 1 ≤ R.cells) (hslots : slots + k ≤ R.slots) (hdg : decode cc pc = .ok (.newarray .int, 2))
    (kk : ∀ (q : Nat) (H1 : Heap), va_P D cl (ws ++ [(q, .inl (d, k, .inl (fun _ => 0)))]) H1 → va_D A (ws ++ [(q, .inl (d, k, .inl (fun _ => 0)))]) → va_S A H0 H1 locs → W p l e R s m args below meth c H1 locs (cells + 1) (slots + k) Q (F0 m (pc + 2) ls (.ref q :: rest))) : W p l e R s m args below meth c H locs cells slots Q (F0 m pc ls (.int (nI k) :: rest)) := by
  refine va_newa (atype := .int) (ty := .int) (N' := k) (a0 := (k, .inl (fun _ => 0))) hx hb harr rfl hK hP hD hS hA (fun _ => rfl) (nI_pos (by omega)) (nI_clamp (by omega)) (Nat.le_trans (Nat.mul_le_mul_right _ (Nat.le_of_lt hk)) (by decide)) hcells hslots hdg (fun q cA H1 hK1 hP1 hD1 hS1 => ?_)
  have e1 := kl_arr1 hK1
  subst e1
  exact kk q H1 hP1 hD1 hS1
end KLN
theorem kl_ps0 (n : Nat) : kl_ps (fun _ => 0) n = 0 := by
  induction n with
  | zero => rfl
  | succ n ih =>
    show kl_ps (fun _ => 0) n + (if n < 48 then 0 else 0) = 0
    rw [ih]
    split <;> rfl
theorem kl_F0 (i : Nat) : kl_F (fun _ => 0) i = 0 := by
  unfold kl_F
  rw [kl_ps0, kl_ps0]
/-- next, with i neighbours of site k laid -/
def kl_nf (fN : Nat → Int32) (k i : Nat) : Nat → Int32 := fun j => if k * 4 ≤ j ∧ j < k * 4 + i then nI (kl_nr j) else fN j
theorem kl_nf_0 (fN : Nat → Int32) (k j : Nat) : (if j = k * 4 then nI (kl_nb k 0) else fN j) = kl_nf fN k 1 j := by
  unfold kl_nf
  by_cases h : j = k * 4
  · rw [if_pos h, if_pos (by omega), h]
    exact congrArg nI (kl_nr_at (s := k) (k := 0) (by decide)).symm
  · rw [if_neg h, if_neg (by omega)]
theorem kl_nf_s (fN : Nat → Int32) (k i j : Nat) (hi : i < 4) : (if j = k * 4 + i then nI (kl_nb k i) else kl_nf fN k i j) = kl_nf fN k (i + 1) j := by
  unfold kl_nf
  by_cases h : j = k * 4 + i
  · rw [if_pos h, if_pos (by omega), h, kl_nr_at hi]
  · rw [if_neg h]
    by_cases h2 : k * 4 ≤ j ∧ j < k * 4 + i
    · rw [if_pos h2, if_pos (by omega)]
    · rw [if_neg h2, if_neg (by omega)]
set_option maxHeartbeats 4000000 in
set_option maxRecDepth 100000 in
theorem mX_init (l : Launch) (D : va_G) (d : ClassId) (h0 : Nat) : kl_CN l yX0_init cX0_init 4 ({ frames := 4, cells := 6, slots := 363, locals := 90 }) D d h0 [(h0, .inr (0, [.null, .null, .null, .null, .null, .int 0, .null]))] (fun ad => kl_X ad d (fun _ => 1) (fun _ => 0) (fun _ => 0)) 6 363 := by
  refine kl_CN.of (by decide) rfl (Nat.le_of_ble_eq_true rfl) ?_
  intro p e s m args below meth c A Q ls hx hb hml hown hts hA hin hK hP hD hS ret hl
  have hown : s.vm.findClass RX0 = some m.cls := hown
  have hl : lv_has ls 4 [(0, .ref h0)] := hl
  refine lv_aload_n hx hb dX0_init_0 rfl (lv_at hl 0 rfl) ?_
  refine W.objInit hx hb hown (hts _ q23) (hts _ q24) (hts _ q25) rfl (by rw [hml]; exact hl.1) rfl dX0_init_1 (Nat.le_of_ble_eq_true rfl) (Nat.le_of_ble_eq_true rfl) ?_
  refine W.eq (g2 := F0 m 4 ls []) rfl ?_
  refine lv_aload_n hx hb dX0_init_4 rfl (lv_at hl 0 rfl) ?_
  refine lv_bipush (v := nI 7) hx hb dX0_init_5 (by decide) ?_
  refine kl_newI hx hb (hts _ q72) hK hP hD hS hA 7 (by decide) (Nat.le_of_ble_eq_true rfl) (Nat.le_of_ble_eq_true rfl) dX0_init_7 (fun q1 H hP hD hS => ?_)
  refine W.widen (k := 1) (n := 7) (Nat.le_refl _) (Nat.le_refl _) ?_
  have hP : va_P D vwCl [(h0, .inr (0, [.null, .null, .null, .null, .null, .int 0, .null])), (q1, .inl (d, 7, .inl (fun _ => 0)))] H := hP
  have hD : va_D A [(h0, .inr (0, [.null, .null, .null, .null, .null, .int 0, .null])), (q1, .inl (d, 7, .inl (fun _ => 0)))] := hD
  refine va_putF (D := D) (ci := 0) (v := .ref q1) (ty := .array .int) (C := RX0) (T := TX0) (N := 7) hx hb hts in_X0 tyX0 tyX0_ok nmX0 hown hK hP hD hS 0 rfl rfl 0 (by decide) (hts _ q50) (fun _ h9 => h9) rfl hin rfl (by decide +kernel) rfl rfl (Nat.le_of_ble_eq_true rfl) dX0_init_9 (fun H locs hP hD hS => ?_)
  have hP : va_P D vwCl [(h0, .inr (0, [.ref q1, .null, .null, .null, .null, .int 0, .null])), (q1, .inl (d, 7, .inl (fun _ => 0)))] H := hP
  have hD : va_D A [(h0, .inr (0, [.ref q1, .null, .null, .null, .null, .int 0, .null])), (q1, .inl (d, 7, .inl (fun _ => 0)))] := hD
  refine lv_aload_n hx hb dX0_init_12 rfl (lv_at hl 0 rfl) ?_
  refine lv_bipush (v := nI 48) hx hb dX0_init_13 (by decide) ?_
  refine kl_newI hx hb (hts _ q72) hK hP hD hS hA 48 (by decide) (Nat.le_of_ble_eq_true rfl) (Nat.le_of_ble_eq_true rfl) dX0_init_15 (fun q2 H hP hD hS => ?_)
  refine W.widen (k := 2) (n := 55) (Nat.le_refl _) (Nat.le_refl _) ?_
  have hP : va_P D vwCl [(h0, .inr (0, [.ref q1, .null, .null, .null, .null, .int 0, .null])), (q1, .inl (d, 7, .inl (fun _ => 0))), (q2, .inl (d, 48, .inl (fun _ => 0)))] H := hP
  have hD : va_D A [(h0, .inr (0, [.ref q1, .null, .null, .null, .null, .int 0, .null])), (q1, .inl (d, 7, .inl (fun _ => 0))), (q2, .inl (d, 48, .inl (fun _ => 0)))] := hD
  refine va_putF (D := D) (ci := 0) (v := .ref q2) (ty := .array .int) (C := RX0) (T := TX0) (N := 7) hx hb hts in_X0 tyX0 tyX0_ok nmX0 hown hK hP hD hS 0 rfl rfl 1 (by decide) (hts _ q51) (fun _ h9 => h9) rfl hin rfl (by decide +kernel) rfl rfl (Nat.le_of_ble_eq_true rfl) dX0_init_17 (fun H locs hP hD hS => ?_)
  have hP : va_P D vwCl [(h0, .inr (0, [.ref q1, .ref q2, .null, .null, .null, .int 0, .null])), (q1, .inl (d, 7, .inl (fun _ => 0))), (q2, .inl (d, 48, .inl (fun _ => 0)))] H := hP
  have hD : va_D A [(h0, .inr (0, [.ref q1, .ref q2, .null, .null, .null, .int 0, .null])), (q1, .inl (d, 7, .inl (fun _ => 0))), (q2, .inl (d, 48, .inl (fun _ => 0)))] := hD
  refine lv_aload_n hx hb dX0_init_20 rfl (lv_at hl 0 rfl) ?_
  refine lv_sipush (v := nI 192) hx hb dX0_init_21 (by decide) ?_
  refine kl_newI hx hb (hts _ q72) hK hP hD hS hA 192 (by decide) (Nat.le_of_ble_eq_true rfl) (Nat.le_of_ble_eq_true rfl) dX0_init_24 (fun q3 H hP hD hS => ?_)
  refine W.widen (k := 3) (n := 247) (Nat.le_refl _) (Nat.le_refl _) ?_
  have hP : va_P D vwCl [(h0, .inr (0, [.ref q1, .ref q2, .null, .null, .null, .int 0, .null])), (q1, .inl (d, 7, .inl (fun _ => 0))), (q2, .inl (d, 48, .inl (fun _ => 0))), (q3, .inl (d, 192, .inl (fun _ => 0)))] H := hP
  have hD : va_D A [(h0, .inr (0, [.ref q1, .ref q2, .null, .null, .null, .int 0, .null])), (q1, .inl (d, 7, .inl (fun _ => 0))), (q2, .inl (d, 48, .inl (fun _ => 0))), (q3, .inl (d, 192, .inl (fun _ => 0)))] := hD
  refine va_putF (D := D) (ci := 0) (v := .ref q3) (ty := .array .int) (C := RX0) (T := TX0) (N := 7) hx hb hts in_X0 tyX0 tyX0_ok nmX0 hown hK hP hD hS 0 rfl rfl 2 (by decide) (hts _ q52) (fun _ h9 => h9) rfl hin rfl (by decide +kernel) rfl rfl (Nat.le_of_ble_eq_true rfl) dX0_init_26 (fun H locs hP hD hS => ?_)
  have hP : va_P D vwCl [(h0, .inr (0, [.ref q1, .ref q2, .ref q3, .null, .null, .int 0, .null])), (q1, .inl (d, 7, .inl (fun _ => 0))), (q2, .inl (d, 48, .inl (fun _ => 0))), (q3, .inl (d, 192, .inl (fun _ => 0)))] H := hP
  have hD : va_D A [(h0, .inr (0, [.ref q1, .ref q2, .ref q3, .null, .null, .int 0, .null])), (q1, .inl (d, 7, .inl (fun _ => 0))), (q2, .inl (d, 48, .inl (fun _ => 0))), (q3, .inl (d, 192, .inl (fun _ => 0)))] := hD
  refine lv_aload_n hx hb dX0_init_29 rfl (lv_at hl 0 rfl) ?_
  refine lv_bipush (v := nI 48) hx hb dX0_init_30 (by decide) ?_
  refine kl_newI hx hb (hts _ q72) hK hP hD hS hA 48 (by decide) (Nat.le_of_ble_eq_true rfl) (Nat.le_of_ble_eq_true rfl) dX0_init_32 (fun q4 H hP hD hS => ?_)
  refine W.widen (k := 4) (n := 295) (Nat.le_refl _) (Nat.le_refl _) ?_
  have hP : va_P D vwCl [(h0, .inr (0, [.ref q1, .ref q2, .ref q3, .null, .null, .int 0, .null])), (q1, .inl (d, 7, .inl (fun _ => 0))), (q2, .inl (d, 48, .inl (fun _ => 0))), (q3, .inl (d, 192, .inl (fun _ => 0))), (q4, .inl (d, 48, .inl (fun _ => 0)))] H := hP
  have hD : va_D A [(h0, .inr (0, [.ref q1, .ref q2, .ref q3, .null, .null, .int 0, .null])), (q1, .inl (d, 7, .inl (fun _ => 0))), (q2, .inl (d, 48, .inl (fun _ => 0))), (q3, .inl (d, 192, .inl (fun _ => 0))), (q4, .inl (d, 48, .inl (fun _ => 0)))] := hD
  refine va_putF (D := D) (ci := 0) (v := .ref q4) (ty := .array .int) (C := RX0) (T := TX0) (N := 7) hx hb hts in_X0 tyX0 tyX0_ok nmX0 hown hK hP hD hS 0 rfl rfl 3 (by decide) (hts _ q53) (fun _ h9 => h9) rfl hin rfl (by decide +kernel) rfl rfl (Nat.le_of_ble_eq_true rfl) dX0_init_34 (fun H locs hP hD hS => ?_)
  have hP : va_P D vwCl [(h0, .inr (0, [.ref q1, .ref q2, .ref q3, .ref q4, .null, .int 0, .null])), (q1, .inl (d, 7, .inl (fun _ => 0))), (q2, .inl (d, 48, .inl (fun _ => 0))), (q3, .inl (d, 192, .inl (fun _ => 0))), (q4, .inl (d, 48, .inl (fun _ => 0)))] H := hP
  have hD : va_D A [(h0, .inr (0, [.ref q1, .ref q2, .ref q3, .ref q4, .null, .int 0, .null])), (q1, .inl (d, 7, .inl (fun _ => 0))), (q2, .inl (d, 48, .inl (fun _ => 0))), (q3, .inl (d, 192, .inl (fun _ => 0))), (q4, .inl (d, 48, .inl (fun _ => 0)))] := hD
  refine lv_aload_n hx hb dX0_init_37 rfl (lv_at hl 0 rfl) ?_
  refine lv_bipush (v := nI 65) hx hb dX0_init_38 (by decide) ?_
  refine kl_newI hx hb (hts _ q72) hK hP hD hS hA 65 (by decide) (Nat.le_of_ble_eq_true rfl) (Nat.le_of_ble_eq_true rfl) dX0_init_40 (fun q5 H hP hD hS => ?_)
  refine W.widen (k := 5) (n := 360) (Nat.le_refl _) (Nat.le_refl _) ?_
  have hP : va_P D vwCl [(h0, .inr (0, [.ref q1, .ref q2, .ref q3, .ref q4, .null, .int 0, .null])), (q1, .inl (d, 7, .inl (fun _ => 0))), (q2, .inl (d, 48, .inl (fun _ => 0))), (q3, .inl (d, 192, .inl (fun _ => 0))), (q4, .inl (d, 48, .inl (fun _ => 0))), (q5, .inl (d, 65, .inl (fun _ => 0)))] H := hP
  have hD : va_D A [(h0, .inr (0, [.ref q1, .ref q2, .ref q3, .ref q4, .null, .int 0, .null])), (q1, .inl (d, 7, .inl (fun _ => 0))), (q2, .inl (d, 48, .inl (fun _ => 0))), (q3, .inl (d, 192, .inl (fun _ => 0))), (q4, .inl (d, 48, .inl (fun _ => 0))), (q5, .inl (d, 65, .inl (fun _ => 0)))] := hD
  refine va_putF (D := D) (ci := 0) (v := .ref q5) (ty := .array .int) (C := RX0) (T := TX0) (N := 7) hx hb hts in_X0 tyX0 tyX0_ok nmX0 hown hK hP hD hS 0 rfl rfl 4 (by decide) (hts _ q54) (fun _ h9 => h9) rfl hin rfl (by decide +kernel) rfl rfl (Nat.le_of_ble_eq_true rfl) dX0_init_42 (fun H locs hP hD hS => ?_)
  have hP : va_P D vwCl [(h0, .inr (0, [.ref q1, .ref q2, .ref q3, .ref q4, .ref q5, .int 0, .null])), (q1, .inl (d, 7, .inl (fun _ => 0))), (q2, .inl (d, 48, .inl (fun _ => 0))), (q3, .inl (d, 192, .inl (fun _ => 0))), (q4, .inl (d, 48, .inl (fun _ => 0))), (q5, .inl (d, 65, .inl (fun _ => 0)))] H := hP
  have hD : va_D A [(h0, .inr (0, [.ref q1, .ref q2, .ref q3, .ref q4, .ref q5, .int 0, .null])), (q1, .inl (d, 7, .inl (fun _ => 0))), (q2, .inl (d, 48, .inl (fun _ => 0))), (q3, .inl (d, 192, .inl (fun _ => 0))), (q4, .inl (d, 48, .inl (fun _ => 0))), (q5, .inl (d, 65, .inl (fun _ => 0)))] := hD
  refine lv_aload_n hx hb dX0_init_45 rfl (lv_at hl 0 rfl) ?_
  refine lv_iconst (v := nI 3) hx hb dX0_init_46 (by decide) ?_
  refine kl_newI hx hb (hts _ q72) hK hP hD hS hA 3 (by decide) (Nat.le_of_ble_eq_true rfl) (Nat.le_of_ble_eq_true rfl) dX0_init_47 (fun q6 H hP hD hS => ?_)
  refine W.widen (k := 6) (n := 363) (Nat.le_refl _) (Nat.le_refl _) ?_
  have hP : va_P D vwCl [(h0, .inr (0, [.ref q1, .ref q2, .ref q3, .ref q4, .ref q5, .int 0, .null])), (q1, .inl (d, 7, .inl (fun _ => 0))), (q2, .inl (d, 48, .inl (fun _ => 0))), (q3, .inl (d, 192, .inl (fun _ => 0))), (q4, .inl (d, 48, .inl (fun _ => 0))), (q5, .inl (d, 65, .inl (fun _ => 0))), (q6, .inl (d, 3, .inl (fun _ => 0)))] H := hP
  have hD : va_D A [(h0, .inr (0, [.ref q1, .ref q2, .ref q3, .ref q4, .ref q5, .int 0, .null])), (q1, .inl (d, 7, .inl (fun _ => 0))), (q2, .inl (d, 48, .inl (fun _ => 0))), (q3, .inl (d, 192, .inl (fun _ => 0))), (q4, .inl (d, 48, .inl (fun _ => 0))), (q5, .inl (d, 65, .inl (fun _ => 0))), (q6, .inl (d, 3, .inl (fun _ => 0)))] := hD
  refine va_putF (D := D) (ci := 0) (v := .ref q6) (ty := .array .int) (C := RX0) (T := TX0) (N := 7) hx hb hts in_X0 tyX0 tyX0_ok nmX0 hown hK hP hD hS 0 rfl rfl 6 (by decide) (hts _ q56) (fun _ h9 => h9) rfl hin rfl (by decide +kernel) rfl rfl (Nat.le_of_ble_eq_true rfl) dX0_init_49 (fun H locs hP hD hS => ?_)
  have hP : va_P D vwCl [(h0, .inr (0, [.ref q1, .ref q2, .ref q3, .ref q4, .ref q5, .int 0, .ref q6])), (q1, .inl (d, 7, .inl (fun _ => 0))), (q2, .inl (d, 48, .inl (fun _ => 0))), (q3, .inl (d, 192, .inl (fun _ => 0))), (q4, .inl (d, 48, .inl (fun _ => 0))), (q5, .inl (d, 65, .inl (fun _ => 0))), (q6, .inl (d, 3, .inl (fun _ => 0)))] H := hP
  have hD : va_D A [(h0, .inr (0, [.ref q1, .ref q2, .ref q3, .ref q4, .ref q5, .int 0, .ref q6])), (q1, .inl (d, 7, .inl (fun _ => 0))), (q2, .inl (d, 48, .inl (fun _ => 0))), (q3, .inl (d, 192, .inl (fun _ => 0))), (q4, .inl (d, 48, .inl (fun _ => 0))), (q5, .inl (d, 65, .inl (fun _ => 0))), (q6, .inl (d, 3, .inl (fun _ => 0)))] := hD
  obtain ⟨ad, e0, e1, e2, e3, e4, e5, e6⟩ : ∃ ad : Nat → Nat, ad 0 = h0 ∧ ad 1 = q1 ∧ ad 2 = q2 ∧ ad 3 = q3 ∧ ad 4 = q4 ∧ ad 5 = q5 ∧ ad 6 = q6 := ⟨fun k => if k = 0 then h0 else if k = 1 then q1 else if k = 2 then q2 else if k = 3 then q3 else if k = 4 then q4 else if k = 5 then q5 else q6, rfl, rfl, rfl, rfl, rfl, rfl, rfl⟩
  subst e0
  subst e1
  subst e2
  subst e3
  subst e4
  subst e5
  subst e6
  have hP : va_P D vwCl (kl_wB ad d (fun _ => 0) (fun _ => 0) (fun _ => 0) (fun _ => 0) (fun _ => 0) 0 (fun _ => 0)) H := hP
  have hD : va_D A (kl_wB ad d (fun _ => 0) (fun _ => 0) (fun _ => 0) (fun _ => 0) (fun _ => 0) 0 (fun _ => 0)) := hD
  have loop2 : ∀ (n k : Nat) (fN : Nat → Int32) (H : Heap) (locs : List Loc) (ls : Array Slot), k + n = 48 → (∀ j, j < k * 4 → fN j = nI (kl_nr j)) → va_P D vwCl (kl_wB ad d (fun _ => nI 1) (fun _ => 0) fN (fun _ => 0) (fun _ => 0) 0 (fun _ => 0)) H → va_D A (kl_wB ad d (fun _ => nI 1) (fun _ => 0) fN (fun _ => 0) (fun _ => 0) 0 (fun _ => 0)) → va_S A s.heap H locs → lv_has ls 4 [(0, .ref (ad 0)), (1, .int (nI k))] → W p l e ({ frames := 4, cells := 6, slots := 363, locals := 90 }) s m args below meth c H locs 6 363 Q (F0 m 75 ls []) := by
    intro n
    induction n with
    | zero =>
      intro k fN H locs ls hk hN hP hD hS hl
      have hk : k = 48 := by omega
      subst hk
      refine lv_iload_n hx hb dX0_init_75 rfl (lv_at hl 1 rfl) ?_
      refine lv_bipush (v := nI 48) hx hb dX0_init_76 (by decide) ?_
      refine lv_icmp_ge (tgt := 180) hx hb dX0_init_78 (by decide) (fun _ => ?_) (fun hc => absurd (by decide) hc)
      have hP : va_P D vwCl (kl_wX ad d (fun _ => 1) (fun _ => 0) (fun _ => 0) (fun i => nI (kl_F (fun _ => 0) i)) (nI (kl_cnt (fun _ => 0) 48)) (fun _ => 0)) H := kl_cg hP (fun _ _ => rfl) (fun _ _ => nI_0.symm) (fun j hj => hN j hj) (fun _ _ => nI_0.symm) (fun j _ => by rw [kl_F0]; exact nI_0.symm) (by decide) (fun _ _ => rfl)
      have hD : va_D A (kl_wX ad d (fun _ => 1) (fun _ => 0) (fun _ => 0) (fun i => nI (kl_F (fun _ => 0) i)) (nI (kl_cnt (fun _ => 0) 48)) (fun _ => 0)) := kl_D hD
      refine lv_aload_n hx hb dX0_init_180 rfl (lv_at hl 0 rfl) ?_
      refine kl_CV.call (C := (RX0, TX0, 7)) (As := []) (rest := []) (mX_refreshAll l D d ad (fun _ => 1) (fun _ => 0) (fun _ => 0) _ (fun _ => 0) (fun _ _ => Nat.zero_le _)) ⟨hx, hb, hml, hown, hts⟩ (cwX0_refreshAll hts rfl rfl ⟨Nat.le_of_ble_eq_true rfl, Nat.le_of_ble_eq_true rfl⟩) (ci := 0) rfl rfl hK hP hD hS hA rfl hl.1 rfl (Nat.le_of_ble_eq_true rfl) dX0_init_181 ⟨Nat.le_of_ble_eq_true rfl, Nat.le_of_ble_eq_true rfl⟩ (fun H locs hP hD hS => ?_)
      exact ret _ _ _ _ ad rfl hP hD hS dX0_init_184
    | succ n ih =>
      intro k fN H locs ls hk hN hP hD hS hl
      refine lv_iload_n hx hb dX0_init_75 rfl (lv_at hl 1 rfl) ?_
      refine lv_bipush (v := nI 48) hx hb dX0_init_76 (by decide) ?_
      refine lv_icmp_ge (tgt := 180) hx hb dX0_init_78 (by decide) (fun hc => absurd hc (nI_ge (by omega) (by decide))) (fun _ => ?_)
      refine lv_iload_n hx hb dX0_init_81 rfl (lv_at hl 1 rfl) ?_
      refine lv_bipush (v := nI 6) hx hb dX0_init_82 (by decide) ?_
      refine lv_irem hx hb dX0_init_84 (by decide) ?_
      refine kl_top (v := nI (k % 6)) (pk_rem (by omega) (by decide) (by decide)) ?_
      refine lv_istore_n (lv' := [(2, .int (nI (k % 6))), (0, .ref (ad 0)), (1, .int (nI k))]) hx hb dX0_init_85 rfl hl (by decide) rfl (fun ls hl => ?_)
      refine lv_iload_n hx hb dX0_init_86 rfl (lv_at hl 2 rfl) ?_
      refine lv_bipush (v := nI 6) hx hb dX0_init_87 (by decide) ?_
      refine lv_idiv hx hb dX0_init_89 (by decide) ?_
      refine kl_top (v := nI (k / 6)) (pk_div (by omega) (by decide) (by decide)) ?_
      refine lv_istore_n (lv' := [(3, .int (nI (k / 6))), (2, .int (nI (k % 6))), (0, .ref (ad 0)), (1, .int (nI k))]) hx hb dX0_init_90 rfl hl (by decide) rfl (fun ls hl => ?_)
      refine lv_aload_n hx hb dX0_init_91 rfl (lv_at hl 2 rfl) ?_
      refine gX_next hx hb hts hown hK hP dX0_init_92 ?_
      refine lv_iload_n hx hb dX0_init_95 rfl (lv_at hl 3 rfl) ?_
      refine lv_iconst (v := nI 4) hx hb dX0_init_96 (by decide) ?_
      refine lv_imul hx hb dX0_init_97 ?_
      refine kl_top (v := nI (k * 4)) (pk_mul _ _) ?_
      refine lv_iload_n hx hb dX0_init_98 rfl (lv_at hl 0 rfl) ?_
      refine lv_bipush (v := nI 6) hx hb dX0_init_99 (by decide) ?_
      refine lv_imul hx hb dX0_init_101 ?_
      refine kl_top (v := nI (k / 6 * 6)) (pk_mul _ _) ?_
      refine lv_iload_n hx hb dX0_init_102 rfl (lv_at hl 1 rfl) ?_
      refine lv_iconst (v := nI 1) hx hb dX0_init_103 (by decide) ?_
      refine lv_iadd hx hb dX0_init_104 ?_
      refine kl_top (v := nI (k % 6 + 1)) (nI_add _ _) ?_
      refine lv_bipush (v := nI 6) hx hb dX0_init_105 (by decide) ?_
      refine lv_irem hx hb dX0_init_107 (by decide) ?_
      refine kl_top (v := nI ((k % 6 + 1) % 6)) (pk_rem (by omega) (by decide) (by decide)) ?_
      refine lv_iadd hx hb dX0_init_108 ?_
      refine kl_top (v := nI (kl_nb k 0)) (nI_add _ _) ?_
      refine stX_next hx hb hK hP hD hS (k * 4) (by omega) (rfl) (kl_nf fN k 1) (fun j _ => kl_nf_0 fN k j) dX0_init_109 (fun H locs hP hD hS => ?_)
      refine lv_aload_n hx hb dX0_init_110 rfl (lv_at hl 2 rfl) ?_
      refine gX_next hx hb hts hown hK hP dX0_init_111 ?_
      refine lv_iload_n hx hb dX0_init_114 rfl (lv_at hl 3 rfl) ?_
      refine lv_iconst (v := nI 4) hx hb dX0_init_115 (by decide) ?_
      refine lv_imul hx hb dX0_init_116 ?_
      refine kl_top (v := nI (k * 4)) (pk_mul _ _) ?_
      refine lv_iconst (v := nI 1) hx hb dX0_init_117 (by decide) ?_
      refine lv_iadd hx hb dX0_init_118 ?_
      refine kl_top (v := nI (k * 4 + 1)) (nI_add _ _) ?_
      refine lv_iload_n hx hb dX0_init_119 rfl (lv_at hl 0 rfl) ?_
      refine lv_bipush (v := nI 6) hx hb dX0_init_120 (by decide) ?_
      refine lv_imul hx hb dX0_init_122 ?_
      refine kl_top (v := nI (k / 6 * 6)) (pk_mul _ _) ?_
      refine lv_iload_n hx hb dX0_init_123 rfl (lv_at hl 1 rfl) ?_
      refine lv_iconst (v := nI 5) hx hb dX0_init_124 (by decide) ?_
      refine lv_iadd hx hb dX0_init_125 ?_
      refine kl_top (v := nI (k % 6 + 5)) (nI_add _ _) ?_
      refine lv_bipush (v := nI 6) hx hb dX0_init_126 (by decide) ?_
      refine lv_irem hx hb dX0_init_128 (by decide) ?_
      refine kl_top (v := nI ((k % 6 + 5) % 6)) (pk_rem (by omega) (by decide) (by decide)) ?_
      refine lv_iadd hx hb dX0_init_129 ?_
      refine kl_top (v := nI (kl_nb k 1)) (nI_add _ _) ?_
      refine stX_next hx hb hK hP hD hS (k * 4 + 1) (by omega) (rfl) (kl_nf fN k 2) (fun j _ => kl_nf_s fN k 1 j (by decide)) dX0_init_130 (fun H locs hP hD hS => ?_)
      refine lv_aload_n hx hb dX0_init_131 rfl (lv_at hl 2 rfl) ?_
      refine gX_next hx hb hts hown hK hP dX0_init_132 ?_
      refine lv_iload_n hx hb dX0_init_135 rfl (lv_at hl 3 rfl) ?_
      refine lv_iconst (v := nI 4) hx hb dX0_init_136 (by decide) ?_
      refine lv_imul hx hb dX0_init_137 ?_
      refine kl_top (v := nI (k * 4)) (pk_mul _ _) ?_
      refine lv_iconst (v := nI 2) hx hb dX0_init_138 (by decide) ?_
      refine lv_iadd hx hb dX0_init_139 ?_
      refine kl_top (v := nI (k * 4 + 2)) (nI_add _ _) ?_
      refine lv_iload_n hx hb dX0_init_140 rfl (lv_at hl 0 rfl) ?_
      refine lv_iconst (v := nI 1) hx hb dX0_init_141 (by decide) ?_
      refine lv_iadd hx hb dX0_init_142 ?_
      refine kl_top (v := nI (k / 6 + 1)) (nI_add _ _) ?_
      refine lv_bipush (v := nI 8) hx hb dX0_init_143 (by decide) ?_
      refine lv_irem hx hb dX0_init_145 (by decide) ?_
      refine kl_top (v := nI ((k / 6 + 1) % 8)) (pk_rem (by omega) (by decide) (by decide)) ?_
      refine lv_bipush (v := nI 6) hx hb dX0_init_146 (by decide) ?_
      refine lv_imul hx hb dX0_init_148 ?_
      refine kl_top (v := nI ((k / 6 + 1) % 8 * 6)) (pk_mul _ _) ?_
      refine lv_iload_n hx hb dX0_init_149 rfl (lv_at hl 1 rfl) ?_
      refine lv_iadd hx hb dX0_init_150 ?_
      refine kl_top (v := nI (kl_nb k 2)) (nI_add _ _) ?_
      refine stX_next hx hb hK hP hD hS (k * 4 + 2) (by omega) (rfl) (kl_nf fN k 3) (fun j _ => kl_nf_s fN k 2 j (by decide)) dX0_init_151 (fun H locs hP hD hS => ?_)
      refine lv_aload_n hx hb dX0_init_152 rfl (lv_at hl 2 rfl) ?_
      refine gX_next hx hb hts hown hK hP dX0_init_153 ?_
      refine lv_iload_n hx hb dX0_init_156 rfl (lv_at hl 3 rfl) ?_
      refine lv_iconst (v := nI 4) hx hb dX0_init_157 (by decide) ?_
      refine lv_imul hx hb dX0_init_158 ?_
      refine kl_top (v := nI (k * 4)) (pk_mul _ _) ?_
      refine lv_iconst (v := nI 3) hx hb dX0_init_159 (by decide) ?_
      refine lv_iadd hx hb dX0_init_160 ?_
      refine kl_top (v := nI (k * 4 + 3)) (nI_add _ _) ?_
      refine lv_iload_n hx hb dX0_init_161 rfl (lv_at hl 0 rfl) ?_
      refine lv_bipush (v := nI 7) hx hb dX0_init_162 (by decide) ?_
      refine lv_iadd hx hb dX0_init_164 ?_
      refine kl_top (v := nI (k / 6 + 7)) (nI_add _ _) ?_
      refine lv_bipush (v := nI 8) hx hb dX0_init_165 (by decide) ?_
      refine lv_irem hx hb dX0_init_167 (by decide) ?_
      refine kl_top (v := nI ((k / 6 + 7) % 8)) (pk_rem (by omega) (by decide) (by decide)) ?_
      refine lv_bipush (v := nI 6) hx hb dX0_init_168 (by decide) ?_
      refine lv_imul hx hb dX0_init_170 ?_
      refine kl_top (v := nI ((k / 6 + 7) % 8 * 6)) (pk_mul _ _) ?_
      refine lv_iload_n hx hb dX0_init_171 rfl (lv_at hl 1 rfl) ?_
      refine lv_iadd hx hb dX0_init_172 ?_
      refine kl_top (v := nI (kl_nb k 3)) (nI_add _ _) ?_
      refine stX_next hx hb hK hP hD hS (k * 4 + 3) (by omega) (rfl) (kl_nf fN k 4) (fun j _ => kl_nf_s fN k 3 j (by decide)) dX0_init_173 (fun H locs hP hD hS => ?_)
      refine lv_iinc (v := nI (k + 1)) (lv' := [(1, .int (nI (k + 1))), (3, .int (nI (k / 6))), (2, .int (nI (k % 6))), (0, .ref (ad 0))]) hx hb dX0_init_174 hl (k := 3) rfl (nI_1 k) (by decide) rfl (fun ls hl => ?_)
      refine lv_goto (tgt := 75) hx hb dX0_init_177 (by decide) ?_
      refine ih (k + 1) _ H locs ls (by omega) (fun j hj => ?_) hP hD hS (lv_sub hl [3, 0] rfl)
      unfold kl_nf
      by_cases h : k * 4 ≤ j ∧ j < k * 4 + 4
      · rw [if_pos h]
      · rw [if_neg h]; exact hN j (by omega)
  have loop1 : ∀ (n k : Nat) (fR : Nat → Int32) (H : Heap) (locs : List Loc) (ls : Array Slot), k + n = 7 → (∀ j, j < k → fR j = nI 1) → va_P D vwCl (kl_wB ad d fR (fun _ => 0) (fun _ => 0) (fun _ => 0) (fun _ => 0) 0 (fun _ => 0)) H → va_D A (kl_wB ad d fR (fun _ => 0) (fun _ => 0) (fun _ => 0) (fun _ => 0) 0 (fun _ => 0)) → va_S A s.heap H locs → lv_has ls 4 [(0, .ref (ad 0)), (1, .int (nI k))] → W p l e ({ frames := 4, cells := 6, slots := 363, locals := 90 }) s m args below meth c H locs 6 363 Q (F0 m 54 ls []) := by
    intro n
    induction n with
    | zero =>
      intro k fR H locs ls hk hN hP hD hS hl
      have hk : k = 7 := by omega
      subst hk
      refine lv_iload_n hx hb dX0_init_54 rfl (lv_at hl 1 rfl) ?_
      refine lv_bipush (v := nI 7) hx hb dX0_init_55 (by decide) ?_
      refine lv_icmp_ge (tgt := 73) hx hb dX0_init_57 (by decide) (fun _ => ?_) (fun hc => absurd (by decide) hc)
      refine lv_iconst (v := nI 0) hx hb dX0_init_73 (by decide) ?_
      refine lv_istore_n (lv' := [(1, .int (nI 0)), (0, .ref (ad 0))]) hx hb dX0_init_74 rfl hl (by decide) rfl (fun ls hl => ?_)
      exact loop2 48 0 _ H locs ls rfl (fun j hj => absurd hj (by omega)) (kl_cg hP (fun j hj => hN j hj) (fun _ _ => rfl) (fun _ _ => rfl) (fun _ _ => rfl) (fun _ _ => rfl) rfl (fun _ _ => rfl)) (kl_D hD) hS (lv_sub hl [1, 0] rfl)
    | succ n ih =>
      intro k fR H locs ls hk hN hP hD hS hl
      refine lv_iload_n hx hb dX0_init_54 rfl (lv_at hl 1 rfl) ?_
      refine lv_bipush (v := nI 7) hx hb dX0_init_55 (by decide) ?_
      refine lv_icmp_ge (tgt := 73) hx hb dX0_init_57 (by decide) (fun hc => absurd hc (nI_ge (by omega) (by decide))) (fun _ => ?_)
      refine lv_aload_n hx hb dX0_init_60 rfl (lv_at hl 0 rfl) ?_
      refine gX_rates hx hb hts hown hK hP dX0_init_61 ?_
      refine lv_iload_n hx hb dX0_init_64 rfl (lv_at hl 1 rfl) ?_
      refine lv_iconst (v := nI 1) hx hb dX0_init_65 (by decide) ?_
      refine stX_rates hx hb hK hP hD hS (k) (by omega) (rfl) (fun j => if j = k then nI 1 else fR j) (fun j _ => rfl) dX0_init_66 (fun H locs hP hD hS => ?_)
      refine lv_iinc (v := nI (k + 1)) (lv' := [(1, .int (nI (k + 1))), (0, .ref (ad 0))]) hx hb dX0_init_67 hl (k := 1) rfl (nI_1 k) (by decide) rfl (fun ls hl => ?_)
      refine lv_goto (tgt := 54) hx hb dX0_init_70 (by decide) ?_
      refine ih (k + 1) _ H locs ls (by omega) (fun j hj => ?_) hP hD hS (lv_sub hl [1, 0] rfl)
      by_cases h : j = k
      · simp only [if_pos h]
      · simp only [if_neg h]; exact hN j (by omega)
  refine lv_iconst (v := nI 0) hx hb dX0_init_52 (by decide) ?_
  refine lv_istore_n (lv' := [(1, .int (nI 0)), (0, .ref (ad 0))]) hx hb dX0_init_53 rfl hl (by decide) rfl (fun ls hl => ?_)
  exact loop1 7 0 _ H locs ls rfl (fun j hj => absurd hj (Nat.not_lt_zero _)) hP hD hS (lv_sub hl [1, 0] rfl)
set_option maxHeartbeats 4000000 in
set_option maxRecDepth 100000 in
theorem mM_init (l : Launch) (D : va_G) (d : ClassId) (h0 : Nat) : kl_CN l yX1_init cX1_init 2 ({ frames := 1, cells := 3, slots := 58, locals := 12 }) D d h0 [(h0, .inr (1, [.null, .null, .null]))] (fun ad => kl_wN ad d (fun _ => 1) (fun _ => 0) (fun _ => 0)) 3 58 := by
  refine kl_CN.of (by decide) rfl (Nat.le_of_ble_eq_true rfl) ?_
  intro p e s m args below meth c A Q ls hx hb hml hown hts hA hin hK hP hD hS ret hl
  have hown : s.vm.findClass RX1 = some m.cls := hown
  have hl : lv_has ls 2 [(0, .ref h0)] := hl
  refine lv_aload_n hx hb dX1_init_0 rfl (lv_at hl 0 rfl) ?_
  refine W.objInit hx hb hown (hts _ q149) (hts _ q24) (hts _ q25) rfl (by rw [hml]; exact hl.1) rfl dX1_init_1 (Nat.le_of_ble_eq_true rfl) (Nat.le_of_ble_eq_true rfl) ?_
  refine W.eq (g2 := F0 m 4 ls []) rfl ?_
  refine lv_aload_n hx hb dX1_init_4 rfl (lv_at hl 0 rfl) ?_
  refine lv_bipush (v := nI 7) hx hb dX1_init_5 (by decide) ?_
  refine kl_newI hx hb (hts _ q72) hK hP hD hS hA 7 (by decide) (Nat.le_of_ble_eq_true rfl) (Nat.le_of_ble_eq_true rfl) dX1_init_7 (fun q1 H hP hD hS => ?_)
  refine W.widen (k := 1) (n := 7) (Nat.le_refl _) (Nat.le_refl _) ?_
  have hP : va_P D vwCl [(h0, .inr (1, [.null, .null, .null])), (q1, .inl (d, 7, .inl (fun _ => 0)))] H := hP
  have hD : va_D A [(h0, .inr (1, [.null, .null, .null])), (q1, .inl (d, 7, .inl (fun _ => 0)))] := hD
  refine va_putF (D := D) (ci := 1) (v := .ref q1) (ty := .array .int) (C := RX1) (T := TX1) (N := 3) hx hb hts in_X1 tyX1 tyX1_ok nmX1 hown hK hP hD hS 0 rfl rfl 0 (by decide) (hts _ q150) (fun _ h9 => h9) rfl hin rfl (by decide +kernel) rfl rfl (Nat.le_of_ble_eq_true rfl) dX1_init_9 (fun H locs hP hD hS => ?_)
  have hP : va_P D vwCl [(h0, .inr (1, [.ref q1, .null, .null])), (q1, .inl (d, 7, .inl (fun _ => 0)))] H := hP
  have hD : va_D A [(h0, .inr (1, [.ref q1, .null, .null])), (q1, .inl (d, 7, .inl (fun _ => 0)))] := hD
  refine lv_aload_n hx hb dX1_init_12 rfl (lv_at hl 0 rfl) ?_
  refine lv_bipush (v := nI 48) hx hb dX1_init_13 (by decide) ?_
  refine kl_newI hx hb (hts _ q72) hK hP hD hS hA 48 (by decide) (Nat.le_of_ble_eq_true rfl) (Nat.le_of_ble_eq_true rfl) dX1_init_15 (fun q2 H hP hD hS => ?_)
  refine W.widen (k := 2) (n := 55) (Nat.le_refl _) (Nat.le_refl _) ?_
  have hP : va_P D vwCl [(h0, .inr (1, [.ref q1, .null, .null])), (q1, .inl (d, 7, .inl (fun _ => 0))), (q2, .inl (d, 48, .inl (fun _ => 0)))] H := hP
  have hD : va_D A [(h0, .inr (1, [.ref q1, .null, .null])), (q1, .inl (d, 7, .inl (fun _ => 0))), (q2, .inl (d, 48, .inl (fun _ => 0)))] := hD
  refine va_putF (D := D) (ci := 1) (v := .ref q2) (ty := .array .int) (C := RX1) (T := TX1) (N := 3) hx hb hts in_X1 tyX1 tyX1_ok nmX1 hown hK hP hD hS 0 rfl rfl 1 (by decide) (hts _ q151) (fun _ h9 => h9) rfl hin rfl (by decide +kernel) rfl rfl (Nat.le_of_ble_eq_true rfl) dX1_init_17 (fun H locs hP hD hS => ?_)
  have hP : va_P D vwCl [(h0, .inr (1, [.ref q1, .ref q2, .null])), (q1, .inl (d, 7, .inl (fun _ => 0))), (q2, .inl (d, 48, .inl (fun _ => 0)))] H := hP
  have hD : va_D A [(h0, .inr (1, [.ref q1, .ref q2, .null])), (q1, .inl (d, 7, .inl (fun _ => 0))), (q2, .inl (d, 48, .inl (fun _ => 0)))] := hD
  refine lv_aload_n hx hb dX1_init_20 rfl (lv_at hl 0 rfl) ?_
  refine lv_iconst (v := nI 3) hx hb dX1_init_21 (by decide) ?_
  refine kl_newI hx hb (hts _ q72) hK hP hD hS hA 3 (by decide) (Nat.le_of_ble_eq_true rfl) (Nat.le_of_ble_eq_true rfl) dX1_init_22 (fun q3 H hP hD hS => ?_)
  refine W.widen (k := 3) (n := 58) (Nat.le_refl _) (Nat.le_refl _) ?_
  have hP : va_P D vwCl [(h0, .inr (1, [.ref q1, .ref q2, .null])), (q1, .inl (d, 7, .inl (fun _ => 0))), (q2, .inl (d, 48, .inl (fun _ => 0))), (q3, .inl (d, 3, .inl (fun _ => 0)))] H := hP
  have hD : va_D A [(h0, .inr (1, [.ref q1, .ref q2, .null])), (q1, .inl (d, 7, .inl (fun _ => 0))), (q2, .inl (d, 48, .inl (fun _ => 0))), (q3, .inl (d, 3, .inl (fun _ => 0)))] := hD
  refine va_putF (D := D) (ci := 1) (v := .ref q3) (ty := .array .int) (C := RX1) (T := TX1) (N := 3) hx hb hts in_X1 tyX1 tyX1_ok nmX1 hown hK hP hD hS 0 rfl rfl 2 (by decide) (hts _ q152) (fun _ h9 => h9) rfl hin rfl (by decide +kernel) rfl rfl (Nat.le_of_ble_eq_true rfl) dX1_init_24 (fun H locs hP hD hS => ?_)
  have hP : va_P D vwCl [(h0, .inr (1, [.ref q1, .ref q2, .ref q3])), (q1, .inl (d, 7, .inl (fun _ => 0))), (q2, .inl (d, 48, .inl (fun _ => 0))), (q3, .inl (d, 3, .inl (fun _ => 0)))] H := hP
  have hD : va_D A [(h0, .inr (1, [.ref q1, .ref q2, .ref q3])), (q1, .inl (d, 7, .inl (fun _ => 0))), (q2, .inl (d, 48, .inl (fun _ => 0))), (q3, .inl (d, 3, .inl (fun _ => 0)))] := hD
  obtain ⟨ad, e0, e1, e2, e3⟩ : ∃ ad : Nat → Nat, ad 0 = h0 ∧ ad 1 = q1 ∧ ad 2 = q2 ∧ ad 3 = q3 := ⟨fun k => if k = 0 then h0 else if k = 1 then q1 else if k = 2 then q2 else q3, rfl, rfl, rfl, rfl⟩
  subst e0
  subst e1
  subst e2
  subst e3
  have hP : va_P D vwCl (kl_wM ad d (fun _ => 0) (fun _ => 0) (fun _ => 0)) H := hP
  have hD : va_D A (kl_wM ad d (fun _ => 0) (fun _ => 0) (fun _ => 0)) := hD
  have loop1 : ∀ (n k : Nat) (fR : Nat → Int32) (H : Heap) (locs : List Loc) (ls : Array Slot), k + n = 7 → (∀ j, j < k → fR j = nI 1) → va_P D vwCl (kl_wM ad d fR (fun _ => 0) (fun _ => 0)) H → va_D A (kl_wM ad d fR (fun _ => 0) (fun _ => 0)) → va_S A s.heap H locs → lv_has ls 2 [(0, .ref (ad 0)), (1, .int (nI k))] → W p l e ({ frames := 1, cells := 3, slots := 58, locals := 12 }) s m args below meth c H locs 3 58 Q (F0 m 29 ls []) := by
    intro n
    induction n with
    | zero =>
      intro k fR H locs ls hk hN hP hD hS hl
      have hk : k = 7 := by omega
      subst hk
      refine lv_iload_n hx hb dX1_init_29 rfl (lv_at hl 1 rfl) ?_
      refine lv_bipush (v := nI 7) hx hb dX1_init_30 (by decide) ?_
      refine lv_icmp_ge (tgt := 48) hx hb dX1_init_32 (by decide) (fun _ => ?_) (fun hc => absurd (by decide) hc)
      exact ret _ _ _ _ ad rfl (kl_cgM hP (fun j hj => hN j hj) (fun _ _ => nI_0.symm) (fun _ _ => rfl)) (kl_DM hD) hS dX1_init_48
    | succ n ih =>
      intro k fR H locs ls hk hN hP hD hS hl
      refine lv_iload_n hx hb dX1_init_29 rfl (lv_at hl 1 rfl) ?_
      refine lv_bipush (v := nI 7) hx hb dX1_init_30 (by decide) ?_
      refine lv_icmp_ge (tgt := 48) hx hb dX1_init_32 (by decide) (fun hc => absurd hc (nI_ge (by omega) (by decide))) (fun _ => ?_)
      refine lv_aload_n hx hb dX1_init_35 rfl (lv_at hl 0 rfl) ?_
      refine gM_rates hx hb hts hown hK hP dX1_init_36 ?_
      refine lv_iload_n hx hb dX1_init_39 rfl (lv_at hl 1 rfl) ?_
      refine lv_iconst (v := nI 1) hx hb dX1_init_40 (by decide) ?_
      refine stM_rates hx hb hK hP hD hS (k) (by omega) (rfl) (fun j => if j = k then nI 1 else fR j) (fun j _ => rfl) dX1_init_41 (fun H locs hP hD hS => ?_)
      refine lv_iinc (v := nI (k + 1)) (lv' := [(1, .int (nI (k + 1))), (0, .ref (ad 0))]) hx hb dX1_init_42 hl (k := 1) rfl (nI_1 k) (by decide) rfl (fun ls hl => ?_)
      refine lv_goto (tgt := 29) hx hb dX1_init_45 (by decide) ?_
      refine ih (k + 1) _ H locs ls (by omega) (fun j hj => ?_) hP hD hS (lv_sub hl [1, 0] rfl)
      by_cases h : j = k
      · simp only [if_pos h]
      · simp only [if_neg h]; exact hN j (by omega)
  refine lv_iconst (v := nI 0) hx hb dX1_init_27 (by decide) ?_
  refine lv_istore_n (lv' := [(1, .int (nI 0)), (0, .ref (ad 0))]) hx hb dX1_init_28 rfl hl (by decide) rfl (fun ls hl => ?_)
  exact loop1 7 0 _ H locs ls rfl (fun j hj => absurd hj (Nat.not_lt_zero _)) hP hD hS (lv_sub hl [1, 0] rfl)
end
section
set_option maxRecDepth 100000
/-! THE CLAIM OUT OF ONE WALK OF THE LAW'S BODY. Your part is whole_start (and what it stands on); all else here is the same for every law, but numbers. -/
def lw_P (b : Addr) (xs : List Int32) (args : Array Value) (s : State) : Prop := args = #[.ref b] ∧ s.IntsAt b xs ∧ xs.length ≤ 192 ∧ (Jvm.Cond.and given_1 narrow_1).before args s = true
def lw_Q (_ : Array Value) (s : State) (o : Outcome) (t : State) : Prop := o = .returned (some (.int 1)) ∧ Framed s o t [] 600000 7290000
def lw_Z (below : List Frame) (a : Array Value) (s : State) : State → Prop := fun t => ∃ o, t.status = .running ∧ Ended t below o ∧ lw_Q a s o t
/-- the law's own end, with 1 on the stack, nothing written that was there before, its room as the claim has it -/
theorem lw_ret {p : Program} {l : Launch} {e : Env} {s : State} {m : MethodId} {below : List Frame} {meth : Method} {c : Code} {b : Nat} (hx : p.tables.exec = Jvm.exec) (hb : c.code = code) (hr : meth.sig.returnType = ret) (hlocks : meth.locks = false) {pc : Nat} {H : Heap} {ls : Array Slot} (hdg : decode code pc = .ok (.ireturn, 1)) : W p l e room_1 s m #[Value.ref b] below meth c H [] 600000 7290000 (lw_Z below #[Value.ref b] s) (F0 m pc ls [.int 1]) := by
  intro T hT X
  obtain ⟨fs, hret, hrun, hended, hW, hframe⟩ := X.leave (v := some (.int 1)) (hlocks := hlocks) (fun h => by rw [hr] at h; cases h)
  have hmeth' : T.vm.method? m = some meth := X.method'
  refine ⟨T.setFrames fs, ?_, .returned (some (.int 1)), hrun, hended, rfl, ⟨_, rfl⟩, hW, hframe⟩
  jvm_step X.here [X.here.top, hx, hb, hdg, hmeth', hr, ret, narrow_b1]
  (try refine ⟨rfl, ?_⟩); (try refine ⟨rfl, ?_⟩)
  first | (intro acts; rw [hret _ acts rfl rfl rfl]) | rw [hret _ _ rfl rfl rfl]
  exact Steps.refl _
/-- what holds at the law's entry: the machine, the code, the tables' words (any of lw_tbl by 'hts w (by decide +kernel)'), the script of L ints xs at the cell b, what the Statement gives of the start (any of its parts by flat_of_before) -/
def lw_At (p : Program) (s : State) (m : MethodId) (meth : Method) (c : Code) (b L : Nat) (xs : Nat → Int32) : Prop :=
  p.tables.exec = Jvm.exec ∧ c.code = code ∧ meth.sig.returnType = ret ∧ c.maxLocals = 4 ∧ s.vm.findClass R_law = some m.cls ∧ (∀ w ∈ lw_tbl, w.before #[Value.ref b] s = true) ∧ va_X b L xs s s.heap ∧ b < s.heap.size ∧ meth.locks = false ∧ (Jvm.Cond.and given_1 narrow_1).before #[Value.ref b] s = true
end
section
section KLS
variable {p : Program} {l : Launch} {e : Env} {R : Room} {s : State} {m : MethodId} {args : Array Value} {below : List Frame} {meth : Method} {c : Code} {H H0 : Heap} {locs : List Loc} {cells slots : Nat} {Q : State → Prop} {A : Nat → Prop}
variable {cc : ByteArray} {pc : Nat} {ls : Array Slot} {rest : List Value}
theorem kl_sld (hx : p.tables.exec = Jvm.exec) (hb : c.code = cc) {b L : Nat} {xs : Nat → Int32} (hX : va_X b L xs s H0) (hbl : b < H0.size) (hbA : ¬ A b) (hS : va_S A H0 H locs) (k : Nat) (hk : k < L) (hL : L < 2 ^ 31) {i : Int32} (hi : i = nI k) (hdg : decode cc pc = .ok (.iaload, 1))
    (kk : W p l e R s m args below meth c H locs cells slots Q (F0 m (pc + 1) ls (.int (xs k) :: rest))) : W p l e R s m args below meth c H locs cells slots Q (F0 m pc ls (.int i :: .ref b :: rest)) := by
  subst hi
  refine va_sld hx hb hX hbl hbA hS (vp_in_nI hk hL) hdg ?_
  rw [nI_clamp (Nat.lt_trans hk hL)]
  exact kk
end KLS
theorem kl_lw {L i : Nat} (hL : L ≤ 192) (hi : i ≤ 195) : nI L - nI 3 < nI i ↔ L < i + 3 := by
  rcases Nat.lt_or_ge L 3 with h | h
  · exact ⟨fun _ => by omega, fun _ => Int32.lt_of_lt_of_le (pk_sneg (by decide) h) (nI_pos' (by omega))⟩
  · rw [pk_sub h, nI_ltI (by omega) (by omega)]
    omega
set_option maxHeartbeats 4000000 in
set_option maxRecDepth 100000 in
/-- the law's loop at its head: i ints read, both hold the same rates R, states S, events E -/
theorem law_loop {p : Program} {l : Launch} {e : Env} {s : State} {m : MethodId} {below : List Frame} {meth : Method} {c : Code} {D : va_G} {d : ClassId} {b L : Nat} {xs : Nat → Int32} (hL : L ≤ 192) (C0 : lw_At p s m meth c b L xs) (hK : va_K D vwCl [(d, .int)] s) (ax am : Nat → Nat) :
    ∀ (n i : Nat) (R S : Nat → Nat) (E : Nat → Int32) (H : Heap) (locs : List Loc) (ls : Array Slot), L < i + n → i ≤ 195 → (∀ k, k < 7 → R k ≤ 1000) → (∀ j, j < 48 → S j ≤ 2) → va_P D vwCl (kl_X ax d R S E ++ kl_wN am d R S E) H → va_D (fun q : Nat => s.heap.size ≤ q) (kl_X ax d R S E ++ kl_wN am d R S E) → va_S (fun q : Nat => s.heap.size ≤ q) s.heap H locs → lv_has ls 4 [(0, .ref b), (1, .ref (ax 0)), (2, .ref (am 0)), (3, .int (nI i))] → W p l e room_1 s m #[Value.ref b] below meth c H locs 11 431 (lw_Z below #[Value.ref b] s) (F0 m 18 ls []) := by
  obtain ⟨hx, hb, hr, hml, hown, hts0, hX, hbl, hlocks, hgv⟩ := C0
  have hts : ∀ w ∈ lw_all, w.before #[Value.ref b] s = true := fun w h => hts0 w (lw_all_tbl h)
  have hA : ∀ q : Nat, s.heap.size ≤ q → (fun q : Nat => s.heap.size ≤ q) q := fun _ h => h
  have hbA : ¬ (fun q : Nat => s.heap.size ≤ q) b := Nat.not_le.mpr hbl
  have fin : ∀ (i : Nat) (R S : Nat → Nat) (E : Nat → Int32) (H : Heap) (locs : List Loc) (ls : Array Slot), L < i + 3 → i ≤ 195 → (∀ k, k < 7 → R k ≤ 1000) → (∀ j, j < 48 → S j ≤ 2) → va_P D vwCl (kl_X ax d R S E ++ kl_wN am d R S E) H → va_D (fun q : Nat => s.heap.size ≤ q) (kl_X ax d R S E ++ kl_wN am d R S E) → va_S (fun q : Nat => s.heap.size ≤ q) s.heap H locs → lv_has ls 4 [(0, .ref b), (1, .ref (ax 0)), (2, .ref (am 0)), (3, .int (nI i))] → W p l e room_1 s m #[Value.ref b] below meth c H locs 11 431 (lw_Z below #[Value.ref b] s) (F0 m 18 ls []) := by
    intro i R S E H locs ls h1 h2 hR hS2 hP hD hS hl
    refine lv_iload_n hx hb dL_law_18 rfl (lv_at hl 3 rfl) ?_
    refine lv_aload_n hx hb dL_law_19 rfl (lv_at hl 0 rfl) ?_
    refine va_slen hx hb hX hbl hbA hS dL_law_20 ?_
    refine kl_top (v := nI L) (rfl) ?_
    refine lv_iconst (v := nI 3) hx hb dL_law_21 (by decide) ?_
    refine lv_isub hx hb dL_law_22 ?_
    refine lv_icmp_gt (tgt := 366) hx hb dL_law_23 (by decide) (fun _ => ?_) (fun hc => absurd ((kl_lw hL h2).mpr h1) hc)
    refine lv_iconst (v := 1) hx hb dL_law_366 (by decide) ?_
    refine va_forget (fun q hq => hS.2.2 q hq) ?_
    refine W.widen (k := 600000) (n := 7290000) (by decide) (by decide) ?_
    exact lw_ret hx hb hr hlocks dL_law_367
  intro n
  induction n with
  | zero =>
    intro i R S E H locs ls h1 h2 hR hS2 hP hD hS hl
    exact fin i R S E H locs ls (by omega) h2 hR hS2 hP hD hS hl
  | succ n ih =>
    intro i R S E H locs ls h1 h2 hR hS2 hP hD hS hl
    rcases Nat.lt_or_ge L (i + 3) with h3 | h3
    · exact fin i R S E H locs ls h3 h2 hR hS2 hP hD hS hl
    · have n360 : ∀ (R S : Nat → Nat) (E : Nat → Int32) (H : Heap) (locs : List Loc) (ls : Array Slot), (∀ k, k < 7 → R k ≤ 1000) → (∀ j, j < 48 → S j ≤ 2) → va_P D vwCl (kl_X ax d R S E ++ kl_wN am d R S E) H → va_D (fun q : Nat => s.heap.size ≤ q) (kl_X ax d R S E ++ kl_wN am d R S E) → va_S (fun q : Nat => s.heap.size ≤ q) s.heap H locs → lv_has ls 4 [(0, .ref b), (1, .ref (ax 0)), (2, .ref (am 0)), (3, .int (nI i))] → W p l e room_1 s m #[Value.ref b] below meth c H locs 11 431 (lw_Z below #[Value.ref b] s) (F0 m 360 ls []) := by
        intro R S E H locs ls hR hS2 hP hD hS hl
        refine lv_iinc (v := nI (i + 3)) (lv' := [(3, .int (nI (i + 3))), (0, .ref b), (1, .ref (ax 0)), (2, .ref (am 0))]) hx hb dL_law_360 hl (k := 3) rfl (nI_add i 3) (by decide) rfl (fun ls hl => ?_)
        refine lv_goto (tgt := 18) hx hb dL_law_363 (by decide) ?_
        exact ih (i + 3) R S E H locs ls (by omega) (by omega) hR hS2 hP hD hS (lv_sub hl [1, 2, 3, 0] rfl)
      refine lv_iload_n hx hb dL_law_18 rfl (lv_at hl 3 rfl) ?_
      refine lv_aload_n hx hb dL_law_19 rfl (lv_at hl 0 rfl) ?_
      refine va_slen hx hb hX hbl hbA hS dL_law_20 ?_
      refine kl_top (v := nI L) (rfl) ?_
      refine lv_iconst (v := nI 3) hx hb dL_law_21 (by decide) ?_
      refine lv_isub hx hb dL_law_22 ?_
      refine lv_icmp_gt (tgt := 366) hx hb dL_law_23 (by decide) (fun hc => absurd hc (fun z => absurd ((kl_lw hL h2).mp z) (by omega))) (fun _ => ?_)
      refine lv_aload_n hx hb dL_law_26 rfl (lv_at hl 0 rfl) ?_
      refine lv_iload_n hx hb dL_law_27 rfl (lv_at hl 3 rfl) ?_
      refine kl_sld hx hb hX hbl hbA hS (i) (by omega) (by omega) rfl dL_law_28 ?_
      refine lv_bipush (v := nI 15) hx hb dL_law_29 (by decide) ?_
      refine lv_iand hx hb dL_law_31 ?_
      obtain ⟨j, hj, ej⟩ := pk_andE (xs i) (m := nI 15) 4 (by decide)
      have hj : j < 16 := hj
      refine kl_top (v := nI j) (ej) ?_
      rcases (show j = 0 ∨ j = 1 ∨ j = 2 ∨ j = 3 ∨ j = 4 ∨ j = 5 ∨ j = 6 ∨ j = 7 ∨ j = 8 ∨ j = 9 ∨ j = 10 ∨ j = 11 ∨ 12 ≤ j by omega) with rfl | rfl | rfl | rfl | rfl | rfl | rfl | rfl | rfl | rfl | rfl | rfl | hge
      · refine lv_tableIn (off := 64) (tgt := 96) hx hb dL_law_32 (by decide) (by decide) (by decide) (by decide) ?_
        refine lv_aload_n hx hb dL_law_96 rfl (lv_at hl 1 rfl) ?_
        refine lv_aload_n hx hb dL_law_97 rfl (lv_at hl 0 rfl) ?_
        refine lv_iload_n hx hb dL_law_98 rfl (lv_at hl 3 rfl) ?_
        refine lv_iconst (v := nI 1) hx hb dL_law_99 (by decide) ?_
        refine lv_iadd hx hb dL_law_100 ?_
        refine kl_top (v := nI (i + 1)) (nI_add _ _) ?_
        refine kl_sld hx hb hX hbl hbA hS (i + 1) (by omega) (by omega) rfl dL_law_101 ?_
        refine lv_aload_n hx hb dL_law_102 rfl (lv_at hl 0 rfl) ?_
        refine lv_iload_n hx hb dL_law_103 rfl (lv_at hl 3 rfl) ?_
        refine lv_iconst (v := nI 2) hx hb dL_law_104 (by decide) ?_
        refine lv_iadd hx hb dL_law_105 ?_
        refine kl_top (v := nI (i + 2)) (nI_add _ _) ?_
        refine kl_sld hx hb hX hbl hbA hS (i + 2) (by omega) (by omega) rfl dL_law_106 ?_
        refine kl_CI.callP (C := (RX0, TX0, 7)) [0, 1, 2, 3, 4, 5, 6] [7, 8, 9, 10] (wr := kl_wN am d R S E) (As := [.int (xs (i + 1)), .int (xs (i + 2))]) (rest := []) (mX_rate l D d ax R S E hS2 _ _) ⟨hx, hb, hml, hown, hts⟩ (cwLX0_rate hts rfl rfl ⟨Nat.le_of_ble_eq_true rfl, Nat.le_of_ble_eq_true rfl⟩) (ci := 0) rfl rfl hK hP hD hS hA rfl rfl (by decide) rfl (by decide) (by decide) rfl hl.1 rfl (Nat.le_of_ble_eq_true rfl) dL_law_107 ⟨Nat.le_of_ble_eq_true rfl, Nat.le_of_ble_eq_true rfl⟩ (fun H locs hP hD hS => ?_)
        refine lv_aload_n hx hb dL_law_110 rfl (lv_at hl 2 rfl) ?_
        refine lv_aload_n hx hb dL_law_111 rfl (lv_at hl 0 rfl) ?_
        refine lv_iload_n hx hb dL_law_112 rfl (lv_at hl 3 rfl) ?_
        refine lv_iconst (v := nI 1) hx hb dL_law_113 (by decide) ?_
        refine lv_iadd hx hb dL_law_114 ?_
        refine kl_top (v := nI (i + 1)) (nI_add _ _) ?_
        refine kl_sld hx hb hX hbl hbA hS (i + 1) (by omega) (by omega) rfl dL_law_115 ?_
        refine lv_aload_n hx hb dL_law_116 rfl (lv_at hl 0 rfl) ?_
        refine lv_iload_n hx hb dL_law_117 rfl (lv_at hl 3 rfl) ?_
        refine lv_iconst (v := nI 2) hx hb dL_law_118 (by decide) ?_
        refine lv_iadd hx hb dL_law_119 ?_
        refine kl_top (v := nI (i + 2)) (nI_add _ _) ?_
        refine kl_sld hx hb hX hbl hbA hS (i + 2) (by omega) (by omega) rfl dL_law_120 ?_
        refine kl_CI.callP (C := (RX1, TX1, 3)) [0, 1, 2, 3] [4, 5, 6, 7, 8, 9, 10] (wr := kl_X ax d (kl_pF 7 1001 R (xs (i + 1)) (xs (i + 2))) S E) (As := [.int (xs (i + 1)), .int (xs (i + 2))]) (rest := [.int (kl_pA 7 1001 R (xs (i + 1)) (xs (i + 2)))]) (mM_rate l D d am R S E _ _) ⟨hx, hb, hml, hown, hts⟩ (cwLX1_rate hts rfl rfl ⟨Nat.le_of_ble_eq_true rfl, Nat.le_of_ble_eq_true rfl⟩) (ci := 1) rfl rfl hK hP hD hS hA rfl rfl (by decide) rfl (by decide) (by decide) rfl hl.1 rfl (Nat.le_of_ble_eq_true rfl) dL_law_121 ⟨Nat.le_of_ble_eq_true rfl, Nat.le_of_ble_eq_true rfl⟩ (fun H locs hP hD hS => ?_)
        refine lv_icmp_eq (tgt := 360) hx hb dL_law_124 (by decide) (fun _ => ?_) (fun hc => absurd (rfl) hc)
        exact n360 (kl_pF 7 1001 R (xs (i + 1)) (xs (i + 2))) S E H locs ls (kl_pF_le (by decide) (by decide) (by decide) hR) hS2 hP hD hS hl
      · refine lv_tableIn (off := 97) (tgt := 129) hx hb dL_law_32 (by decide) (by decide) (by decide) (by decide) ?_
        refine lv_aload_n hx hb dL_law_129 rfl (lv_at hl 1 rfl) ?_
        refine lv_aload_n hx hb dL_law_130 rfl (lv_at hl 0 rfl) ?_
        refine lv_iload_n hx hb dL_law_131 rfl (lv_at hl 3 rfl) ?_
        refine lv_iconst (v := nI 1) hx hb dL_law_132 (by decide) ?_
        refine lv_iadd hx hb dL_law_133 ?_
        refine kl_top (v := nI (i + 1)) (nI_add _ _) ?_
        refine kl_sld hx hb hX hbl hbA hS (i + 1) (by omega) (by omega) rfl dL_law_134 ?_
        refine lv_aload_n hx hb dL_law_135 rfl (lv_at hl 0 rfl) ?_
        refine lv_iload_n hx hb dL_law_136 rfl (lv_at hl 3 rfl) ?_
        refine lv_iconst (v := nI 2) hx hb dL_law_137 (by decide) ?_
        refine lv_iadd hx hb dL_law_138 ?_
        refine kl_top (v := nI (i + 2)) (nI_add _ _) ?_
        refine kl_sld hx hb hX hbl hbA hS (i + 2) (by omega) (by omega) rfl dL_law_139 ?_
        refine kl_CI.callP (C := (RX0, TX0, 7)) [0, 1, 2, 3, 4, 5, 6] [7, 8, 9, 10] (wr := kl_wN am d R S E) (As := [.int (xs (i + 1)), .int (xs (i + 2))]) (rest := []) (mX_set l D d ax R S E hS2 _ _) ⟨hx, hb, hml, hown, hts⟩ (cwLX0_set hts rfl rfl ⟨Nat.le_of_ble_eq_true rfl, Nat.le_of_ble_eq_true rfl⟩) (ci := 0) rfl rfl hK hP hD hS hA rfl rfl (by decide) rfl (by decide) (by decide) rfl hl.1 rfl (Nat.le_of_ble_eq_true rfl) dL_law_140 ⟨Nat.le_of_ble_eq_true rfl, Nat.le_of_ble_eq_true rfl⟩ (fun H locs hP hD hS => ?_)
        refine lv_aload_n hx hb dL_law_143 rfl (lv_at hl 2 rfl) ?_
        refine lv_aload_n hx hb dL_law_144 rfl (lv_at hl 0 rfl) ?_
        refine lv_iload_n hx hb dL_law_145 rfl (lv_at hl 3 rfl) ?_
        refine lv_iconst (v := nI 1) hx hb dL_law_146 (by decide) ?_
        refine lv_iadd hx hb dL_law_147 ?_
        refine kl_top (v := nI (i + 1)) (nI_add _ _) ?_
        refine kl_sld hx hb hX hbl hbA hS (i + 1) (by omega) (by omega) rfl dL_law_148 ?_
        refine lv_aload_n hx hb dL_law_149 rfl (lv_at hl 0 rfl) ?_
        refine lv_iload_n hx hb dL_law_150 rfl (lv_at hl 3 rfl) ?_
        refine lv_iconst (v := nI 2) hx hb dL_law_151 (by decide) ?_
        refine lv_iadd hx hb dL_law_152 ?_
        refine kl_top (v := nI (i + 2)) (nI_add _ _) ?_
        refine kl_sld hx hb hX hbl hbA hS (i + 2) (by omega) (by omega) rfl dL_law_153 ?_
        refine kl_CI.callP (C := (RX1, TX1, 3)) [0, 1, 2, 3] [4, 5, 6, 7, 8, 9, 10] (wr := kl_X ax d R (kl_pF 48 3 S (xs (i + 1)) (xs (i + 2))) E) (As := [.int (xs (i + 1)), .int (xs (i + 2))]) (rest := [.int (kl_pA 48 3 S (xs (i + 1)) (xs (i + 2)))]) (mM_set l D d am R S E _ _) ⟨hx, hb, hml, hown, hts⟩ (cwLX1_set hts rfl rfl ⟨Nat.le_of_ble_eq_true rfl, Nat.le_of_ble_eq_true rfl⟩) (ci := 1) rfl rfl hK hP hD hS hA rfl rfl (by decide) rfl (by decide) (by decide) rfl hl.1 rfl (Nat.le_of_ble_eq_true rfl) dL_law_154 ⟨Nat.le_of_ble_eq_true rfl, Nat.le_of_ble_eq_true rfl⟩ (fun H locs hP hD hS => ?_)
        refine lv_icmp_eq (tgt := 360) hx hb dL_law_157 (by decide) (fun _ => ?_) (fun hc => absurd (rfl) hc)
        exact n360 R (kl_pF 48 3 S (xs (i + 1)) (xs (i + 2))) E H locs ls hR (kl_pF_le (by decide) (by decide) (by decide) hS2) hP hD hS hl
      · refine lv_tableIn (off := 130) (tgt := 162) hx hb dL_law_32 (by decide) (by decide) (by decide) (by decide) ?_
        refine lv_aload_n hx hb dL_law_162 rfl (lv_at hl 1 rfl) ?_
        refine lv_aload_n hx hb dL_law_163 rfl (lv_at hl 0 rfl) ?_
        refine lv_iload_n hx hb dL_law_164 rfl (lv_at hl 3 rfl) ?_
        refine lv_iconst (v := nI 1) hx hb dL_law_165 (by decide) ?_
        refine lv_iadd hx hb dL_law_166 ?_
        refine kl_top (v := nI (i + 1)) (nI_add _ _) ?_
        refine kl_sld hx hb hX hbl hbA hS (i + 1) (by omega) (by omega) rfl dL_law_167 ?_
        refine kl_CI.callP (C := (RX0, TX0, 7)) [0, 1, 2, 3, 4, 5, 6] [7, 8, 9, 10] (wr := kl_wN am d R S E) (As := [.int (xs (i + 1))]) (rest := []) (mX_step l D d ax R S E hR hS2 _) ⟨hx, hb, hml, hown, hts⟩ (cwLX0_step hts rfl rfl ⟨Nat.le_of_ble_eq_true rfl, Nat.le_of_ble_eq_true rfl⟩) (ci := 0) rfl rfl hK hP hD hS hA rfl rfl (by decide) rfl (by decide) (by decide) rfl hl.1 rfl (Nat.le_of_ble_eq_true rfl) dL_law_168 ⟨Nat.le_of_ble_eq_true rfl, Nat.le_of_ble_eq_true rfl⟩ (fun H locs hP hD hS => ?_)
        refine lv_aload_n hx hb dL_law_171 rfl (lv_at hl 2 rfl) ?_
        refine lv_aload_n hx hb dL_law_172 rfl (lv_at hl 0 rfl) ?_
        refine lv_iload_n hx hb dL_law_173 rfl (lv_at hl 3 rfl) ?_
        refine lv_iconst (v := nI 1) hx hb dL_law_174 (by decide) ?_
        refine lv_iadd hx hb dL_law_175 ?_
        refine kl_top (v := nI (i + 1)) (nI_add _ _) ?_
        refine kl_sld hx hb hX hbl hbA hS (i + 1) (by omega) (by omega) rfl dL_law_176 ?_
        refine kl_CI.callP (C := (RX1, TX1, 3)) [0, 1, 2, 3] [4, 5, 6, 7, 8, 9, 10] (wr := kl_X ax d R (kl_tS R S (xs (i + 1))) (kl_tE R S E (xs (i + 1)))) (As := [.int (xs (i + 1))]) (rest := [.int (kl_tA R S (xs (i + 1)))]) (mM_step l D d am R S E hR hS2 _) ⟨hx, hb, hml, hown, hts⟩ (cwLX1_step hts rfl rfl ⟨Nat.le_of_ble_eq_true rfl, Nat.le_of_ble_eq_true rfl⟩) (ci := 1) rfl rfl hK hP hD hS hA rfl rfl (by decide) rfl (by decide) (by decide) rfl hl.1 rfl (Nat.le_of_ble_eq_true rfl) dL_law_177 ⟨Nat.le_of_ble_eq_true rfl, Nat.le_of_ble_eq_true rfl⟩ (fun H locs hP hD hS => ?_)
        refine lv_icmp_eq (tgt := 360) hx hb dL_law_180 (by decide) (fun _ => ?_) (fun hc => absurd (rfl) hc)
        exact n360 R (kl_tS R S (xs (i + 1))) (kl_tE R S E (xs (i + 1))) H locs ls hR (kl_tS_le hS2) hP hD hS hl
      · refine lv_tableIn (off := 153) (tgt := 185) hx hb dL_law_32 (by decide) (by decide) (by decide) (by decide) ?_
        refine lv_aload_n hx hb dL_law_185 rfl (lv_at hl 1 rfl) ?_
        refine lv_aload_n hx hb dL_law_186 rfl (lv_at hl 0 rfl) ?_
        refine lv_iload_n hx hb dL_law_187 rfl (lv_at hl 3 rfl) ?_
        refine lv_iconst (v := nI 1) hx hb dL_law_188 (by decide) ?_
        refine lv_iadd hx hb dL_law_189 ?_
        refine kl_top (v := nI (i + 1)) (nI_add _ _) ?_
        refine kl_sld hx hb hX hbl hbA hS (i + 1) (by omega) (by omega) rfl dL_law_190 ?_
        refine lv_aload_n hx hb dL_law_191 rfl (lv_at hl 0 rfl) ?_
        refine lv_iload_n hx hb dL_law_192 rfl (lv_at hl 3 rfl) ?_
        refine lv_iconst (v := nI 2) hx hb dL_law_193 (by decide) ?_
        refine lv_iadd hx hb dL_law_194 ?_
        refine kl_top (v := nI (i + 2)) (nI_add _ _) ?_
        refine kl_sld hx hb hX hbl hbA hS (i + 2) (by omega) (by omega) rfl dL_law_195 ?_
        refine kl_CI.callP (C := (RX0, TX0, 7)) [0, 1, 2, 3, 4, 5, 6] [7, 8, 9, 10] (wr := kl_wN am d R S E) (As := [.int (xs (i + 1)), .int (xs (i + 2))]) (rest := []) (mX_run l D d ax R S E hR hS2 _ _) ⟨hx, hb, hml, hown, hts⟩ (cwLX0_run hts rfl rfl ⟨Nat.le_of_ble_eq_true rfl, Nat.le_of_ble_eq_true rfl⟩) (ci := 0) rfl rfl hK hP hD hS hA rfl rfl (by decide) rfl (by decide) (by decide) rfl hl.1 rfl (Nat.le_of_ble_eq_true rfl) dL_law_196 ⟨Nat.le_of_ble_eq_true rfl, Nat.le_of_ble_eq_true rfl⟩ (fun H locs hP hD hS => ?_)
        refine lv_aload_n hx hb dL_law_199 rfl (lv_at hl 2 rfl) ?_
        refine lv_aload_n hx hb dL_law_200 rfl (lv_at hl 0 rfl) ?_
        refine lv_iload_n hx hb dL_law_201 rfl (lv_at hl 3 rfl) ?_
        refine lv_iconst (v := nI 1) hx hb dL_law_202 (by decide) ?_
        refine lv_iadd hx hb dL_law_203 ?_
        refine kl_top (v := nI (i + 1)) (nI_add _ _) ?_
        refine kl_sld hx hb hX hbl hbA hS (i + 1) (by omega) (by omega) rfl dL_law_204 ?_
        refine lv_aload_n hx hb dL_law_205 rfl (lv_at hl 0 rfl) ?_
        refine lv_iload_n hx hb dL_law_206 rfl (lv_at hl 3 rfl) ?_
        refine lv_iconst (v := nI 2) hx hb dL_law_207 (by decide) ?_
        refine lv_iadd hx hb dL_law_208 ?_
        refine kl_top (v := nI (i + 2)) (nI_add _ _) ?_
        refine kl_sld hx hb hX hbl hbA hS (i + 2) (by omega) (by omega) rfl dL_law_209 ?_
        refine kl_CI.callP (C := (RX1, TX1, 3)) [0, 1, 2, 3] [4, 5, 6, 7, 8, 9, 10] (wr := kl_X ax d R (kl_it R (S, E, (xs (i + 2)), 0) (kl_cl 200 (xs (i + 1)))).1 (kl_it R (S, E, (xs (i + 2)), 0) (kl_cl 200 (xs (i + 1)))).2.1) (As := [.int (xs (i + 1)), .int (xs (i + 2))]) (rest := [.int (nI (kl_it R (S, E, (xs (i + 2)), 0) (kl_cl 200 (xs (i + 1)))).2.2.2)]) (mM_run l D d am R S E hR hS2 _ _) ⟨hx, hb, hml, hown, hts⟩ (cwLX1_run hts rfl rfl ⟨Nat.le_of_ble_eq_true rfl, Nat.le_of_ble_eq_true rfl⟩) (ci := 1) rfl rfl hK hP hD hS hA rfl rfl (by decide) rfl (by decide) (by decide) rfl hl.1 rfl (Nat.le_of_ble_eq_true rfl) dL_law_210 ⟨Nat.le_of_ble_eq_true rfl, Nat.le_of_ble_eq_true rfl⟩ (fun H locs hP hD hS => ?_)
        refine lv_icmp_eq (tgt := 360) hx hb dL_law_213 (by decide) (fun _ => ?_) (fun hc => absurd (rfl) hc)
        exact n360 R (kl_it R (S, E, (xs (i + 2)), 0) (kl_cl 200 (xs (i + 1)))).1 (kl_it R (S, E, (xs (i + 2)), 0) (kl_cl 200 (xs (i + 1)))).2.1 H locs ls hR (kl_it_le hS2 _) hP hD hS hl
      · refine lv_tableIn (off := 186) (tgt := 218) hx hb dL_law_32 (by decide) (by decide) (by decide) (by decide) ?_
        refine lv_aload_n hx hb dL_law_218 rfl (lv_at hl 1 rfl) ?_
        refine kl_CV.callP (C := (RX0, TX0, 7)) [0, 1, 2, 3, 4, 5, 6] [7, 8, 9, 10] (wr := kl_wN am d R S E) (As := []) (rest := []) (mX_clear l D d ax R S E) ⟨hx, hb, hml, hown, hts⟩ (cwLX0_clear hts rfl rfl ⟨Nat.le_of_ble_eq_true rfl, Nat.le_of_ble_eq_true rfl⟩) (ci := 0) rfl rfl hK hP hD hS hA rfl rfl (by decide) rfl (by decide) (by decide) rfl hl.1 rfl (Nat.le_of_ble_eq_true rfl) dL_law_219 ⟨Nat.le_of_ble_eq_true rfl, Nat.le_of_ble_eq_true rfl⟩ (fun H locs hP hD hS => ?_)
        refine lv_aload_n hx hb dL_law_222 rfl (lv_at hl 2 rfl) ?_
        refine kl_CV.callP (C := (RX1, TX1, 3)) [0, 1, 2, 3] [4, 5, 6, 7, 8, 9, 10] (wr := kl_X ax d R (fun _ => 0) E) (As := []) (rest := []) (mM_clear l D d am R S E) ⟨hx, hb, hml, hown, hts⟩ (cwLX1_clear hts rfl rfl ⟨Nat.le_of_ble_eq_true rfl, Nat.le_of_ble_eq_true rfl⟩) (ci := 1) rfl rfl hK hP hD hS hA rfl rfl (by decide) rfl (by decide) (by decide) rfl hl.1 rfl (Nat.le_of_ble_eq_true rfl) dL_law_223 ⟨Nat.le_of_ble_eq_true rfl, Nat.le_of_ble_eq_true rfl⟩ (fun H locs hP hD hS => ?_)
        refine lv_goto (tgt := 360) hx hb dL_law_226 (by decide) ?_
        exact n360 R (fun _ => 0) E H locs ls hR (fun _ _ => Nat.zero_le _) hP hD hS hl
      · refine lv_tableIn (off := 197) (tgt := 229) hx hb dL_law_32 (by decide) (by decide) (by decide) (by decide) ?_
        refine lv_aload_n hx hb dL_law_229 rfl (lv_at hl 1 rfl) ?_
        refine lv_aload_n hx hb dL_law_230 rfl (lv_at hl 0 rfl) ?_
        refine lv_iload_n hx hb dL_law_231 rfl (lv_at hl 3 rfl) ?_
        refine lv_iconst (v := nI 1) hx hb dL_law_232 (by decide) ?_
        refine lv_iadd hx hb dL_law_233 ?_
        refine kl_top (v := nI (i + 1)) (nI_add _ _) ?_
        refine kl_sld hx hb hX hbl hbA hS (i + 1) (by omega) (by omega) rfl dL_law_234 ?_
        refine kl_CI.callP (C := (RX0, TX0, 7)) [0, 1, 2, 3, 4, 5, 6] [7, 8, 9, 10] (wr := kl_wN am d R S E) (As := [.int (xs (i + 1))]) (rest := []) (mX_state l D d ax R S E _) ⟨hx, hb, hml, hown, hts⟩ (cwLX0_state hts rfl rfl ⟨Nat.le_of_ble_eq_true rfl, Nat.le_of_ble_eq_true rfl⟩) (ci := 0) rfl rfl hK hP hD hS hA rfl rfl (by decide) rfl (by decide) (by decide) rfl hl.1 rfl (Nat.le_of_ble_eq_true rfl) dL_law_235 ⟨Nat.le_of_ble_eq_true rfl, Nat.le_of_ble_eq_true rfl⟩ (fun H locs hP hD hS => ?_)
        refine lv_aload_n hx hb dL_law_238 rfl (lv_at hl 2 rfl) ?_
        refine lv_aload_n hx hb dL_law_239 rfl (lv_at hl 0 rfl) ?_
        refine lv_iload_n hx hb dL_law_240 rfl (lv_at hl 3 rfl) ?_
        refine lv_iconst (v := nI 1) hx hb dL_law_241 (by decide) ?_
        refine lv_iadd hx hb dL_law_242 ?_
        refine kl_top (v := nI (i + 1)) (nI_add _ _) ?_
        refine kl_sld hx hb hX hbl hbA hS (i + 1) (by omega) (by omega) rfl dL_law_243 ?_
        refine kl_CI.callP (C := (RX1, TX1, 3)) [0, 1, 2, 3] [4, 5, 6, 7, 8, 9, 10] (wr := kl_X ax d R S E) (As := [.int (xs (i + 1))]) (rest := [.int (kl_get 48 (fun j => nI (S j)) (-1) (xs (i + 1)))]) (mM_state l D d am R S E _) ⟨hx, hb, hml, hown, hts⟩ (cwLX1_state hts rfl rfl ⟨Nat.le_of_ble_eq_true rfl, Nat.le_of_ble_eq_true rfl⟩) (ci := 1) rfl rfl hK hP hD hS hA rfl rfl (by decide) rfl (by decide) (by decide) rfl hl.1 rfl (Nat.le_of_ble_eq_true rfl) dL_law_244 ⟨Nat.le_of_ble_eq_true rfl, Nat.le_of_ble_eq_true rfl⟩ (fun H locs hP hD hS => ?_)
        refine lv_icmp_eq (tgt := 360) hx hb dL_law_247 (by decide) (fun _ => ?_) (fun hc => absurd (rfl) hc)
        exact n360 R S E H locs ls hR hS2 hP hD hS hl
      · refine lv_tableIn (off := 220) (tgt := 252) hx hb dL_law_32 (by decide) (by decide) (by decide) (by decide) ?_
        refine lv_aload_n hx hb dL_law_252 rfl (lv_at hl 1 rfl) ?_
        refine kl_CI.callP (C := (RX0, TX0, 7)) [0, 1, 2, 3, 4, 5, 6] [7, 8, 9, 10] (wr := kl_wN am d R S E) (As := []) (rest := []) (mX_total l D d ax R S E) ⟨hx, hb, hml, hown, hts⟩ (cwLX0_total hts rfl rfl ⟨Nat.le_of_ble_eq_true rfl, Nat.le_of_ble_eq_true rfl⟩) (ci := 0) rfl rfl hK hP hD hS hA rfl rfl (by decide) rfl (by decide) (by decide) rfl hl.1 rfl (Nat.le_of_ble_eq_true rfl) dL_law_253 ⟨Nat.le_of_ble_eq_true rfl, Nat.le_of_ble_eq_true rfl⟩ (fun H locs hP hD hS => ?_)
        refine lv_aload_n hx hb dL_law_256 rfl (lv_at hl 2 rfl) ?_
        refine kl_CI.callP (C := (RX1, TX1, 3)) [0, 1, 2, 3] [4, 5, 6, 7, 8, 9, 10] (wr := kl_X ax d R S E) (As := []) (rest := [.int (nI (kl_ps (kl_w R S) 48))]) (mM_total l D d am R S E hS2) ⟨hx, hb, hml, hown, hts⟩ (cwLX1_total hts rfl rfl ⟨Nat.le_of_ble_eq_true rfl, Nat.le_of_ble_eq_true rfl⟩) (ci := 1) rfl rfl hK hP hD hS hA rfl rfl (by decide) rfl (by decide) (by decide) rfl hl.1 rfl (Nat.le_of_ble_eq_true rfl) dL_law_257 ⟨Nat.le_of_ble_eq_true rfl, Nat.le_of_ble_eq_true rfl⟩ (fun H locs hP hD hS => ?_)
        refine lv_icmp_eq (tgt := 360) hx hb dL_law_260 (by decide) (fun _ => ?_) (fun hc => absurd (rfl) hc)
        exact n360 R S E H locs ls hR hS2 hP hD hS hl
      · refine lv_tableIn (off := 233) (tgt := 265) hx hb dL_law_32 (by decide) (by decide) (by decide) (by decide) ?_
        refine lv_aload_n hx hb dL_law_265 rfl (lv_at hl 1 rfl) ?_
        refine lv_aload_n hx hb dL_law_266 rfl (lv_at hl 0 rfl) ?_
        refine lv_iload_n hx hb dL_law_267 rfl (lv_at hl 3 rfl) ?_
        refine lv_iconst (v := nI 1) hx hb dL_law_268 (by decide) ?_
        refine lv_iadd hx hb dL_law_269 ?_
        refine kl_top (v := nI (i + 1)) (nI_add _ _) ?_
        refine kl_sld hx hb hX hbl hbA hS (i + 1) (by omega) (by omega) rfl dL_law_270 ?_
        refine kl_CI.callP (C := (RX0, TX0, 7)) [0, 1, 2, 3, 4, 5, 6] [7, 8, 9, 10] (wr := kl_wN am d R S E) (As := [.int (xs (i + 1))]) (rest := []) (mX_siteRate l D d ax R S E _) ⟨hx, hb, hml, hown, hts⟩ (cwLX0_siteRate hts rfl rfl ⟨Nat.le_of_ble_eq_true rfl, Nat.le_of_ble_eq_true rfl⟩) (ci := 0) rfl rfl hK hP hD hS hA rfl rfl (by decide) rfl (by decide) (by decide) rfl hl.1 rfl (Nat.le_of_ble_eq_true rfl) dL_law_271 ⟨Nat.le_of_ble_eq_true rfl, Nat.le_of_ble_eq_true rfl⟩ (fun H locs hP hD hS => ?_)
        refine lv_aload_n hx hb dL_law_274 rfl (lv_at hl 2 rfl) ?_
        refine lv_aload_n hx hb dL_law_275 rfl (lv_at hl 0 rfl) ?_
        refine lv_iload_n hx hb dL_law_276 rfl (lv_at hl 3 rfl) ?_
        refine lv_iconst (v := nI 1) hx hb dL_law_277 (by decide) ?_
        refine lv_iadd hx hb dL_law_278 ?_
        refine kl_top (v := nI (i + 1)) (nI_add _ _) ?_
        refine kl_sld hx hb hX hbl hbA hS (i + 1) (by omega) (by omega) rfl dL_law_279 ?_
        refine kl_CI.callP (C := (RX1, TX1, 3)) [0, 1, 2, 3] [4, 5, 6, 7, 8, 9, 10] (wr := kl_X ax d R S E) (As := [.int (xs (i + 1))]) (rest := [.int (kl_get 48 (fun j => nI (kl_w R S j)) (-1) (xs (i + 1)))]) (mM_siteRate l D d am R S E hS2 _) ⟨hx, hb, hml, hown, hts⟩ (cwLX1_siteRate hts rfl rfl ⟨Nat.le_of_ble_eq_true rfl, Nat.le_of_ble_eq_true rfl⟩) (ci := 1) rfl rfl hK hP hD hS hA rfl rfl (by decide) rfl (by decide) (by decide) rfl hl.1 rfl (Nat.le_of_ble_eq_true rfl) dL_law_280 ⟨Nat.le_of_ble_eq_true rfl, Nat.le_of_ble_eq_true rfl⟩ (fun H locs hP hD hS => ?_)
        refine lv_icmp_eq (tgt := 360) hx hb dL_law_283 (by decide) (fun _ => ?_) (fun hc => absurd (rfl) hc)
        exact n360 R S E H locs ls hR hS2 hP hD hS hl
      · refine lv_tableIn (off := 256) (tgt := 288) hx hb dL_law_32 (by decide) (by decide) (by decide) (by decide) ?_
        refine lv_aload_n hx hb dL_law_288 rfl (lv_at hl 1 rfl) ?_
        refine kl_CI.callP (C := (RX0, TX0, 7)) [0, 1, 2, 3, 4, 5, 6] [7, 8, 9, 10] (wr := kl_wN am d R S E) (As := []) (rest := []) (mX_occupied l D d ax R S E) ⟨hx, hb, hml, hown, hts⟩ (cwLX0_occupied hts rfl rfl ⟨Nat.le_of_ble_eq_true rfl, Nat.le_of_ble_eq_true rfl⟩) (ci := 0) rfl rfl hK hP hD hS hA rfl rfl (by decide) rfl (by decide) (by decide) rfl hl.1 rfl (Nat.le_of_ble_eq_true rfl) dL_law_289 ⟨Nat.le_of_ble_eq_true rfl, Nat.le_of_ble_eq_true rfl⟩ (fun H locs hP hD hS => ?_)
        refine lv_aload_n hx hb dL_law_292 rfl (lv_at hl 2 rfl) ?_
        refine kl_CI.callP (C := (RX1, TX1, 3)) [0, 1, 2, 3] [4, 5, 6, 7, 8, 9, 10] (wr := kl_X ax d R S E) (As := []) (rest := [.int (nI (kl_cnt S 48))]) (mM_occupied l D d am R S E hS2) ⟨hx, hb, hml, hown, hts⟩ (cwLX1_occupied hts rfl rfl ⟨Nat.le_of_ble_eq_true rfl, Nat.le_of_ble_eq_true rfl⟩) (ci := 1) rfl rfl hK hP hD hS hA rfl rfl (by decide) rfl (by decide) (by decide) rfl hl.1 rfl (Nat.le_of_ble_eq_true rfl) dL_law_293 ⟨Nat.le_of_ble_eq_true rfl, Nat.le_of_ble_eq_true rfl⟩ (fun H locs hP hD hS => ?_)
        refine lv_icmp_eq (tgt := 360) hx hb dL_law_296 (by decide) (fun _ => ?_) (fun hc => absurd (rfl) hc)
        exact n360 R S E H locs ls hR hS2 hP hD hS hl
      · refine lv_tableIn (off := 269) (tgt := 301) hx hb dL_law_32 (by decide) (by decide) (by decide) (by decide) ?_
        refine lv_aload_n hx hb dL_law_301 rfl (lv_at hl 1 rfl) ?_
        refine kl_CI.callP (C := (RX0, TX0, 7)) [0, 1, 2, 3, 4, 5, 6] [7, 8, 9, 10] (wr := kl_wN am d R S E) (As := []) (rest := []) (mX_pairs l D d ax R S E hS2) ⟨hx, hb, hml, hown, hts⟩ (cwLX0_pairs hts rfl rfl ⟨Nat.le_of_ble_eq_true rfl, Nat.le_of_ble_eq_true rfl⟩) (ci := 0) rfl rfl hK hP hD hS hA rfl rfl (by decide) rfl (by decide) (by decide) rfl hl.1 rfl (Nat.le_of_ble_eq_true rfl) dL_law_302 ⟨Nat.le_of_ble_eq_true rfl, Nat.le_of_ble_eq_true rfl⟩ (fun H locs hP hD hS => ?_)
        refine lv_aload_n hx hb dL_law_305 rfl (lv_at hl 2 rfl) ?_
        refine kl_CI.callP (C := (RX1, TX1, 3)) [0, 1, 2, 3] [4, 5, 6, 7, 8, 9, 10] (wr := kl_X ax d R S E) (As := []) (rest := [.int (nI (kl_pr S 48))]) (mM_pairs l D d am R S E hS2) ⟨hx, hb, hml, hown, hts⟩ (cwLX1_pairs hts rfl rfl ⟨Nat.le_of_ble_eq_true rfl, Nat.le_of_ble_eq_true rfl⟩) (ci := 1) rfl rfl hK hP hD hS hA rfl rfl (by decide) rfl (by decide) (by decide) rfl hl.1 rfl (Nat.le_of_ble_eq_true rfl) dL_law_306 ⟨Nat.le_of_ble_eq_true rfl, Nat.le_of_ble_eq_true rfl⟩ (fun H locs hP hD hS => ?_)
        refine lv_icmp_eq (tgt := 360) hx hb dL_law_309 (by decide) (fun _ => ?_) (fun hc => absurd (rfl) hc)
        exact n360 R S E H locs ls hR hS2 hP hD hS hl
      · refine lv_tableIn (off := 282) (tgt := 314) hx hb dL_law_32 (by decide) (by decide) (by decide) (by decide) ?_
        refine lv_aload_n hx hb dL_law_314 rfl (lv_at hl 1 rfl) ?_
        refine lv_aload_n hx hb dL_law_315 rfl (lv_at hl 0 rfl) ?_
        refine lv_iload_n hx hb dL_law_316 rfl (lv_at hl 3 rfl) ?_
        refine lv_iconst (v := nI 1) hx hb dL_law_317 (by decide) ?_
        refine lv_iadd hx hb dL_law_318 ?_
        refine kl_top (v := nI (i + 1)) (nI_add _ _) ?_
        refine kl_sld hx hb hX hbl hbA hS (i + 1) (by omega) (by omega) rfl dL_law_319 ?_
        refine kl_CI.callP (C := (RX0, TX0, 7)) [0, 1, 2, 3, 4, 5, 6] [7, 8, 9, 10] (wr := kl_wN am d R S E) (As := [.int (xs (i + 1))]) (rest := []) (mX_happened l D d ax R S E _) ⟨hx, hb, hml, hown, hts⟩ (cwLX0_happened hts rfl rfl ⟨Nat.le_of_ble_eq_true rfl, Nat.le_of_ble_eq_true rfl⟩) (ci := 0) rfl rfl hK hP hD hS hA rfl rfl (by decide) rfl (by decide) (by decide) rfl hl.1 rfl (Nat.le_of_ble_eq_true rfl) dL_law_320 ⟨Nat.le_of_ble_eq_true rfl, Nat.le_of_ble_eq_true rfl⟩ (fun H locs hP hD hS => ?_)
        refine lv_aload_n hx hb dL_law_323 rfl (lv_at hl 2 rfl) ?_
        refine lv_aload_n hx hb dL_law_324 rfl (lv_at hl 0 rfl) ?_
        refine lv_iload_n hx hb dL_law_325 rfl (lv_at hl 3 rfl) ?_
        refine lv_iconst (v := nI 1) hx hb dL_law_326 (by decide) ?_
        refine lv_iadd hx hb dL_law_327 ?_
        refine kl_top (v := nI (i + 1)) (nI_add _ _) ?_
        refine kl_sld hx hb hX hbl hbA hS (i + 1) (by omega) (by omega) rfl dL_law_328 ?_
        refine kl_CI.callP (C := (RX1, TX1, 3)) [0, 1, 2, 3] [4, 5, 6, 7, 8, 9, 10] (wr := kl_X ax d R S E) (As := [.int (xs (i + 1))]) (rest := [.int (kl_get 3 E (nI 0) (xs (i + 1)))]) (mM_happened l D d am R S E _) ⟨hx, hb, hml, hown, hts⟩ (cwLX1_happened hts rfl rfl ⟨Nat.le_of_ble_eq_true rfl, Nat.le_of_ble_eq_true rfl⟩) (ci := 1) rfl rfl hK hP hD hS hA rfl rfl (by decide) rfl (by decide) (by decide) rfl hl.1 rfl (Nat.le_of_ble_eq_true rfl) dL_law_329 ⟨Nat.le_of_ble_eq_true rfl, Nat.le_of_ble_eq_true rfl⟩ (fun H locs hP hD hS => ?_)
        refine lv_icmp_eq (tgt := 360) hx hb dL_law_332 (by decide) (fun _ => ?_) (fun hc => absurd (rfl) hc)
        exact n360 R S E H locs ls hR hS2 hP hD hS hl
      · refine lv_tableIn (off := 305) (tgt := 337) hx hb dL_law_32 (by decide) (by decide) (by decide) (by decide) ?_
        refine lv_aload_n hx hb dL_law_337 rfl (lv_at hl 1 rfl) ?_
        refine lv_aload_n hx hb dL_law_338 rfl (lv_at hl 0 rfl) ?_
        refine lv_iload_n hx hb dL_law_339 rfl (lv_at hl 3 rfl) ?_
        refine lv_iconst (v := nI 1) hx hb dL_law_340 (by decide) ?_
        refine lv_iadd hx hb dL_law_341 ?_
        refine kl_top (v := nI (i + 1)) (nI_add _ _) ?_
        refine kl_sld hx hb hX hbl hbA hS (i + 1) (by omega) (by omega) rfl dL_law_342 ?_
        refine kl_CI.callP (C := (RX0, TX0, 7)) [0, 1, 2, 3, 4, 5, 6] [7, 8, 9, 10] (wr := kl_wN am d R S E) (As := [.int (xs (i + 1))]) (rest := []) (mX_before l D d ax R S E _) ⟨hx, hb, hml, hown, hts⟩ (cwLX0_before hts rfl rfl ⟨Nat.le_of_ble_eq_true rfl, Nat.le_of_ble_eq_true rfl⟩) (ci := 0) rfl rfl hK hP hD hS hA rfl rfl (by decide) rfl (by decide) (by decide) rfl hl.1 rfl (Nat.le_of_ble_eq_true rfl) dL_law_343 ⟨Nat.le_of_ble_eq_true rfl, Nat.le_of_ble_eq_true rfl⟩ (fun H locs hP hD hS => ?_)
        refine lv_aload_n hx hb dL_law_346 rfl (lv_at hl 2 rfl) ?_
        refine lv_aload_n hx hb dL_law_347 rfl (lv_at hl 0 rfl) ?_
        refine lv_iload_n hx hb dL_law_348 rfl (lv_at hl 3 rfl) ?_
        refine lv_iconst (v := nI 1) hx hb dL_law_349 (by decide) ?_
        refine lv_iadd hx hb dL_law_350 ?_
        refine kl_top (v := nI (i + 1)) (nI_add _ _) ?_
        refine kl_sld hx hb hX hbl hbA hS (i + 1) (by omega) (by omega) rfl dL_law_351 ?_
        refine kl_CI.callP (C := (RX1, TX1, 3)) [0, 1, 2, 3] [4, 5, 6, 7, 8, 9, 10] (wr := kl_X ax d R S E) (As := [.int (xs (i + 1))]) (rest := [.int (nI (kl_ps (kl_w R S) (kl_cl 48 (xs (i + 1)))))]) (mM_before l D d am R S E hS2 _) ⟨hx, hb, hml, hown, hts⟩ (cwLX1_before hts rfl rfl ⟨Nat.le_of_ble_eq_true rfl, Nat.le_of_ble_eq_true rfl⟩) (ci := 1) rfl rfl hK hP hD hS hA rfl rfl (by decide) rfl (by decide) (by decide) rfl hl.1 rfl (Nat.le_of_ble_eq_true rfl) dL_law_352 ⟨Nat.le_of_ble_eq_true rfl, Nat.le_of_ble_eq_true rfl⟩ (fun H locs hP hD hS => ?_)
        refine lv_icmp_eq (tgt := 360) hx hb dL_law_355 (by decide) (fun _ => ?_) (fun hc => absurd (rfl) hc)
        exact n360 R S E H locs ls hR hS2 hP hD hS hl
      · refine lv_tableOut (tgt := 360) hx hb dL_law_32 (Or.inr (by rw [nI_toInt (by omega)]; omega)) (by decide) ?_
        exact n360 R S E H locs ls hR hS2 hP hD hS hl
end
section
set_option maxRecDepth 100000
set_option maxHeartbeats 4000000 in
set_option maxRecDepth 100000 in
/-- from the entry, for every script of at most 192 ints, the law comes to its end with true -/
theorem whole_start {p : Program} {e : Env} {s : State} {m : MethodId} {below : List Frame} {meth : Method} {c : Code} (l : Launch) {b L : Nat} {xs : Nat → Int32} (hL : L ≤ 192) (C0 : lw_At p s m meth c b L xs) : W p l e room_1 s m #[Value.ref b] below meth c s.heap [] 0 0 (lw_Z below #[Value.ref b] s) (entryFrame m ([Value.ref b] : List Value).toArray 4) := by
  obtain ⟨hx, hb, hr, hml, hown, hts0, hX, hbl, hlocks, hgv⟩ := id C0
  have hts : ∀ w ∈ lw_all, w.before #[Value.ref b] s = true := fun w h => hts0 w (lw_all_tbl h)
  have hA : ∀ q : Nat, s.heap.size ≤ q → (fun q : Nat => s.heap.size ≤ q) q := fun _ h => h
  obtain ⟨c0, iS0, hKn0⟩ := u_known (C := RX0) (T := TX0) (N := 7) (n := 7) hts in_X0 (hts _ q19)
  obtain ⟨c1, iS1, hKn1⟩ := u_known (C := RX1) (T := TX1) (N := 3) (n := 3) hts in_X1 (hts _ q145)
  obtain ⟨D, hKc⟩ : ∃ D : va_G, ∀ (k : Nat) (q : vw_C), vwCl[k]? = some q → u_Kn s q.1 q.2.1 q.2.2 (D.1 k) (D.2 k) := by
    refine ⟨(fun k => if k = 0 then c0 else c1, fun k => if k = 0 then iS0 else iS1), ?_⟩
    intro k q hq
    match k, hq with
    | 0, hq => cases hq; exact hKn0
    | 1, hq => cases hq; exact hKn1
    | k + 2, hq => simp [vwCl] at hq
  obtain ⟨d, kA, comp, hf1, hf2, hf3⟩ := Cond.arrayClass_spec (hts _ q72)
  have hS : va_S (fun q : Nat => s.heap.size ≤ q) s.heap s.heap [] := va_S.rf
  have hK : va_K D vwCl [(d, .int)] s := by
    refine ⟨hKc, fun k q h => ?_⟩
    have hz : k < 1 := (List.getElem?_eq_some_iff.mp h).1
    rw [show k = 0 by omega] at h
    cases h
    exact ⟨fun n z => ⟨fun k h => (by cases h), kA, hf2, comp, hf3⟩, hf1⟩
  have hP : va_P D vwCl [] s.heap := fun k q h => by simp at h
  have hD : va_D (fun q : Nat => s.heap.size ≤ q) [] := ⟨fun i j p q h => by simp at h, fun k q h => by simp at h⟩
  have hl := lv_entry ([.ref b]) (n := 4) (Nat.le_of_ble_eq_true rfl)
  rw [lg_entry_eq]
  generalize (lg_sl ([.ref b]) ++ List.replicate (4 - (lg_sl ([.ref b])).length) Slot.unset).toArray = ls at hl ⊢
  have hl : lv_has ls 4 [(0, .ref b)] := hl
  refine va_new (ci := 0) (fs := [.null, .null, .null, .null, .null, .int 0, .null]) (C := RX0) (T := TX0) (N := 7) hx hb hts in_X0 tyX0 tyX0_ok hown (hts _ q18) (hts _ q19) (hts _ q16) hK hP hD hS hA rfl (fun j hj => by rcases (show j = 0 ∨ j = 1 ∨ j = 2 ∨ j = 3 ∨ j = 4 ∨ j = 5 ∨ j = 6 by omega) with rfl | rfl | rfl | rfl | rfl | rfl | rfl <;> rfl) (Nat.le_of_ble_eq_true rfl) (Nat.le_of_ble_eq_true rfl) dL_law_0 (fun h0 H hP hD hS => ?_)
  have hP : va_P D vwCl [(h0, .inr (0, [.null, .null, .null, .null, .null, .int 0, .null]))] H := hP
  have hD : va_D (fun q : Nat => s.heap.size ≤ q) [(h0, .inr (0, [.null, .null, .null, .null, .null, .int 0, .null]))] := hD
  refine W.widen (k := 1) (n := 7) (Nat.le_refl _) (Nat.le_refl _) ?_
  refine lv_dup hx hb dL_law_3 rfl ?_
  have hFc := kl_free hD hS hA
  refine va_callv (va_runI (As := []) (rest := [.ref h0]) ⟨hx, hb, hml, hown, hts⟩ (mX_init l D d h0 H.size) (cwI 0 hts (lw_meth q22) rfl rfl rfl (hts _ q16) (hts _ q20) (hts _ q21) rfl (by decide +kernel) ⟨Nat.le_of_ble_eq_true rfl, Nat.le_of_ble_eq_true rfl⟩) ⟨fun a U g mk q => by obtain ⟨q0, q1, qP, qK, qD⟩ := q; exact ⟨q0, q1, qP, va_K.moved (u := U) (U := U.calling g mk a) (Vm.Alike.refl U.vm) qK, qD⟩, fun U hU hW => ⟨rfl, by rw [hU], by rw [hU]; exact hP, va_K.moved hW.alike hK, hD.weaken (fun _ _ _ _ => trivial)⟩⟩ rfl rfl hl.1 rfl (lv_room (Nat.le_of_ble_eq_true rfl)) dL_law_4 ⟨Nat.le_of_ble_eq_true rfl, Nat.le_of_ble_eq_true rfl⟩) hS (fun q _ h => hFc q h) hFc (fun ax t H1 locs ht hvm ea hB hz1 hk1 hS => ?_)
  obtain ⟨hP1, hK1, hD1⟩ := hB
  rw [ht] at hP1
  have hD2 := hD1.weaken (B := fun q : Nat => s.heap.size ≤ q) (fun _ q _ h => hFc q.1 h)
  clear hD1
  subst ea
  refine W.widen (k := 7) (n := 370) (by decide) (by decide) ?_
  refine lv_astore_n (lv' := [(1, .ref (ax 0)), (0, .ref b)]) hx hb dL_law_7 rfl hl (by decide) rfl (fun ls hl => ?_)
  refine va_new (ci := 1) (fs := [.null, .null, .null]) (C := RX1) (T := TX1) (N := 3) hx hb hts in_X1 tyX1 tyX1_ok hown (hts _ q144) (hts _ q145) (hts _ q17) hK hP1 hD2 hS hA rfl (fun j hj => by rcases (show j = 0 ∨ j = 1 ∨ j = 2 by omega) with rfl | rfl | rfl <;> rfl) (Nat.le_of_ble_eq_true rfl) (Nat.le_of_ble_eq_true rfl) dL_law_8 (fun h1 H hP hD hS => ?_)
  refine W.widen (k := 8) (n := 373) (Nat.le_refl _) (Nat.le_refl _) ?_
  refine lv_dup hx hb dL_law_11 rfl ?_
  have hPc := hP.sub (ws' := [(h1, .inr (1, [.null, .null, .null]))]) [7] rfl
  have hDc := hD.sub (ws' := [(h1, .inr (1, [.null, .null, .null]))]) [7] (by decide) rfl
  have hFc := va_free (wc := [(h1, .inr (1, [.null, .null, .null]))]) hD hS hA [7] rfl
  refine va_callv (va_runI (As := []) (rest := [.ref h1]) ⟨hx, hb, hml, hown, hts⟩ (mM_init l D d h1 H.size) (cwI 0 hts (lw_meth q148) rfl rfl rfl (hts _ q17) (hts _ q146) (hts _ q147) rfl (by decide +kernel) ⟨Nat.le_of_ble_eq_true rfl, Nat.le_of_ble_eq_true rfl⟩) ⟨fun a U g mk q => by obtain ⟨q0, q1, qP, qK, qD⟩ := q; exact ⟨q0, q1, qP, va_K.moved (u := U) (U := U.calling g mk a) (Vm.Alike.refl U.vm) qK, qD⟩, fun U hU hW => ⟨rfl, by rw [hU], by rw [hU]; exact hPc, va_K.moved hW.alike hK, hDc.weaken (fun _ _ _ _ => trivial)⟩⟩ rfl rfl hl.1 rfl (lv_room (Nat.le_of_ble_eq_true rfl)) dL_law_12 ⟨Nat.le_of_ble_eq_true rfl, Nat.le_of_ble_eq_true rfl⟩) hS (fun q _ h => hFc q h) hFc (fun am t H1 locs ht hvm ea hB hz1 hk1 hS => ?_)
  obtain ⟨hP1, hK1, hD1⟩ := hB
  rw [ht] at hP1
  obtain ⟨hP3, hD3⟩ := va_join (wr := kl_X ax d (fun _ => 1) (fun _ => 0) (fun _ => 0)) (w1 := kl_wN am d (fun _ => 1) (fun _ => 0) (fun _ => 0)) hP hD [7] [0, 1, 2, 3, 4, 5, 6] rfl rfl (by decide) (by decide) hk1 hFc hP1 hD1
  subst ea
  refine W.widen (k := 11) (n := 431) (by decide) (by decide) ?_
  refine lv_astore_n (lv' := [(2, .ref (am 0)), (1, .ref (ax 0)), (0, .ref b)]) hx hb dL_law_15 rfl hl (by decide) rfl (fun ls hl => ?_)
  refine lv_iconst (v := nI 0) hx hb dL_law_16 (by decide) ?_
  refine lv_istore_n (lv' := [(3, .int (nI 0)), (2, .ref (am 0)), (1, .ref (ax 0)), (0, .ref b)]) hx hb dL_law_17 rfl hl (by decide) rfl (fun ls hl => ?_)
  exact law_loop hL C0 hK ax am (L + 1) 0 (fun _ => 1) (fun _ => 0) (fun _ => 0) H1 locs ls (by omega) (by decide) (fun _ _ => by decide) (fun _ _ => by decide) hP3 hD3 hS (lv_sub hl [3, 2, 1, 0] rfl)
set_option maxHeartbeats 4000000 in
theorem lw_walk (l : Launch) (b : Addr) (xs : List Int32) : MetFree l x (headSpec (Jvm.Cond.code x code maxLocals ret :: tables_1) room_1) (lw_P b xs) (fun _ _ _ _ _ => True) lw_Q := by
  refine MetFree.of_bodyS (code := code) (maxLocals := maxLocals) (ret := ret) (by decide) ?_ ?_
  · intro args s m h hn
    obtain ⟨meth, c, h1, h2, h3, h4, h5, h6, -, -⟩ := Cond.code_spec hn (atoms_spec (ws := Jvm.Cond.code x code maxLocals ret :: tables_1) h _ List.mem_cons_self)
    exact ⟨meth, c, h1, h2, h3, h4, h5, h6⟩
  · intro p e s m args below meth c s₁ B hml0 hP _
    obtain ⟨rfl, hx, hbd, hgv⟩ := hP
    obtain ⟨scr, harrAt, hlist, hof, hsmall⟩ := hx
    obtain ⟨hcb, hkn, -, -⟩ := State.arrayAt?_spec harrAt
    have hown : s.vm.findClass R_law = some m.cls := findClass_of_methodNamed B.named
    have hts0 : ∀ c ∈ (Jvm.Cond.code x code maxLocals ret :: tables_1), c.before #[Value.ref b] s = true := atoms_spec (ws := Jvm.Cond.code x code maxLocals ret :: tables_1) B.pre
    have hts : ∀ w ∈ lw_tbl, w.before #[Value.ref b] s = true := k2_hts_sels lw_privs (fun w hw => hts0 w (List.mem_cons_of_mem _ hw)) lw_privs_ok
    have hml : c.maxLocals = 4 := B.maxLocals_eq (hts0 _ List.mem_cons_self)
    have X₀ : Stand p l e room_1 s m #[Value.ref b] below meth c s₁ [] 0 0 := Stand.of_body B
    have hh0 : s₁.heap = s.heap := by rw [B.state]; rfl
    have hsz : scr.slots.size = xs.length := by rw [← Array.length_toList, hlist, List.length_map]
    have hval : ∀ j : Nat, j < xs.length → scr.slots[j]? = some (.int (xs.getD j 0)) := fun j hj => by
      rw [← Array.getElem?_toList, hlist]
      simp [hj]
    have hbl : b < s.heap.size := (Array.getElem?_eq_some_iff.mp hcb).1
    have hX : va_X b xs.length (fun j => xs.getD j 0) s s.heap := ⟨scr, hcb, hof, hkn, hsz, hval⟩
    have K : W p l e room_1 s m #[Value.ref b] below meth c s₁.heap [] 0 0 (lw_Z below #[Value.ref b] s) (entryFrame m ([Value.ref b] : List Value).toArray 4) := by
      rw [hh0]
      exact whole_start l hbd ⟨B.exec, B.bytes, B.returns, hml, hown, hts, hX, hbl, B.notSynchronized, hgv⟩
    obtain ⟨t, a1, o, b1, b2, b3⟩ := K s₁ rfl X₀
    exact ⟨t, o, a1, b1, b2, b3⟩
theorem lw_pre_spec {args : Array Value} {s : State} (h : (Jvm.Cond.and given_1 narrow_1).before args s = true) (hr : rest_1_c.before args s = true) : ∃ (b : Addr) (xs : List Int32), lw_P b xs args s := by
  have hs := flat_of_before _ h
  have hq := flat_of_before _ hr
  have hc : (Cond.count 1).before args s = true := hs _ (by decide +kernel)
  have harr : (Cond.arrayOf (.arg 0) .int).before args s = true := hs _ (by decide +kernel)
  have hle : (Cond.le (.length (.arg 0)) (.int 192)).before args s = true := hs _ (by decide +kernel)
  have hlen : (Cond.isInt (.length (.arg 0))).before args s = true := hq _ (by decide +kernel)
  have hall : (Cond.all (.arg 0) (.isInt (.elem (.arg 0) (.index 0)))).before args s = true := hq _ (by decide +kernel)
  obtain ⟨b, xs, hb, hx⟩ := State.ints_of_pre rfl harr hlen hall
  have hsm : xs.length < 2 ^ 31 := hx.choose_spec.2.2.2
  have hev : (Term.length (.arg 0)).eval args s none [] s = some (.int xs.length.toInt32) := hx.length_eval hb
  have hv := Cond.le_ints hev (show (Term.int 192).eval args s none [] s = some (.int 192) from rfl)
  have hd : xs.length.toInt32 ≤ 192 := by
    simpa [Cond.before, Cond.holds, hv] using hle
  have hN : xs.length ≤ 192 := (Int32.ofNat_le_ofNat hsm (by decide)).mp (show Int32.ofNat xs.length ≤ Int32.ofNat 192 from hd)
  exact ⟨b, xs, Cond.one_arg hc (show args[0]? = some (.ref b) from hb), hx, hN, h⟩
theorem lw_comes (l : Launch) : Comes l x (Jvm.Cond.code x code maxLocals ret :: tables_1) room_1 (fun tb e args s => Calls_1 tb e args s ∧ rest_1 tb e args s ∧ Pre_1 tb e args s)
    (fun _ _ args s o t => lw_Q args s o t) := by
  intro p e ha hc hk s m args below hf hfit hheap happ hpre
  obtain ⟨b, xs, hP⟩ := lw_pre_spec hpre.2.2 hpre.2.1
  obtain ⟨k, o, h1, h2, h3, hQ⟩ := lw_walk l b xs p e ha hc hk s m args below hf ((Spec.applies_iff_loose hf).mp happ).1 hP trivial
  exact ⟨k, o, h1, h2, h3, hQ⟩
theorem lw_frame {s t : State} {o : Outcome} {args : Array Value} (h : Framed s o t [] 600000 7290000) :
    Framed s o t (fieldLocs frame_1_writes args s ++ arrayLocs frame_1_arrays args s ++ staticLocs frame_1_statics s) 600000 7290000 := h
theorem lw_limb (L : Cond) (hL : ∀ (args : Array Value) (s t : State), L.after args s (.returned (some (.int 1))) t = true) :
    ArmFor flags0 classFile x code maxLocals ret World_1 tables_1 room_1 Calls_1 rest_1 Pre_1
      (fun tb e a s o t => postC L tb e a s o t ∧ Framed s o t (fieldLocs frame_1_writes a s ++ arrayLocs frame_1_arrays a s ++ staticLocs frame_1_statics s) 600000 7290000) := by
  intro l _ _ _ p e ha hc hk s m args below hf hfit hheap happ hpre
  obtain ⟨k, o, h1, h2, h3, rfl, hF⟩ := lw_comes l p e ha hc hk s m args below hf hfit hheap happ hpre
  exact ⟨k, _, h1, h2, h3, hL args s _, lw_frame hF⟩
theorem i_vc : Claimed_1_1 ∧ Claimed_1_2 := ⟨lw_limb limb_1_1 (fun args s t => by simp [limb_1_1, Cond.after, Cond.holds, Cond.value]), lw_limb limb_1_2 (fun args s t => Cond.after_iff.mpr (by
  first | (rw [show limb_1_2 = Cond.eq .result (.int 1) from rfl, Cond.eq_ints (x := 1) (y := 1) rfl rfl]; simp; done) | (simp [limb_1_2, Cond.value, Term.eval]; done)))⟩
end
