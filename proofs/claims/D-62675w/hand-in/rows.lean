section
-- ===== PART A: goes FIRST, ahead of the names: the tables' words, and 'selects' of the private methods out of them =====
/-- a private method of a class that the tables say can be made, by its rows of tables_1 -/
def lw_okq (q : MethodName × Nat) : Prop := (q.1.cls ≠ "java/lang/invoke/MethodHandle" ∧ q.1.cls ≠ "java/lang/invoke/VarHandle") ∧ Cond.instantiable q.1.cls q.2 ∈ tables_1 ∧ Cond.privateMethod q.1 ∈ tables_1 ∧ Cond.instanceMethod q.1 ∈ tables_1
set_option maxRecDepth 100000
theorem lw_t1 {w : Cond} (h : w ∈ tables_1_1) : w ∈ tables_1 := List.mem_append_left _ h
theorem lw_t2 {w : Cond} (h : w ∈ tables_1_2) : w ∈ tables_1 := List.mem_append_right _ h
theorem lw_p0 : lw_okq (⟨"ShieldedMachine", "writeWord", "(II)V"⟩, 13) := ⟨⟨by decide +kernel, by decide +kernel⟩, lw_t1 (List.mem_of_getElem? (i := 4) rfl), lw_t1 (List.mem_of_getElem? (i := 12) rfl), lw_t1 (List.mem_of_getElem? (i := 13) rfl)⟩
theorem lw_p1 : lw_okq (⟨"ShieldedMachine", "step", "()V"⟩, 13) := ⟨⟨by decide +kernel, by decide +kernel⟩, lw_t1 (List.mem_of_getElem? (i := 4) rfl), lw_t1 (List.mem_of_getElem? (i := 89) rfl), lw_t1 (List.mem_of_getElem? (i := 90) rfl)⟩
theorem lw_p2 : lw_okq (⟨"ShieldedMachine", "voteAll", "()V"⟩, 13) := ⟨⟨by decide +kernel, by decide +kernel⟩, lw_t1 (List.mem_of_getElem? (i := 4) rfl), lw_t1 (List.mem_of_getElem? (i := 93) rfl), lw_t1 (List.mem_of_getElem? (i := 94) rfl)⟩
theorem lw_p3 : lw_okq (⟨"ShieldedMachine", "voteRegister", "(I)I"⟩, 13) := ⟨⟨by decide +kernel, by decide +kernel⟩, lw_t1 (List.mem_of_getElem? (i := 4) rfl), lw_t1 (List.mem_of_getElem? (i := 97) rfl), lw_t1 (List.mem_of_getElem? (i := 98) rfl)⟩
theorem lw_p4 : lw_okq (⟨"ShieldedMachine", "writeRegister", "(II)V"⟩, 13) := ⟨⟨by decide +kernel, by decide +kernel⟩, lw_t1 (List.mem_of_getElem? (i := 4) rfl), lw_t1 (List.mem_of_getElem? (i := 104) rfl), lw_t1 (List.mem_of_getElem? (i := 105) rfl)⟩
theorem lw_p5 : lw_okq (⟨"ShieldedMachine", "votePlace", "()I"⟩, 13) := ⟨⟨by decide +kernel, by decide +kernel⟩, lw_t1 (List.mem_of_getElem? (i := 4) rfl), lw_t1 (List.mem_of_getElem? (i := 108) rfl), lw_t1 (List.mem_of_getElem? (i := 109) rfl)⟩
theorem lw_p6 : lw_okq (⟨"ShieldedMachine", "writePlace", "(I)V"⟩, 13) := ⟨⟨by decide +kernel, by decide +kernel⟩, lw_t1 (List.mem_of_getElem? (i := 4) rfl), lw_t1 (List.mem_of_getElem? (i := 112) rfl), lw_t1 (List.mem_of_getElem? (i := 113) rfl)⟩
theorem lw_p7 : lw_okq (⟨"ShieldedMachine", "readAndRepair", "(I)I"⟩, 13) := ⟨⟨by decide +kernel, by decide +kernel⟩, lw_t1 (List.mem_of_getElem? (i := 4) rfl), lw_t1 (List.mem_of_getElem? (i := 116) rfl), lw_t1 (List.mem_of_getElem? (i := 117) rfl)⟩
theorem lw_p8 : lw_okq (⟨"ShieldedMachine", "repair", "(I)V"⟩, 13) := ⟨⟨by decide +kernel, by decide +kernel⟩, lw_t1 (List.mem_of_getElem? (i := 4) rfl), lw_t1 (List.mem_of_getElem? (i := 120) rfl), lw_t1 (List.mem_of_getElem? (i := 121) rfl)⟩
theorem lw_p9 : lw_okq (⟨"ShieldedMachine", "readWord", "(I)I"⟩, 13) := ⟨⟨by decide +kernel, by decide +kernel⟩, lw_t1 (List.mem_of_getElem? (i := 4) rfl), lw_t1 (List.mem_of_getElem? (i := 127) rfl), lw_t1 (List.mem_of_getElem? (i := 128) rfl)⟩
theorem lw_p10 : lw_okq (⟨"ShieldedMachine", "stepWithCells", "(IIIII)I"⟩, 13) := ⟨⟨by decide +kernel, by decide +kernel⟩, lw_t1 (List.mem_of_getElem? (i := 4) rfl), lw_t1 (List.mem_of_getElem? (i := 134) rfl), lw_t1 (List.mem_of_getElem? (i := 135) rfl)⟩
theorem lw_p11 : lw_okq (⟨"ShieldedMachine", "workThrice", "(IIII)I"⟩, 13) := ⟨⟨by decide +kernel, by decide +kernel⟩, lw_t1 (List.mem_of_getElem? (i := 4) rfl), lw_t1 (List.mem_of_getElem? (i := 138) rfl), lw_t1 (List.mem_of_getElem? (i := 139) rfl)⟩
theorem lw_p12 : lw_okq (⟨"ShieldedMachine", "passThrice", "(I)I"⟩, 13) := ⟨⟨by decide +kernel, by decide +kernel⟩, lw_t1 (List.mem_of_getElem? (i := 4) rfl), lw_t1 (List.mem_of_getElem? (i := 148) rfl), lw_t1 (List.mem_of_getElem? (i := 149) rfl)⟩
theorem lw_p13 : lw_okq (⟨"ShieldedMachine", "stepOn", "(IIIII)I"⟩, 13) := ⟨⟨by decide +kernel, by decide +kernel⟩, lw_t1 (List.mem_of_getElem? (i := 4) rfl), lw_t1 (List.mem_of_getElem? (i := 152) rfl), lw_t1 (List.mem_of_getElem? (i := 153) rfl)⟩
theorem lw_p14 : lw_okq (⟨"ShieldedMachine", "hitWord", "(II)Z"⟩, 13) := ⟨⟨by decide +kernel, by decide +kernel⟩, lw_t1 (List.mem_of_getElem? (i := 4) rfl), lw_t1 (List.mem_of_getElem? (i := 179) rfl), lw_t1 (List.mem_of_getElem? (i := 180) rfl)⟩
theorem lw_p15 : lw_okq (⟨"ShieldedMachineModel", "isPlace", "(I)Z"⟩, 12) := ⟨⟨by decide +kernel, by decide +kernel⟩, lw_t1 (List.mem_of_getElem? (i := 215) rfl), lw_t2 (List.mem_of_getElem? (i := 22) rfl), lw_t2 (List.mem_of_getElem? (i := 23) rfl)⟩
def lw_privs_1 : List (MethodName × Nat) := [(⟨"ShieldedMachine", "writeWord", "(II)V"⟩, 13), (⟨"ShieldedMachine", "step", "()V"⟩, 13), (⟨"ShieldedMachine", "voteAll", "()V"⟩, 13), (⟨"ShieldedMachine", "voteRegister", "(I)I"⟩, 13), (⟨"ShieldedMachine", "writeRegister", "(II)V"⟩, 13), (⟨"ShieldedMachine", "votePlace", "()I"⟩, 13), (⟨"ShieldedMachine", "writePlace", "(I)V"⟩, 13), (⟨"ShieldedMachine", "readAndRepair", "(I)I"⟩, 13), (⟨"ShieldedMachine", "repair", "(I)V"⟩, 13), (⟨"ShieldedMachine", "readWord", "(I)I"⟩, 13), (⟨"ShieldedMachine", "stepWithCells", "(IIIII)I"⟩, 13), (⟨"ShieldedMachine", "workThrice", "(IIII)I"⟩, 13), (⟨"ShieldedMachine", "passThrice", "(I)I"⟩, 13), (⟨"ShieldedMachine", "stepOn", "(IIIII)I"⟩, 13), (⟨"ShieldedMachine", "hitWord", "(II)Z"⟩, 13), (⟨"ShieldedMachineModel", "isPlace", "(I)Z"⟩, 12)]
theorem lw_r1 : ∀ q ∈ lw_privs_1, lw_okq q := List.forall_mem_cons.mpr ⟨lw_p0, List.forall_mem_cons.mpr ⟨lw_p1, List.forall_mem_cons.mpr ⟨lw_p2, List.forall_mem_cons.mpr ⟨lw_p3, List.forall_mem_cons.mpr ⟨lw_p4, List.forall_mem_cons.mpr ⟨lw_p5, List.forall_mem_cons.mpr ⟨lw_p6, List.forall_mem_cons.mpr ⟨lw_p7, List.forall_mem_cons.mpr ⟨lw_p8, List.forall_mem_cons.mpr ⟨lw_p9, List.forall_mem_cons.mpr ⟨lw_p10, List.forall_mem_cons.mpr ⟨lw_p11, List.forall_mem_cons.mpr ⟨lw_p12, List.forall_mem_cons.mpr ⟨lw_p13, List.forall_mem_cons.mpr ⟨lw_p14, List.forall_mem_cons.mpr ⟨lw_p15, fun _ h => absurd h List.not_mem_nil⟩⟩⟩⟩⟩⟩⟩⟩⟩⟩⟩⟩⟩⟩⟩⟩
theorem lw_p16 : lw_okq (⟨"ShieldedMachineModel", "isRegister", "(I)Z"⟩, 12) := ⟨⟨by decide +kernel, by decide +kernel⟩, lw_t1 (List.mem_of_getElem? (i := 215) rfl), lw_t2 (List.mem_of_getElem? (i := 26) rfl), lw_t2 (List.mem_of_getElem? (i := 27) rfl)⟩
theorem lw_p17 : lw_okq (⟨"ShieldedMachineModel", "isByte", "(I)Z"⟩, 12) := ⟨⟨by decide +kernel, by decide +kernel⟩, lw_t1 (List.mem_of_getElem? (i := 215) rfl), lw_t2 (List.mem_of_getElem? (i := 30) rfl), lw_t2 (List.mem_of_getElem? (i := 31) rfl)⟩
theorem lw_p18 : lw_okq (⟨"ShieldedMachineModel", "isCell", "(I)Z"⟩, 12) := ⟨⟨by decide +kernel, by decide +kernel⟩, lw_t1 (List.mem_of_getElem? (i := 215) rfl), lw_t2 (List.mem_of_getElem? (i := 38) rfl), lw_t2 (List.mem_of_getElem? (i := 39) rfl)⟩
theorem lw_p19 : lw_okq (⟨"ShieldedMachineModel", "once", "()V"⟩, 12) := ⟨⟨by decide +kernel, by decide +kernel⟩, lw_t1 (List.mem_of_getElem? (i := 215) rfl), lw_t2 (List.mem_of_getElem? (i := 46) rfl), lw_t2 (List.mem_of_getElem? (i := 47) rfl)⟩
theorem lw_p20 : lw_okq (⟨"ShieldedMachineModel", "useCell", "(IIZ)V"⟩, 12) := ⟨⟨by decide +kernel, by decide +kernel⟩, lw_t1 (List.mem_of_getElem? (i := 215) rfl), lw_t2 (List.mem_of_getElem? (i := 50) rfl), lw_t2 (List.mem_of_getElem? (i := 51) rfl)⟩
theorem lw_p21 : lw_okq (⟨"ShieldedMachineModel", "putOut", "(I)V"⟩, 12) := ⟨⟨by decide +kernel, by decide +kernel⟩, lw_t1 (List.mem_of_getElem? (i := 215) rfl), lw_t2 (List.mem_of_getElem? (i := 54) rfl), lw_t2 (List.mem_of_getElem? (i := 55) rfl)⟩
theorem lw_p22 : lw_okq (⟨"ShieldedMachineModel", "calculated", "(IIII)I"⟩, 12) := ⟨⟨by decide +kernel, by decide +kernel⟩, lw_t1 (List.mem_of_getElem? (i := 215) rfl), lw_t2 (List.mem_of_getElem? (i := 58) rfl), lw_t2 (List.mem_of_getElem? (i := 59) rfl)⟩
theorem lw_p23 : lw_okq (⟨"ShieldedMachineModel", "forgetHits", "()V"⟩, 12) := ⟨⟨by decide +kernel, by decide +kernel⟩, lw_t1 (List.mem_of_getElem? (i := 215) rfl), lw_t2 (List.mem_of_getElem? (i := 62) rfl), lw_t2 (List.mem_of_getElem? (i := 63) rfl)⟩
theorem lw_p24 : lw_okq (⟨"ShieldedMachineModel", "isMask", "(I)Z"⟩, 12) := ⟨⟨by decide +kernel, by decide +kernel⟩, lw_t1 (List.mem_of_getElem? (i := 215) rfl), lw_t2 (List.mem_of_getElem? (i := 74) rfl), lw_t2 (List.mem_of_getElem? (i := 75) rfl)⟩
theorem lw_p25 : lw_okq (⟨"ShieldedMachineModel", "hit", "(IIZ)Z"⟩, 12) := ⟨⟨by decide +kernel, by decide +kernel⟩, lw_t1 (List.mem_of_getElem? (i := 215) rfl), lw_t2 (List.mem_of_getElem? (i := 78) rfl), lw_t2 (List.mem_of_getElem? (i := 79) rfl)⟩
theorem lw_p26 : lw_okq (⟨"ShieldedMachineModel", "spoil", "(I)Z"⟩, 12) := ⟨⟨by decide +kernel, by decide +kernel⟩, lw_t1 (List.mem_of_getElem? (i := 215) rfl), lw_t2 (List.mem_of_getElem? (i := 94) rfl), lw_t2 (List.mem_of_getElem? (i := 95) rfl)⟩
def lw_privs_2 : List (MethodName × Nat) := [(⟨"ShieldedMachineModel", "isRegister", "(I)Z"⟩, 12), (⟨"ShieldedMachineModel", "isByte", "(I)Z"⟩, 12), (⟨"ShieldedMachineModel", "isCell", "(I)Z"⟩, 12), (⟨"ShieldedMachineModel", "once", "()V"⟩, 12), (⟨"ShieldedMachineModel", "useCell", "(IIZ)V"⟩, 12), (⟨"ShieldedMachineModel", "putOut", "(I)V"⟩, 12), (⟨"ShieldedMachineModel", "calculated", "(IIII)I"⟩, 12), (⟨"ShieldedMachineModel", "forgetHits", "()V"⟩, 12), (⟨"ShieldedMachineModel", "isMask", "(I)Z"⟩, 12), (⟨"ShieldedMachineModel", "hit", "(IIZ)Z"⟩, 12), (⟨"ShieldedMachineModel", "spoil", "(I)Z"⟩, 12)]
theorem lw_r2 : ∀ q ∈ lw_privs_2, lw_okq q := List.forall_mem_cons.mpr ⟨lw_p16, List.forall_mem_cons.mpr ⟨lw_p17, List.forall_mem_cons.mpr ⟨lw_p18, List.forall_mem_cons.mpr ⟨lw_p19, List.forall_mem_cons.mpr ⟨lw_p20, List.forall_mem_cons.mpr ⟨lw_p21, List.forall_mem_cons.mpr ⟨lw_p22, List.forall_mem_cons.mpr ⟨lw_p23, List.forall_mem_cons.mpr ⟨lw_p24, List.forall_mem_cons.mpr ⟨lw_p25, List.forall_mem_cons.mpr ⟨lw_p26, fun _ h => absurd h List.not_mem_nil⟩⟩⟩⟩⟩⟩⟩⟩⟩⟩⟩
def lw_privs : List (MethodName × Nat) := lw_privs_1 ++ (lw_privs_2)
def lw_tbl : List Cond := k2_sels lw_privs ++ tables_1
theorem lw_privs_ok : ∀ q ∈ lw_privs, lw_okq q := by
  show ∀ q ∈ lw_privs_1 ++ (lw_privs_2), lw_okq q
  exact List.forall_mem_append.mpr ⟨lw_r1, lw_r2⟩
-- ===== ONE list of words for every method: the tables' words that hold all through a run =====
def lw_all : List Cond := lw_tbl.filter goodWord
/-- a word of the tables by its place: claim/WORDS.tsv -/
theorem lw_w {w : Cond} (i : Nat) (h : lw_tbl[i]? = some w) (g : goodWord w = true) : w ∈ lw_all := List.mem_filter.mpr ⟨List.mem_of_getElem? h, g⟩
theorem lw_all_tbl {w : Cond} (h : w ∈ lw_all) : w ∈ lw_tbl := (List.mem_filter.mp h).1
theorem lw_self : GoodIn lw_all lw_all := fun w h => ⟨h, good_of_word (List.mem_filter.mp h).2⟩
/-- a class's field words, by their places -/
theorem lw_in (ws : List Cond) (ps : List Nat) (hp : ws = ps.filterMap (fun i => lw_tbl[i]?)) (hg : ws.all goodWord = true) : ∀ w ∈ ws, w ∈ lw_all := by
  intro w h
  have h1 := List.all_eq_true.mp hg w h
  rw [hp] at h
  obtain ⟨i, -, hi⟩ := List.mem_filterMap.mp h
  exact lw_w i hi h1
/-- the words of a contract for the method y with code b, L locals, answer r -/
abbrev ws_ (y : MethodName) (b : ByteArray) (L : Nat) (r : Option FieldType) : List Cond := Cond.code y b L r :: lw_all
theorem lw_meth {y : MethodName} {b : ByteArray} {L : Nat} {r : Option FieldType} (h : Cond.code y b L r ∈ lw_all) : GoodIn lw_all (ws_ y b L r) := by
  intro w hw
  rcases List.mem_cons.mp hw with e | e
  · rw [e]
    exact lw_self _ h
  · exact lw_self _ e
theorem lw_app {a c : List Cond} (ha : ∀ w ∈ a, w ∈ lw_all) (hc : GoodIn lw_all c) : GoodIn lw_all (a ++ c) := by
  intro w hw
  rcases List.mem_append.mp hw with e | e
  · exact lw_self w (ha w e)
  · exact hc w e
/-- what a call through an object asks: cwV n hts (lw_V ..) -/
theorem lw_V {own : String} {idx : Nat} {C : String} {y : MethodName} {b : ByteArray} {L : Nat} {r : Option FieldType} (h1 : Cond.methodLink own idx y ∈ lw_all) (h2 : Cond.instanceMethod y ∈ lw_all) (h3 : Cond.selects C y y ∈ lw_all) (h4 : Cond.initialized C ∈ lw_all) (h5 : Cond.code y b L r ∈ lw_all) : GoodIn lw_all (wsV own idx C y (ws_ y b L r)) := by
  refine lw_app ?_ (lw_meth h5)
  intro w hw
  simp only [List.mem_cons, List.not_mem_nil, or_false] at hw
  rcases hw with e | e | e | e
  · rw [e]; exact h1
  · rw [e]; exact h2
  · rw [e]; exact h3
  · rw [e]; exact h4
/-- what a static call asks: va_cwS n hts (lw_S ..) -/
theorem lw_S {own : String} {idx : Nat} {y : MethodName} {b : ByteArray} {L : Nat} {r : Option FieldType} (h1 : Cond.methodLink own idx y ∈ lw_all) (h2 : Cond.static y ∈ lw_all) (h3 : Cond.initialized y.cls ∈ lw_all) (h4 : Cond.code y b L r ∈ lw_all) : GoodIn lw_all (va_wsS own idx y (ws_ y b L r)) := by
  refine lw_app ?_ (lw_meth h4)
  intro w hw
  simp only [List.mem_cons, List.not_mem_nil, or_false] at hw
  rcases hw with e | e | e
  · rw [e]; exact h1
  · rw [e]; exact h2
  · rw [e]; exact h3
/-- the words of a contract for a method WITH HANDLERS (hh: its table) -/
abbrev wsW_ (y : MethodName) (b : ByteArray) (L : Nat) (r : Option FieldType) (hh : List (Nat × Nat × Nat × Nat)) : List Cond := Cond.codeWith y b L r hh :: lw_all
theorem lw_methW {y : MethodName} {b : ByteArray} {L : Nat} {r : Option FieldType} {hh : List (Nat × Nat × Nat × Nat)} (h : Cond.codeWith y b L r hh ∈ lw_all) : GoodIn lw_all (wsW_ y b L r hh) := by
  intro w hw
  rcases List.mem_cons.mp hw with e | e
  · rw [e]
    exact lw_self _ h
  · exact lw_self _ e
/-- any list of words by their places (lw_in), good -/
theorem lw_good {ws : List Cond} (h : ∀ w ∈ ws, w ∈ lw_all) : GoodIn lw_all ws := fun w hw => lw_self w (h w hw)
/-- what a call of a method with handlers asks: vx_cwVW n hts (lw_VW ..), vx_cwSW n hts (lw_SW ..) -/
theorem lw_VW {own : String} {idx : Nat} {C : String} {y : MethodName} {b : ByteArray} {L : Nat} {r : Option FieldType} {hh : List (Nat × Nat × Nat × Nat)} (h1 : Cond.methodLink own idx y ∈ lw_all) (h2 : Cond.instanceMethod y ∈ lw_all) (h3 : Cond.selects C y y ∈ lw_all) (h4 : Cond.initialized C ∈ lw_all) (h5 : Cond.codeWith y b L r hh ∈ lw_all) : GoodIn lw_all (wsV own idx C y (wsW_ y b L r hh)) := by
  refine lw_app ?_ (lw_methW h5)
  intro w hw
  simp only [List.mem_cons, List.not_mem_nil, or_false] at hw
  rcases hw with e | e | e | e
  · rw [e]; exact h1
  · rw [e]; exact h2
  · rw [e]; exact h3
  · rw [e]; exact h4
theorem lw_SW {own : String} {idx : Nat} {y : MethodName} {b : ByteArray} {L : Nat} {r : Option FieldType} {hh : List (Nat × Nat × Nat × Nat)} (h1 : Cond.methodLink own idx y ∈ lw_all) (h2 : Cond.static y ∈ lw_all) (h3 : Cond.initialized y.cls ∈ lw_all) (h4 : Cond.codeWith y b L r hh ∈ lw_all) : GoodIn lw_all (va_wsS own idx y (wsW_ y b L r hh)) := by
  refine lw_app ?_ (lw_methW h4)
  intro w hw
  simp only [List.mem_cons, List.not_mem_nil, or_false] at hw
  rcases hw with e | e | e
  · rw [e]; exact h1
  · rw [e]; exact h2
  · rw [e]; exact h3
/-- a word by its place in its run of the tables -/
theorem lw_at {r : List Cond} (hr : ∀ w ∈ r, w ∈ lw_tbl) {w : Cond} (i : Nat) (h : r[i]? = some w) : w ∈ lw_tbl := hr w (List.mem_of_getElem? h)
theorem lw_g {w : Cond} (h : w ∈ lw_tbl) (g : goodWord w = true) : w ∈ lw_all := List.mem_filter.mpr ⟨h, g⟩
theorem lw_ms : ∀ w ∈ k2_sels lw_privs, w ∈ lw_tbl := fun w h => show w ∈ k2_sels lw_privs ++ tables_1 from List.mem_append_left _ h
theorem lw_m1 : ∀ w ∈ tables_1_1, w ∈ lw_tbl := fun w h => show w ∈ k2_sels lw_privs ++ tables_1 from List.mem_append_right (k2_sels lw_privs) (show w ∈ tables_1 from List.mem_append_left _ h)
theorem lw_m2 : ∀ w ∈ tables_1_2, w ∈ lw_tbl := fun w h => show w ∈ k2_sels lw_privs ++ tables_1 from List.mem_append_right (k2_sels lw_privs) (show w ∈ tables_1 from List.mem_append_right _ h)
theorem qs0 : (Cond.selects "ShieldedMachine" ⟨"ShieldedMachine", "writeWord", "(II)V"⟩ ⟨"ShieldedMachine", "writeWord", "(II)V"⟩) ∈ lw_all := lw_g (lw_at lw_ms 0 rfl) rfl
theorem qs1 : (Cond.selects "ShieldedMachine" ⟨"ShieldedMachine", "step", "()V"⟩ ⟨"ShieldedMachine", "step", "()V"⟩) ∈ lw_all := lw_g (lw_at lw_ms 1 rfl) rfl
theorem qs2 : (Cond.selects "ShieldedMachine" ⟨"ShieldedMachine", "voteAll", "()V"⟩ ⟨"ShieldedMachine", "voteAll", "()V"⟩) ∈ lw_all := lw_g (lw_at lw_ms 2 rfl) rfl
theorem qs3 : (Cond.selects "ShieldedMachine" ⟨"ShieldedMachine", "voteRegister", "(I)I"⟩ ⟨"ShieldedMachine", "voteRegister", "(I)I"⟩) ∈ lw_all := lw_g (lw_at lw_ms 3 rfl) rfl
theorem qs4 : (Cond.selects "ShieldedMachine" ⟨"ShieldedMachine", "writeRegister", "(II)V"⟩ ⟨"ShieldedMachine", "writeRegister", "(II)V"⟩) ∈ lw_all := lw_g (lw_at lw_ms 4 rfl) rfl
theorem qs5 : (Cond.selects "ShieldedMachine" ⟨"ShieldedMachine", "votePlace", "()I"⟩ ⟨"ShieldedMachine", "votePlace", "()I"⟩) ∈ lw_all := lw_g (lw_at lw_ms 5 rfl) rfl
theorem qs6 : (Cond.selects "ShieldedMachine" ⟨"ShieldedMachine", "writePlace", "(I)V"⟩ ⟨"ShieldedMachine", "writePlace", "(I)V"⟩) ∈ lw_all := lw_g (lw_at lw_ms 6 rfl) rfl
theorem qs7 : (Cond.selects "ShieldedMachine" ⟨"ShieldedMachine", "readAndRepair", "(I)I"⟩ ⟨"ShieldedMachine", "readAndRepair", "(I)I"⟩) ∈ lw_all := lw_g (lw_at lw_ms 7 rfl) rfl
theorem qs8 : (Cond.selects "ShieldedMachine" ⟨"ShieldedMachine", "repair", "(I)V"⟩ ⟨"ShieldedMachine", "repair", "(I)V"⟩) ∈ lw_all := lw_g (lw_at lw_ms 8 rfl) rfl
theorem qs9 : (Cond.selects "ShieldedMachine" ⟨"ShieldedMachine", "readWord", "(I)I"⟩ ⟨"ShieldedMachine", "readWord", "(I)I"⟩) ∈ lw_all := lw_g (lw_at lw_ms 9 rfl) rfl
theorem qs10 : (Cond.selects "ShieldedMachine" ⟨"ShieldedMachine", "stepWithCells", "(IIIII)I"⟩ ⟨"ShieldedMachine", "stepWithCells", "(IIIII)I"⟩) ∈ lw_all := lw_g (lw_at lw_ms 10 rfl) rfl
theorem qs11 : (Cond.selects "ShieldedMachine" ⟨"ShieldedMachine", "workThrice", "(IIII)I"⟩ ⟨"ShieldedMachine", "workThrice", "(IIII)I"⟩) ∈ lw_all := lw_g (lw_at lw_ms 11 rfl) rfl
theorem qs12 : (Cond.selects "ShieldedMachine" ⟨"ShieldedMachine", "passThrice", "(I)I"⟩ ⟨"ShieldedMachine", "passThrice", "(I)I"⟩) ∈ lw_all := lw_g (lw_at lw_ms 12 rfl) rfl
theorem qs13 : (Cond.selects "ShieldedMachine" ⟨"ShieldedMachine", "stepOn", "(IIIII)I"⟩ ⟨"ShieldedMachine", "stepOn", "(IIIII)I"⟩) ∈ lw_all := lw_g (lw_at lw_ms 13 rfl) rfl
theorem qs14 : (Cond.selects "ShieldedMachine" ⟨"ShieldedMachine", "hitWord", "(II)Z"⟩ ⟨"ShieldedMachine", "hitWord", "(II)Z"⟩) ∈ lw_all := lw_g (lw_at lw_ms 14 rfl) rfl
theorem qs15 : (Cond.selects "ShieldedMachineModel" ⟨"ShieldedMachineModel", "isPlace", "(I)Z"⟩ ⟨"ShieldedMachineModel", "isPlace", "(I)Z"⟩) ∈ lw_all := lw_g (lw_at lw_ms 15 rfl) rfl
theorem qs16 : (Cond.selects "ShieldedMachineModel" ⟨"ShieldedMachineModel", "isRegister", "(I)Z"⟩ ⟨"ShieldedMachineModel", "isRegister", "(I)Z"⟩) ∈ lw_all := lw_g (lw_at lw_ms 16 rfl) rfl
theorem qs17 : (Cond.selects "ShieldedMachineModel" ⟨"ShieldedMachineModel", "isByte", "(I)Z"⟩ ⟨"ShieldedMachineModel", "isByte", "(I)Z"⟩) ∈ lw_all := lw_g (lw_at lw_ms 17 rfl) rfl
theorem qs18 : (Cond.selects "ShieldedMachineModel" ⟨"ShieldedMachineModel", "isCell", "(I)Z"⟩ ⟨"ShieldedMachineModel", "isCell", "(I)Z"⟩) ∈ lw_all := lw_g (lw_at lw_ms 18 rfl) rfl
theorem qs19 : (Cond.selects "ShieldedMachineModel" ⟨"ShieldedMachineModel", "once", "()V"⟩ ⟨"ShieldedMachineModel", "once", "()V"⟩) ∈ lw_all := lw_g (lw_at lw_ms 19 rfl) rfl
theorem qs20 : (Cond.selects "ShieldedMachineModel" ⟨"ShieldedMachineModel", "useCell", "(IIZ)V"⟩ ⟨"ShieldedMachineModel", "useCell", "(IIZ)V"⟩) ∈ lw_all := lw_g (lw_at lw_ms 20 rfl) rfl
theorem qs21 : (Cond.selects "ShieldedMachineModel" ⟨"ShieldedMachineModel", "putOut", "(I)V"⟩ ⟨"ShieldedMachineModel", "putOut", "(I)V"⟩) ∈ lw_all := lw_g (lw_at lw_ms 21 rfl) rfl
theorem qs22 : (Cond.selects "ShieldedMachineModel" ⟨"ShieldedMachineModel", "calculated", "(IIII)I"⟩ ⟨"ShieldedMachineModel", "calculated", "(IIII)I"⟩) ∈ lw_all := lw_g (lw_at lw_ms 22 rfl) rfl
theorem qs23 : (Cond.selects "ShieldedMachineModel" ⟨"ShieldedMachineModel", "forgetHits", "()V"⟩ ⟨"ShieldedMachineModel", "forgetHits", "()V"⟩) ∈ lw_all := lw_g (lw_at lw_ms 23 rfl) rfl
theorem qs24 : (Cond.selects "ShieldedMachineModel" ⟨"ShieldedMachineModel", "isMask", "(I)Z"⟩ ⟨"ShieldedMachineModel", "isMask", "(I)Z"⟩) ∈ lw_all := lw_g (lw_at lw_ms 24 rfl) rfl
theorem qs25 : (Cond.selects "ShieldedMachineModel" ⟨"ShieldedMachineModel", "hit", "(IIZ)Z"⟩ ⟨"ShieldedMachineModel", "hit", "(IIZ)Z"⟩) ∈ lw_all := lw_g (lw_at lw_ms 25 rfl) rfl
theorem qs26 : (Cond.selects "ShieldedMachineModel" ⟨"ShieldedMachineModel", "spoil", "(I)Z"⟩ ⟨"ShieldedMachineModel", "spoil", "(I)Z"⟩) ∈ lw_all := lw_g (lw_at lw_ms 26 rfl) rfl
end
section
/-! ShieldedMachine -/
set_option maxRecDepth 100000
def RX0 : String := "ShieldedMachine"
def TX0 : u_T := fun k => match k with
  | 0 => ("ShieldedMachine", "registers", "[I", true)
  | 1 => ("ShieldedMachine", "place", "[I", true)
  | 2 => ("ShieldedMachine", "registerHits", "[B", true)
  | 3 => ("ShieldedMachine", "placeHits", "I", false)
  | 4 => ("ShieldedMachine", "workMask", "[I", true)
  | 5 => ("ShieldedMachine", "workHits", "I", false)
  | 6 => ("ShieldedMachine", "codeWords", "[I", true)
  | 7 => ("ShieldedMachine", "isSpoiled", "[Z", true)
  | 8 => ("ShieldedMachine", "stepsDone", "I", false)
  | 9 => ("ShieldedMachine", "isStopped", "Z", false)
  | 10 => ("ShieldedMachine", "outCount", "I", false)
  | 11 => ("ShieldedMachine", "outList", "[B", true)
  | _ => ("ShieldedMachine", "results", "[I", true)
def tyX0 : Nat → FieldType := fun k => match k with
  | 0 => .array .int
  | 1 => .array .int
  | 2 => .array .byte
  | 3 => .int
  | 4 => .array .int
  | 5 => .int
  | 6 => .array .int
  | 7 => .array .boolean
  | 8 => .int
  | 9 => .boolean
  | 10 => .int
  | 11 => .array .byte
  | _ => .array .int
abbrev wsX00 : List Cond := u_ws RX0 TX0 13
set_option maxRecDepth 100000 in
theorem nmX0 : ∀ a, a < 13 → ∀ b, b < 13 → a ≠ b → (TX0 a).2.1 ≠ (TX0 b).2.1 := by decide +kernel
set_option maxRecDepth 100000 in
theorem tyX0_ok : ∀ k, k < 13 → parseFieldDescriptor (TX0 k).2.2.1 = some (tyX0 k) := by decide +kernel
abbrev cX0_init : ByteArray := prog_1_method_1_code
def yX0_init : MethodName := ⟨RX0, "<init>", "()V"⟩
theorem dX0_init_0 : decode cX0_init 0 = .ok (.aload_n 0, 1) := by decide +kernel
theorem dX0_init_1 : decode cX0_init 1 = .ok (.invokespecial 1, 3) := by decide +kernel
theorem dX0_init_4 : decode cX0_init 4 = .ok (.aload_n 0, 1) := by decide +kernel
theorem dX0_init_5 : decode cX0_init 5 = .ok (.bipush 12, 2) := by decide +kernel
theorem dX0_init_7 : decode cX0_init 7 = .ok (.newarray .int, 2) := by decide +kernel
theorem dX0_init_9 : decode cX0_init 9 = .ok (.putfield 7, 3) := by decide +kernel
theorem dX0_init_12 : decode cX0_init 12 = .ok (.aload_n 0, 1) := by decide +kernel
theorem dX0_init_13 : decode cX0_init 13 = .ok (.iconst 3, 1) := by decide +kernel
theorem dX0_init_14 : decode cX0_init 14 = .ok (.newarray .int, 2) := by decide +kernel
theorem dX0_init_16 : decode cX0_init 16 = .ok (.putfield 13, 3) := by decide +kernel
theorem dX0_init_19 : decode cX0_init 19 = .ok (.aload_n 0, 1) := by decide +kernel
theorem dX0_init_20 : decode cX0_init 20 = .ok (.iconst 4, 1) := by decide +kernel
theorem dX0_init_21 : decode cX0_init 21 = .ok (.newarray .byte, 2) := by decide +kernel
theorem dX0_init_23 : decode cX0_init 23 = .ok (.putfield 16, 3) := by decide +kernel
theorem dX0_init_26 : decode cX0_init 26 = .ok (.aload_n 0, 1) := by decide +kernel
theorem dX0_init_27 : decode cX0_init 27 = .ok (.iconst 3, 1) := by decide +kernel
theorem dX0_init_28 : decode cX0_init 28 = .ok (.newarray .int, 2) := by decide +kernel
theorem dX0_init_30 : decode cX0_init 30 = .ok (.putfield 20, 3) := by decide +kernel
theorem dX0_init_33 : decode cX0_init 33 = .ok (.aload_n 0, 1) := by decide +kernel
theorem dX0_init_34 : decode cX0_init 34 = .ok (.bipush 48, 2) := by decide +kernel
theorem dX0_init_36 : decode cX0_init 36 = .ok (.newarray .int, 2) := by decide +kernel
theorem dX0_init_38 : decode cX0_init 38 = .ok (.putfield 23, 3) := by decide +kernel
theorem dX0_init_41 : decode cX0_init 41 = .ok (.aload_n 0, 1) := by decide +kernel
theorem dX0_init_42 : decode cX0_init 42 = .ok (.bipush 48, 2) := by decide +kernel
theorem dX0_init_44 : decode cX0_init 44 = .ok (.newarray .boolean, 2) := by decide +kernel
theorem dX0_init_46 : decode cX0_init 46 = .ok (.putfield 26, 3) := by decide +kernel
theorem dX0_init_49 : decode cX0_init 49 = .ok (.aload_n 0, 1) := by decide +kernel
theorem dX0_init_50 : decode cX0_init 50 = .ok (.bipush 16, 2) := by decide +kernel
theorem dX0_init_52 : decode cX0_init 52 = .ok (.newarray .byte, 2) := by decide +kernel
theorem dX0_init_54 : decode cX0_init 54 = .ok (.putfield 30, 3) := by decide +kernel
theorem dX0_init_57 : decode cX0_init 57 = .ok (.aload_n 0, 1) := by decide +kernel
theorem dX0_init_58 : decode cX0_init 58 = .ok (.iconst 3, 1) := by decide +kernel
theorem dX0_init_59 : decode cX0_init 59 = .ok (.newarray .int, 2) := by decide +kernel
theorem dX0_init_61 : decode cX0_init 61 = .ok (.putfield 33, 3) := by decide +kernel
theorem dX0_init_64 : decode cX0_init 64 = .ok (.iconst 0, 1) := by decide +kernel
theorem dX0_init_65 : decode cX0_init 65 = .ok (.istore_n 1, 1) := by decide +kernel
theorem dX0_init_66 : decode cX0_init 66 = .ok (.iload_n 1, 1) := by decide +kernel
theorem dX0_init_67 : decode cX0_init 67 = .ok (.bipush 48, 2) := by decide +kernel
theorem dX0_init_69 : decode cX0_init 69 = .ok (.if_icmp .ge 15, 3) := by decide +kernel
theorem dX0_init_72 : decode cX0_init 72 = .ok (.aload_n 0, 1) := by decide +kernel
theorem dX0_init_73 : decode cX0_init 73 = .ok (.iload_n 1, 1) := by decide +kernel
theorem dX0_init_74 : decode cX0_init 74 = .ok (.iconst 0, 1) := by decide +kernel
theorem dX0_init_75 : decode cX0_init 75 = .ok (.invokevirtual 36, 3) := by decide +kernel
theorem dX0_init_78 : decode cX0_init 78 = .ok (.iinc 1 1, 3) := by decide +kernel
theorem dX0_init_81 : decode cX0_init 81 = .ok (.goto (-15), 3) := by decide +kernel
theorem dX0_init_84 : decode cX0_init 84 = .ok (.return_, 1) := by decide +kernel
abbrev cX0_writeWord : ByteArray := prog_1_method_9_code
def yX0_writeWord : MethodName := ⟨RX0, "writeWord", "(II)V"⟩
theorem dX0_writeWord_0 : decode cX0_writeWord 0 = .ok (.iload_n 1, 1) := by decide +kernel
theorem dX0_writeWord_1 : decode cX0_writeWord 1 = .ok (.invokestatic 51, 3) := by decide +kernel
theorem dX0_writeWord_4 : decode cX0_writeWord 4 = .ok (.istore_n 3, 1) := by decide +kernel
theorem dX0_writeWord_5 : decode cX0_writeWord 5 = .ok (.aload_n 0, 1) := by decide +kernel
theorem dX0_writeWord_6 : decode cX0_writeWord 6 = .ok (.getfield 23, 3) := by decide +kernel
theorem dX0_writeWord_9 : decode cX0_writeWord 9 = .ok (.iload_n 1, 1) := by decide +kernel
theorem dX0_writeWord_10 : decode cX0_writeWord 10 = .ok (.iload_n 2, 1) := by decide +kernel
theorem dX0_writeWord_11 : decode cX0_writeWord 11 = .ok (.iload_n 3, 1) := by decide +kernel
theorem dX0_writeWord_12 : decode cX0_writeWord 12 = .ok (.invokestatic 55, 3) := by decide +kernel
theorem dX0_writeWord_15 : decode cX0_writeWord 15 = .ok (.iastore, 1) := by decide +kernel
theorem dX0_writeWord_16 : decode cX0_writeWord 16 = .ok (.aload_n 0, 1) := by decide +kernel
theorem dX0_writeWord_17 : decode cX0_writeWord 17 = .ok (.getfield 26, 3) := by decide +kernel
theorem dX0_writeWord_20 : decode cX0_writeWord 20 = .ok (.iload_n 1, 1) := by decide +kernel
theorem dX0_writeWord_21 : decode cX0_writeWord 21 = .ok (.iconst 0, 1) := by decide +kernel
theorem dX0_writeWord_22 : decode cX0_writeWord 22 = .ok (.bastore, 1) := by decide +kernel
theorem dX0_writeWord_23 : decode cX0_writeWord 23 = .ok (.return_, 1) := by decide +kernel
abbrev cX0_placesOf : ByteArray := prog_1_method_3_code
def yX0_placesOf : MethodName := ⟨RX0, "placesOf", "(I)I"⟩
theorem dX0_placesOf_0 : decode cX0_placesOf 0 = .ok (.iload_n 0, 1) := by decide +kernel
theorem dX0_placesOf_1 : decode cX0_placesOf 1 = .ok (.bipush 32, 2) := by decide +kernel
theorem dX0_placesOf_3 : decode cX0_placesOf 3 = .ok (.if_icmp .ge 8, 3) := by decide +kernel
theorem dX0_placesOf_6 : decode cX0_placesOf 6 = .ok (.bipush 22, 2) := by decide +kernel
theorem dX0_placesOf_8 : decode cX0_placesOf 8 = .ok (.goto 5, 3) := by decide +kernel
theorem dX0_placesOf_11 : decode cX0_placesOf 11 = .ok (.bipush 13, 2) := by decide +kernel
theorem dX0_placesOf_13 : decode cX0_placesOf 13 = .ok (.ireturn, 1) := by decide +kernel
abbrev cX0_encode : ByteArray := prog_1_method_6_code
def yX0_encode : MethodName := ⟨RX0, "encode", "(II)I"⟩
theorem dX0_encode_0 : decode cX0_encode 0 = .ok (.iconst 0, 1) := by decide +kernel
theorem dX0_encode_1 : decode cX0_encode 1 = .ok (.istore_n 2, 1) := by decide +kernel
theorem dX0_encode_2 : decode cX0_encode 2 = .ok (.iconst 0, 1) := by decide +kernel
theorem dX0_encode_3 : decode cX0_encode 3 = .ok (.istore_n 3, 1) := by decide +kernel
theorem dX0_encode_4 : decode cX0_encode 4 = .ok (.iconst 3, 1) := by decide +kernel
theorem dX0_encode_5 : decode cX0_encode 5 = .ok (.istore 4, 2) := by decide +kernel
theorem dX0_encode_7 : decode cX0_encode 7 = .ok (.iload 4, 2) := by decide +kernel
theorem dX0_encode_9 : decode cX0_encode 9 = .ok (.iload_n 1, 1) := by decide +kernel
theorem dX0_encode_10 : decode cX0_encode 10 = .ok (.if_icmp .ge 31, 3) := by decide +kernel
theorem dX0_encode_13 : decode cX0_encode 13 = .ok (.iload 4, 2) := by decide +kernel
theorem dX0_encode_15 : decode cX0_encode 15 = .ok (.invokestatic 40, 3) := by decide +kernel
theorem dX0_encode_18 : decode cX0_encode 18 = .ok (.ifCond .ne 17, 3) := by decide +kernel
theorem dX0_encode_21 : decode cX0_encode 21 = .ok (.iload_n 2, 1) := by decide +kernel
theorem dX0_encode_22 : decode cX0_encode 22 = .ok (.iload_n 0, 1) := by decide +kernel
theorem dX0_encode_23 : decode cX0_encode 23 = .ok (.iload_n 3, 1) := by decide +kernel
theorem dX0_encode_24 : decode cX0_encode 24 = .ok (.ishr, 1) := by decide +kernel
theorem dX0_encode_25 : decode cX0_encode 25 = .ok (.iconst 1, 1) := by decide +kernel
theorem dX0_encode_26 : decode cX0_encode 26 = .ok (.iand, 1) := by decide +kernel
theorem dX0_encode_27 : decode cX0_encode 27 = .ok (.iload 4, 2) := by decide +kernel
theorem dX0_encode_29 : decode cX0_encode 29 = .ok (.ishl, 1) := by decide +kernel
theorem dX0_encode_30 : decode cX0_encode 30 = .ok (.ior, 1) := by decide +kernel
theorem dX0_encode_31 : decode cX0_encode 31 = .ok (.istore_n 2, 1) := by decide +kernel
theorem dX0_encode_32 : decode cX0_encode 32 = .ok (.iinc 3 1, 3) := by decide +kernel
theorem dX0_encode_35 : decode cX0_encode 35 = .ok (.iinc 4 1, 3) := by decide +kernel
theorem dX0_encode_38 : decode cX0_encode 38 = .ok (.goto (-31), 3) := by decide +kernel
theorem dX0_encode_41 : decode cX0_encode 41 = .ok (.iload_n 2, 1) := by decide +kernel
theorem dX0_encode_42 : decode cX0_encode 42 = .ok (.iload_n 1, 1) := by decide +kernel
theorem dX0_encode_43 : decode cX0_encode 43 = .ok (.invokestatic 44, 3) := by decide +kernel
theorem dX0_encode_46 : decode cX0_encode 46 = .ok (.istore 4, 2) := by decide +kernel
theorem dX0_encode_48 : decode cX0_encode 48 = .ok (.iconst 1, 1) := by decide +kernel
theorem dX0_encode_49 : decode cX0_encode 49 = .ok (.istore 5, 2) := by decide +kernel
theorem dX0_encode_51 : decode cX0_encode 51 = .ok (.iload 5, 2) := by decide +kernel
theorem dX0_encode_53 : decode cX0_encode 53 = .ok (.iload_n 1, 1) := by decide +kernel
theorem dX0_encode_54 : decode cX0_encode 54 = .ok (.if_icmp .ge 31, 3) := by decide +kernel
theorem dX0_encode_57 : decode cX0_encode 57 = .ok (.iload_n 2, 1) := by decide +kernel
theorem dX0_encode_58 : decode cX0_encode 58 = .ok (.iload 4, 2) := by decide +kernel
theorem dX0_encode_60 : decode cX0_encode 60 = .ok (.iload 5, 2) := by decide +kernel
theorem dX0_encode_62 : decode cX0_encode 62 = .ok (.iand, 1) := by decide +kernel
theorem dX0_encode_63 : decode cX0_encode 63 = .ok (.ifCond .eq 10, 3) := by decide +kernel
theorem dX0_encode_66 : decode cX0_encode 66 = .ok (.iconst 1, 1) := by decide +kernel
theorem dX0_encode_67 : decode cX0_encode 67 = .ok (.iload 5, 2) := by decide +kernel
theorem dX0_encode_69 : decode cX0_encode 69 = .ok (.ishl, 1) := by decide +kernel
theorem dX0_encode_70 : decode cX0_encode 70 = .ok (.goto 4, 3) := by decide +kernel
theorem dX0_encode_73 : decode cX0_encode 73 = .ok (.iconst 0, 1) := by decide +kernel
theorem dX0_encode_74 : decode cX0_encode 74 = .ok (.ior, 1) := by decide +kernel
theorem dX0_encode_75 : decode cX0_encode 75 = .ok (.istore_n 2, 1) := by decide +kernel
theorem dX0_encode_76 : decode cX0_encode 76 = .ok (.iload 5, 2) := by decide +kernel
theorem dX0_encode_78 : decode cX0_encode 78 = .ok (.iconst 2, 1) := by decide +kernel
theorem dX0_encode_79 : decode cX0_encode 79 = .ok (.imul, 1) := by decide +kernel
theorem dX0_encode_80 : decode cX0_encode 80 = .ok (.istore 5, 2) := by decide +kernel
theorem dX0_encode_82 : decode cX0_encode 82 = .ok (.goto (-31), 3) := by decide +kernel
theorem dX0_encode_85 : decode cX0_encode 85 = .ok (.iload_n 2, 1) := by decide +kernel
theorem dX0_encode_86 : decode cX0_encode 86 = .ok (.iload_n 2, 1) := by decide +kernel
theorem dX0_encode_87 : decode cX0_encode 87 = .ok (.iload_n 1, 1) := by decide +kernel
theorem dX0_encode_88 : decode cX0_encode 88 = .ok (.invokestatic 48, 3) := by decide +kernel
theorem dX0_encode_91 : decode cX0_encode 91 = .ok (.iconst 1, 1) := by decide +kernel
theorem dX0_encode_92 : decode cX0_encode 92 = .ok (.iand, 1) := by decide +kernel
theorem dX0_encode_93 : decode cX0_encode 93 = .ok (.ior, 1) := by decide +kernel
theorem dX0_encode_94 : decode cX0_encode 94 = .ok (.ireturn, 1) := by decide +kernel
abbrev cX0_isPower : ByteArray := prog_1_method_2_code
def yX0_isPower : MethodName := ⟨RX0, "isPower", "(I)Z"⟩
theorem dX0_isPower_0 : decode cX0_isPower 0 = .ok (.iload_n 0, 1) := by decide +kernel
theorem dX0_isPower_1 : decode cX0_isPower 1 = .ok (.iload_n 0, 1) := by decide +kernel
theorem dX0_isPower_2 : decode cX0_isPower 2 = .ok (.iconst 1, 1) := by decide +kernel
theorem dX0_isPower_3 : decode cX0_isPower 3 = .ok (.isub, 1) := by decide +kernel
theorem dX0_isPower_4 : decode cX0_isPower 4 = .ok (.iand, 1) := by decide +kernel
theorem dX0_isPower_5 : decode cX0_isPower 5 = .ok (.ifCond .ne 7, 3) := by decide +kernel
theorem dX0_isPower_8 : decode cX0_isPower 8 = .ok (.iconst 1, 1) := by decide +kernel
theorem dX0_isPower_9 : decode cX0_isPower 9 = .ok (.goto 4, 3) := by decide +kernel
theorem dX0_isPower_12 : decode cX0_isPower 12 = .ok (.iconst 0, 1) := by decide +kernel
theorem dX0_isPower_13 : decode cX0_isPower 13 = .ok (.ireturn, 1) := by decide +kernel
abbrev cX0_checksOf : ByteArray := prog_1_method_4_code
def yX0_checksOf : MethodName := ⟨RX0, "checksOf", "(II)I"⟩
theorem dX0_checksOf_0 : decode cX0_checksOf 0 = .ok (.iconst 0, 1) := by decide +kernel
theorem dX0_checksOf_1 : decode cX0_checksOf 1 = .ok (.istore_n 2, 1) := by decide +kernel
theorem dX0_checksOf_2 : decode cX0_checksOf 2 = .ok (.iconst 1, 1) := by decide +kernel
theorem dX0_checksOf_3 : decode cX0_checksOf 3 = .ok (.istore_n 3, 1) := by decide +kernel
theorem dX0_checksOf_4 : decode cX0_checksOf 4 = .ok (.iload_n 3, 1) := by decide +kernel
theorem dX0_checksOf_5 : decode cX0_checksOf 5 = .ok (.iload_n 1, 1) := by decide +kernel
theorem dX0_checksOf_6 : decode cX0_checksOf 6 = .ok (.if_icmp .ge 25, 3) := by decide +kernel
theorem dX0_checksOf_9 : decode cX0_checksOf 9 = .ok (.iload_n 2, 1) := by decide +kernel
theorem dX0_checksOf_10 : decode cX0_checksOf 10 = .ok (.iload_n 0, 1) := by decide +kernel
theorem dX0_checksOf_11 : decode cX0_checksOf 11 = .ok (.iload_n 3, 1) := by decide +kernel
theorem dX0_checksOf_12 : decode cX0_checksOf 12 = .ok (.ishr, 1) := by decide +kernel
theorem dX0_checksOf_13 : decode cX0_checksOf 13 = .ok (.iconst 1, 1) := by decide +kernel
theorem dX0_checksOf_14 : decode cX0_checksOf 14 = .ok (.iand, 1) := by decide +kernel
theorem dX0_checksOf_15 : decode cX0_checksOf 15 = .ok (.ifCond .eq 7, 3) := by decide +kernel
theorem dX0_checksOf_18 : decode cX0_checksOf 18 = .ok (.iload_n 3, 1) := by decide +kernel
theorem dX0_checksOf_19 : decode cX0_checksOf 19 = .ok (.goto 4, 3) := by decide +kernel
theorem dX0_checksOf_22 : decode cX0_checksOf 22 = .ok (.iconst 0, 1) := by decide +kernel
theorem dX0_checksOf_23 : decode cX0_checksOf 23 = .ok (.ixor, 1) := by decide +kernel
theorem dX0_checksOf_24 : decode cX0_checksOf 24 = .ok (.istore_n 2, 1) := by decide +kernel
theorem dX0_checksOf_25 : decode cX0_checksOf 25 = .ok (.iinc 3 1, 3) := by decide +kernel
theorem dX0_checksOf_28 : decode cX0_checksOf 28 = .ok (.goto (-24), 3) := by decide +kernel
theorem dX0_checksOf_31 : decode cX0_checksOf 31 = .ok (.iload_n 2, 1) := by decide +kernel
theorem dX0_checksOf_32 : decode cX0_checksOf 32 = .ok (.ireturn, 1) := by decide +kernel
abbrev cX0_onesOf : ByteArray := prog_1_method_5_code
def yX0_onesOf : MethodName := ⟨RX0, "onesOf", "(II)I"⟩
theorem dX0_onesOf_0 : decode cX0_onesOf 0 = .ok (.iconst 0, 1) := by decide +kernel
theorem dX0_onesOf_1 : decode cX0_onesOf 1 = .ok (.istore_n 2, 1) := by decide +kernel
theorem dX0_onesOf_2 : decode cX0_onesOf 2 = .ok (.iconst 0, 1) := by decide +kernel
theorem dX0_onesOf_3 : decode cX0_onesOf 3 = .ok (.istore_n 3, 1) := by decide +kernel
theorem dX0_onesOf_4 : decode cX0_onesOf 4 = .ok (.iload_n 3, 1) := by decide +kernel
theorem dX0_onesOf_5 : decode cX0_onesOf 5 = .ok (.iload_n 1, 1) := by decide +kernel
theorem dX0_onesOf_6 : decode cX0_onesOf 6 = .ok (.if_icmp .ge 17, 3) := by decide +kernel
theorem dX0_onesOf_9 : decode cX0_onesOf 9 = .ok (.iload_n 2, 1) := by decide +kernel
theorem dX0_onesOf_10 : decode cX0_onesOf 10 = .ok (.iload_n 0, 1) := by decide +kernel
theorem dX0_onesOf_11 : decode cX0_onesOf 11 = .ok (.iload_n 3, 1) := by decide +kernel
theorem dX0_onesOf_12 : decode cX0_onesOf 12 = .ok (.ishr, 1) := by decide +kernel
theorem dX0_onesOf_13 : decode cX0_onesOf 13 = .ok (.iconst 1, 1) := by decide +kernel
theorem dX0_onesOf_14 : decode cX0_onesOf 14 = .ok (.iand, 1) := by decide +kernel
theorem dX0_onesOf_15 : decode cX0_onesOf 15 = .ok (.iadd, 1) := by decide +kernel
theorem dX0_onesOf_16 : decode cX0_onesOf 16 = .ok (.istore_n 2, 1) := by decide +kernel
theorem dX0_onesOf_17 : decode cX0_onesOf 17 = .ok (.iinc 3 1, 3) := by decide +kernel
theorem dX0_onesOf_20 : decode cX0_onesOf 20 = .ok (.goto (-16), 3) := by decide +kernel
theorem dX0_onesOf_23 : decode cX0_onesOf 23 = .ok (.iload_n 2, 1) := by decide +kernel
theorem dX0_onesOf_24 : decode cX0_onesOf 24 = .ok (.ireturn, 1) := by decide +kernel
abbrev cX0_set : ByteArray := prog_1_method_28_code
def yX0_set : MethodName := ⟨RX0, "set", "(IIII)Z"⟩
theorem dX0_set_0 : decode cX0_set 0 = .ok (.iload_n 1, 1) := by decide +kernel
theorem dX0_set_1 : decode cX0_set 1 = .ok (.ifCond .lt 39, 3) := by decide +kernel
theorem dX0_set_4 : decode cX0_set 4 = .ok (.iload_n 1, 1) := by decide +kernel
theorem dX0_set_5 : decode cX0_set 5 = .ok (.bipush 32, 2) := by decide +kernel
theorem dX0_set_7 : decode cX0_set 7 = .ok (.if_icmp .ge 33, 3) := by decide +kernel
theorem dX0_set_10 : decode cX0_set 10 = .ok (.iload_n 2, 1) := by decide +kernel
theorem dX0_set_11 : decode cX0_set 11 = .ok (.ifCond .lt 29, 3) := by decide +kernel
theorem dX0_set_14 : decode cX0_set 14 = .ok (.iload_n 2, 1) := by decide +kernel
theorem dX0_set_15 : decode cX0_set 15 = .ok (.bipush 13, 2) := by decide +kernel
theorem dX0_set_17 : decode cX0_set 17 = .ok (.if_icmp .gt 23, 3) := by decide +kernel
theorem dX0_set_20 : decode cX0_set 20 = .ok (.iload_n 3, 1) := by decide +kernel
theorem dX0_set_21 : decode cX0_set 21 = .ok (.invokestatic 131, 3) := by decide +kernel
theorem dX0_set_24 : decode cX0_set 24 = .ok (.ifCond .eq 16, 3) := by decide +kernel
theorem dX0_set_27 : decode cX0_set 27 = .ok (.iload 4, 2) := by decide +kernel
theorem dX0_set_29 : decode cX0_set 29 = .ok (.ifCond .lt 11, 3) := by decide +kernel
theorem dX0_set_32 : decode cX0_set 32 = .ok (.iload 4, 2) := by decide +kernel
theorem dX0_set_34 : decode cX0_set 34 = .ok (.sipush 255, 3) := by decide +kernel
theorem dX0_set_37 : decode cX0_set 37 = .ok (.if_icmp .le 5, 3) := by decide +kernel
theorem dX0_set_40 : decode cX0_set 40 = .ok (.iconst 0, 1) := by decide +kernel
theorem dX0_set_41 : decode cX0_set 41 = .ok (.ireturn, 1) := by decide +kernel
theorem dX0_set_42 : decode cX0_set 42 = .ok (.aload_n 0, 1) := by decide +kernel
theorem dX0_set_43 : decode cX0_set 43 = .ok (.iload_n 1, 1) := by decide +kernel
theorem dX0_set_44 : decode cX0_set 44 = .ok (.iload_n 2, 1) := by decide +kernel
theorem dX0_set_45 : decode cX0_set 45 = .ok (.iload_n 3, 1) := by decide +kernel
theorem dX0_set_46 : decode cX0_set 46 = .ok (.iconst 4, 1) := by decide +kernel
theorem dX0_set_47 : decode cX0_set 47 = .ok (.ishl, 1) := by decide +kernel
theorem dX0_set_48 : decode cX0_set 48 = .ok (.ior, 1) := by decide +kernel
theorem dX0_set_49 : decode cX0_set 49 = .ok (.iload 4, 2) := by decide +kernel
theorem dX0_set_51 : decode cX0_set 51 = .ok (.bipush 6, 2) := by decide +kernel
theorem dX0_set_53 : decode cX0_set 53 = .ok (.ishl, 1) := by decide +kernel
theorem dX0_set_54 : decode cX0_set 54 = .ok (.ior, 1) := by decide +kernel
theorem dX0_set_55 : decode cX0_set 55 = .ok (.invokevirtual 36, 3) := by decide +kernel
theorem dX0_set_58 : decode cX0_set 58 = .ok (.iconst 1, 1) := by decide +kernel
theorem dX0_set_59 : decode cX0_set 59 = .ok (.ireturn, 1) := by decide +kernel
abbrev cX0_isRegister : ByteArray := prog_1_method_26_code
def yX0_isRegister : MethodName := ⟨RX0, "isRegister", "(I)Z"⟩
theorem dX0_isRegister_0 : decode cX0_isRegister 0 = .ok (.iload_n 0, 1) := by decide +kernel
theorem dX0_isRegister_1 : decode cX0_isRegister 1 = .ok (.ifCond .lt 12, 3) := by decide +kernel
theorem dX0_isRegister_4 : decode cX0_isRegister 4 = .ok (.iload_n 0, 1) := by decide +kernel
theorem dX0_isRegister_5 : decode cX0_isRegister 5 = .ok (.iconst 4, 1) := by decide +kernel
theorem dX0_isRegister_6 : decode cX0_isRegister 6 = .ok (.if_icmp .ge 7, 3) := by decide +kernel
theorem dX0_isRegister_9 : decode cX0_isRegister 9 = .ok (.iconst 1, 1) := by decide +kernel
theorem dX0_isRegister_10 : decode cX0_isRegister 10 = .ok (.goto 4, 3) := by decide +kernel
theorem dX0_isRegister_13 : decode cX0_isRegister 13 = .ok (.iconst 0, 1) := by decide +kernel
theorem dX0_isRegister_14 : decode cX0_isRegister 14 = .ok (.ireturn, 1) := by decide +kernel
abbrev cX0_setData : ByteArray := prog_1_method_29_code
def yX0_setData : MethodName := ⟨RX0, "setData", "(II)Z"⟩
theorem dX0_setData_0 : decode cX0_setData 0 = .ok (.iload_n 1, 1) := by decide +kernel
theorem dX0_setData_1 : decode cX0_setData 1 = .ok (.ifCond .lt 20, 3) := by decide +kernel
theorem dX0_setData_4 : decode cX0_setData 4 = .ok (.iload_n 1, 1) := by decide +kernel
theorem dX0_setData_5 : decode cX0_setData 5 = .ok (.bipush 16, 2) := by decide +kernel
theorem dX0_setData_7 : decode cX0_setData 7 = .ok (.if_icmp .ge 14, 3) := by decide +kernel
theorem dX0_setData_10 : decode cX0_setData 10 = .ok (.iload_n 2, 1) := by decide +kernel
theorem dX0_setData_11 : decode cX0_setData 11 = .ok (.ifCond .lt 10, 3) := by decide +kernel
theorem dX0_setData_14 : decode cX0_setData 14 = .ok (.iload_n 2, 1) := by decide +kernel
theorem dX0_setData_15 : decode cX0_setData 15 = .ok (.sipush 255, 3) := by decide +kernel
theorem dX0_setData_18 : decode cX0_setData 18 = .ok (.if_icmp .le 5, 3) := by decide +kernel
theorem dX0_setData_21 : decode cX0_setData 21 = .ok (.iconst 0, 1) := by decide +kernel
theorem dX0_setData_22 : decode cX0_setData 22 = .ok (.ireturn, 1) := by decide +kernel
theorem dX0_setData_23 : decode cX0_setData 23 = .ok (.aload_n 0, 1) := by decide +kernel
theorem dX0_setData_24 : decode cX0_setData 24 = .ok (.bipush 32, 2) := by decide +kernel
theorem dX0_setData_26 : decode cX0_setData 26 = .ok (.iload_n 1, 1) := by decide +kernel
theorem dX0_setData_27 : decode cX0_setData 27 = .ok (.iadd, 1) := by decide +kernel
theorem dX0_setData_28 : decode cX0_setData 28 = .ok (.iload_n 2, 1) := by decide +kernel
theorem dX0_setData_29 : decode cX0_setData 29 = .ok (.invokevirtual 36, 3) := by decide +kernel
theorem dX0_setData_32 : decode cX0_setData 32 = .ok (.iconst 1, 1) := by decide +kernel
theorem dX0_setData_33 : decode cX0_setData 33 = .ok (.ireturn, 1) := by decide +kernel
abbrev cX0_run : ByteArray := prog_1_method_30_code
def yX0_run : MethodName := ⟨RX0, "run", "(I)I"⟩
theorem dX0_run_0 : decode cX0_run 0 = .ok (.iload_n 1, 1) := by decide +kernel
theorem dX0_run_1 : decode cX0_run 1 = .ok (.ifCond .lt 9, 3) := by decide +kernel
theorem dX0_run_4 : decode cX0_run 4 = .ok (.iload_n 1, 1) := by decide +kernel
theorem dX0_run_5 : decode cX0_run 5 = .ok (.bipush 100, 2) := by decide +kernel
theorem dX0_run_7 : decode cX0_run 7 = .ok (.if_icmp .le 5, 3) := by decide +kernel
theorem dX0_run_10 : decode cX0_run 10 = .ok (.iconst (-1), 1) := by decide +kernel
theorem dX0_run_11 : decode cX0_run 11 = .ok (.ireturn, 1) := by decide +kernel
theorem dX0_run_12 : decode cX0_run 12 = .ok (.iconst 0, 1) := by decide +kernel
theorem dX0_run_13 : decode cX0_run 13 = .ok (.istore_n 2, 1) := by decide +kernel
theorem dX0_run_14 : decode cX0_run 14 = .ok (.iconst 0, 1) := by decide +kernel
theorem dX0_run_15 : decode cX0_run 15 = .ok (.istore_n 3, 1) := by decide +kernel
theorem dX0_run_16 : decode cX0_run 16 = .ok (.iload_n 3, 1) := by decide +kernel
theorem dX0_run_17 : decode cX0_run 17 = .ok (.iload_n 1, 1) := by decide +kernel
theorem dX0_run_18 : decode cX0_run 18 = .ok (.if_icmp .ge 23, 3) := by decide +kernel
theorem dX0_run_21 : decode cX0_run 21 = .ok (.aload_n 0, 1) := by decide +kernel
theorem dX0_run_22 : decode cX0_run 22 = .ok (.getfield 121, 3) := by decide +kernel
theorem dX0_run_25 : decode cX0_run 25 = .ok (.ifCond .ne 16, 3) := by decide +kernel
theorem dX0_run_28 : decode cX0_run 28 = .ok (.aload_n 0, 1) := by decide +kernel
theorem dX0_run_29 : decode cX0_run 29 = .ok (.invokevirtual 134, 3) := by decide +kernel
theorem dX0_run_32 : decode cX0_run 32 = .ok (.iinc 2 1, 3) := by decide +kernel
theorem dX0_run_35 : decode cX0_run 35 = .ok (.iinc 3 1, 3) := by decide +kernel
theorem dX0_run_38 : decode cX0_run 38 = .ok (.goto (-22), 3) := by decide +kernel
theorem dX0_run_41 : decode cX0_run 41 = .ok (.iload_n 2, 1) := by decide +kernel
theorem dX0_run_42 : decode cX0_run 42 = .ok (.ireturn, 1) := by decide +kernel
abbrev cX0_step : ByteArray := prog_1_method_23_code
def yX0_step : MethodName := ⟨RX0, "step", "()V"⟩
theorem dX0_step_0 : decode cX0_step 0 = .ok (.aload_n 0, 1) := by decide +kernel
theorem dX0_step_1 : decode cX0_step 1 = .ok (.invokevirtual 99, 3) := by decide +kernel
theorem dX0_step_4 : decode cX0_step 4 = .ok (.aload_n 0, 1) := by decide +kernel
theorem dX0_step_5 : decode cX0_step 5 = .ok (.invokevirtual 81, 3) := by decide +kernel
theorem dX0_step_8 : decode cX0_step 8 = .ok (.istore_n 1, 1) := by decide +kernel
theorem dX0_step_9 : decode cX0_step 9 = .ok (.aload_n 0, 1) := by decide +kernel
theorem dX0_step_10 : decode cX0_step 10 = .ok (.iload_n 1, 1) := by decide +kernel
theorem dX0_step_11 : decode cX0_step 11 = .ok (.invokevirtual 102, 3) := by decide +kernel
theorem dX0_step_14 : decode cX0_step 14 = .ok (.istore_n 2, 1) := by decide +kernel
theorem dX0_step_15 : decode cX0_step 15 = .ok (.iload_n 2, 1) := by decide +kernel
theorem dX0_step_16 : decode cX0_step 16 = .ok (.bipush 15, 2) := by decide +kernel
theorem dX0_step_18 : decode cX0_step 18 = .ok (.iand, 1) := by decide +kernel
theorem dX0_step_19 : decode cX0_step 19 = .ok (.istore_n 3, 1) := by decide +kernel
theorem dX0_step_20 : decode cX0_step 20 = .ok (.iload_n 2, 1) := by decide +kernel
theorem dX0_step_21 : decode cX0_step 21 = .ok (.iconst 4, 1) := by decide +kernel
theorem dX0_step_22 : decode cX0_step 22 = .ok (.ishr, 1) := by decide +kernel
theorem dX0_step_23 : decode cX0_step 23 = .ok (.iconst 3, 1) := by decide +kernel
theorem dX0_step_24 : decode cX0_step 24 = .ok (.iand, 1) := by decide +kernel
theorem dX0_step_25 : decode cX0_step 25 = .ok (.istore 4, 2) := by decide +kernel
theorem dX0_step_27 : decode cX0_step 27 = .ok (.iload_n 2, 1) := by decide +kernel
theorem dX0_step_28 : decode cX0_step 28 = .ok (.bipush 6, 2) := by decide +kernel
theorem dX0_step_30 : decode cX0_step 30 = .ok (.ishr, 1) := by decide +kernel
theorem dX0_step_31 : decode cX0_step 31 = .ok (.sipush 255, 3) := by decide +kernel
theorem dX0_step_34 : decode cX0_step 34 = .ok (.iand, 1) := by decide +kernel
theorem dX0_step_35 : decode cX0_step 35 = .ok (.istore 5, 2) := by decide +kernel
theorem dX0_step_37 : decode cX0_step 37 = .ok (.iload_n 1, 1) := by decide +kernel
theorem dX0_step_38 : decode cX0_step 38 = .ok (.iconst 1, 1) := by decide +kernel
theorem dX0_step_39 : decode cX0_step 39 = .ok (.iadd, 1) := by decide +kernel
theorem dX0_step_40 : decode cX0_step 40 = .ok (.bipush 31, 2) := by decide +kernel
theorem dX0_step_42 : decode cX0_step 42 = .ok (.iand, 1) := by decide +kernel
theorem dX0_step_43 : decode cX0_step 43 = .ok (.istore 6, 2) := by decide +kernel
theorem dX0_step_45 : decode cX0_step 45 = .ok (.iload_n 3, 1) := by decide +kernel
theorem dX0_step_46 : decode cX0_step 46 = .ok (.iconst 3, 1) := by decide +kernel
theorem dX0_step_47 : decode cX0_step 47 = .ok (.if_icmp .le 9, 3) := by decide +kernel
theorem dX0_step_50 : decode cX0_step 50 = .ok (.iload_n 3, 1) := by decide +kernel
theorem dX0_step_51 : decode cX0_step 51 = .ok (.bipush 12, 2) := by decide +kernel
theorem dX0_step_53 : decode cX0_step 53 = .ok (.if_icmp .lt 20, 3) := by decide +kernel
theorem dX0_step_56 : decode cX0_step 56 = .ok (.aload_n 0, 1) := by decide +kernel
theorem dX0_step_57 : decode cX0_step 57 = .ok (.iload_n 3, 1) := by decide +kernel
theorem dX0_step_58 : decode cX0_step 58 = .ok (.iload 4, 2) := by decide +kernel
theorem dX0_step_60 : decode cX0_step 60 = .ok (.iload 5, 2) := by decide +kernel
theorem dX0_step_62 : decode cX0_step 62 = .ok (.iload_n 1, 1) := by decide +kernel
theorem dX0_step_63 : decode cX0_step 63 = .ok (.iload 6, 2) := by decide +kernel
theorem dX0_step_65 : decode cX0_step 65 = .ok (.invokevirtual 105, 3) := by decide +kernel
theorem dX0_step_68 : decode cX0_step 68 = .ok (.istore 6, 2) := by decide +kernel
theorem dX0_step_70 : decode cX0_step 70 = .ok (.goto 49, 3) := by decide +kernel
theorem dX0_step_73 : decode cX0_step 73 = .ok (.iload_n 3, 1) := by decide +kernel
theorem dX0_step_74 : decode cX0_step 74 = .ok (.bipush 8, 2) := by decide +kernel
theorem dX0_step_76 : decode cX0_step 76 = .ok (.if_icmp .gt 29, 3) := by decide +kernel
theorem dX0_step_79 : decode cX0_step 79 = .ok (.aload_n 0, 1) := by decide +kernel
theorem dX0_step_80 : decode cX0_step 80 = .ok (.iload_n 3, 1) := by decide +kernel
theorem dX0_step_81 : decode cX0_step 81 = .ok (.iload 4, 2) := by decide +kernel
theorem dX0_step_83 : decode cX0_step 83 = .ok (.iload 5, 2) := by decide +kernel
theorem dX0_step_85 : decode cX0_step 85 = .ok (.iconst 3, 1) := by decide +kernel
theorem dX0_step_86 : decode cX0_step 86 = .ok (.iand, 1) := by decide +kernel
theorem dX0_step_87 : decode cX0_step 87 = .ok (.iload 5, 2) := by decide +kernel
theorem dX0_step_89 : decode cX0_step 89 = .ok (.invokevirtual 109, 3) := by decide +kernel
theorem dX0_step_92 : decode cX0_step 92 = .ok (.istore 7, 2) := by decide +kernel
theorem dX0_step_94 : decode cX0_step 94 = .ok (.aload_n 0, 1) := by decide +kernel
theorem dX0_step_95 : decode cX0_step 95 = .ok (.iload 4, 2) := by decide +kernel
theorem dX0_step_97 : decode cX0_step 97 = .ok (.iload 7, 2) := by decide +kernel
theorem dX0_step_99 : decode cX0_step 99 = .ok (.invokevirtual 78, 3) := by decide +kernel
theorem dX0_step_102 : decode cX0_step 102 = .ok (.goto 17, 3) := by decide +kernel
theorem dX0_step_105 : decode cX0_step 105 = .ok (.aload_n 0, 1) := by decide +kernel
theorem dX0_step_106 : decode cX0_step 106 = .ok (.iload_n 3, 1) := by decide +kernel
theorem dX0_step_107 : decode cX0_step 107 = .ok (.iload 4, 2) := by decide +kernel
theorem dX0_step_109 : decode cX0_step 109 = .ok (.iload 5, 2) := by decide +kernel
theorem dX0_step_111 : decode cX0_step 111 = .ok (.iload_n 1, 1) := by decide +kernel
theorem dX0_step_112 : decode cX0_step 112 = .ok (.iload 6, 2) := by decide +kernel
theorem dX0_step_114 : decode cX0_step 114 = .ok (.invokevirtual 112, 3) := by decide +kernel
theorem dX0_step_117 : decode cX0_step 117 = .ok (.istore 6, 2) := by decide +kernel
theorem dX0_step_119 : decode cX0_step 119 = .ok (.aload_n 0, 1) := by decide +kernel
theorem dX0_step_120 : decode cX0_step 120 = .ok (.iload 6, 2) := by decide +kernel
theorem dX0_step_122 : decode cX0_step 122 = .ok (.invokevirtual 85, 3) := by decide +kernel
theorem dX0_step_125 : decode cX0_step 125 = .ok (.iconst 0, 1) := by decide +kernel
theorem dX0_step_126 : decode cX0_step 126 = .ok (.istore 7, 2) := by decide +kernel
theorem dX0_step_128 : decode cX0_step 128 = .ok (.iload 7, 2) := by decide +kernel
theorem dX0_step_130 : decode cX0_step 130 = .ok (.iconst 3, 1) := by decide +kernel
theorem dX0_step_131 : decode cX0_step 131 = .ok (.if_icmp .ge 17, 3) := by decide +kernel
theorem dX0_step_134 : decode cX0_step 134 = .ok (.aload_n 0, 1) := by decide +kernel
theorem dX0_step_135 : decode cX0_step 135 = .ok (.getfield 20, 3) := by decide +kernel
theorem dX0_step_138 : decode cX0_step 138 = .ok (.iload 7, 2) := by decide +kernel
theorem dX0_step_140 : decode cX0_step 140 = .ok (.iconst 0, 1) := by decide +kernel
theorem dX0_step_141 : decode cX0_step 141 = .ok (.iastore, 1) := by decide +kernel
theorem dX0_step_142 : decode cX0_step 142 = .ok (.iinc 7 1, 3) := by decide +kernel
theorem dX0_step_145 : decode cX0_step 145 = .ok (.goto (-17), 3) := by decide +kernel
theorem dX0_step_148 : decode cX0_step 148 = .ok (.aload_n 0, 1) := by decide +kernel
theorem dX0_step_149 : decode cX0_step 149 = .ok (.iconst 0, 1) := by decide +kernel
theorem dX0_step_150 : decode cX0_step 150 = .ok (.putfield 115, 3) := by decide +kernel
theorem dX0_step_153 : decode cX0_step 153 = .ok (.aload_n 0, 1) := by decide +kernel
theorem dX0_step_154 : decode cX0_step 154 = .ok (.aload_n 0, 1) := by decide +kernel
theorem dX0_step_155 : decode cX0_step 155 = .ok (.getfield 118, 3) := by decide +kernel
theorem dX0_step_158 : decode cX0_step 158 = .ok (.bipush 48, 2) := by decide +kernel
theorem dX0_step_160 : decode cX0_step 160 = .ok (.irem, 1) := by decide +kernel
theorem dX0_step_161 : decode cX0_step 161 = .ok (.invokevirtual 64, 3) := by decide +kernel
theorem dX0_step_164 : decode cX0_step 164 = .ok (.aload_n 0, 1) := by decide +kernel
theorem dX0_step_165 : decode cX0_step 165 = .ok (.aload_n 0, 1) := by decide +kernel
theorem dX0_step_166 : decode cX0_step 166 = .ok (.getfield 118, 3) := by decide +kernel
theorem dX0_step_169 : decode cX0_step 169 = .ok (.iconst 1, 1) := by decide +kernel
theorem dX0_step_170 : decode cX0_step 170 = .ok (.iadd, 1) := by decide +kernel
theorem dX0_step_171 : decode cX0_step 171 = .ok (.bipush 48, 2) := by decide +kernel
theorem dX0_step_173 : decode cX0_step 173 = .ok (.irem, 1) := by decide +kernel
theorem dX0_step_174 : decode cX0_step 174 = .ok (.putfield 118, 3) := by decide +kernel
theorem dX0_step_177 : decode cX0_step 177 = .ok (.return_, 1) := by decide +kernel
end
section
set_option maxRecDepth 100000
abbrev cX0_voteAll : ByteArray := prog_1_method_18_code
def yX0_voteAll : MethodName := ⟨RX0, "voteAll", "()V"⟩
theorem dX0_voteAll_0 : decode cX0_voteAll 0 = .ok (.iconst 0, 1) := by decide +kernel
theorem dX0_voteAll_1 : decode cX0_voteAll 1 = .ok (.istore_n 1, 1) := by decide +kernel
theorem dX0_voteAll_2 : decode cX0_voteAll 2 = .ok (.iload_n 1, 1) := by decide +kernel
theorem dX0_voteAll_3 : decode cX0_voteAll 3 = .ok (.iconst 4, 1) := by decide +kernel
theorem dX0_voteAll_4 : decode cX0_voteAll 4 = .ok (.if_icmp .ge 28, 3) := by decide +kernel
theorem dX0_voteAll_7 : decode cX0_voteAll 7 = .ok (.aload_n 0, 1) := by decide +kernel
theorem dX0_voteAll_8 : decode cX0_voteAll 8 = .ok (.iload_n 1, 1) := by decide +kernel
theorem dX0_voteAll_9 : decode cX0_voteAll 9 = .ok (.invokevirtual 75, 3) := by decide +kernel
theorem dX0_voteAll_12 : decode cX0_voteAll 12 = .ok (.istore_n 2, 1) := by decide +kernel
theorem dX0_voteAll_13 : decode cX0_voteAll 13 = .ok (.aload_n 0, 1) := by decide +kernel
theorem dX0_voteAll_14 : decode cX0_voteAll 14 = .ok (.iload_n 1, 1) := by decide +kernel
theorem dX0_voteAll_15 : decode cX0_voteAll 15 = .ok (.iload_n 2, 1) := by decide +kernel
theorem dX0_voteAll_16 : decode cX0_voteAll 16 = .ok (.invokevirtual 78, 3) := by decide +kernel
theorem dX0_voteAll_19 : decode cX0_voteAll 19 = .ok (.aload_n 0, 1) := by decide +kernel
theorem dX0_voteAll_20 : decode cX0_voteAll 20 = .ok (.getfield 16, 3) := by decide +kernel
theorem dX0_voteAll_23 : decode cX0_voteAll 23 = .ok (.iload_n 1, 1) := by decide +kernel
theorem dX0_voteAll_24 : decode cX0_voteAll 24 = .ok (.iconst 0, 1) := by decide +kernel
theorem dX0_voteAll_25 : decode cX0_voteAll 25 = .ok (.bastore, 1) := by decide +kernel
theorem dX0_voteAll_26 : decode cX0_voteAll 26 = .ok (.iinc 1 1, 3) := by decide +kernel
theorem dX0_voteAll_29 : decode cX0_voteAll 29 = .ok (.goto (-27), 3) := by decide +kernel
theorem dX0_voteAll_32 : decode cX0_voteAll 32 = .ok (.aload_n 0, 1) := by decide +kernel
theorem dX0_voteAll_33 : decode cX0_voteAll 33 = .ok (.invokevirtual 81, 3) := by decide +kernel
theorem dX0_voteAll_36 : decode cX0_voteAll 36 = .ok (.istore_n 1, 1) := by decide +kernel
theorem dX0_voteAll_37 : decode cX0_voteAll 37 = .ok (.aload_n 0, 1) := by decide +kernel
theorem dX0_voteAll_38 : decode cX0_voteAll 38 = .ok (.iload_n 1, 1) := by decide +kernel
theorem dX0_voteAll_39 : decode cX0_voteAll 39 = .ok (.invokevirtual 85, 3) := by decide +kernel
theorem dX0_voteAll_42 : decode cX0_voteAll 42 = .ok (.aload_n 0, 1) := by decide +kernel
theorem dX0_voteAll_43 : decode cX0_voteAll 43 = .ok (.iconst 0, 1) := by decide +kernel
theorem dX0_voteAll_44 : decode cX0_voteAll 44 = .ok (.putfield 88, 3) := by decide +kernel
theorem dX0_voteAll_47 : decode cX0_voteAll 47 = .ok (.return_, 1) := by decide +kernel
abbrev cX0_voteRegister : ByteArray := prog_1_method_14_code
def yX0_voteRegister : MethodName := ⟨RX0, "voteRegister", "(I)I"⟩
theorem dX0_voteRegister_0 : decode cX0_voteRegister 0 = .ok (.aload_n 0, 1) := by decide +kernel
theorem dX0_voteRegister_1 : decode cX0_voteRegister 1 = .ok (.getfield 7, 3) := by decide +kernel
theorem dX0_voteRegister_4 : decode cX0_voteRegister 4 = .ok (.iload_n 1, 1) := by decide +kernel
theorem dX0_voteRegister_5 : decode cX0_voteRegister 5 = .ok (.iconst 3, 1) := by decide +kernel
theorem dX0_voteRegister_6 : decode cX0_voteRegister 6 = .ok (.imul, 1) := by decide +kernel
theorem dX0_voteRegister_7 : decode cX0_voteRegister 7 = .ok (.iaload, 1) := by decide +kernel
theorem dX0_voteRegister_8 : decode cX0_voteRegister 8 = .ok (.aload_n 0, 1) := by decide +kernel
theorem dX0_voteRegister_9 : decode cX0_voteRegister 9 = .ok (.getfield 7, 3) := by decide +kernel
theorem dX0_voteRegister_12 : decode cX0_voteRegister 12 = .ok (.iload_n 1, 1) := by decide +kernel
theorem dX0_voteRegister_13 : decode cX0_voteRegister 13 = .ok (.iconst 3, 1) := by decide +kernel
theorem dX0_voteRegister_14 : decode cX0_voteRegister 14 = .ok (.imul, 1) := by decide +kernel
theorem dX0_voteRegister_15 : decode cX0_voteRegister 15 = .ok (.iconst 1, 1) := by decide +kernel
theorem dX0_voteRegister_16 : decode cX0_voteRegister 16 = .ok (.iadd, 1) := by decide +kernel
theorem dX0_voteRegister_17 : decode cX0_voteRegister 17 = .ok (.iaload, 1) := by decide +kernel
theorem dX0_voteRegister_18 : decode cX0_voteRegister 18 = .ok (.aload_n 0, 1) := by decide +kernel
theorem dX0_voteRegister_19 : decode cX0_voteRegister 19 = .ok (.getfield 7, 3) := by decide +kernel
theorem dX0_voteRegister_22 : decode cX0_voteRegister 22 = .ok (.iload_n 1, 1) := by decide +kernel
theorem dX0_voteRegister_23 : decode cX0_voteRegister 23 = .ok (.iconst 3, 1) := by decide +kernel
theorem dX0_voteRegister_24 : decode cX0_voteRegister 24 = .ok (.imul, 1) := by decide +kernel
theorem dX0_voteRegister_25 : decode cX0_voteRegister 25 = .ok (.iconst 2, 1) := by decide +kernel
theorem dX0_voteRegister_26 : decode cX0_voteRegister 26 = .ok (.iadd, 1) := by decide +kernel
theorem dX0_voteRegister_27 : decode cX0_voteRegister 27 = .ok (.iaload, 1) := by decide +kernel
theorem dX0_voteRegister_28 : decode cX0_voteRegister 28 = .ok (.invokestatic 71, 3) := by decide +kernel
theorem dX0_voteRegister_31 : decode cX0_voteRegister 31 = .ok (.ireturn, 1) := by decide +kernel
abbrev cX0_vote : ByteArray := prog_1_method_13_code
def yX0_vote : MethodName := ⟨RX0, "vote", "(III)I"⟩
theorem dX0_vote_0 : decode cX0_vote 0 = .ok (.iload_n 0, 1) := by decide +kernel
theorem dX0_vote_1 : decode cX0_vote 1 = .ok (.iload_n 1, 1) := by decide +kernel
theorem dX0_vote_2 : decode cX0_vote 2 = .ok (.iand, 1) := by decide +kernel
theorem dX0_vote_3 : decode cX0_vote 3 = .ok (.iload_n 0, 1) := by decide +kernel
theorem dX0_vote_4 : decode cX0_vote 4 = .ok (.iload_n 2, 1) := by decide +kernel
theorem dX0_vote_5 : decode cX0_vote 5 = .ok (.iand, 1) := by decide +kernel
theorem dX0_vote_6 : decode cX0_vote 6 = .ok (.ior, 1) := by decide +kernel
theorem dX0_vote_7 : decode cX0_vote 7 = .ok (.iload_n 1, 1) := by decide +kernel
theorem dX0_vote_8 : decode cX0_vote 8 = .ok (.iload_n 2, 1) := by decide +kernel
theorem dX0_vote_9 : decode cX0_vote 9 = .ok (.iand, 1) := by decide +kernel
theorem dX0_vote_10 : decode cX0_vote 10 = .ok (.ior, 1) := by decide +kernel
theorem dX0_vote_11 : decode cX0_vote 11 = .ok (.ireturn, 1) := by decide +kernel
abbrev cX0_writeRegister : ByteArray := prog_1_method_16_code
def yX0_writeRegister : MethodName := ⟨RX0, "writeRegister", "(II)V"⟩
theorem dX0_writeRegister_0 : decode cX0_writeRegister 0 = .ok (.iconst 0, 1) := by decide +kernel
theorem dX0_writeRegister_1 : decode cX0_writeRegister 1 = .ok (.istore_n 3, 1) := by decide +kernel
theorem dX0_writeRegister_2 : decode cX0_writeRegister 2 = .ok (.iload_n 3, 1) := by decide +kernel
theorem dX0_writeRegister_3 : decode cX0_writeRegister 3 = .ok (.iconst 3, 1) := by decide +kernel
theorem dX0_writeRegister_4 : decode cX0_writeRegister 4 = .ok (.if_icmp .ge 20, 3) := by decide +kernel
theorem dX0_writeRegister_7 : decode cX0_writeRegister 7 = .ok (.aload_n 0, 1) := by decide +kernel
theorem dX0_writeRegister_8 : decode cX0_writeRegister 8 = .ok (.getfield 7, 3) := by decide +kernel
theorem dX0_writeRegister_11 : decode cX0_writeRegister 11 = .ok (.iload_n 1, 1) := by decide +kernel
theorem dX0_writeRegister_12 : decode cX0_writeRegister 12 = .ok (.iconst 3, 1) := by decide +kernel
theorem dX0_writeRegister_13 : decode cX0_writeRegister 13 = .ok (.imul, 1) := by decide +kernel
theorem dX0_writeRegister_14 : decode cX0_writeRegister 14 = .ok (.iload_n 3, 1) := by decide +kernel
theorem dX0_writeRegister_15 : decode cX0_writeRegister 15 = .ok (.iadd, 1) := by decide +kernel
theorem dX0_writeRegister_16 : decode cX0_writeRegister 16 = .ok (.iload_n 2, 1) := by decide +kernel
theorem dX0_writeRegister_17 : decode cX0_writeRegister 17 = .ok (.iastore, 1) := by decide +kernel
theorem dX0_writeRegister_18 : decode cX0_writeRegister 18 = .ok (.iinc 3 1, 3) := by decide +kernel
theorem dX0_writeRegister_21 : decode cX0_writeRegister 21 = .ok (.goto (-19), 3) := by decide +kernel
theorem dX0_writeRegister_24 : decode cX0_writeRegister 24 = .ok (.return_, 1) := by decide +kernel
abbrev cX0_votePlace : ByteArray := prog_1_method_15_code
def yX0_votePlace : MethodName := ⟨RX0, "votePlace", "()I"⟩
theorem dX0_votePlace_0 : decode cX0_votePlace 0 = .ok (.aload_n 0, 1) := by decide +kernel
theorem dX0_votePlace_1 : decode cX0_votePlace 1 = .ok (.getfield 13, 3) := by decide +kernel
theorem dX0_votePlace_4 : decode cX0_votePlace 4 = .ok (.iconst 0, 1) := by decide +kernel
theorem dX0_votePlace_5 : decode cX0_votePlace 5 = .ok (.iaload, 1) := by decide +kernel
theorem dX0_votePlace_6 : decode cX0_votePlace 6 = .ok (.aload_n 0, 1) := by decide +kernel
theorem dX0_votePlace_7 : decode cX0_votePlace 7 = .ok (.getfield 13, 3) := by decide +kernel
theorem dX0_votePlace_10 : decode cX0_votePlace 10 = .ok (.iconst 1, 1) := by decide +kernel
theorem dX0_votePlace_11 : decode cX0_votePlace 11 = .ok (.iaload, 1) := by decide +kernel
theorem dX0_votePlace_12 : decode cX0_votePlace 12 = .ok (.aload_n 0, 1) := by decide +kernel
theorem dX0_votePlace_13 : decode cX0_votePlace 13 = .ok (.getfield 13, 3) := by decide +kernel
theorem dX0_votePlace_16 : decode cX0_votePlace 16 = .ok (.iconst 2, 1) := by decide +kernel
theorem dX0_votePlace_17 : decode cX0_votePlace 17 = .ok (.iaload, 1) := by decide +kernel
theorem dX0_votePlace_18 : decode cX0_votePlace 18 = .ok (.invokestatic 71, 3) := by decide +kernel
theorem dX0_votePlace_21 : decode cX0_votePlace 21 = .ok (.ireturn, 1) := by decide +kernel
abbrev cX0_writePlace : ByteArray := prog_1_method_17_code
def yX0_writePlace : MethodName := ⟨RX0, "writePlace", "(I)V"⟩
theorem dX0_writePlace_0 : decode cX0_writePlace 0 = .ok (.iconst 0, 1) := by decide +kernel
theorem dX0_writePlace_1 : decode cX0_writePlace 1 = .ok (.istore_n 2, 1) := by decide +kernel
theorem dX0_writePlace_2 : decode cX0_writePlace 2 = .ok (.iload_n 2, 1) := by decide +kernel
theorem dX0_writePlace_3 : decode cX0_writePlace 3 = .ok (.iconst 3, 1) := by decide +kernel
theorem dX0_writePlace_4 : decode cX0_writePlace 4 = .ok (.if_icmp .ge 16, 3) := by decide +kernel
theorem dX0_writePlace_7 : decode cX0_writePlace 7 = .ok (.aload_n 0, 1) := by decide +kernel
theorem dX0_writePlace_8 : decode cX0_writePlace 8 = .ok (.getfield 13, 3) := by decide +kernel
theorem dX0_writePlace_11 : decode cX0_writePlace 11 = .ok (.iload_n 2, 1) := by decide +kernel
theorem dX0_writePlace_12 : decode cX0_writePlace 12 = .ok (.iload_n 1, 1) := by decide +kernel
theorem dX0_writePlace_13 : decode cX0_writePlace 13 = .ok (.iastore, 1) := by decide +kernel
theorem dX0_writePlace_14 : decode cX0_writePlace 14 = .ok (.iinc 2 1, 3) := by decide +kernel
theorem dX0_writePlace_17 : decode cX0_writePlace 17 = .ok (.goto (-15), 3) := by decide +kernel
theorem dX0_writePlace_20 : decode cX0_writePlace 20 = .ok (.return_, 1) := by decide +kernel
abbrev cX0_readAndRepair : ByteArray := prog_1_method_12_code
def yX0_readAndRepair : MethodName := ⟨RX0, "readAndRepair", "(I)I"⟩
theorem dX0_readAndRepair_0 : decode cX0_readAndRepair 0 = .ok (.aload_n 0, 1) := by decide +kernel
theorem dX0_readAndRepair_1 : decode cX0_readAndRepair 1 = .ok (.iload_n 1, 1) := by decide +kernel
theorem dX0_readAndRepair_2 : decode cX0_readAndRepair 2 = .ok (.invokevirtual 64, 3) := by decide +kernel
theorem dX0_readAndRepair_5 : decode cX0_readAndRepair 5 = .ok (.aload_n 0, 1) := by decide +kernel
theorem dX0_readAndRepair_6 : decode cX0_readAndRepair 6 = .ok (.iload_n 1, 1) := by decide +kernel
theorem dX0_readAndRepair_7 : decode cX0_readAndRepair 7 = .ok (.invokevirtual 68, 3) := by decide +kernel
theorem dX0_readAndRepair_10 : decode cX0_readAndRepair 10 = .ok (.ireturn, 1) := by decide +kernel
abbrev cX0_repair : ByteArray := prog_1_method_11_code
def yX0_repair : MethodName := ⟨RX0, "repair", "(I)V"⟩
theorem dX0_repair_0 : decode cX0_repair 0 = .ok (.iload_n 1, 1) := by decide +kernel
theorem dX0_repair_1 : decode cX0_repair 1 = .ok (.invokestatic 51, 3) := by decide +kernel
theorem dX0_repair_4 : decode cX0_repair 4 = .ok (.istore_n 2, 1) := by decide +kernel
theorem dX0_repair_5 : decode cX0_repair 5 = .ok (.aload_n 0, 1) := by decide +kernel
theorem dX0_repair_6 : decode cX0_repair 6 = .ok (.getfield 23, 3) := by decide +kernel
theorem dX0_repair_9 : decode cX0_repair 9 = .ok (.iload_n 1, 1) := by decide +kernel
theorem dX0_repair_10 : decode cX0_repair 10 = .ok (.aload_n 0, 1) := by decide +kernel
theorem dX0_repair_11 : decode cX0_repair 11 = .ok (.getfield 23, 3) := by decide +kernel
theorem dX0_repair_14 : decode cX0_repair 14 = .ok (.iload_n 1, 1) := by decide +kernel
theorem dX0_repair_15 : decode cX0_repair 15 = .ok (.iaload, 1) := by decide +kernel
theorem dX0_repair_16 : decode cX0_repair 16 = .ok (.iload_n 2, 1) := by decide +kernel
theorem dX0_repair_17 : decode cX0_repair 17 = .ok (.invokestatic 58, 3) := by decide +kernel
theorem dX0_repair_20 : decode cX0_repair 20 = .ok (.iastore, 1) := by decide +kernel
theorem dX0_repair_21 : decode cX0_repair 21 = .ok (.aload_n 0, 1) := by decide +kernel
theorem dX0_repair_22 : decode cX0_repair 22 = .ok (.getfield 26, 3) := by decide +kernel
theorem dX0_repair_25 : decode cX0_repair 25 = .ok (.iload_n 1, 1) := by decide +kernel
theorem dX0_repair_26 : decode cX0_repair 26 = .ok (.iconst 0, 1) := by decide +kernel
theorem dX0_repair_27 : decode cX0_repair 27 = .ok (.bastore, 1) := by decide +kernel
theorem dX0_repair_28 : decode cX0_repair 28 = .ok (.return_, 1) := by decide +kernel
abbrev cX0_correct : ByteArray := prog_1_method_7_code
def yX0_correct : MethodName := ⟨RX0, "correct", "(II)I"⟩
theorem dX0_correct_0 : decode cX0_correct 0 = .ok (.iload_n 0, 1) := by decide +kernel
theorem dX0_correct_1 : decode cX0_correct 1 = .ok (.iload_n 1, 1) := by decide +kernel
theorem dX0_correct_2 : decode cX0_correct 2 = .ok (.invokestatic 48, 3) := by decide +kernel
theorem dX0_correct_5 : decode cX0_correct 5 = .ok (.istore_n 2, 1) := by decide +kernel
theorem dX0_correct_6 : decode cX0_correct 6 = .ok (.iload_n 0, 1) := by decide +kernel
theorem dX0_correct_7 : decode cX0_correct 7 = .ok (.iload_n 1, 1) := by decide +kernel
theorem dX0_correct_8 : decode cX0_correct 8 = .ok (.invokestatic 44, 3) := by decide +kernel
theorem dX0_correct_11 : decode cX0_correct 11 = .ok (.istore_n 3, 1) := by decide +kernel
theorem dX0_correct_12 : decode cX0_correct 12 = .ok (.iload_n 2, 1) := by decide +kernel
theorem dX0_correct_13 : decode cX0_correct 13 = .ok (.iconst 1, 1) := by decide +kernel
theorem dX0_correct_14 : decode cX0_correct 14 = .ok (.iand, 1) := by decide +kernel
theorem dX0_correct_15 : decode cX0_correct 15 = .ok (.ifCond .eq 11, 3) := by decide +kernel
theorem dX0_correct_18 : decode cX0_correct 18 = .ok (.iload_n 0, 1) := by decide +kernel
theorem dX0_correct_19 : decode cX0_correct 19 = .ok (.iconst 1, 1) := by decide +kernel
theorem dX0_correct_20 : decode cX0_correct 20 = .ok (.iload_n 3, 1) := by decide +kernel
theorem dX0_correct_21 : decode cX0_correct 21 = .ok (.ishl, 1) := by decide +kernel
theorem dX0_correct_22 : decode cX0_correct 22 = .ok (.ixor, 1) := by decide +kernel
theorem dX0_correct_23 : decode cX0_correct 23 = .ok (.goto 4, 3) := by decide +kernel
theorem dX0_correct_26 : decode cX0_correct 26 = .ok (.iload_n 0, 1) := by decide +kernel
theorem dX0_correct_27 : decode cX0_correct 27 = .ok (.ireturn, 1) := by decide +kernel
abbrev cX0_readWord : ByteArray := prog_1_method_10_code
def yX0_readWord : MethodName := ⟨RX0, "readWord", "(I)I"⟩
theorem dX0_readWord_0 : decode cX0_readWord 0 = .ok (.iload_n 1, 1) := by decide +kernel
theorem dX0_readWord_1 : decode cX0_readWord 1 = .ok (.invokestatic 51, 3) := by decide +kernel
theorem dX0_readWord_4 : decode cX0_readWord 4 = .ok (.istore_n 2, 1) := by decide +kernel
theorem dX0_readWord_5 : decode cX0_readWord 5 = .ok (.aload_n 0, 1) := by decide +kernel
theorem dX0_readWord_6 : decode cX0_readWord 6 = .ok (.getfield 23, 3) := by decide +kernel
theorem dX0_readWord_9 : decode cX0_readWord 9 = .ok (.iload_n 1, 1) := by decide +kernel
theorem dX0_readWord_10 : decode cX0_readWord 10 = .ok (.iaload, 1) := by decide +kernel
theorem dX0_readWord_11 : decode cX0_readWord 11 = .ok (.iload_n 2, 1) := by decide +kernel
theorem dX0_readWord_12 : decode cX0_readWord 12 = .ok (.invokestatic 58, 3) := by decide +kernel
theorem dX0_readWord_15 : decode cX0_readWord 15 = .ok (.istore_n 3, 1) := by decide +kernel
theorem dX0_readWord_16 : decode cX0_readWord 16 = .ok (.iload_n 3, 1) := by decide +kernel
theorem dX0_readWord_17 : decode cX0_readWord 17 = .ok (.iload_n 2, 1) := by decide +kernel
theorem dX0_readWord_18 : decode cX0_readWord 18 = .ok (.invokestatic 61, 3) := by decide +kernel
theorem dX0_readWord_21 : decode cX0_readWord 21 = .ok (.ireturn, 1) := by decide +kernel
abbrev cX0_decode : ByteArray := prog_1_method_8_code
def yX0_decode : MethodName := ⟨RX0, "decode", "(II)I"⟩
theorem dX0_decode_0 : decode cX0_decode 0 = .ok (.iconst 0, 1) := by decide +kernel
theorem dX0_decode_1 : decode cX0_decode 1 = .ok (.istore_n 2, 1) := by decide +kernel
theorem dX0_decode_2 : decode cX0_decode 2 = .ok (.iconst 0, 1) := by decide +kernel
theorem dX0_decode_3 : decode cX0_decode 3 = .ok (.istore_n 3, 1) := by decide +kernel
theorem dX0_decode_4 : decode cX0_decode 4 = .ok (.iconst 3, 1) := by decide +kernel
theorem dX0_decode_5 : decode cX0_decode 5 = .ok (.istore 4, 2) := by decide +kernel
theorem dX0_decode_7 : decode cX0_decode 7 = .ok (.iload 4, 2) := by decide +kernel
theorem dX0_decode_9 : decode cX0_decode 9 = .ok (.iload_n 1, 1) := by decide +kernel
theorem dX0_decode_10 : decode cX0_decode 10 = .ok (.if_icmp .ge 31, 3) := by decide +kernel
theorem dX0_decode_13 : decode cX0_decode 13 = .ok (.iload 4, 2) := by decide +kernel
theorem dX0_decode_15 : decode cX0_decode 15 = .ok (.invokestatic 40, 3) := by decide +kernel
theorem dX0_decode_18 : decode cX0_decode 18 = .ok (.ifCond .ne 17, 3) := by decide +kernel
theorem dX0_decode_21 : decode cX0_decode 21 = .ok (.iload_n 2, 1) := by decide +kernel
theorem dX0_decode_22 : decode cX0_decode 22 = .ok (.iload_n 0, 1) := by decide +kernel
theorem dX0_decode_23 : decode cX0_decode 23 = .ok (.iload 4, 2) := by decide +kernel
theorem dX0_decode_25 : decode cX0_decode 25 = .ok (.ishr, 1) := by decide +kernel
theorem dX0_decode_26 : decode cX0_decode 26 = .ok (.iconst 1, 1) := by decide +kernel
theorem dX0_decode_27 : decode cX0_decode 27 = .ok (.iand, 1) := by decide +kernel
theorem dX0_decode_28 : decode cX0_decode 28 = .ok (.iload_n 3, 1) := by decide +kernel
theorem dX0_decode_29 : decode cX0_decode 29 = .ok (.ishl, 1) := by decide +kernel
theorem dX0_decode_30 : decode cX0_decode 30 = .ok (.ior, 1) := by decide +kernel
theorem dX0_decode_31 : decode cX0_decode 31 = .ok (.istore_n 2, 1) := by decide +kernel
theorem dX0_decode_32 : decode cX0_decode 32 = .ok (.iinc 3 1, 3) := by decide +kernel
theorem dX0_decode_35 : decode cX0_decode 35 = .ok (.iinc 4 1, 3) := by decide +kernel
theorem dX0_decode_38 : decode cX0_decode 38 = .ok (.goto (-31), 3) := by decide +kernel
theorem dX0_decode_41 : decode cX0_decode 41 = .ok (.iload_n 2, 1) := by decide +kernel
theorem dX0_decode_42 : decode cX0_decode 42 = .ok (.ireturn, 1) := by decide +kernel
abbrev cX0_stepWithCells : ByteArray := prog_1_method_24_code
def yX0_stepWithCells : MethodName := ⟨RX0, "stepWithCells", "(IIIII)I"⟩
theorem dX0_stepWithCells_0 : decode cX0_stepWithCells 0 = .ok (.iload_n 1, 1) := by decide +kernel
theorem dX0_stepWithCells_1 : decode cX0_stepWithCells 1 = .ok (.ifCond .ne 11, 3) := by decide +kernel
theorem dX0_stepWithCells_4 : decode cX0_stepWithCells 4 = .ok (.aload_n 0, 1) := by decide +kernel
theorem dX0_stepWithCells_5 : decode cX0_stepWithCells 5 = .ok (.iconst 1, 1) := by decide +kernel
theorem dX0_stepWithCells_6 : decode cX0_stepWithCells 6 = .ok (.putfield 121, 3) := by decide +kernel
theorem dX0_stepWithCells_9 : decode cX0_stepWithCells 9 = .ok (.iload 4, 2) := by decide +kernel
theorem dX0_stepWithCells_11 : decode cX0_stepWithCells 11 = .ok (.ireturn, 1) := by decide +kernel
theorem dX0_stepWithCells_12 : decode cX0_stepWithCells 12 = .ok (.iload_n 3, 1) := by decide +kernel
theorem dX0_stepWithCells_13 : decode cX0_stepWithCells 13 = .ok (.iconst 3, 1) := by decide +kernel
theorem dX0_stepWithCells_14 : decode cX0_stepWithCells 14 = .ok (.iand, 1) := by decide +kernel
theorem dX0_stepWithCells_15 : decode cX0_stepWithCells 15 = .ok (.istore 6, 2) := by decide +kernel
theorem dX0_stepWithCells_17 : decode cX0_stepWithCells 17 = .ok (.iload_n 1, 1) := by decide +kernel
theorem dX0_stepWithCells_18 : decode cX0_stepWithCells 18 = .ok (.bipush 12, 2) := by decide +kernel
theorem dX0_stepWithCells_20 : decode cX0_stepWithCells 20 = .ok (.if_icmp .eq 9, 3) := by decide +kernel
theorem dX0_stepWithCells_23 : decode cX0_stepWithCells 23 = .ok (.iload_n 1, 1) := by decide +kernel
theorem dX0_stepWithCells_24 : decode cX0_stepWithCells 24 = .ok (.bipush 13, 2) := by decide +kernel
theorem dX0_stepWithCells_26 : decode cX0_stepWithCells 26 = .ok (.if_icmp .ne 15, 3) := by decide +kernel
theorem dX0_stepWithCells_29 : decode cX0_stepWithCells 29 = .ok (.aload_n 0, 1) := by decide +kernel
theorem dX0_stepWithCells_30 : decode cX0_stepWithCells 30 = .ok (.iload 6, 2) := by decide +kernel
theorem dX0_stepWithCells_32 : decode cX0_stepWithCells 32 = .ok (.invokevirtual 75, 3) := by decide +kernel
theorem dX0_stepWithCells_35 : decode cX0_stepWithCells 35 = .ok (.bipush 15, 2) := by decide +kernel
theorem dX0_stepWithCells_37 : decode cX0_stepWithCells 37 = .ok (.iand, 1) := by decide +kernel
theorem dX0_stepWithCells_38 : decode cX0_stepWithCells 38 = .ok (.goto 7, 3) := by decide +kernel
theorem dX0_stepWithCells_41 : decode cX0_stepWithCells 41 = .ok (.iload_n 3, 1) := by decide +kernel
theorem dX0_stepWithCells_42 : decode cX0_stepWithCells 42 = .ok (.bipush 15, 2) := by decide +kernel
theorem dX0_stepWithCells_44 : decode cX0_stepWithCells 44 = .ok (.iand, 1) := by decide +kernel
theorem dX0_stepWithCells_45 : decode cX0_stepWithCells 45 = .ok (.istore 7, 2) := by decide +kernel
theorem dX0_stepWithCells_47 : decode cX0_stepWithCells 47 = .ok (.iload_n 1, 1) := by decide +kernel
theorem dX0_stepWithCells_48 : decode cX0_stepWithCells 48 = .ok (.iconst 1, 1) := by decide +kernel
theorem dX0_stepWithCells_49 : decode cX0_stepWithCells 49 = .ok (.if_icmp .ne 24, 3) := by decide +kernel
theorem dX0_stepWithCells_52 : decode cX0_stepWithCells 52 = .ok (.aload_n 0, 1) := by decide +kernel
theorem dX0_stepWithCells_53 : decode cX0_stepWithCells 53 = .ok (.iconst 1, 1) := by decide +kernel
theorem dX0_stepWithCells_54 : decode cX0_stepWithCells 54 = .ok (.iload_n 2, 1) := by decide +kernel
theorem dX0_stepWithCells_55 : decode cX0_stepWithCells 55 = .ok (.iload 6, 2) := by decide +kernel
theorem dX0_stepWithCells_57 : decode cX0_stepWithCells 57 = .ok (.iload_n 3, 1) := by decide +kernel
theorem dX0_stepWithCells_58 : decode cX0_stepWithCells 58 = .ok (.invokevirtual 109, 3) := by decide +kernel
theorem dX0_stepWithCells_61 : decode cX0_stepWithCells 61 = .ok (.istore 8, 2) := by decide +kernel
theorem dX0_stepWithCells_63 : decode cX0_stepWithCells 63 = .ok (.aload_n 0, 1) := by decide +kernel
theorem dX0_stepWithCells_64 : decode cX0_stepWithCells 64 = .ok (.iload_n 2, 1) := by decide +kernel
theorem dX0_stepWithCells_65 : decode cX0_stepWithCells 65 = .ok (.iload 8, 2) := by decide +kernel
theorem dX0_stepWithCells_67 : decode cX0_stepWithCells 67 = .ok (.invokevirtual 78, 3) := by decide +kernel
theorem dX0_stepWithCells_70 : decode cX0_stepWithCells 70 = .ok (.goto 69, 3) := by decide +kernel
theorem dX0_stepWithCells_73 : decode cX0_stepWithCells 73 = .ok (.iload_n 1, 1) := by decide +kernel
theorem dX0_stepWithCells_74 : decode cX0_stepWithCells 74 = .ok (.iconst 2, 1) := by decide +kernel
theorem dX0_stepWithCells_75 : decode cX0_stepWithCells 75 = .ok (.if_icmp .eq 9, 3) := by decide +kernel
theorem dX0_stepWithCells_78 : decode cX0_stepWithCells 78 = .ok (.iload_n 1, 1) := by decide +kernel
theorem dX0_stepWithCells_79 : decode cX0_stepWithCells 79 = .ok (.bipush 12, 2) := by decide +kernel
theorem dX0_stepWithCells_81 : decode cX0_stepWithCells 81 = .ok (.if_icmp .ne 32, 3) := by decide +kernel
theorem dX0_stepWithCells_84 : decode cX0_stepWithCells 84 = .ok (.aload_n 0, 1) := by decide +kernel
theorem dX0_stepWithCells_85 : decode cX0_stepWithCells 85 = .ok (.bipush 32, 2) := by decide +kernel
theorem dX0_stepWithCells_87 : decode cX0_stepWithCells 87 = .ok (.iload 7, 2) := by decide +kernel
theorem dX0_stepWithCells_89 : decode cX0_stepWithCells 89 = .ok (.iadd, 1) := by decide +kernel
theorem dX0_stepWithCells_90 : decode cX0_stepWithCells 90 = .ok (.invokevirtual 102, 3) := by decide +kernel
theorem dX0_stepWithCells_93 : decode cX0_stepWithCells 93 = .ok (.istore 8, 2) := by decide +kernel
theorem dX0_stepWithCells_95 : decode cX0_stepWithCells 95 = .ok (.aload_n 0, 1) := by decide +kernel
theorem dX0_stepWithCells_96 : decode cX0_stepWithCells 96 = .ok (.iload 8, 2) := by decide +kernel
theorem dX0_stepWithCells_98 : decode cX0_stepWithCells 98 = .ok (.invokevirtual 125, 3) := by decide +kernel
theorem dX0_stepWithCells_101 : decode cX0_stepWithCells 101 = .ok (.istore 9, 2) := by decide +kernel
theorem dX0_stepWithCells_103 : decode cX0_stepWithCells 103 = .ok (.aload_n 0, 1) := by decide +kernel
theorem dX0_stepWithCells_104 : decode cX0_stepWithCells 104 = .ok (.iload_n 2, 1) := by decide +kernel
theorem dX0_stepWithCells_105 : decode cX0_stepWithCells 105 = .ok (.iload 9, 2) := by decide +kernel
theorem dX0_stepWithCells_107 : decode cX0_stepWithCells 107 = .ok (.invokevirtual 78, 3) := by decide +kernel
theorem dX0_stepWithCells_110 : decode cX0_stepWithCells 110 = .ok (.goto 29, 3) := by decide +kernel
theorem dX0_stepWithCells_113 : decode cX0_stepWithCells 113 = .ok (.aload_n 0, 1) := by decide +kernel
theorem dX0_stepWithCells_114 : decode cX0_stepWithCells 114 = .ok (.iload_n 2, 1) := by decide +kernel
theorem dX0_stepWithCells_115 : decode cX0_stepWithCells 115 = .ok (.invokevirtual 75, 3) := by decide +kernel
theorem dX0_stepWithCells_118 : decode cX0_stepWithCells 118 = .ok (.istore 8, 2) := by decide +kernel
theorem dX0_stepWithCells_120 : decode cX0_stepWithCells 120 = .ok (.aload_n 0, 1) := by decide +kernel
theorem dX0_stepWithCells_121 : decode cX0_stepWithCells 121 = .ok (.iload 8, 2) := by decide +kernel
theorem dX0_stepWithCells_123 : decode cX0_stepWithCells 123 = .ok (.invokevirtual 125, 3) := by decide +kernel
theorem dX0_stepWithCells_126 : decode cX0_stepWithCells 126 = .ok (.istore 9, 2) := by decide +kernel
theorem dX0_stepWithCells_128 : decode cX0_stepWithCells 128 = .ok (.aload_n 0, 1) := by decide +kernel
theorem dX0_stepWithCells_129 : decode cX0_stepWithCells 129 = .ok (.bipush 32, 2) := by decide +kernel
theorem dX0_stepWithCells_131 : decode cX0_stepWithCells 131 = .ok (.iload 7, 2) := by decide +kernel
theorem dX0_stepWithCells_133 : decode cX0_stepWithCells 133 = .ok (.iadd, 1) := by decide +kernel
theorem dX0_stepWithCells_134 : decode cX0_stepWithCells 134 = .ok (.iload 9, 2) := by decide +kernel
theorem dX0_stepWithCells_136 : decode cX0_stepWithCells 136 = .ok (.invokevirtual 36, 3) := by decide +kernel
theorem dX0_stepWithCells_139 : decode cX0_stepWithCells 139 = .ok (.iload 5, 2) := by decide +kernel
theorem dX0_stepWithCells_141 : decode cX0_stepWithCells 141 = .ok (.ireturn, 1) := by decide +kernel
abbrev cX0_workThrice : ByteArray := prog_1_method_21_code
def yX0_workThrice : MethodName := ⟨RX0, "workThrice", "(IIII)I"⟩
theorem dX0_workThrice_0 : decode cX0_workThrice 0 = .ok (.iconst 0, 1) := by decide +kernel
theorem dX0_workThrice_1 : decode cX0_workThrice 1 = .ok (.istore 5, 2) := by decide +kernel
theorem dX0_workThrice_3 : decode cX0_workThrice 3 = .ok (.iload 5, 2) := by decide +kernel
theorem dX0_workThrice_5 : decode cX0_workThrice 5 = .ok (.iconst 3, 1) := by decide +kernel
theorem dX0_workThrice_6 : decode cX0_workThrice 6 = .ok (.if_icmp .ge 56, 3) := by decide +kernel
theorem dX0_workThrice_9 : decode cX0_workThrice 9 = .ok (.iload_n 1, 1) := by decide +kernel
theorem dX0_workThrice_10 : decode cX0_workThrice 10 = .ok (.aload_n 0, 1) := by decide +kernel
theorem dX0_workThrice_11 : decode cX0_workThrice 11 = .ok (.getfield 7, 3) := by decide +kernel
theorem dX0_workThrice_14 : decode cX0_workThrice 14 = .ok (.iload_n 2, 1) := by decide +kernel
theorem dX0_workThrice_15 : decode cX0_workThrice 15 = .ok (.iconst 3, 1) := by decide +kernel
theorem dX0_workThrice_16 : decode cX0_workThrice 16 = .ok (.imul, 1) := by decide +kernel
theorem dX0_workThrice_17 : decode cX0_workThrice 17 = .ok (.iload 5, 2) := by decide +kernel
theorem dX0_workThrice_19 : decode cX0_workThrice 19 = .ok (.iadd, 1) := by decide +kernel
theorem dX0_workThrice_20 : decode cX0_workThrice 20 = .ok (.iaload, 1) := by decide +kernel
theorem dX0_workThrice_21 : decode cX0_workThrice 21 = .ok (.aload_n 0, 1) := by decide +kernel
theorem dX0_workThrice_22 : decode cX0_workThrice 22 = .ok (.getfield 7, 3) := by decide +kernel
theorem dX0_workThrice_25 : decode cX0_workThrice 25 = .ok (.iload_n 3, 1) := by decide +kernel
theorem dX0_workThrice_26 : decode cX0_workThrice 26 = .ok (.iconst 3, 1) := by decide +kernel
theorem dX0_workThrice_27 : decode cX0_workThrice 27 = .ok (.imul, 1) := by decide +kernel
theorem dX0_workThrice_28 : decode cX0_workThrice 28 = .ok (.iload 5, 2) := by decide +kernel
theorem dX0_workThrice_30 : decode cX0_workThrice 30 = .ok (.iadd, 1) := by decide +kernel
theorem dX0_workThrice_31 : decode cX0_workThrice 31 = .ok (.iaload, 1) := by decide +kernel
theorem dX0_workThrice_32 : decode cX0_workThrice 32 = .ok (.iload 4, 2) := by decide +kernel
theorem dX0_workThrice_34 : decode cX0_workThrice 34 = .ok (.invokestatic 95, 3) := by decide +kernel
theorem dX0_workThrice_37 : decode cX0_workThrice 37 = .ok (.istore 6, 2) := by decide +kernel
theorem dX0_workThrice_39 : decode cX0_workThrice 39 = .ok (.aload_n 0, 1) := by decide +kernel
theorem dX0_workThrice_40 : decode cX0_workThrice 40 = .ok (.getfield 33, 3) := by decide +kernel
theorem dX0_workThrice_43 : decode cX0_workThrice 43 = .ok (.iload 5, 2) := by decide +kernel
theorem dX0_workThrice_45 : decode cX0_workThrice 45 = .ok (.iload 6, 2) := by decide +kernel
theorem dX0_workThrice_47 : decode cX0_workThrice 47 = .ok (.aload_n 0, 1) := by decide +kernel
theorem dX0_workThrice_48 : decode cX0_workThrice 48 = .ok (.getfield 20, 3) := by decide +kernel
theorem dX0_workThrice_51 : decode cX0_workThrice 51 = .ok (.iload 5, 2) := by decide +kernel
theorem dX0_workThrice_53 : decode cX0_workThrice 53 = .ok (.iaload, 1) := by decide +kernel
theorem dX0_workThrice_54 : decode cX0_workThrice 54 = .ok (.ixor, 1) := by decide +kernel
theorem dX0_workThrice_55 : decode cX0_workThrice 55 = .ok (.iastore, 1) := by decide +kernel
theorem dX0_workThrice_56 : decode cX0_workThrice 56 = .ok (.iinc 5 1, 3) := by decide +kernel
theorem dX0_workThrice_59 : decode cX0_workThrice 59 = .ok (.goto (-56), 3) := by decide +kernel
theorem dX0_workThrice_62 : decode cX0_workThrice 62 = .ok (.aload_n 0, 1) := by decide +kernel
theorem dX0_workThrice_63 : decode cX0_workThrice 63 = .ok (.getfield 33, 3) := by decide +kernel
theorem dX0_workThrice_66 : decode cX0_workThrice 66 = .ok (.iconst 0, 1) := by decide +kernel
theorem dX0_workThrice_67 : decode cX0_workThrice 67 = .ok (.iaload, 1) := by decide +kernel
theorem dX0_workThrice_68 : decode cX0_workThrice 68 = .ok (.aload_n 0, 1) := by decide +kernel
theorem dX0_workThrice_69 : decode cX0_workThrice 69 = .ok (.getfield 33, 3) := by decide +kernel
theorem dX0_workThrice_72 : decode cX0_workThrice 72 = .ok (.iconst 1, 1) := by decide +kernel
theorem dX0_workThrice_73 : decode cX0_workThrice 73 = .ok (.iaload, 1) := by decide +kernel
theorem dX0_workThrice_74 : decode cX0_workThrice 74 = .ok (.aload_n 0, 1) := by decide +kernel
theorem dX0_workThrice_75 : decode cX0_workThrice 75 = .ok (.getfield 33, 3) := by decide +kernel
theorem dX0_workThrice_78 : decode cX0_workThrice 78 = .ok (.iconst 2, 1) := by decide +kernel
theorem dX0_workThrice_79 : decode cX0_workThrice 79 = .ok (.iaload, 1) := by decide +kernel
theorem dX0_workThrice_80 : decode cX0_workThrice 80 = .ok (.invokestatic 71, 3) := by decide +kernel
theorem dX0_workThrice_83 : decode cX0_workThrice 83 = .ok (.ireturn, 1) := by decide +kernel
abbrev cX0_workOut : ByteArray := prog_1_method_20_code
def yX0_workOut : MethodName := ⟨RX0, "workOut", "(IIII)I"⟩
theorem dX0_workOut_0 : decode cX0_workOut 0 = .ok (.iload_n 0, 1) := by decide +kernel
theorem dX0_workOut_1 : decode cX0_workOut 1 = .ok (.tableswitch 88 1 9 #[51, 88, 88, 53, 60, 71, 75, 79, 83], 51) := by decide +kernel
theorem dX0_workOut_52 : decode cX0_workOut 52 = .ok (.iload_n 3, 1) := by decide +kernel
theorem dX0_workOut_53 : decode cX0_workOut 53 = .ok (.ireturn, 1) := by decide +kernel
theorem dX0_workOut_54 : decode cX0_workOut 54 = .ok (.iload_n 1, 1) := by decide +kernel
theorem dX0_workOut_55 : decode cX0_workOut 55 = .ok (.iload_n 2, 1) := by decide +kernel
theorem dX0_workOut_56 : decode cX0_workOut 56 = .ok (.iconst 0, 1) := by decide +kernel
theorem dX0_workOut_57 : decode cX0_workOut 57 = .ok (.invokestatic 92, 3) := by decide +kernel
theorem dX0_workOut_60 : decode cX0_workOut 60 = .ok (.ireturn, 1) := by decide +kernel
theorem dX0_workOut_61 : decode cX0_workOut 61 = .ok (.iload_n 1, 1) := by decide +kernel
theorem dX0_workOut_62 : decode cX0_workOut 62 = .ok (.iload_n 2, 1) := by decide +kernel
theorem dX0_workOut_63 : decode cX0_workOut 63 = .ok (.sipush 255, 3) := by decide +kernel
theorem dX0_workOut_66 : decode cX0_workOut 66 = .ok (.ixor, 1) := by decide +kernel
theorem dX0_workOut_67 : decode cX0_workOut 67 = .ok (.iconst 1, 1) := by decide +kernel
theorem dX0_workOut_68 : decode cX0_workOut 68 = .ok (.invokestatic 92, 3) := by decide +kernel
theorem dX0_workOut_71 : decode cX0_workOut 71 = .ok (.ireturn, 1) := by decide +kernel
theorem dX0_workOut_72 : decode cX0_workOut 72 = .ok (.iload_n 1, 1) := by decide +kernel
theorem dX0_workOut_73 : decode cX0_workOut 73 = .ok (.iload_n 2, 1) := by decide +kernel
theorem dX0_workOut_74 : decode cX0_workOut 74 = .ok (.iand, 1) := by decide +kernel
theorem dX0_workOut_75 : decode cX0_workOut 75 = .ok (.ireturn, 1) := by decide +kernel
theorem dX0_workOut_76 : decode cX0_workOut 76 = .ok (.iload_n 1, 1) := by decide +kernel
theorem dX0_workOut_77 : decode cX0_workOut 77 = .ok (.iload_n 2, 1) := by decide +kernel
theorem dX0_workOut_78 : decode cX0_workOut 78 = .ok (.ixor, 1) := by decide +kernel
theorem dX0_workOut_79 : decode cX0_workOut 79 = .ok (.ireturn, 1) := by decide +kernel
theorem dX0_workOut_80 : decode cX0_workOut 80 = .ok (.iload_n 1, 1) := by decide +kernel
theorem dX0_workOut_81 : decode cX0_workOut 81 = .ok (.iconst 1, 1) := by decide +kernel
theorem dX0_workOut_82 : decode cX0_workOut 82 = .ok (.ishr, 1) := by decide +kernel
theorem dX0_workOut_83 : decode cX0_workOut 83 = .ok (.ireturn, 1) := by decide +kernel
theorem dX0_workOut_84 : decode cX0_workOut 84 = .ok (.iload_n 3, 1) := by decide +kernel
theorem dX0_workOut_85 : decode cX0_workOut 85 = .ok (.bipush 31, 2) := by decide +kernel
theorem dX0_workOut_87 : decode cX0_workOut 87 = .ok (.iand, 1) := by decide +kernel
theorem dX0_workOut_88 : decode cX0_workOut 88 = .ok (.ireturn, 1) := by decide +kernel
theorem dX0_workOut_89 : decode cX0_workOut 89 = .ok (.iload_n 2, 1) := by decide +kernel
theorem dX0_workOut_90 : decode cX0_workOut 90 = .ok (.ireturn, 1) := by decide +kernel
abbrev cX0_addBits : ByteArray := prog_1_method_19_code
def yX0_addBits : MethodName := ⟨RX0, "addBits", "(III)I"⟩
theorem dX0_addBits_0 : decode cX0_addBits 0 = .ok (.iconst 0, 1) := by decide +kernel
theorem dX0_addBits_1 : decode cX0_addBits 1 = .ok (.istore_n 3, 1) := by decide +kernel
theorem dX0_addBits_2 : decode cX0_addBits 2 = .ok (.iload_n 2, 1) := by decide +kernel
theorem dX0_addBits_3 : decode cX0_addBits 3 = .ok (.istore 4, 2) := by decide +kernel
theorem dX0_addBits_5 : decode cX0_addBits 5 = .ok (.iconst 0, 1) := by decide +kernel
theorem dX0_addBits_6 : decode cX0_addBits 6 = .ok (.istore 5, 2) := by decide +kernel
theorem dX0_addBits_8 : decode cX0_addBits 8 = .ok (.iload 5, 2) := by decide +kernel
theorem dX0_addBits_10 : decode cX0_addBits 10 = .ok (.bipush 8, 2) := by decide +kernel
theorem dX0_addBits_12 : decode cX0_addBits 12 = .ok (.if_icmp .ge 50, 3) := by decide +kernel
theorem dX0_addBits_15 : decode cX0_addBits 15 = .ok (.iload_n 0, 1) := by decide +kernel
theorem dX0_addBits_16 : decode cX0_addBits 16 = .ok (.iload 5, 2) := by decide +kernel
theorem dX0_addBits_18 : decode cX0_addBits 18 = .ok (.ishr, 1) := by decide +kernel
theorem dX0_addBits_19 : decode cX0_addBits 19 = .ok (.iconst 1, 1) := by decide +kernel
theorem dX0_addBits_20 : decode cX0_addBits 20 = .ok (.iand, 1) := by decide +kernel
theorem dX0_addBits_21 : decode cX0_addBits 21 = .ok (.istore 6, 2) := by decide +kernel
theorem dX0_addBits_23 : decode cX0_addBits 23 = .ok (.iload_n 1, 1) := by decide +kernel
theorem dX0_addBits_24 : decode cX0_addBits 24 = .ok (.iload 5, 2) := by decide +kernel
theorem dX0_addBits_26 : decode cX0_addBits 26 = .ok (.ishr, 1) := by decide +kernel
theorem dX0_addBits_27 : decode cX0_addBits 27 = .ok (.iconst 1, 1) := by decide +kernel
theorem dX0_addBits_28 : decode cX0_addBits 28 = .ok (.iand, 1) := by decide +kernel
theorem dX0_addBits_29 : decode cX0_addBits 29 = .ok (.istore 7, 2) := by decide +kernel
theorem dX0_addBits_31 : decode cX0_addBits 31 = .ok (.iload_n 3, 1) := by decide +kernel
theorem dX0_addBits_32 : decode cX0_addBits 32 = .ok (.iload 6, 2) := by decide +kernel
theorem dX0_addBits_34 : decode cX0_addBits 34 = .ok (.iload 7, 2) := by decide +kernel
theorem dX0_addBits_36 : decode cX0_addBits 36 = .ok (.ixor, 1) := by decide +kernel
theorem dX0_addBits_37 : decode cX0_addBits 37 = .ok (.iload 4, 2) := by decide +kernel
theorem dX0_addBits_39 : decode cX0_addBits 39 = .ok (.ixor, 1) := by decide +kernel
theorem dX0_addBits_40 : decode cX0_addBits 40 = .ok (.iload 5, 2) := by decide +kernel
theorem dX0_addBits_42 : decode cX0_addBits 42 = .ok (.ishl, 1) := by decide +kernel
theorem dX0_addBits_43 : decode cX0_addBits 43 = .ok (.ior, 1) := by decide +kernel
theorem dX0_addBits_44 : decode cX0_addBits 44 = .ok (.istore_n 3, 1) := by decide +kernel
theorem dX0_addBits_45 : decode cX0_addBits 45 = .ok (.iload 6, 2) := by decide +kernel
theorem dX0_addBits_47 : decode cX0_addBits 47 = .ok (.iload 7, 2) := by decide +kernel
theorem dX0_addBits_49 : decode cX0_addBits 49 = .ok (.iload 4, 2) := by decide +kernel
theorem dX0_addBits_51 : decode cX0_addBits 51 = .ok (.invokestatic 71, 3) := by decide +kernel
theorem dX0_addBits_54 : decode cX0_addBits 54 = .ok (.istore 4, 2) := by decide +kernel
theorem dX0_addBits_56 : decode cX0_addBits 56 = .ok (.iinc 5 1, 3) := by decide +kernel
theorem dX0_addBits_59 : decode cX0_addBits 59 = .ok (.goto (-51), 3) := by decide +kernel
theorem dX0_addBits_62 : decode cX0_addBits 62 = .ok (.iload_n 3, 1) := by decide +kernel
theorem dX0_addBits_63 : decode cX0_addBits 63 = .ok (.ireturn, 1) := by decide +kernel
end
section
set_option maxRecDepth 100000
abbrev cX0_passThrice : ByteArray := prog_1_method_22_code
def yX0_passThrice : MethodName := ⟨RX0, "passThrice", "(I)I"⟩
theorem dX0_passThrice_0 : decode cX0_passThrice 0 = .ok (.iconst 0, 1) := by decide +kernel
theorem dX0_passThrice_1 : decode cX0_passThrice 1 = .ok (.istore_n 2, 1) := by decide +kernel
theorem dX0_passThrice_2 : decode cX0_passThrice 2 = .ok (.iload_n 2, 1) := by decide +kernel
theorem dX0_passThrice_3 : decode cX0_passThrice 3 = .ok (.iconst 3, 1) := by decide +kernel
theorem dX0_passThrice_4 : decode cX0_passThrice 4 = .ok (.if_icmp .ge 23, 3) := by decide +kernel
theorem dX0_passThrice_7 : decode cX0_passThrice 7 = .ok (.aload_n 0, 1) := by decide +kernel
theorem dX0_passThrice_8 : decode cX0_passThrice 8 = .ok (.getfield 33, 3) := by decide +kernel
theorem dX0_passThrice_11 : decode cX0_passThrice 11 = .ok (.iload_n 2, 1) := by decide +kernel
theorem dX0_passThrice_12 : decode cX0_passThrice 12 = .ok (.iload_n 1, 1) := by decide +kernel
theorem dX0_passThrice_13 : decode cX0_passThrice 13 = .ok (.aload_n 0, 1) := by decide +kernel
theorem dX0_passThrice_14 : decode cX0_passThrice 14 = .ok (.getfield 20, 3) := by decide +kernel
theorem dX0_passThrice_17 : decode cX0_passThrice 17 = .ok (.iload_n 2, 1) := by decide +kernel
theorem dX0_passThrice_18 : decode cX0_passThrice 18 = .ok (.iaload, 1) := by decide +kernel
theorem dX0_passThrice_19 : decode cX0_passThrice 19 = .ok (.ixor, 1) := by decide +kernel
theorem dX0_passThrice_20 : decode cX0_passThrice 20 = .ok (.iastore, 1) := by decide +kernel
theorem dX0_passThrice_21 : decode cX0_passThrice 21 = .ok (.iinc 2 1, 3) := by decide +kernel
theorem dX0_passThrice_24 : decode cX0_passThrice 24 = .ok (.goto (-22), 3) := by decide +kernel
theorem dX0_passThrice_27 : decode cX0_passThrice 27 = .ok (.aload_n 0, 1) := by decide +kernel
theorem dX0_passThrice_28 : decode cX0_passThrice 28 = .ok (.getfield 33, 3) := by decide +kernel
theorem dX0_passThrice_31 : decode cX0_passThrice 31 = .ok (.iconst 0, 1) := by decide +kernel
theorem dX0_passThrice_32 : decode cX0_passThrice 32 = .ok (.iaload, 1) := by decide +kernel
theorem dX0_passThrice_33 : decode cX0_passThrice 33 = .ok (.aload_n 0, 1) := by decide +kernel
theorem dX0_passThrice_34 : decode cX0_passThrice 34 = .ok (.getfield 33, 3) := by decide +kernel
theorem dX0_passThrice_37 : decode cX0_passThrice 37 = .ok (.iconst 1, 1) := by decide +kernel
theorem dX0_passThrice_38 : decode cX0_passThrice 38 = .ok (.iaload, 1) := by decide +kernel
theorem dX0_passThrice_39 : decode cX0_passThrice 39 = .ok (.aload_n 0, 1) := by decide +kernel
theorem dX0_passThrice_40 : decode cX0_passThrice 40 = .ok (.getfield 33, 3) := by decide +kernel
theorem dX0_passThrice_43 : decode cX0_passThrice 43 = .ok (.iconst 2, 1) := by decide +kernel
theorem dX0_passThrice_44 : decode cX0_passThrice 44 = .ok (.iaload, 1) := by decide +kernel
theorem dX0_passThrice_45 : decode cX0_passThrice 45 = .ok (.invokestatic 71, 3) := by decide +kernel
theorem dX0_passThrice_48 : decode cX0_passThrice 48 = .ok (.ireturn, 1) := by decide +kernel
abbrev cX0_stepOn : ByteArray := prog_1_method_25_code
def yX0_stepOn : MethodName := ⟨RX0, "stepOn", "(IIIII)I"⟩
theorem dX0_stepOn_0 : decode cX0_stepOn 0 = .ok (.iload_n 1, 1) := by decide +kernel
theorem dX0_stepOn_1 : decode cX0_stepOn 1 = .ok (.bipush 9, 2) := by decide +kernel
theorem dX0_stepOn_3 : decode cX0_stepOn 3 = .ok (.if_icmp .ne 16, 3) := by decide +kernel
theorem dX0_stepOn_6 : decode cX0_stepOn 6 = .ok (.aload_n 0, 1) := by decide +kernel
theorem dX0_stepOn_7 : decode cX0_stepOn 7 = .ok (.bipush 9, 2) := by decide +kernel
theorem dX0_stepOn_9 : decode cX0_stepOn 9 = .ok (.iload_n 2, 1) := by decide +kernel
theorem dX0_stepOn_10 : decode cX0_stepOn 10 = .ok (.iload_n 2, 1) := by decide +kernel
theorem dX0_stepOn_11 : decode cX0_stepOn 11 = .ok (.iload_n 3, 1) := by decide +kernel
theorem dX0_stepOn_12 : decode cX0_stepOn 12 = .ok (.invokevirtual 109, 3) := by decide +kernel
theorem dX0_stepOn_15 : decode cX0_stepOn 15 = .ok (.bipush 31, 2) := by decide +kernel
theorem dX0_stepOn_17 : decode cX0_stepOn 17 = .ok (.iand, 1) := by decide +kernel
theorem dX0_stepOn_18 : decode cX0_stepOn 18 = .ok (.ireturn, 1) := by decide +kernel
theorem dX0_stepOn_19 : decode cX0_stepOn 19 = .ok (.aload_n 0, 1) := by decide +kernel
theorem dX0_stepOn_20 : decode cX0_stepOn 20 = .ok (.iload_n 2, 1) := by decide +kernel
theorem dX0_stepOn_21 : decode cX0_stepOn 21 = .ok (.invokevirtual 75, 3) := by decide +kernel
theorem dX0_stepOn_24 : decode cX0_stepOn 24 = .ok (.istore 6, 2) := by decide +kernel
theorem dX0_stepOn_26 : decode cX0_stepOn 26 = .ok (.iload_n 1, 1) := by decide +kernel
theorem dX0_stepOn_27 : decode cX0_stepOn 27 = .ok (.bipush 10, 2) := by decide +kernel
theorem dX0_stepOn_29 : decode cX0_stepOn 29 = .ok (.if_icmp .ne 25, 3) := by decide +kernel
theorem dX0_stepOn_32 : decode cX0_stepOn 32 = .ok (.iload 6, 2) := by decide +kernel
theorem dX0_stepOn_34 : decode cX0_stepOn 34 = .ok (.ifCond .ne 17, 3) := by decide +kernel
theorem dX0_stepOn_37 : decode cX0_stepOn 37 = .ok (.aload_n 0, 1) := by decide +kernel
theorem dX0_stepOn_38 : decode cX0_stepOn 38 = .ok (.iload_n 3, 1) := by decide +kernel
theorem dX0_stepOn_39 : decode cX0_stepOn 39 = .ok (.bipush 31, 2) := by decide +kernel
theorem dX0_stepOn_41 : decode cX0_stepOn 41 = .ok (.iand, 1) := by decide +kernel
theorem dX0_stepOn_42 : decode cX0_stepOn 42 = .ok (.invokevirtual 125, 3) := by decide +kernel
theorem dX0_stepOn_45 : decode cX0_stepOn 45 = .ok (.bipush 31, 2) := by decide +kernel
theorem dX0_stepOn_47 : decode cX0_stepOn 47 = .ok (.iand, 1) := by decide +kernel
theorem dX0_stepOn_48 : decode cX0_stepOn 48 = .ok (.goto 5, 3) := by decide +kernel
theorem dX0_stepOn_51 : decode cX0_stepOn 51 = .ok (.iload 5, 2) := by decide +kernel
theorem dX0_stepOn_53 : decode cX0_stepOn 53 = .ok (.ireturn, 1) := by decide +kernel
theorem dX0_stepOn_54 : decode cX0_stepOn 54 = .ok (.aload_n 0, 1) := by decide +kernel
theorem dX0_stepOn_55 : decode cX0_stepOn 55 = .ok (.getfield 128, 3) := by decide +kernel
theorem dX0_stepOn_58 : decode cX0_stepOn 58 = .ok (.bipush 16, 2) := by decide +kernel
theorem dX0_stepOn_60 : decode cX0_stepOn 60 = .ok (.if_icmp .lt 11, 3) := by decide +kernel
theorem dX0_stepOn_63 : decode cX0_stepOn 63 = .ok (.aload_n 0, 1) := by decide +kernel
theorem dX0_stepOn_64 : decode cX0_stepOn 64 = .ok (.iconst 1, 1) := by decide +kernel
theorem dX0_stepOn_65 : decode cX0_stepOn 65 = .ok (.putfield 121, 3) := by decide +kernel
theorem dX0_stepOn_68 : decode cX0_stepOn 68 = .ok (.iload 4, 2) := by decide +kernel
theorem dX0_stepOn_70 : decode cX0_stepOn 70 = .ok (.ireturn, 1) := by decide +kernel
theorem dX0_stepOn_71 : decode cX0_stepOn 71 = .ok (.aload_n 0, 1) := by decide +kernel
theorem dX0_stepOn_72 : decode cX0_stepOn 72 = .ok (.getfield 30, 3) := by decide +kernel
theorem dX0_stepOn_75 : decode cX0_stepOn 75 = .ok (.aload_n 0, 1) := by decide +kernel
theorem dX0_stepOn_76 : decode cX0_stepOn 76 = .ok (.getfield 128, 3) := by decide +kernel
theorem dX0_stepOn_79 : decode cX0_stepOn 79 = .ok (.aload_n 0, 1) := by decide +kernel
theorem dX0_stepOn_80 : decode cX0_stepOn 80 = .ok (.iload 6, 2) := by decide +kernel
theorem dX0_stepOn_82 : decode cX0_stepOn 82 = .ok (.invokevirtual 125, 3) := by decide +kernel
theorem dX0_stepOn_85 : decode cX0_stepOn 85 = .ok (.i2b, 1) := by decide +kernel
theorem dX0_stepOn_86 : decode cX0_stepOn 86 = .ok (.bastore, 1) := by decide +kernel
theorem dX0_stepOn_87 : decode cX0_stepOn 87 = .ok (.aload_n 0, 1) := by decide +kernel
theorem dX0_stepOn_88 : decode cX0_stepOn 88 = .ok (.dup, 1) := by decide +kernel
theorem dX0_stepOn_89 : decode cX0_stepOn 89 = .ok (.getfield 128, 3) := by decide +kernel
theorem dX0_stepOn_92 : decode cX0_stepOn 92 = .ok (.iconst 1, 1) := by decide +kernel
theorem dX0_stepOn_93 : decode cX0_stepOn 93 = .ok (.iadd, 1) := by decide +kernel
theorem dX0_stepOn_94 : decode cX0_stepOn 94 = .ok (.putfield 128, 3) := by decide +kernel
theorem dX0_stepOn_97 : decode cX0_stepOn 97 = .ok (.iload 5, 2) := by decide +kernel
theorem dX0_stepOn_99 : decode cX0_stepOn 99 = .ok (.ireturn, 1) := by decide +kernel
abbrev cX0_reset : ByteArray := prog_1_method_31_code
def yX0_reset : MethodName := ⟨RX0, "reset", "()V"⟩
theorem dX0_reset_0 : decode cX0_reset 0 = .ok (.iconst 0, 1) := by decide +kernel
theorem dX0_reset_1 : decode cX0_reset 1 = .ok (.istore_n 1, 1) := by decide +kernel
theorem dX0_reset_2 : decode cX0_reset 2 = .ok (.iload_n 1, 1) := by decide +kernel
theorem dX0_reset_3 : decode cX0_reset 3 = .ok (.iconst 4, 1) := by decide +kernel
theorem dX0_reset_4 : decode cX0_reset 4 = .ok (.if_icmp .ge 22, 3) := by decide +kernel
theorem dX0_reset_7 : decode cX0_reset 7 = .ok (.aload_n 0, 1) := by decide +kernel
theorem dX0_reset_8 : decode cX0_reset 8 = .ok (.iload_n 1, 1) := by decide +kernel
theorem dX0_reset_9 : decode cX0_reset 9 = .ok (.iconst 0, 1) := by decide +kernel
theorem dX0_reset_10 : decode cX0_reset 10 = .ok (.invokevirtual 78, 3) := by decide +kernel
theorem dX0_reset_13 : decode cX0_reset 13 = .ok (.aload_n 0, 1) := by decide +kernel
theorem dX0_reset_14 : decode cX0_reset 14 = .ok (.getfield 16, 3) := by decide +kernel
theorem dX0_reset_17 : decode cX0_reset 17 = .ok (.iload_n 1, 1) := by decide +kernel
theorem dX0_reset_18 : decode cX0_reset 18 = .ok (.iconst 0, 1) := by decide +kernel
theorem dX0_reset_19 : decode cX0_reset 19 = .ok (.bastore, 1) := by decide +kernel
theorem dX0_reset_20 : decode cX0_reset 20 = .ok (.iinc 1 1, 3) := by decide +kernel
theorem dX0_reset_23 : decode cX0_reset 23 = .ok (.goto (-21), 3) := by decide +kernel
theorem dX0_reset_26 : decode cX0_reset 26 = .ok (.aload_n 0, 1) := by decide +kernel
theorem dX0_reset_27 : decode cX0_reset 27 = .ok (.iconst 0, 1) := by decide +kernel
theorem dX0_reset_28 : decode cX0_reset 28 = .ok (.invokevirtual 85, 3) := by decide +kernel
theorem dX0_reset_31 : decode cX0_reset 31 = .ok (.aload_n 0, 1) := by decide +kernel
theorem dX0_reset_32 : decode cX0_reset 32 = .ok (.iconst 0, 1) := by decide +kernel
theorem dX0_reset_33 : decode cX0_reset 33 = .ok (.putfield 88, 3) := by decide +kernel
theorem dX0_reset_36 : decode cX0_reset 36 = .ok (.iconst 0, 1) := by decide +kernel
theorem dX0_reset_37 : decode cX0_reset 37 = .ok (.istore_n 1, 1) := by decide +kernel
theorem dX0_reset_38 : decode cX0_reset 38 = .ok (.iload_n 1, 1) := by decide +kernel
theorem dX0_reset_39 : decode cX0_reset 39 = .ok (.iconst 3, 1) := by decide +kernel
theorem dX0_reset_40 : decode cX0_reset 40 = .ok (.if_icmp .ge 16, 3) := by decide +kernel
theorem dX0_reset_43 : decode cX0_reset 43 = .ok (.aload_n 0, 1) := by decide +kernel
theorem dX0_reset_44 : decode cX0_reset 44 = .ok (.getfield 20, 3) := by decide +kernel
theorem dX0_reset_47 : decode cX0_reset 47 = .ok (.iload_n 1, 1) := by decide +kernel
theorem dX0_reset_48 : decode cX0_reset 48 = .ok (.iconst 0, 1) := by decide +kernel
theorem dX0_reset_49 : decode cX0_reset 49 = .ok (.iastore, 1) := by decide +kernel
theorem dX0_reset_50 : decode cX0_reset 50 = .ok (.iinc 1 1, 3) := by decide +kernel
theorem dX0_reset_53 : decode cX0_reset 53 = .ok (.goto (-15), 3) := by decide +kernel
theorem dX0_reset_56 : decode cX0_reset 56 = .ok (.aload_n 0, 1) := by decide +kernel
theorem dX0_reset_57 : decode cX0_reset 57 = .ok (.iconst 0, 1) := by decide +kernel
theorem dX0_reset_58 : decode cX0_reset 58 = .ok (.putfield 115, 3) := by decide +kernel
theorem dX0_reset_61 : decode cX0_reset 61 = .ok (.aload_n 0, 1) := by decide +kernel
theorem dX0_reset_62 : decode cX0_reset 62 = .ok (.iconst 0, 1) := by decide +kernel
theorem dX0_reset_63 : decode cX0_reset 63 = .ok (.putfield 128, 3) := by decide +kernel
theorem dX0_reset_66 : decode cX0_reset 66 = .ok (.aload_n 0, 1) := by decide +kernel
theorem dX0_reset_67 : decode cX0_reset 67 = .ok (.iconst 0, 1) := by decide +kernel
theorem dX0_reset_68 : decode cX0_reset 68 = .ok (.putfield 121, 3) := by decide +kernel
theorem dX0_reset_71 : decode cX0_reset 71 = .ok (.return_, 1) := by decide +kernel
abbrev cX0_hitRegister : ByteArray := prog_1_method_32_code
def yX0_hitRegister : MethodName := ⟨RX0, "hitRegister", "(III)Z"⟩
theorem dX0_hitRegister_0 : decode cX0_hitRegister 0 = .ok (.iload_n 1, 1) := by decide +kernel
theorem dX0_hitRegister_1 : decode cX0_hitRegister 1 = .ok (.invokestatic 131, 3) := by decide +kernel
theorem dX0_hitRegister_4 : decode cX0_hitRegister 4 = .ok (.ifCond .eq 37, 3) := by decide +kernel
theorem dX0_hitRegister_7 : decode cX0_hitRegister 7 = .ok (.iload_n 2, 1) := by decide +kernel
theorem dX0_hitRegister_8 : decode cX0_hitRegister 8 = .ok (.invokestatic 137, 3) := by decide +kernel
theorem dX0_hitRegister_11 : decode cX0_hitRegister 11 = .ok (.ifCond .eq 30, 3) := by decide +kernel
theorem dX0_hitRegister_14 : decode cX0_hitRegister 14 = .ok (.iload_n 3, 1) := by decide +kernel
theorem dX0_hitRegister_15 : decode cX0_hitRegister 15 = .ok (.iconst 1, 1) := by decide +kernel
theorem dX0_hitRegister_16 : decode cX0_hitRegister 16 = .ok (.if_icmp .lt 25, 3) := by decide +kernel
theorem dX0_hitRegister_19 : decode cX0_hitRegister 19 = .ok (.iload_n 3, 1) := by decide +kernel
theorem dX0_hitRegister_20 : decode cX0_hitRegister 20 = .ok (.sipush 255, 3) := by decide +kernel
theorem dX0_hitRegister_23 : decode cX0_hitRegister 23 = .ok (.if_icmp .gt 18, 3) := by decide +kernel
theorem dX0_hitRegister_26 : decode cX0_hitRegister 26 = .ok (.aload_n 0, 1) := by decide +kernel
theorem dX0_hitRegister_27 : decode cX0_hitRegister 27 = .ok (.getfield 16, 3) := by decide +kernel
theorem dX0_hitRegister_30 : decode cX0_hitRegister 30 = .ok (.iload_n 1, 1) := by decide +kernel
theorem dX0_hitRegister_31 : decode cX0_hitRegister 31 = .ok (.baload, 1) := by decide +kernel
theorem dX0_hitRegister_32 : decode cX0_hitRegister 32 = .ok (.iconst 1, 1) := by decide +kernel
theorem dX0_hitRegister_33 : decode cX0_hitRegister 33 = .ok (.iload_n 2, 1) := by decide +kernel
theorem dX0_hitRegister_34 : decode cX0_hitRegister 34 = .ok (.ishl, 1) := by decide +kernel
theorem dX0_hitRegister_35 : decode cX0_hitRegister 35 = .ok (.iconst (-1), 1) := by decide +kernel
theorem dX0_hitRegister_36 : decode cX0_hitRegister 36 = .ok (.ixor, 1) := by decide +kernel
theorem dX0_hitRegister_37 : decode cX0_hitRegister 37 = .ok (.iand, 1) := by decide +kernel
theorem dX0_hitRegister_38 : decode cX0_hitRegister 38 = .ok (.ifCond .eq 5, 3) := by decide +kernel
theorem dX0_hitRegister_41 : decode cX0_hitRegister 41 = .ok (.iconst 0, 1) := by decide +kernel
theorem dX0_hitRegister_42 : decode cX0_hitRegister 42 = .ok (.ireturn, 1) := by decide +kernel
theorem dX0_hitRegister_43 : decode cX0_hitRegister 43 = .ok (.aload_n 0, 1) := by decide +kernel
theorem dX0_hitRegister_44 : decode cX0_hitRegister 44 = .ok (.getfield 7, 3) := by decide +kernel
theorem dX0_hitRegister_47 : decode cX0_hitRegister 47 = .ok (.iload_n 1, 1) := by decide +kernel
theorem dX0_hitRegister_48 : decode cX0_hitRegister 48 = .ok (.iconst 3, 1) := by decide +kernel
theorem dX0_hitRegister_49 : decode cX0_hitRegister 49 = .ok (.imul, 1) := by decide +kernel
theorem dX0_hitRegister_50 : decode cX0_hitRegister 50 = .ok (.iload_n 2, 1) := by decide +kernel
theorem dX0_hitRegister_51 : decode cX0_hitRegister 51 = .ok (.iadd, 1) := by decide +kernel
theorem dX0_hitRegister_52 : decode cX0_hitRegister 52 = .ok (.dup2, 1) := by decide +kernel
theorem dX0_hitRegister_53 : decode cX0_hitRegister 53 = .ok (.iaload, 1) := by decide +kernel
theorem dX0_hitRegister_54 : decode cX0_hitRegister 54 = .ok (.iload_n 3, 1) := by decide +kernel
theorem dX0_hitRegister_55 : decode cX0_hitRegister 55 = .ok (.ixor, 1) := by decide +kernel
theorem dX0_hitRegister_56 : decode cX0_hitRegister 56 = .ok (.iastore, 1) := by decide +kernel
theorem dX0_hitRegister_57 : decode cX0_hitRegister 57 = .ok (.aload_n 0, 1) := by decide +kernel
theorem dX0_hitRegister_58 : decode cX0_hitRegister 58 = .ok (.getfield 16, 3) := by decide +kernel
theorem dX0_hitRegister_61 : decode cX0_hitRegister 61 = .ok (.iload_n 1, 1) := by decide +kernel
theorem dX0_hitRegister_62 : decode cX0_hitRegister 62 = .ok (.iconst 1, 1) := by decide +kernel
theorem dX0_hitRegister_63 : decode cX0_hitRegister 63 = .ok (.iload_n 2, 1) := by decide +kernel
theorem dX0_hitRegister_64 : decode cX0_hitRegister 64 = .ok (.ishl, 1) := by decide +kernel
theorem dX0_hitRegister_65 : decode cX0_hitRegister 65 = .ok (.i2b, 1) := by decide +kernel
theorem dX0_hitRegister_66 : decode cX0_hitRegister 66 = .ok (.bastore, 1) := by decide +kernel
theorem dX0_hitRegister_67 : decode cX0_hitRegister 67 = .ok (.iconst 1, 1) := by decide +kernel
theorem dX0_hitRegister_68 : decode cX0_hitRegister 68 = .ok (.ireturn, 1) := by decide +kernel
abbrev cX0_isCopy : ByteArray := prog_1_method_27_code
def yX0_isCopy : MethodName := ⟨RX0, "isCopy", "(I)Z"⟩
theorem dX0_isCopy_0 : decode cX0_isCopy 0 = .ok (.iload_n 0, 1) := by decide +kernel
theorem dX0_isCopy_1 : decode cX0_isCopy 1 = .ok (.ifCond .lt 12, 3) := by decide +kernel
theorem dX0_isCopy_4 : decode cX0_isCopy 4 = .ok (.iload_n 0, 1) := by decide +kernel
theorem dX0_isCopy_5 : decode cX0_isCopy 5 = .ok (.iconst 3, 1) := by decide +kernel
theorem dX0_isCopy_6 : decode cX0_isCopy 6 = .ok (.if_icmp .ge 7, 3) := by decide +kernel
theorem dX0_isCopy_9 : decode cX0_isCopy 9 = .ok (.iconst 1, 1) := by decide +kernel
theorem dX0_isCopy_10 : decode cX0_isCopy 10 = .ok (.goto 4, 3) := by decide +kernel
theorem dX0_isCopy_13 : decode cX0_isCopy 13 = .ok (.iconst 0, 1) := by decide +kernel
theorem dX0_isCopy_14 : decode cX0_isCopy 14 = .ok (.ireturn, 1) := by decide +kernel
abbrev cX0_hitPlace : ByteArray := prog_1_method_33_code
def yX0_hitPlace : MethodName := ⟨RX0, "hitPlace", "(II)Z"⟩
theorem dX0_hitPlace_0 : decode cX0_hitPlace 0 = .ok (.iload_n 1, 1) := by decide +kernel
theorem dX0_hitPlace_1 : decode cX0_hitPlace 1 = .ok (.invokestatic 137, 3) := by decide +kernel
theorem dX0_hitPlace_4 : decode cX0_hitPlace 4 = .ok (.ifCond .eq 27, 3) := by decide +kernel
theorem dX0_hitPlace_7 : decode cX0_hitPlace 7 = .ok (.iload_n 2, 1) := by decide +kernel
theorem dX0_hitPlace_8 : decode cX0_hitPlace 8 = .ok (.iconst 1, 1) := by decide +kernel
theorem dX0_hitPlace_9 : decode cX0_hitPlace 9 = .ok (.if_icmp .lt 22, 3) := by decide +kernel
theorem dX0_hitPlace_12 : decode cX0_hitPlace 12 = .ok (.iload_n 2, 1) := by decide +kernel
theorem dX0_hitPlace_13 : decode cX0_hitPlace 13 = .ok (.bipush 31, 2) := by decide +kernel
theorem dX0_hitPlace_15 : decode cX0_hitPlace 15 = .ok (.if_icmp .gt 16, 3) := by decide +kernel
theorem dX0_hitPlace_18 : decode cX0_hitPlace 18 = .ok (.aload_n 0, 1) := by decide +kernel
theorem dX0_hitPlace_19 : decode cX0_hitPlace 19 = .ok (.getfield 88, 3) := by decide +kernel
theorem dX0_hitPlace_22 : decode cX0_hitPlace 22 = .ok (.iconst 1, 1) := by decide +kernel
theorem dX0_hitPlace_23 : decode cX0_hitPlace 23 = .ok (.iload_n 1, 1) := by decide +kernel
theorem dX0_hitPlace_24 : decode cX0_hitPlace 24 = .ok (.ishl, 1) := by decide +kernel
theorem dX0_hitPlace_25 : decode cX0_hitPlace 25 = .ok (.iconst (-1), 1) := by decide +kernel
theorem dX0_hitPlace_26 : decode cX0_hitPlace 26 = .ok (.ixor, 1) := by decide +kernel
theorem dX0_hitPlace_27 : decode cX0_hitPlace 27 = .ok (.iand, 1) := by decide +kernel
theorem dX0_hitPlace_28 : decode cX0_hitPlace 28 = .ok (.ifCond .eq 5, 3) := by decide +kernel
theorem dX0_hitPlace_31 : decode cX0_hitPlace 31 = .ok (.iconst 0, 1) := by decide +kernel
theorem dX0_hitPlace_32 : decode cX0_hitPlace 32 = .ok (.ireturn, 1) := by decide +kernel
theorem dX0_hitPlace_33 : decode cX0_hitPlace 33 = .ok (.aload_n 0, 1) := by decide +kernel
theorem dX0_hitPlace_34 : decode cX0_hitPlace 34 = .ok (.getfield 13, 3) := by decide +kernel
theorem dX0_hitPlace_37 : decode cX0_hitPlace 37 = .ok (.iload_n 1, 1) := by decide +kernel
theorem dX0_hitPlace_38 : decode cX0_hitPlace 38 = .ok (.dup2, 1) := by decide +kernel
theorem dX0_hitPlace_39 : decode cX0_hitPlace 39 = .ok (.iaload, 1) := by decide +kernel
theorem dX0_hitPlace_40 : decode cX0_hitPlace 40 = .ok (.iload_n 2, 1) := by decide +kernel
theorem dX0_hitPlace_41 : decode cX0_hitPlace 41 = .ok (.ixor, 1) := by decide +kernel
theorem dX0_hitPlace_42 : decode cX0_hitPlace 42 = .ok (.iastore, 1) := by decide +kernel
theorem dX0_hitPlace_43 : decode cX0_hitPlace 43 = .ok (.aload_n 0, 1) := by decide +kernel
theorem dX0_hitPlace_44 : decode cX0_hitPlace 44 = .ok (.iconst 1, 1) := by decide +kernel
theorem dX0_hitPlace_45 : decode cX0_hitPlace 45 = .ok (.iload_n 1, 1) := by decide +kernel
theorem dX0_hitPlace_46 : decode cX0_hitPlace 46 = .ok (.ishl, 1) := by decide +kernel
theorem dX0_hitPlace_47 : decode cX0_hitPlace 47 = .ok (.putfield 88, 3) := by decide +kernel
theorem dX0_hitPlace_50 : decode cX0_hitPlace 50 = .ok (.iconst 1, 1) := by decide +kernel
theorem dX0_hitPlace_51 : decode cX0_hitPlace 51 = .ok (.ireturn, 1) := by decide +kernel
abbrev cX0_hitWork : ByteArray := prog_1_method_34_code
def yX0_hitWork : MethodName := ⟨RX0, "hitWork", "(II)Z"⟩
theorem dX0_hitWork_0 : decode cX0_hitWork 0 = .ok (.iload_n 1, 1) := by decide +kernel
theorem dX0_hitWork_1 : decode cX0_hitWork 1 = .ok (.invokestatic 137, 3) := by decide +kernel
theorem dX0_hitWork_4 : decode cX0_hitWork 4 = .ok (.ifCond .eq 28, 3) := by decide +kernel
theorem dX0_hitWork_7 : decode cX0_hitWork 7 = .ok (.iload_n 2, 1) := by decide +kernel
theorem dX0_hitWork_8 : decode cX0_hitWork 8 = .ok (.iconst 1, 1) := by decide +kernel
theorem dX0_hitWork_9 : decode cX0_hitWork 9 = .ok (.if_icmp .lt 23, 3) := by decide +kernel
theorem dX0_hitWork_12 : decode cX0_hitWork 12 = .ok (.iload_n 2, 1) := by decide +kernel
theorem dX0_hitWork_13 : decode cX0_hitWork 13 = .ok (.sipush 255, 3) := by decide +kernel
theorem dX0_hitWork_16 : decode cX0_hitWork 16 = .ok (.if_icmp .gt 16, 3) := by decide +kernel
theorem dX0_hitWork_19 : decode cX0_hitWork 19 = .ok (.aload_n 0, 1) := by decide +kernel
theorem dX0_hitWork_20 : decode cX0_hitWork 20 = .ok (.getfield 115, 3) := by decide +kernel
theorem dX0_hitWork_23 : decode cX0_hitWork 23 = .ok (.iconst 1, 1) := by decide +kernel
theorem dX0_hitWork_24 : decode cX0_hitWork 24 = .ok (.iload_n 1, 1) := by decide +kernel
theorem dX0_hitWork_25 : decode cX0_hitWork 25 = .ok (.ishl, 1) := by decide +kernel
theorem dX0_hitWork_26 : decode cX0_hitWork 26 = .ok (.iconst (-1), 1) := by decide +kernel
theorem dX0_hitWork_27 : decode cX0_hitWork 27 = .ok (.ixor, 1) := by decide +kernel
theorem dX0_hitWork_28 : decode cX0_hitWork 28 = .ok (.iand, 1) := by decide +kernel
theorem dX0_hitWork_29 : decode cX0_hitWork 29 = .ok (.ifCond .eq 5, 3) := by decide +kernel
theorem dX0_hitWork_32 : decode cX0_hitWork 32 = .ok (.iconst 0, 1) := by decide +kernel
theorem dX0_hitWork_33 : decode cX0_hitWork 33 = .ok (.ireturn, 1) := by decide +kernel
theorem dX0_hitWork_34 : decode cX0_hitWork 34 = .ok (.aload_n 0, 1) := by decide +kernel
theorem dX0_hitWork_35 : decode cX0_hitWork 35 = .ok (.getfield 20, 3) := by decide +kernel
theorem dX0_hitWork_38 : decode cX0_hitWork 38 = .ok (.iload_n 1, 1) := by decide +kernel
theorem dX0_hitWork_39 : decode cX0_hitWork 39 = .ok (.dup2, 1) := by decide +kernel
theorem dX0_hitWork_40 : decode cX0_hitWork 40 = .ok (.iaload, 1) := by decide +kernel
theorem dX0_hitWork_41 : decode cX0_hitWork 41 = .ok (.iload_n 2, 1) := by decide +kernel
theorem dX0_hitWork_42 : decode cX0_hitWork 42 = .ok (.ixor, 1) := by decide +kernel
theorem dX0_hitWork_43 : decode cX0_hitWork 43 = .ok (.iastore, 1) := by decide +kernel
theorem dX0_hitWork_44 : decode cX0_hitWork 44 = .ok (.aload_n 0, 1) := by decide +kernel
theorem dX0_hitWork_45 : decode cX0_hitWork 45 = .ok (.iconst 1, 1) := by decide +kernel
theorem dX0_hitWork_46 : decode cX0_hitWork 46 = .ok (.iload_n 1, 1) := by decide +kernel
theorem dX0_hitWork_47 : decode cX0_hitWork 47 = .ok (.ishl, 1) := by decide +kernel
theorem dX0_hitWork_48 : decode cX0_hitWork 48 = .ok (.putfield 115, 3) := by decide +kernel
theorem dX0_hitWork_51 : decode cX0_hitWork 51 = .ok (.iconst 1, 1) := by decide +kernel
theorem dX0_hitWork_52 : decode cX0_hitWork 52 = .ok (.ireturn, 1) := by decide +kernel
abbrev cX0_hitData : ByteArray := prog_1_method_36_code
def yX0_hitData : MethodName := ⟨RX0, "hitData", "(II)Z"⟩
theorem dX0_hitData_0 : decode cX0_hitData 0 = .ok (.iload_n 1, 1) := by decide +kernel
theorem dX0_hitData_1 : decode cX0_hitData 1 = .ok (.ifCond .lt 19, 3) := by decide +kernel
theorem dX0_hitData_4 : decode cX0_hitData 4 = .ok (.iload_n 1, 1) := by decide +kernel
theorem dX0_hitData_5 : decode cX0_hitData 5 = .ok (.bipush 16, 2) := by decide +kernel
theorem dX0_hitData_7 : decode cX0_hitData 7 = .ok (.if_icmp .ge 13, 3) := by decide +kernel
theorem dX0_hitData_10 : decode cX0_hitData 10 = .ok (.iload_n 2, 1) := by decide +kernel
theorem dX0_hitData_11 : decode cX0_hitData 11 = .ok (.ifCond .lt 9, 3) := by decide +kernel
theorem dX0_hitData_14 : decode cX0_hitData 14 = .ok (.iload_n 2, 1) := by decide +kernel
theorem dX0_hitData_15 : decode cX0_hitData 15 = .ok (.bipush 13, 2) := by decide +kernel
theorem dX0_hitData_17 : decode cX0_hitData 17 = .ok (.if_icmp .lt 5, 3) := by decide +kernel
theorem dX0_hitData_20 : decode cX0_hitData 20 = .ok (.iconst 0, 1) := by decide +kernel
theorem dX0_hitData_21 : decode cX0_hitData 21 = .ok (.ireturn, 1) := by decide +kernel
theorem dX0_hitData_22 : decode cX0_hitData 22 = .ok (.aload_n 0, 1) := by decide +kernel
theorem dX0_hitData_23 : decode cX0_hitData 23 = .ok (.bipush 32, 2) := by decide +kernel
theorem dX0_hitData_25 : decode cX0_hitData 25 = .ok (.iload_n 1, 1) := by decide +kernel
theorem dX0_hitData_26 : decode cX0_hitData 26 = .ok (.iadd, 1) := by decide +kernel
theorem dX0_hitData_27 : decode cX0_hitData 27 = .ok (.iload_n 2, 1) := by decide +kernel
theorem dX0_hitData_28 : decode cX0_hitData 28 = .ok (.invokevirtual 140, 3) := by decide +kernel
theorem dX0_hitData_31 : decode cX0_hitData 31 = .ok (.ireturn, 1) := by decide +kernel
abbrev cX0_hitWord : ByteArray := prog_1_method_35_code
def yX0_hitWord : MethodName := ⟨RX0, "hitWord", "(II)Z"⟩
theorem dX0_hitWord_0 : decode cX0_hitWord 0 = .ok (.aload_n 0, 1) := by decide +kernel
theorem dX0_hitWord_1 : decode cX0_hitWord 1 = .ok (.getfield 26, 3) := by decide +kernel
theorem dX0_hitWord_4 : decode cX0_hitWord 4 = .ok (.iload_n 1, 1) := by decide +kernel
theorem dX0_hitWord_5 : decode cX0_hitWord 5 = .ok (.baload, 1) := by decide +kernel
theorem dX0_hitWord_6 : decode cX0_hitWord 6 = .ok (.ifCond .eq 5, 3) := by decide +kernel
theorem dX0_hitWord_9 : decode cX0_hitWord 9 = .ok (.iconst 0, 1) := by decide +kernel
theorem dX0_hitWord_10 : decode cX0_hitWord 10 = .ok (.ireturn, 1) := by decide +kernel
theorem dX0_hitWord_11 : decode cX0_hitWord 11 = .ok (.aload_n 0, 1) := by decide +kernel
theorem dX0_hitWord_12 : decode cX0_hitWord 12 = .ok (.getfield 23, 3) := by decide +kernel
theorem dX0_hitWord_15 : decode cX0_hitWord 15 = .ok (.iload_n 1, 1) := by decide +kernel
theorem dX0_hitWord_16 : decode cX0_hitWord 16 = .ok (.dup2, 1) := by decide +kernel
theorem dX0_hitWord_17 : decode cX0_hitWord 17 = .ok (.iaload, 1) := by decide +kernel
theorem dX0_hitWord_18 : decode cX0_hitWord 18 = .ok (.iconst 1, 1) := by decide +kernel
theorem dX0_hitWord_19 : decode cX0_hitWord 19 = .ok (.iload_n 2, 1) := by decide +kernel
theorem dX0_hitWord_20 : decode cX0_hitWord 20 = .ok (.ishl, 1) := by decide +kernel
theorem dX0_hitWord_21 : decode cX0_hitWord 21 = .ok (.ixor, 1) := by decide +kernel
theorem dX0_hitWord_22 : decode cX0_hitWord 22 = .ok (.iastore, 1) := by decide +kernel
theorem dX0_hitWord_23 : decode cX0_hitWord 23 = .ok (.aload_n 0, 1) := by decide +kernel
theorem dX0_hitWord_24 : decode cX0_hitWord 24 = .ok (.getfield 26, 3) := by decide +kernel
theorem dX0_hitWord_27 : decode cX0_hitWord 27 = .ok (.iload_n 1, 1) := by decide +kernel
theorem dX0_hitWord_28 : decode cX0_hitWord 28 = .ok (.iconst 1, 1) := by decide +kernel
theorem dX0_hitWord_29 : decode cX0_hitWord 29 = .ok (.bastore, 1) := by decide +kernel
theorem dX0_hitWord_30 : decode cX0_hitWord 30 = .ok (.iconst 1, 1) := by decide +kernel
theorem dX0_hitWord_31 : decode cX0_hitWord 31 = .ok (.ireturn, 1) := by decide +kernel
abbrev cX0_hitProgram : ByteArray := prog_1_method_37_code
def yX0_hitProgram : MethodName := ⟨RX0, "hitProgram", "(II)Z"⟩
theorem dX0_hitProgram_0 : decode cX0_hitProgram 0 = .ok (.iload_n 1, 1) := by decide +kernel
theorem dX0_hitProgram_1 : decode cX0_hitProgram 1 = .ok (.ifCond .lt 19, 3) := by decide +kernel
theorem dX0_hitProgram_4 : decode cX0_hitProgram 4 = .ok (.iload_n 1, 1) := by decide +kernel
theorem dX0_hitProgram_5 : decode cX0_hitProgram 5 = .ok (.bipush 32, 2) := by decide +kernel
theorem dX0_hitProgram_7 : decode cX0_hitProgram 7 = .ok (.if_icmp .ge 13, 3) := by decide +kernel
theorem dX0_hitProgram_10 : decode cX0_hitProgram 10 = .ok (.iload_n 2, 1) := by decide +kernel
theorem dX0_hitProgram_11 : decode cX0_hitProgram 11 = .ok (.ifCond .lt 9, 3) := by decide +kernel
theorem dX0_hitProgram_14 : decode cX0_hitProgram 14 = .ok (.iload_n 2, 1) := by decide +kernel
theorem dX0_hitProgram_15 : decode cX0_hitProgram 15 = .ok (.bipush 22, 2) := by decide +kernel
theorem dX0_hitProgram_17 : decode cX0_hitProgram 17 = .ok (.if_icmp .lt 5, 3) := by decide +kernel
theorem dX0_hitProgram_20 : decode cX0_hitProgram 20 = .ok (.iconst 0, 1) := by decide +kernel
theorem dX0_hitProgram_21 : decode cX0_hitProgram 21 = .ok (.ireturn, 1) := by decide +kernel
theorem dX0_hitProgram_22 : decode cX0_hitProgram 22 = .ok (.aload_n 0, 1) := by decide +kernel
theorem dX0_hitProgram_23 : decode cX0_hitProgram 23 = .ok (.iload_n 1, 1) := by decide +kernel
theorem dX0_hitProgram_24 : decode cX0_hitProgram 24 = .ok (.iload_n 2, 1) := by decide +kernel
theorem dX0_hitProgram_25 : decode cX0_hitProgram 25 = .ok (.invokevirtual 140, 3) := by decide +kernel
theorem dX0_hitProgram_28 : decode cX0_hitProgram 28 = .ok (.ireturn, 1) := by decide +kernel
abbrev cX0_register : ByteArray := prog_1_method_38_code
def yX0_register : MethodName := ⟨RX0, "register", "(I)I"⟩
theorem dX0_register_0 : decode cX0_register 0 = .ok (.iload_n 1, 1) := by decide +kernel
theorem dX0_register_1 : decode cX0_register 1 = .ok (.invokestatic 131, 3) := by decide +kernel
theorem dX0_register_4 : decode cX0_register 4 = .ok (.ifCond .eq 11, 3) := by decide +kernel
theorem dX0_register_7 : decode cX0_register 7 = .ok (.aload_n 0, 1) := by decide +kernel
theorem dX0_register_8 : decode cX0_register 8 = .ok (.iload_n 1, 1) := by decide +kernel
theorem dX0_register_9 : decode cX0_register 9 = .ok (.invokevirtual 75, 3) := by decide +kernel
theorem dX0_register_12 : decode cX0_register 12 = .ok (.goto 4, 3) := by decide +kernel
theorem dX0_register_15 : decode cX0_register 15 = .ok (.iconst (-1), 1) := by decide +kernel
theorem dX0_register_16 : decode cX0_register 16 = .ok (.ireturn, 1) := by decide +kernel
abbrev cX0_place : ByteArray := prog_1_method_39_code
def yX0_place : MethodName := ⟨RX0, "place", "()I"⟩
theorem dX0_place_0 : decode cX0_place 0 = .ok (.aload_n 0, 1) := by decide +kernel
theorem dX0_place_1 : decode cX0_place 1 = .ok (.invokevirtual 81, 3) := by decide +kernel
theorem dX0_place_4 : decode cX0_place 4 = .ok (.ireturn, 1) := by decide +kernel
abbrev cX0_data : ByteArray := prog_1_method_40_code
def yX0_data : MethodName := ⟨RX0, "data", "(I)I"⟩
theorem dX0_data_0 : decode cX0_data 0 = .ok (.iload_n 1, 1) := by decide +kernel
theorem dX0_data_1 : decode cX0_data 1 = .ok (.ifCond .lt 20, 3) := by decide +kernel
theorem dX0_data_4 : decode cX0_data 4 = .ok (.iload_n 1, 1) := by decide +kernel
theorem dX0_data_5 : decode cX0_data 5 = .ok (.bipush 16, 2) := by decide +kernel
theorem dX0_data_7 : decode cX0_data 7 = .ok (.if_icmp .ge 14, 3) := by decide +kernel
theorem dX0_data_10 : decode cX0_data 10 = .ok (.aload_n 0, 1) := by decide +kernel
theorem dX0_data_11 : decode cX0_data 11 = .ok (.bipush 32, 2) := by decide +kernel
theorem dX0_data_13 : decode cX0_data 13 = .ok (.iload_n 1, 1) := by decide +kernel
theorem dX0_data_14 : decode cX0_data 14 = .ok (.iadd, 1) := by decide +kernel
theorem dX0_data_15 : decode cX0_data 15 = .ok (.invokevirtual 68, 3) := by decide +kernel
theorem dX0_data_18 : decode cX0_data 18 = .ok (.goto 4, 3) := by decide +kernel
theorem dX0_data_21 : decode cX0_data 21 = .ok (.iconst (-1), 1) := by decide +kernel
theorem dX0_data_22 : decode cX0_data 22 = .ok (.ireturn, 1) := by decide +kernel
abbrev cX0_outs : ByteArray := prog_1_method_41_code
def yX0_outs : MethodName := ⟨RX0, "outs", "()I"⟩
theorem dX0_outs_0 : decode cX0_outs 0 = .ok (.aload_n 0, 1) := by decide +kernel
theorem dX0_outs_1 : decode cX0_outs 1 = .ok (.getfield 128, 3) := by decide +kernel
theorem dX0_outs_4 : decode cX0_outs 4 = .ok (.ireturn, 1) := by decide +kernel
abbrev cX0_out : ByteArray := prog_1_method_42_code
def yX0_out : MethodName := ⟨RX0, "out", "(I)I"⟩
theorem dX0_out_0 : decode cX0_out 0 = .ok (.iload_n 1, 1) := by decide +kernel
theorem dX0_out_1 : decode cX0_out 1 = .ok (.ifCond .lt 24, 3) := by decide +kernel
theorem dX0_out_4 : decode cX0_out 4 = .ok (.iload_n 1, 1) := by decide +kernel
theorem dX0_out_5 : decode cX0_out 5 = .ok (.aload_n 0, 1) := by decide +kernel
theorem dX0_out_6 : decode cX0_out 6 = .ok (.getfield 128, 3) := by decide +kernel
theorem dX0_out_9 : decode cX0_out 9 = .ok (.if_icmp .ge 16, 3) := by decide +kernel
theorem dX0_out_12 : decode cX0_out 12 = .ok (.aload_n 0, 1) := by decide +kernel
theorem dX0_out_13 : decode cX0_out 13 = .ok (.getfield 30, 3) := by decide +kernel
theorem dX0_out_16 : decode cX0_out 16 = .ok (.iload_n 1, 1) := by decide +kernel
theorem dX0_out_17 : decode cX0_out 17 = .ok (.baload, 1) := by decide +kernel
theorem dX0_out_18 : decode cX0_out 18 = .ok (.sipush 255, 3) := by decide +kernel
theorem dX0_out_21 : decode cX0_out 21 = .ok (.iand, 1) := by decide +kernel
theorem dX0_out_22 : decode cX0_out 22 = .ok (.goto 4, 3) := by decide +kernel
theorem dX0_out_25 : decode cX0_out 25 = .ok (.iconst (-1), 1) := by decide +kernel
theorem dX0_out_26 : decode cX0_out 26 = .ok (.ireturn, 1) := by decide +kernel
abbrev cX0_stopped : ByteArray := prog_1_method_43_code
def yX0_stopped : MethodName := ⟨RX0, "stopped", "()Z"⟩
theorem dX0_stopped_0 : decode cX0_stopped 0 = .ok (.aload_n 0, 1) := by decide +kernel
theorem dX0_stopped_1 : decode cX0_stopped 1 = .ok (.getfield 121, 3) := by decide +kernel
theorem dX0_stopped_4 : decode cX0_stopped 4 = .ok (.ireturn, 1) := by decide +kernel
abbrev cX0_spoiled : ByteArray := prog_1_method_44_code
def yX0_spoiled : MethodName := ⟨RX0, "spoiled", "()I"⟩
theorem dX0_spoiled_0 : decode cX0_spoiled 0 = .ok (.iconst 0, 1) := by decide +kernel
theorem dX0_spoiled_1 : decode cX0_spoiled 1 = .ok (.istore_n 1, 1) := by decide +kernel
theorem dX0_spoiled_2 : decode cX0_spoiled 2 = .ok (.iconst 0, 1) := by decide +kernel
theorem dX0_spoiled_3 : decode cX0_spoiled 3 = .ok (.istore_n 2, 1) := by decide +kernel
theorem dX0_spoiled_4 : decode cX0_spoiled 4 = .ok (.iload_n 2, 1) := by decide +kernel
theorem dX0_spoiled_5 : decode cX0_spoiled 5 = .ok (.bipush 48, 2) := by decide +kernel
theorem dX0_spoiled_7 : decode cX0_spoiled 7 = .ok (.if_icmp .ge 26, 3) := by decide +kernel
theorem dX0_spoiled_10 : decode cX0_spoiled 10 = .ok (.iload_n 1, 1) := by decide +kernel
theorem dX0_spoiled_11 : decode cX0_spoiled 11 = .ok (.aload_n 0, 1) := by decide +kernel
theorem dX0_spoiled_12 : decode cX0_spoiled 12 = .ok (.getfield 26, 3) := by decide +kernel
theorem dX0_spoiled_15 : decode cX0_spoiled 15 = .ok (.iload_n 2, 1) := by decide +kernel
theorem dX0_spoiled_16 : decode cX0_spoiled 16 = .ok (.baload, 1) := by decide +kernel
theorem dX0_spoiled_17 : decode cX0_spoiled 17 = .ok (.ifCond .eq 7, 3) := by decide +kernel
theorem dX0_spoiled_20 : decode cX0_spoiled 20 = .ok (.iconst 1, 1) := by decide +kernel
theorem dX0_spoiled_21 : decode cX0_spoiled 21 = .ok (.goto 4, 3) := by decide +kernel
theorem dX0_spoiled_24 : decode cX0_spoiled 24 = .ok (.iconst 0, 1) := by decide +kernel
theorem dX0_spoiled_25 : decode cX0_spoiled 25 = .ok (.iadd, 1) := by decide +kernel
theorem dX0_spoiled_26 : decode cX0_spoiled 26 = .ok (.istore_n 1, 1) := by decide +kernel
theorem dX0_spoiled_27 : decode cX0_spoiled 27 = .ok (.iinc 2 1, 3) := by decide +kernel
theorem dX0_spoiled_30 : decode cX0_spoiled 30 = .ok (.goto (-26), 3) := by decide +kernel
theorem dX0_spoiled_33 : decode cX0_spoiled 33 = .ok (.iload_n 1, 1) := by decide +kernel
theorem dX0_spoiled_34 : decode cX0_spoiled 34 = .ok (.ireturn, 1) := by decide +kernel
end
section
/-! ShieldedMachineModel -/
set_option maxRecDepth 100000
def RX1 : String := "ShieldedMachineModel"
def TX1 : u_T := fun k => match k with
  | 0 => ("ShieldedMachineModel", "registers", "[I", false)
  | 1 => ("ShieldedMachineModel", "cells", "[I", false)
  | 2 => ("ShieldedMachineModel", "ops", "[I", false)
  | 3 => ("ShieldedMachineModel", "targets", "[I", false)
  | 4 => ("ShieldedMachineModel", "numbers", "[I", false)
  | 5 => ("ShieldedMachineModel", "at", "I", false)
  | 6 => ("ShieldedMachineModel", "shown", "I", false)
  | 7 => ("ShieldedMachineModel", "paper", "[I", false)
  | 8 => ("ShieldedMachineModel", "halted", "Z", false)
  | 9 => ("ShieldedMachineModel", "done", "I", false)
  | 10 => ("ShieldedMachineModel", "spoilt", "[Z", false)
  | _ => ("ShieldedMachineModel", "hits", "[I", false)
def tyX1 : Nat → FieldType := fun k => match k with
  | 0 => .array .int
  | 1 => .array .int
  | 2 => .array .int
  | 3 => .array .int
  | 4 => .array .int
  | 5 => .int
  | 6 => .int
  | 7 => .array .int
  | 8 => .boolean
  | 9 => .int
  | 10 => .array .boolean
  | _ => .array .int
abbrev wsX10 : List Cond := u_ws RX1 TX1 12
theorem nmX1 : ∀ a, a < 12 → ∀ b, b < 12 → a ≠ b → (TX1 a).2.1 ≠ (TX1 b).2.1 := by decide +kernel
theorem tyX1_ok : ∀ k, k < 12 → parseFieldDescriptor (TX1 k).2.2.1 = some (tyX1 k) := by decide +kernel
abbrev cX1_init : ByteArray := prog_3_method_1_code
def yX1_init : MethodName := ⟨RX1, "<init>", "()V"⟩
theorem dX1_init_0 : decode cX1_init 0 = .ok (.aload_n 0, 1) := by decide +kernel
theorem dX1_init_1 : decode cX1_init 1 = .ok (.invokespecial 1, 3) := by decide +kernel
theorem dX1_init_4 : decode cX1_init 4 = .ok (.aload_n 0, 1) := by decide +kernel
theorem dX1_init_5 : decode cX1_init 5 = .ok (.iconst 4, 1) := by decide +kernel
theorem dX1_init_6 : decode cX1_init 6 = .ok (.newarray .int, 2) := by decide +kernel
theorem dX1_init_8 : decode cX1_init 8 = .ok (.putfield 7, 3) := by decide +kernel
theorem dX1_init_11 : decode cX1_init 11 = .ok (.aload_n 0, 1) := by decide +kernel
theorem dX1_init_12 : decode cX1_init 12 = .ok (.bipush 16, 2) := by decide +kernel
theorem dX1_init_14 : decode cX1_init 14 = .ok (.newarray .int, 2) := by decide +kernel
theorem dX1_init_16 : decode cX1_init 16 = .ok (.putfield 13, 3) := by decide +kernel
theorem dX1_init_19 : decode cX1_init 19 = .ok (.aload_n 0, 1) := by decide +kernel
theorem dX1_init_20 : decode cX1_init 20 = .ok (.bipush 32, 2) := by decide +kernel
theorem dX1_init_22 : decode cX1_init 22 = .ok (.newarray .int, 2) := by decide +kernel
theorem dX1_init_24 : decode cX1_init 24 = .ok (.putfield 16, 3) := by decide +kernel
theorem dX1_init_27 : decode cX1_init 27 = .ok (.aload_n 0, 1) := by decide +kernel
theorem dX1_init_28 : decode cX1_init 28 = .ok (.bipush 32, 2) := by decide +kernel
theorem dX1_init_30 : decode cX1_init 30 = .ok (.newarray .int, 2) := by decide +kernel
theorem dX1_init_32 : decode cX1_init 32 = .ok (.putfield 19, 3) := by decide +kernel
theorem dX1_init_35 : decode cX1_init 35 = .ok (.aload_n 0, 1) := by decide +kernel
theorem dX1_init_36 : decode cX1_init 36 = .ok (.bipush 32, 2) := by decide +kernel
theorem dX1_init_38 : decode cX1_init 38 = .ok (.newarray .int, 2) := by decide +kernel
theorem dX1_init_40 : decode cX1_init 40 = .ok (.putfield 22, 3) := by decide +kernel
theorem dX1_init_43 : decode cX1_init 43 = .ok (.aload_n 0, 1) := by decide +kernel
theorem dX1_init_44 : decode cX1_init 44 = .ok (.bipush 16, 2) := by decide +kernel
theorem dX1_init_46 : decode cX1_init 46 = .ok (.newarray .int, 2) := by decide +kernel
theorem dX1_init_48 : decode cX1_init 48 = .ok (.putfield 25, 3) := by decide +kernel
theorem dX1_init_51 : decode cX1_init 51 = .ok (.aload_n 0, 1) := by decide +kernel
theorem dX1_init_52 : decode cX1_init 52 = .ok (.bipush 48, 2) := by decide +kernel
theorem dX1_init_54 : decode cX1_init 54 = .ok (.newarray .boolean, 2) := by decide +kernel
theorem dX1_init_56 : decode cX1_init 56 = .ok (.putfield 28, 3) := by decide +kernel
theorem dX1_init_59 : decode cX1_init 59 = .ok (.aload_n 0, 1) := by decide +kernel
theorem dX1_init_60 : decode cX1_init 60 = .ok (.bipush 6, 2) := by decide +kernel
theorem dX1_init_62 : decode cX1_init 62 = .ok (.newarray .int, 2) := by decide +kernel
theorem dX1_init_64 : decode cX1_init 64 = .ok (.putfield 32, 3) := by decide +kernel
theorem dX1_init_67 : decode cX1_init 67 = .ok (.return_, 1) := by decide +kernel
abbrev cX1_set : ByteArray := prog_3_method_6_code
def yX1_set : MethodName := ⟨RX1, "set", "(IIII)Z"⟩
theorem dX1_set_0 : decode cX1_set 0 = .ok (.aload_n 0, 1) := by decide +kernel
theorem dX1_set_1 : decode cX1_set 1 = .ok (.iload_n 1, 1) := by decide +kernel
theorem dX1_set_2 : decode cX1_set 2 = .ok (.invokevirtual 35, 3) := by decide +kernel
theorem dX1_set_5 : decode cX1_set 5 = .ok (.ifCond .eq 30, 3) := by decide +kernel
theorem dX1_set_8 : decode cX1_set 8 = .ok (.iload_n 2, 1) := by decide +kernel
theorem dX1_set_9 : decode cX1_set 9 = .ok (.ifCond .lt 26, 3) := by decide +kernel
theorem dX1_set_12 : decode cX1_set 12 = .ok (.iload_n 2, 1) := by decide +kernel
theorem dX1_set_13 : decode cX1_set 13 = .ok (.bipush 13, 2) := by decide +kernel
theorem dX1_set_15 : decode cX1_set 15 = .ok (.if_icmp .gt 20, 3) := by decide +kernel
theorem dX1_set_18 : decode cX1_set 18 = .ok (.aload_n 0, 1) := by decide +kernel
theorem dX1_set_19 : decode cX1_set 19 = .ok (.iload_n 3, 1) := by decide +kernel
theorem dX1_set_20 : decode cX1_set 20 = .ok (.invokevirtual 39, 3) := by decide +kernel
theorem dX1_set_23 : decode cX1_set 23 = .ok (.ifCond .eq 12, 3) := by decide +kernel
theorem dX1_set_26 : decode cX1_set 26 = .ok (.aload_n 0, 1) := by decide +kernel
theorem dX1_set_27 : decode cX1_set 27 = .ok (.iload 4, 2) := by decide +kernel
theorem dX1_set_29 : decode cX1_set 29 = .ok (.invokevirtual 42, 3) := by decide +kernel
theorem dX1_set_32 : decode cX1_set 32 = .ok (.ifCond .ne 5, 3) := by decide +kernel
theorem dX1_set_35 : decode cX1_set 35 = .ok (.iconst 0, 1) := by decide +kernel
theorem dX1_set_36 : decode cX1_set 36 = .ok (.ireturn, 1) := by decide +kernel
theorem dX1_set_37 : decode cX1_set 37 = .ok (.aload_n 0, 1) := by decide +kernel
theorem dX1_set_38 : decode cX1_set 38 = .ok (.getfield 16, 3) := by decide +kernel
theorem dX1_set_41 : decode cX1_set 41 = .ok (.iload_n 1, 1) := by decide +kernel
theorem dX1_set_42 : decode cX1_set 42 = .ok (.iload_n 2, 1) := by decide +kernel
theorem dX1_set_43 : decode cX1_set 43 = .ok (.iastore, 1) := by decide +kernel
theorem dX1_set_44 : decode cX1_set 44 = .ok (.aload_n 0, 1) := by decide +kernel
theorem dX1_set_45 : decode cX1_set 45 = .ok (.getfield 19, 3) := by decide +kernel
theorem dX1_set_48 : decode cX1_set 48 = .ok (.iload_n 1, 1) := by decide +kernel
theorem dX1_set_49 : decode cX1_set 49 = .ok (.iload_n 3, 1) := by decide +kernel
theorem dX1_set_50 : decode cX1_set 50 = .ok (.iastore, 1) := by decide +kernel
theorem dX1_set_51 : decode cX1_set 51 = .ok (.aload_n 0, 1) := by decide +kernel
theorem dX1_set_52 : decode cX1_set 52 = .ok (.getfield 22, 3) := by decide +kernel
theorem dX1_set_55 : decode cX1_set 55 = .ok (.iload_n 1, 1) := by decide +kernel
theorem dX1_set_56 : decode cX1_set 56 = .ok (.iload 4, 2) := by decide +kernel
theorem dX1_set_58 : decode cX1_set 58 = .ok (.iastore, 1) := by decide +kernel
theorem dX1_set_59 : decode cX1_set 59 = .ok (.aload_n 0, 1) := by decide +kernel
theorem dX1_set_60 : decode cX1_set 60 = .ok (.getfield 28, 3) := by decide +kernel
theorem dX1_set_63 : decode cX1_set 63 = .ok (.iload_n 1, 1) := by decide +kernel
theorem dX1_set_64 : decode cX1_set 64 = .ok (.iconst 0, 1) := by decide +kernel
theorem dX1_set_65 : decode cX1_set 65 = .ok (.bastore, 1) := by decide +kernel
theorem dX1_set_66 : decode cX1_set 66 = .ok (.iconst 1, 1) := by decide +kernel
theorem dX1_set_67 : decode cX1_set 67 = .ok (.ireturn, 1) := by decide +kernel
abbrev cX1_isPlace : ByteArray := prog_3_method_5_code
def yX1_isPlace : MethodName := ⟨RX1, "isPlace", "(I)Z"⟩
theorem dX1_isPlace_0 : decode cX1_isPlace 0 = .ok (.iload_n 1, 1) := by decide +kernel
theorem dX1_isPlace_1 : decode cX1_isPlace 1 = .ok (.ifCond .lt 13, 3) := by decide +kernel
theorem dX1_isPlace_4 : decode cX1_isPlace 4 = .ok (.iload_n 1, 1) := by decide +kernel
theorem dX1_isPlace_5 : decode cX1_isPlace 5 = .ok (.bipush 31, 2) := by decide +kernel
theorem dX1_isPlace_7 : decode cX1_isPlace 7 = .ok (.if_icmp .gt 7, 3) := by decide +kernel
theorem dX1_isPlace_10 : decode cX1_isPlace 10 = .ok (.iconst 1, 1) := by decide +kernel
theorem dX1_isPlace_11 : decode cX1_isPlace 11 = .ok (.goto 4, 3) := by decide +kernel
theorem dX1_isPlace_14 : decode cX1_isPlace 14 = .ok (.iconst 0, 1) := by decide +kernel
theorem dX1_isPlace_15 : decode cX1_isPlace 15 = .ok (.ireturn, 1) := by decide +kernel
abbrev cX1_isRegister : ByteArray := prog_3_method_3_code
def yX1_isRegister : MethodName := ⟨RX1, "isRegister", "(I)Z"⟩
theorem dX1_isRegister_0 : decode cX1_isRegister 0 = .ok (.iload_n 1, 1) := by decide +kernel
theorem dX1_isRegister_1 : decode cX1_isRegister 1 = .ok (.ifCond .lt 12, 3) := by decide +kernel
theorem dX1_isRegister_4 : decode cX1_isRegister 4 = .ok (.iload_n 1, 1) := by decide +kernel
theorem dX1_isRegister_5 : decode cX1_isRegister 5 = .ok (.iconst 3, 1) := by decide +kernel
theorem dX1_isRegister_6 : decode cX1_isRegister 6 = .ok (.if_icmp .gt 7, 3) := by decide +kernel
theorem dX1_isRegister_9 : decode cX1_isRegister 9 = .ok (.iconst 1, 1) := by decide +kernel
theorem dX1_isRegister_10 : decode cX1_isRegister 10 = .ok (.goto 4, 3) := by decide +kernel
theorem dX1_isRegister_13 : decode cX1_isRegister 13 = .ok (.iconst 0, 1) := by decide +kernel
theorem dX1_isRegister_14 : decode cX1_isRegister 14 = .ok (.ireturn, 1) := by decide +kernel
abbrev cX1_isByte : ByteArray := prog_3_method_2_code
def yX1_isByte : MethodName := ⟨RX1, "isByte", "(I)Z"⟩
theorem dX1_isByte_0 : decode cX1_isByte 0 = .ok (.iload_n 1, 1) := by decide +kernel
theorem dX1_isByte_1 : decode cX1_isByte 1 = .ok (.ifCond .lt 14, 3) := by decide +kernel
theorem dX1_isByte_4 : decode cX1_isByte 4 = .ok (.iload_n 1, 1) := by decide +kernel
theorem dX1_isByte_5 : decode cX1_isByte 5 = .ok (.sipush 255, 3) := by decide +kernel
theorem dX1_isByte_8 : decode cX1_isByte 8 = .ok (.if_icmp .gt 7, 3) := by decide +kernel
theorem dX1_isByte_11 : decode cX1_isByte 11 = .ok (.iconst 1, 1) := by decide +kernel
theorem dX1_isByte_12 : decode cX1_isByte 12 = .ok (.goto 4, 3) := by decide +kernel
theorem dX1_isByte_15 : decode cX1_isByte 15 = .ok (.iconst 0, 1) := by decide +kernel
theorem dX1_isByte_16 : decode cX1_isByte 16 = .ok (.ireturn, 1) := by decide +kernel
abbrev cX1_setData : ByteArray := prog_3_method_7_code
def yX1_setData : MethodName := ⟨RX1, "setData", "(II)Z"⟩
theorem dX1_setData_0 : decode cX1_setData 0 = .ok (.aload_n 0, 1) := by decide +kernel
theorem dX1_setData_1 : decode cX1_setData 1 = .ok (.iload_n 1, 1) := by decide +kernel
theorem dX1_setData_2 : decode cX1_setData 2 = .ok (.invokevirtual 45, 3) := by decide +kernel
theorem dX1_setData_5 : decode cX1_setData 5 = .ok (.ifCond .eq 11, 3) := by decide +kernel
theorem dX1_setData_8 : decode cX1_setData 8 = .ok (.aload_n 0, 1) := by decide +kernel
theorem dX1_setData_9 : decode cX1_setData 9 = .ok (.iload_n 2, 1) := by decide +kernel
theorem dX1_setData_10 : decode cX1_setData 10 = .ok (.invokevirtual 42, 3) := by decide +kernel
theorem dX1_setData_13 : decode cX1_setData 13 = .ok (.ifCond .ne 5, 3) := by decide +kernel
theorem dX1_setData_16 : decode cX1_setData 16 = .ok (.iconst 0, 1) := by decide +kernel
theorem dX1_setData_17 : decode cX1_setData 17 = .ok (.ireturn, 1) := by decide +kernel
theorem dX1_setData_18 : decode cX1_setData 18 = .ok (.aload_n 0, 1) := by decide +kernel
theorem dX1_setData_19 : decode cX1_setData 19 = .ok (.getfield 13, 3) := by decide +kernel
theorem dX1_setData_22 : decode cX1_setData 22 = .ok (.iload_n 1, 1) := by decide +kernel
theorem dX1_setData_23 : decode cX1_setData 23 = .ok (.iload_n 2, 1) := by decide +kernel
theorem dX1_setData_24 : decode cX1_setData 24 = .ok (.iastore, 1) := by decide +kernel
theorem dX1_setData_25 : decode cX1_setData 25 = .ok (.aload_n 0, 1) := by decide +kernel
theorem dX1_setData_26 : decode cX1_setData 26 = .ok (.getfield 28, 3) := by decide +kernel
theorem dX1_setData_29 : decode cX1_setData 29 = .ok (.bipush 32, 2) := by decide +kernel
theorem dX1_setData_31 : decode cX1_setData 31 = .ok (.iload_n 1, 1) := by decide +kernel
theorem dX1_setData_32 : decode cX1_setData 32 = .ok (.iadd, 1) := by decide +kernel
theorem dX1_setData_33 : decode cX1_setData 33 = .ok (.iconst 0, 1) := by decide +kernel
theorem dX1_setData_34 : decode cX1_setData 34 = .ok (.bastore, 1) := by decide +kernel
theorem dX1_setData_35 : decode cX1_setData 35 = .ok (.iconst 1, 1) := by decide +kernel
theorem dX1_setData_36 : decode cX1_setData 36 = .ok (.ireturn, 1) := by decide +kernel
abbrev cX1_isCell : ByteArray := prog_3_method_4_code
def yX1_isCell : MethodName := ⟨RX1, "isCell", "(I)Z"⟩
theorem dX1_isCell_0 : decode cX1_isCell 0 = .ok (.iload_n 1, 1) := by decide +kernel
theorem dX1_isCell_1 : decode cX1_isCell 1 = .ok (.ifCond .lt 13, 3) := by decide +kernel
theorem dX1_isCell_4 : decode cX1_isCell 4 = .ok (.iload_n 1, 1) := by decide +kernel
theorem dX1_isCell_5 : decode cX1_isCell 5 = .ok (.bipush 15, 2) := by decide +kernel
theorem dX1_isCell_7 : decode cX1_isCell 7 = .ok (.if_icmp .gt 7, 3) := by decide +kernel
theorem dX1_isCell_10 : decode cX1_isCell 10 = .ok (.iconst 1, 1) := by decide +kernel
theorem dX1_isCell_11 : decode cX1_isCell 11 = .ok (.goto 4, 3) := by decide +kernel
theorem dX1_isCell_14 : decode cX1_isCell 14 = .ok (.iconst 0, 1) := by decide +kernel
theorem dX1_isCell_15 : decode cX1_isCell 15 = .ok (.ireturn, 1) := by decide +kernel
abbrev cX1_run : ByteArray := prog_3_method_13_code
def yX1_run : MethodName := ⟨RX1, "run", "(I)I"⟩
theorem dX1_run_0 : decode cX1_run 0 = .ok (.iload_n 1, 1) := by decide +kernel
theorem dX1_run_1 : decode cX1_run 1 = .ok (.ifCond .lt 9, 3) := by decide +kernel
theorem dX1_run_4 : decode cX1_run 4 = .ok (.iload_n 1, 1) := by decide +kernel
theorem dX1_run_5 : decode cX1_run 5 = .ok (.bipush 100, 2) := by decide +kernel
theorem dX1_run_7 : decode cX1_run 7 = .ok (.if_icmp .le 5, 3) := by decide +kernel
theorem dX1_run_10 : decode cX1_run 10 = .ok (.iconst (-1), 1) := by decide +kernel
theorem dX1_run_11 : decode cX1_run 11 = .ok (.ireturn, 1) := by decide +kernel
theorem dX1_run_12 : decode cX1_run 12 = .ok (.iconst 0, 1) := by decide +kernel
theorem dX1_run_13 : decode cX1_run 13 = .ok (.istore_n 2, 1) := by decide +kernel
theorem dX1_run_14 : decode cX1_run 14 = .ok (.iload_n 2, 1) := by decide +kernel
theorem dX1_run_15 : decode cX1_run 15 = .ok (.iload_n 1, 1) := by decide +kernel
theorem dX1_run_16 : decode cX1_run 16 = .ok (.if_icmp .ge 20, 3) := by decide +kernel
theorem dX1_run_19 : decode cX1_run 19 = .ok (.aload_n 0, 1) := by decide +kernel
theorem dX1_run_20 : decode cX1_run 20 = .ok (.getfield 52, 3) := by decide +kernel
theorem dX1_run_23 : decode cX1_run 23 = .ok (.ifCond .ne 13, 3) := by decide +kernel
theorem dX1_run_26 : decode cX1_run 26 = .ok (.aload_n 0, 1) := by decide +kernel
theorem dX1_run_27 : decode cX1_run 27 = .ok (.invokevirtual 77, 3) := by decide +kernel
theorem dX1_run_30 : decode cX1_run 30 = .ok (.iinc 2 1, 3) := by decide +kernel
theorem dX1_run_33 : decode cX1_run 33 = .ok (.goto (-19), 3) := by decide +kernel
theorem dX1_run_36 : decode cX1_run 36 = .ok (.iload_n 2, 1) := by decide +kernel
theorem dX1_run_37 : decode cX1_run 37 = .ok (.ireturn, 1) := by decide +kernel
abbrev cX1_once : ByteArray := prog_3_method_11_code
def yX1_once : MethodName := ⟨RX1, "once", "()V"⟩
theorem dX1_once_0 : decode cX1_once 0 = .ok (.aload_n 0, 1) := by decide +kernel
theorem dX1_once_1 : decode cX1_once 1 = .ok (.getfield 16, 3) := by decide +kernel
theorem dX1_once_4 : decode cX1_once 4 = .ok (.aload_n 0, 1) := by decide +kernel
theorem dX1_once_5 : decode cX1_once 5 = .ok (.getfield 56, 3) := by decide +kernel
theorem dX1_once_8 : decode cX1_once 8 = .ok (.iaload, 1) := by decide +kernel
theorem dX1_once_9 : decode cX1_once 9 = .ok (.istore_n 1, 1) := by decide +kernel
theorem dX1_once_10 : decode cX1_once 10 = .ok (.aload_n 0, 1) := by decide +kernel
theorem dX1_once_11 : decode cX1_once 11 = .ok (.getfield 19, 3) := by decide +kernel
theorem dX1_once_14 : decode cX1_once 14 = .ok (.aload_n 0, 1) := by decide +kernel
theorem dX1_once_15 : decode cX1_once 15 = .ok (.getfield 56, 3) := by decide +kernel
theorem dX1_once_18 : decode cX1_once 18 = .ok (.iaload, 1) := by decide +kernel
theorem dX1_once_19 : decode cX1_once 19 = .ok (.istore_n 2, 1) := by decide +kernel
theorem dX1_once_20 : decode cX1_once 20 = .ok (.aload_n 0, 1) := by decide +kernel
theorem dX1_once_21 : decode cX1_once 21 = .ok (.getfield 22, 3) := by decide +kernel
theorem dX1_once_24 : decode cX1_once 24 = .ok (.aload_n 0, 1) := by decide +kernel
theorem dX1_once_25 : decode cX1_once 25 = .ok (.getfield 56, 3) := by decide +kernel
theorem dX1_once_28 : decode cX1_once 28 = .ok (.iaload, 1) := by decide +kernel
theorem dX1_once_29 : decode cX1_once 29 = .ok (.istore_n 3, 1) := by decide +kernel
theorem dX1_once_30 : decode cX1_once 30 = .ok (.aload_n 0, 1) := by decide +kernel
theorem dX1_once_31 : decode cX1_once 31 = .ok (.getfield 7, 3) := by decide +kernel
theorem dX1_once_34 : decode cX1_once 34 = .ok (.iload_n 3, 1) := by decide +kernel
theorem dX1_once_35 : decode cX1_once 35 = .ok (.iconst 4, 1) := by decide +kernel
theorem dX1_once_36 : decode cX1_once 36 = .ok (.irem, 1) := by decide +kernel
theorem dX1_once_37 : decode cX1_once 37 = .ok (.iaload, 1) := by decide +kernel
theorem dX1_once_38 : decode cX1_once 38 = .ok (.istore 4, 2) := by decide +kernel
theorem dX1_once_40 : decode cX1_once 40 = .ok (.aload_n 0, 1) := by decide +kernel
theorem dX1_once_41 : decode cX1_once 41 = .ok (.getfield 56, 3) := by decide +kernel
theorem dX1_once_44 : decode cX1_once 44 = .ok (.iconst 1, 1) := by decide +kernel
theorem dX1_once_45 : decode cX1_once 45 = .ok (.iadd, 1) := by decide +kernel
theorem dX1_once_46 : decode cX1_once 46 = .ok (.bipush 32, 2) := by decide +kernel
theorem dX1_once_48 : decode cX1_once 48 = .ok (.irem, 1) := by decide +kernel
theorem dX1_once_49 : decode cX1_once 49 = .ok (.istore 5, 2) := by decide +kernel
theorem dX1_once_51 : decode cX1_once 51 = .ok (.aload_n 0, 1) := by decide +kernel
theorem dX1_once_52 : decode cX1_once 52 = .ok (.getfield 28, 3) := by decide +kernel
theorem dX1_once_55 : decode cX1_once 55 = .ok (.aload_n 0, 1) := by decide +kernel
theorem dX1_once_56 : decode cX1_once 56 = .ok (.getfield 56, 3) := by decide +kernel
theorem dX1_once_59 : decode cX1_once 59 = .ok (.iconst 0, 1) := by decide +kernel
theorem dX1_once_60 : decode cX1_once 60 = .ok (.bastore, 1) := by decide +kernel
theorem dX1_once_61 : decode cX1_once 61 = .ok (.iload_n 1, 1) := by decide +kernel
theorem dX1_once_62 : decode cX1_once 62 = .ok (.ifCond .ne 11, 3) := by decide +kernel
theorem dX1_once_65 : decode cX1_once 65 = .ok (.aload_n 0, 1) := by decide +kernel
theorem dX1_once_66 : decode cX1_once 66 = .ok (.iconst 1, 1) := by decide +kernel
theorem dX1_once_67 : decode cX1_once 67 = .ok (.putfield 52, 3) := by decide +kernel
theorem dX1_once_70 : decode cX1_once 70 = .ok (.goto 140, 3) := by decide +kernel
theorem dX1_once_73 : decode cX1_once 73 = .ok (.iload_n 1, 1) := by decide +kernel
theorem dX1_once_74 : decode cX1_once 74 = .ok (.iconst 2, 1) := by decide +kernel
theorem dX1_once_75 : decode cX1_once 75 = .ok (.if_icmp .eq 8, 3) := by decide +kernel
theorem dX1_once_78 : decode cX1_once 78 = .ok (.iload_n 1, 1) := by decide +kernel
theorem dX1_once_79 : decode cX1_once 79 = .ok (.iconst 3, 1) := by decide +kernel
theorem dX1_once_80 : decode cX1_once 80 = .ok (.if_icmp .ne 25, 3) := by decide +kernel
theorem dX1_once_83 : decode cX1_once 83 = .ok (.aload_n 0, 1) := by decide +kernel
theorem dX1_once_84 : decode cX1_once 84 = .ok (.iload_n 3, 1) := by decide +kernel
theorem dX1_once_85 : decode cX1_once 85 = .ok (.bipush 16, 2) := by decide +kernel
theorem dX1_once_87 : decode cX1_once 87 = .ok (.irem, 1) := by decide +kernel
theorem dX1_once_88 : decode cX1_once 88 = .ok (.iload_n 2, 1) := by decide +kernel
theorem dX1_once_89 : decode cX1_once 89 = .ok (.iload_n 1, 1) := by decide +kernel
theorem dX1_once_90 : decode cX1_once 90 = .ok (.iconst 3, 1) := by decide +kernel
theorem dX1_once_91 : decode cX1_once 91 = .ok (.if_icmp .ne 7, 3) := by decide +kernel
theorem dX1_once_94 : decode cX1_once 94 = .ok (.iconst 1, 1) := by decide +kernel
theorem dX1_once_95 : decode cX1_once 95 = .ok (.goto 4, 3) := by decide +kernel
theorem dX1_once_98 : decode cX1_once 98 = .ok (.iconst 0, 1) := by decide +kernel
theorem dX1_once_99 : decode cX1_once 99 = .ok (.invokevirtual 59, 3) := by decide +kernel
theorem dX1_once_102 : decode cX1_once 102 = .ok (.goto 108, 3) := by decide +kernel
theorem dX1_once_105 : decode cX1_once 105 = .ok (.iload_n 1, 1) := by decide +kernel
theorem dX1_once_106 : decode cX1_once 106 = .ok (.bipush 12, 2) := by decide +kernel
theorem dX1_once_108 : decode cX1_once 108 = .ok (.if_icmp .eq 9, 3) := by decide +kernel
theorem dX1_once_111 : decode cX1_once 111 = .ok (.iload_n 1, 1) := by decide +kernel
theorem dX1_once_112 : decode cX1_once 112 = .ok (.bipush 13, 2) := by decide +kernel
theorem dX1_once_114 : decode cX1_once 114 = .ok (.if_icmp .ne 27, 3) := by decide +kernel
theorem dX1_once_117 : decode cX1_once 117 = .ok (.aload_n 0, 1) := by decide +kernel
theorem dX1_once_118 : decode cX1_once 118 = .ok (.iload 4, 2) := by decide +kernel
theorem dX1_once_120 : decode cX1_once 120 = .ok (.bipush 16, 2) := by decide +kernel
theorem dX1_once_122 : decode cX1_once 122 = .ok (.irem, 1) := by decide +kernel
theorem dX1_once_123 : decode cX1_once 123 = .ok (.iload_n 2, 1) := by decide +kernel
theorem dX1_once_124 : decode cX1_once 124 = .ok (.iload_n 1, 1) := by decide +kernel
theorem dX1_once_125 : decode cX1_once 125 = .ok (.bipush 13, 2) := by decide +kernel
theorem dX1_once_127 : decode cX1_once 127 = .ok (.if_icmp .ne 7, 3) := by decide +kernel
theorem dX1_once_130 : decode cX1_once 130 = .ok (.iconst 1, 1) := by decide +kernel
theorem dX1_once_131 : decode cX1_once 131 = .ok (.goto 4, 3) := by decide +kernel
theorem dX1_once_134 : decode cX1_once 134 = .ok (.iconst 0, 1) := by decide +kernel
theorem dX1_once_135 : decode cX1_once 135 = .ok (.invokevirtual 59, 3) := by decide +kernel
theorem dX1_once_138 : decode cX1_once 138 = .ok (.goto 72, 3) := by decide +kernel
theorem dX1_once_141 : decode cX1_once 141 = .ok (.iload_n 1, 1) := by decide +kernel
theorem dX1_once_142 : decode cX1_once 142 = .ok (.bipush 11, 2) := by decide +kernel
theorem dX1_once_144 : decode cX1_once 144 = .ok (.if_icmp .ne 16, 3) := by decide +kernel
theorem dX1_once_147 : decode cX1_once 147 = .ok (.aload_n 0, 1) := by decide +kernel
theorem dX1_once_148 : decode cX1_once 148 = .ok (.aload_n 0, 1) := by decide +kernel
theorem dX1_once_149 : decode cX1_once 149 = .ok (.getfield 7, 3) := by decide +kernel
theorem dX1_once_152 : decode cX1_once 152 = .ok (.iload_n 2, 1) := by decide +kernel
theorem dX1_once_153 : decode cX1_once 153 = .ok (.iaload, 1) := by decide +kernel
theorem dX1_once_154 : decode cX1_once 154 = .ok (.invokevirtual 63, 3) := by decide +kernel
theorem dX1_once_157 : decode cX1_once 157 = .ok (.goto 53, 3) := by decide +kernel
theorem dX1_once_160 : decode cX1_once 160 = .ok (.iload_n 1, 1) := by decide +kernel
theorem dX1_once_161 : decode cX1_once 161 = .ok (.bipush 9, 2) := by decide +kernel
theorem dX1_once_163 : decode cX1_once 163 = .ok (.if_icmp .eq 18, 3) := by decide +kernel
theorem dX1_once_166 : decode cX1_once 166 = .ok (.iload_n 1, 1) := by decide +kernel
theorem dX1_once_167 : decode cX1_once 167 = .ok (.bipush 10, 2) := by decide +kernel
theorem dX1_once_169 : decode cX1_once 169 = .ok (.if_icmp .ne 21, 3) := by decide +kernel
theorem dX1_once_172 : decode cX1_once 172 = .ok (.aload_n 0, 1) := by decide +kernel
theorem dX1_once_173 : decode cX1_once 173 = .ok (.getfield 7, 3) := by decide +kernel
theorem dX1_once_176 : decode cX1_once 176 = .ok (.iload_n 2, 1) := by decide +kernel
theorem dX1_once_177 : decode cX1_once 177 = .ok (.iaload, 1) := by decide +kernel
theorem dX1_once_178 : decode cX1_once 178 = .ok (.ifCond .ne 12, 3) := by decide +kernel
theorem dX1_once_181 : decode cX1_once 181 = .ok (.iload_n 3, 1) := by decide +kernel
theorem dX1_once_182 : decode cX1_once 182 = .ok (.bipush 32, 2) := by decide +kernel
theorem dX1_once_184 : decode cX1_once 184 = .ok (.irem, 1) := by decide +kernel
theorem dX1_once_185 : decode cX1_once 185 = .ok (.istore 5, 2) := by decide +kernel
theorem dX1_once_187 : decode cX1_once 187 = .ok (.goto 23, 3) := by decide +kernel
theorem dX1_once_190 : decode cX1_once 190 = .ok (.aload_n 0, 1) := by decide +kernel
theorem dX1_once_191 : decode cX1_once 191 = .ok (.getfield 7, 3) := by decide +kernel
theorem dX1_once_194 : decode cX1_once 194 = .ok (.iload_n 2, 1) := by decide +kernel
theorem dX1_once_195 : decode cX1_once 195 = .ok (.aload_n 0, 1) := by decide +kernel
theorem dX1_once_196 : decode cX1_once 196 = .ok (.iload_n 1, 1) := by decide +kernel
theorem dX1_once_197 : decode cX1_once 197 = .ok (.aload_n 0, 1) := by decide +kernel
theorem dX1_once_198 : decode cX1_once 198 = .ok (.getfield 7, 3) := by decide +kernel
theorem dX1_once_201 : decode cX1_once 201 = .ok (.iload_n 2, 1) := by decide +kernel
theorem dX1_once_202 : decode cX1_once 202 = .ok (.iaload, 1) := by decide +kernel
theorem dX1_once_203 : decode cX1_once 203 = .ok (.iload 4, 2) := by decide +kernel
theorem dX1_once_205 : decode cX1_once 205 = .ok (.iload_n 3, 1) := by decide +kernel
theorem dX1_once_206 : decode cX1_once 206 = .ok (.invokevirtual 67, 3) := by decide +kernel
theorem dX1_once_209 : decode cX1_once 209 = .ok (.iastore, 1) := by decide +kernel
theorem dX1_once_210 : decode cX1_once 210 = .ok (.aload_n 0, 1) := by decide +kernel
theorem dX1_once_211 : decode cX1_once 211 = .ok (.aload_n 0, 1) := by decide +kernel
theorem dX1_once_212 : decode cX1_once 212 = .ok (.getfield 52, 3) := by decide +kernel
theorem dX1_once_215 : decode cX1_once 215 = .ok (.ifCond .eq 10, 3) := by decide +kernel
theorem dX1_once_218 : decode cX1_once 218 = .ok (.aload_n 0, 1) := by decide +kernel
theorem dX1_once_219 : decode cX1_once 219 = .ok (.getfield 56, 3) := by decide +kernel
theorem dX1_once_222 : decode cX1_once 222 = .ok (.goto 5, 3) := by decide +kernel
theorem dX1_once_225 : decode cX1_once 225 = .ok (.iload 5, 2) := by decide +kernel
theorem dX1_once_227 : decode cX1_once 227 = .ok (.putfield 56, 3) := by decide +kernel
theorem dX1_once_230 : decode cX1_once 230 = .ok (.aload_n 0, 1) := by decide +kernel
theorem dX1_once_231 : decode cX1_once 231 = .ok (.getfield 28, 3) := by decide +kernel
theorem dX1_once_234 : decode cX1_once 234 = .ok (.aload_n 0, 1) := by decide +kernel
theorem dX1_once_235 : decode cX1_once 235 = .ok (.getfield 71, 3) := by decide +kernel
theorem dX1_once_238 : decode cX1_once 238 = .ok (.bipush 48, 2) := by decide +kernel
theorem dX1_once_240 : decode cX1_once 240 = .ok (.irem, 1) := by decide +kernel
theorem dX1_once_241 : decode cX1_once 241 = .ok (.iconst 0, 1) := by decide +kernel
theorem dX1_once_242 : decode cX1_once 242 = .ok (.bastore, 1) := by decide +kernel
theorem dX1_once_243 : decode cX1_once 243 = .ok (.aload_n 0, 1) := by decide +kernel
theorem dX1_once_244 : decode cX1_once 244 = .ok (.dup, 1) := by decide +kernel
theorem dX1_once_245 : decode cX1_once 245 = .ok (.getfield 71, 3) := by decide +kernel
theorem dX1_once_248 : decode cX1_once 248 = .ok (.iconst 1, 1) := by decide +kernel
theorem dX1_once_249 : decode cX1_once 249 = .ok (.iadd, 1) := by decide +kernel
theorem dX1_once_250 : decode cX1_once 250 = .ok (.putfield 71, 3) := by decide +kernel
theorem dX1_once_253 : decode cX1_once 253 = .ok (.aload_n 0, 1) := by decide +kernel
theorem dX1_once_254 : decode cX1_once 254 = .ok (.invokevirtual 74, 3) := by decide +kernel
theorem dX1_once_257 : decode cX1_once 257 = .ok (.return_, 1) := by decide +kernel
end
section
set_option maxRecDepth 100000
abbrev cX1_useCell : ByteArray := prog_3_method_9_code
def yX1_useCell : MethodName := ⟨RX1, "useCell", "(IIZ)V"⟩
theorem dX1_useCell_0 : decode cX1_useCell 0 = .ok (.aload_n 0, 1) := by decide +kernel
theorem dX1_useCell_1 : decode cX1_useCell 1 = .ok (.getfield 28, 3) := by decide +kernel
theorem dX1_useCell_4 : decode cX1_useCell 4 = .ok (.bipush 32, 2) := by decide +kernel
theorem dX1_useCell_6 : decode cX1_useCell 6 = .ok (.iload_n 1, 1) := by decide +kernel
theorem dX1_useCell_7 : decode cX1_useCell 7 = .ok (.iadd, 1) := by decide +kernel
theorem dX1_useCell_8 : decode cX1_useCell 8 = .ok (.iconst 0, 1) := by decide +kernel
theorem dX1_useCell_9 : decode cX1_useCell 9 = .ok (.bastore, 1) := by decide +kernel
theorem dX1_useCell_10 : decode cX1_useCell 10 = .ok (.iload_n 3, 1) := by decide +kernel
theorem dX1_useCell_11 : decode cX1_useCell 11 = .ok (.ifCond .eq 18, 3) := by decide +kernel
theorem dX1_useCell_14 : decode cX1_useCell 14 = .ok (.aload_n 0, 1) := by decide +kernel
theorem dX1_useCell_15 : decode cX1_useCell 15 = .ok (.getfield 13, 3) := by decide +kernel
theorem dX1_useCell_18 : decode cX1_useCell 18 = .ok (.iload_n 1, 1) := by decide +kernel
theorem dX1_useCell_19 : decode cX1_useCell 19 = .ok (.aload_n 0, 1) := by decide +kernel
theorem dX1_useCell_20 : decode cX1_useCell 20 = .ok (.getfield 7, 3) := by decide +kernel
theorem dX1_useCell_23 : decode cX1_useCell 23 = .ok (.iload_n 2, 1) := by decide +kernel
theorem dX1_useCell_24 : decode cX1_useCell 24 = .ok (.iaload, 1) := by decide +kernel
theorem dX1_useCell_25 : decode cX1_useCell 25 = .ok (.iastore, 1) := by decide +kernel
theorem dX1_useCell_26 : decode cX1_useCell 26 = .ok (.goto 15, 3) := by decide +kernel
theorem dX1_useCell_29 : decode cX1_useCell 29 = .ok (.aload_n 0, 1) := by decide +kernel
theorem dX1_useCell_30 : decode cX1_useCell 30 = .ok (.getfield 7, 3) := by decide +kernel
theorem dX1_useCell_33 : decode cX1_useCell 33 = .ok (.iload_n 2, 1) := by decide +kernel
theorem dX1_useCell_34 : decode cX1_useCell 34 = .ok (.aload_n 0, 1) := by decide +kernel
theorem dX1_useCell_35 : decode cX1_useCell 35 = .ok (.getfield 13, 3) := by decide +kernel
theorem dX1_useCell_38 : decode cX1_useCell 38 = .ok (.iload_n 1, 1) := by decide +kernel
theorem dX1_useCell_39 : decode cX1_useCell 39 = .ok (.iaload, 1) := by decide +kernel
theorem dX1_useCell_40 : decode cX1_useCell 40 = .ok (.iastore, 1) := by decide +kernel
theorem dX1_useCell_41 : decode cX1_useCell 41 = .ok (.return_, 1) := by decide +kernel
abbrev cX1_putOut : ByteArray := prog_3_method_10_code
def yX1_putOut : MethodName := ⟨RX1, "putOut", "(I)V"⟩
theorem dX1_putOut_0 : decode cX1_putOut 0 = .ok (.aload_n 0, 1) := by decide +kernel
theorem dX1_putOut_1 : decode cX1_putOut 1 = .ok (.getfield 48, 3) := by decide +kernel
theorem dX1_putOut_4 : decode cX1_putOut 4 = .ok (.bipush 16, 2) := by decide +kernel
theorem dX1_putOut_6 : decode cX1_putOut 6 = .ok (.if_icmp .ne 11, 3) := by decide +kernel
theorem dX1_putOut_9 : decode cX1_putOut 9 = .ok (.aload_n 0, 1) := by decide +kernel
theorem dX1_putOut_10 : decode cX1_putOut 10 = .ok (.iconst 1, 1) := by decide +kernel
theorem dX1_putOut_11 : decode cX1_putOut 11 = .ok (.putfield 52, 3) := by decide +kernel
theorem dX1_putOut_14 : decode cX1_putOut 14 = .ok (.goto 23, 3) := by decide +kernel
theorem dX1_putOut_17 : decode cX1_putOut 17 = .ok (.aload_n 0, 1) := by decide +kernel
theorem dX1_putOut_18 : decode cX1_putOut 18 = .ok (.getfield 25, 3) := by decide +kernel
theorem dX1_putOut_21 : decode cX1_putOut 21 = .ok (.aload_n 0, 1) := by decide +kernel
theorem dX1_putOut_22 : decode cX1_putOut 22 = .ok (.getfield 48, 3) := by decide +kernel
theorem dX1_putOut_25 : decode cX1_putOut 25 = .ok (.iload_n 1, 1) := by decide +kernel
theorem dX1_putOut_26 : decode cX1_putOut 26 = .ok (.iastore, 1) := by decide +kernel
theorem dX1_putOut_27 : decode cX1_putOut 27 = .ok (.aload_n 0, 1) := by decide +kernel
theorem dX1_putOut_28 : decode cX1_putOut 28 = .ok (.dup, 1) := by decide +kernel
theorem dX1_putOut_29 : decode cX1_putOut 29 = .ok (.getfield 48, 3) := by decide +kernel
theorem dX1_putOut_32 : decode cX1_putOut 32 = .ok (.iconst 1, 1) := by decide +kernel
theorem dX1_putOut_33 : decode cX1_putOut 33 = .ok (.iadd, 1) := by decide +kernel
theorem dX1_putOut_34 : decode cX1_putOut 34 = .ok (.putfield 48, 3) := by decide +kernel
theorem dX1_putOut_37 : decode cX1_putOut 37 = .ok (.return_, 1) := by decide +kernel
abbrev cX1_calculated : ByteArray := prog_3_method_8_code
def yX1_calculated : MethodName := ⟨RX1, "calculated", "(IIII)I"⟩
theorem dX1_calculated_0 : decode cX1_calculated 0 = .ok (.iload_n 1, 1) := by decide +kernel
theorem dX1_calculated_1 : decode cX1_calculated 1 = .ok (.iconst 1, 1) := by decide +kernel
theorem dX1_calculated_2 : decode cX1_calculated 2 = .ok (.if_icmp .ne 8, 3) := by decide +kernel
theorem dX1_calculated_5 : decode cX1_calculated 5 = .ok (.iload 4, 2) := by decide +kernel
theorem dX1_calculated_7 : decode cX1_calculated 7 = .ok (.goto 70, 3) := by decide +kernel
theorem dX1_calculated_10 : decode cX1_calculated 10 = .ok (.iload_n 1, 1) := by decide +kernel
theorem dX1_calculated_11 : decode cX1_calculated 11 = .ok (.iconst 4, 1) := by decide +kernel
theorem dX1_calculated_12 : decode cX1_calculated 12 = .ok (.if_icmp .ne 13, 3) := by decide +kernel
theorem dX1_calculated_15 : decode cX1_calculated 15 = .ok (.iload_n 2, 1) := by decide +kernel
theorem dX1_calculated_16 : decode cX1_calculated 16 = .ok (.iload_n 3, 1) := by decide +kernel
theorem dX1_calculated_17 : decode cX1_calculated 17 = .ok (.iadd, 1) := by decide +kernel
theorem dX1_calculated_18 : decode cX1_calculated 18 = .ok (.sipush 255, 3) := by decide +kernel
theorem dX1_calculated_21 : decode cX1_calculated 21 = .ok (.iand, 1) := by decide +kernel
theorem dX1_calculated_22 : decode cX1_calculated 22 = .ok (.goto 55, 3) := by decide +kernel
theorem dX1_calculated_25 : decode cX1_calculated 25 = .ok (.iload_n 1, 1) := by decide +kernel
theorem dX1_calculated_26 : decode cX1_calculated 26 = .ok (.iconst 5, 1) := by decide +kernel
theorem dX1_calculated_27 : decode cX1_calculated 27 = .ok (.if_icmp .ne 13, 3) := by decide +kernel
theorem dX1_calculated_30 : decode cX1_calculated 30 = .ok (.iload_n 2, 1) := by decide +kernel
theorem dX1_calculated_31 : decode cX1_calculated 31 = .ok (.iload_n 3, 1) := by decide +kernel
theorem dX1_calculated_32 : decode cX1_calculated 32 = .ok (.isub, 1) := by decide +kernel
theorem dX1_calculated_33 : decode cX1_calculated 33 = .ok (.sipush 255, 3) := by decide +kernel
theorem dX1_calculated_36 : decode cX1_calculated 36 = .ok (.iand, 1) := by decide +kernel
theorem dX1_calculated_37 : decode cX1_calculated 37 = .ok (.goto 40, 3) := by decide +kernel
theorem dX1_calculated_40 : decode cX1_calculated 40 = .ok (.iload_n 1, 1) := by decide +kernel
theorem dX1_calculated_41 : decode cX1_calculated 41 = .ok (.bipush 6, 2) := by decide +kernel
theorem dX1_calculated_43 : decode cX1_calculated 43 = .ok (.if_icmp .ne 9, 3) := by decide +kernel
theorem dX1_calculated_46 : decode cX1_calculated 46 = .ok (.iload_n 2, 1) := by decide +kernel
theorem dX1_calculated_47 : decode cX1_calculated 47 = .ok (.iload_n 3, 1) := by decide +kernel
theorem dX1_calculated_48 : decode cX1_calculated 48 = .ok (.iand, 1) := by decide +kernel
theorem dX1_calculated_49 : decode cX1_calculated 49 = .ok (.goto 28, 3) := by decide +kernel
theorem dX1_calculated_52 : decode cX1_calculated 52 = .ok (.iload_n 1, 1) := by decide +kernel
theorem dX1_calculated_53 : decode cX1_calculated 53 = .ok (.bipush 7, 2) := by decide +kernel
theorem dX1_calculated_55 : decode cX1_calculated 55 = .ok (.if_icmp .ne 9, 3) := by decide +kernel
theorem dX1_calculated_58 : decode cX1_calculated 58 = .ok (.iload_n 2, 1) := by decide +kernel
theorem dX1_calculated_59 : decode cX1_calculated 59 = .ok (.iload_n 3, 1) := by decide +kernel
theorem dX1_calculated_60 : decode cX1_calculated 60 = .ok (.ixor, 1) := by decide +kernel
theorem dX1_calculated_61 : decode cX1_calculated 61 = .ok (.goto 16, 3) := by decide +kernel
theorem dX1_calculated_64 : decode cX1_calculated 64 = .ok (.iload_n 1, 1) := by decide +kernel
theorem dX1_calculated_65 : decode cX1_calculated 65 = .ok (.bipush 8, 2) := by decide +kernel
theorem dX1_calculated_67 : decode cX1_calculated 67 = .ok (.if_icmp .ne 9, 3) := by decide +kernel
theorem dX1_calculated_70 : decode cX1_calculated 70 = .ok (.iload_n 2, 1) := by decide +kernel
theorem dX1_calculated_71 : decode cX1_calculated 71 = .ok (.iconst 2, 1) := by decide +kernel
theorem dX1_calculated_72 : decode cX1_calculated 72 = .ok (.idiv, 1) := by decide +kernel
theorem dX1_calculated_73 : decode cX1_calculated 73 = .ok (.goto 4, 3) := by decide +kernel
theorem dX1_calculated_76 : decode cX1_calculated 76 = .ok (.iload_n 2, 1) := by decide +kernel
theorem dX1_calculated_77 : decode cX1_calculated 77 = .ok (.ireturn, 1) := by decide +kernel
abbrev cX1_forgetHits : ByteArray := prog_3_method_12_code
def yX1_forgetHits : MethodName := ⟨RX1, "forgetHits", "()V"⟩
theorem dX1_forgetHits_0 : decode cX1_forgetHits 0 = .ok (.iconst 0, 1) := by decide +kernel
theorem dX1_forgetHits_1 : decode cX1_forgetHits 1 = .ok (.istore_n 1, 1) := by decide +kernel
theorem dX1_forgetHits_2 : decode cX1_forgetHits 2 = .ok (.iload_n 1, 1) := by decide +kernel
theorem dX1_forgetHits_3 : decode cX1_forgetHits 3 = .ok (.bipush 6, 2) := by decide +kernel
theorem dX1_forgetHits_5 : decode cX1_forgetHits 5 = .ok (.if_icmp .ge 16, 3) := by decide +kernel
theorem dX1_forgetHits_8 : decode cX1_forgetHits 8 = .ok (.aload_n 0, 1) := by decide +kernel
theorem dX1_forgetHits_9 : decode cX1_forgetHits 9 = .ok (.getfield 32, 3) := by decide +kernel
theorem dX1_forgetHits_12 : decode cX1_forgetHits 12 = .ok (.iload_n 1, 1) := by decide +kernel
theorem dX1_forgetHits_13 : decode cX1_forgetHits 13 = .ok (.iconst 0, 1) := by decide +kernel
theorem dX1_forgetHits_14 : decode cX1_forgetHits 14 = .ok (.iastore, 1) := by decide +kernel
theorem dX1_forgetHits_15 : decode cX1_forgetHits 15 = .ok (.iinc 1 1, 3) := by decide +kernel
theorem dX1_forgetHits_18 : decode cX1_forgetHits 18 = .ok (.goto (-16), 3) := by decide +kernel
theorem dX1_forgetHits_21 : decode cX1_forgetHits 21 = .ok (.return_, 1) := by decide +kernel
abbrev cX1_reset : ByteArray := prog_3_method_14_code
def yX1_reset : MethodName := ⟨RX1, "reset", "()V"⟩
theorem dX1_reset_0 : decode cX1_reset 0 = .ok (.iconst 0, 1) := by decide +kernel
theorem dX1_reset_1 : decode cX1_reset 1 = .ok (.istore_n 1, 1) := by decide +kernel
theorem dX1_reset_2 : decode cX1_reset 2 = .ok (.iload_n 1, 1) := by decide +kernel
theorem dX1_reset_3 : decode cX1_reset 3 = .ok (.iconst 4, 1) := by decide +kernel
theorem dX1_reset_4 : decode cX1_reset 4 = .ok (.if_icmp .ge 16, 3) := by decide +kernel
theorem dX1_reset_7 : decode cX1_reset 7 = .ok (.aload_n 0, 1) := by decide +kernel
theorem dX1_reset_8 : decode cX1_reset 8 = .ok (.getfield 7, 3) := by decide +kernel
theorem dX1_reset_11 : decode cX1_reset 11 = .ok (.iload_n 1, 1) := by decide +kernel
theorem dX1_reset_12 : decode cX1_reset 12 = .ok (.iconst 0, 1) := by decide +kernel
theorem dX1_reset_13 : decode cX1_reset 13 = .ok (.iastore, 1) := by decide +kernel
theorem dX1_reset_14 : decode cX1_reset 14 = .ok (.iinc 1 1, 3) := by decide +kernel
theorem dX1_reset_17 : decode cX1_reset 17 = .ok (.goto (-15), 3) := by decide +kernel
theorem dX1_reset_20 : decode cX1_reset 20 = .ok (.aload_n 0, 1) := by decide +kernel
theorem dX1_reset_21 : decode cX1_reset 21 = .ok (.iconst 0, 1) := by decide +kernel
theorem dX1_reset_22 : decode cX1_reset 22 = .ok (.putfield 56, 3) := by decide +kernel
theorem dX1_reset_25 : decode cX1_reset 25 = .ok (.aload_n 0, 1) := by decide +kernel
theorem dX1_reset_26 : decode cX1_reset 26 = .ok (.iconst 0, 1) := by decide +kernel
theorem dX1_reset_27 : decode cX1_reset 27 = .ok (.putfield 48, 3) := by decide +kernel
theorem dX1_reset_30 : decode cX1_reset 30 = .ok (.aload_n 0, 1) := by decide +kernel
theorem dX1_reset_31 : decode cX1_reset 31 = .ok (.iconst 0, 1) := by decide +kernel
theorem dX1_reset_32 : decode cX1_reset 32 = .ok (.putfield 52, 3) := by decide +kernel
theorem dX1_reset_35 : decode cX1_reset 35 = .ok (.aload_n 0, 1) := by decide +kernel
theorem dX1_reset_36 : decode cX1_reset 36 = .ok (.invokevirtual 74, 3) := by decide +kernel
theorem dX1_reset_39 : decode cX1_reset 39 = .ok (.return_, 1) := by decide +kernel
abbrev cX1_hitRegister : ByteArray := prog_3_method_17_code
def yX1_hitRegister : MethodName := ⟨RX1, "hitRegister", "(III)Z"⟩
theorem dX1_hitRegister_0 : decode cX1_hitRegister 0 = .ok (.aload_n 0, 1) := by decide +kernel
theorem dX1_hitRegister_1 : decode cX1_hitRegister 1 = .ok (.iload_n 1, 1) := by decide +kernel
theorem dX1_hitRegister_2 : decode cX1_hitRegister 2 = .ok (.invokevirtual 39, 3) := by decide +kernel
theorem dX1_hitRegister_5 : decode cX1_hitRegister 5 = .ok (.ifCond .eq 21, 3) := by decide +kernel
theorem dX1_hitRegister_8 : decode cX1_hitRegister 8 = .ok (.aload_n 0, 1) := by decide +kernel
theorem dX1_hitRegister_9 : decode cX1_hitRegister 9 = .ok (.iload_n 1, 1) := by decide +kernel
theorem dX1_hitRegister_10 : decode cX1_hitRegister 10 = .ok (.iload_n 2, 1) := by decide +kernel
theorem dX1_hitRegister_11 : decode cX1_hitRegister 11 = .ok (.aload_n 0, 1) := by decide +kernel
theorem dX1_hitRegister_12 : decode cX1_hitRegister 12 = .ok (.iload_n 3, 1) := by decide +kernel
theorem dX1_hitRegister_13 : decode cX1_hitRegister 13 = .ok (.invokevirtual 80, 3) := by decide +kernel
theorem dX1_hitRegister_16 : decode cX1_hitRegister 16 = .ok (.invokevirtual 83, 3) := by decide +kernel
theorem dX1_hitRegister_19 : decode cX1_hitRegister 19 = .ok (.ifCond .eq 7, 3) := by decide +kernel
theorem dX1_hitRegister_22 : decode cX1_hitRegister 22 = .ok (.iconst 1, 1) := by decide +kernel
theorem dX1_hitRegister_23 : decode cX1_hitRegister 23 = .ok (.goto 4, 3) := by decide +kernel
theorem dX1_hitRegister_26 : decode cX1_hitRegister 26 = .ok (.iconst 0, 1) := by decide +kernel
theorem dX1_hitRegister_27 : decode cX1_hitRegister 27 = .ok (.ireturn, 1) := by decide +kernel
abbrev cX1_isMask : ByteArray := prog_3_method_16_code
def yX1_isMask : MethodName := ⟨RX1, "isMask", "(I)Z"⟩
theorem dX1_isMask_0 : decode cX1_isMask 0 = .ok (.iload_n 1, 1) := by decide +kernel
theorem dX1_isMask_1 : decode cX1_isMask 1 = .ok (.iconst 1, 1) := by decide +kernel
theorem dX1_isMask_2 : decode cX1_isMask 2 = .ok (.if_icmp .lt 14, 3) := by decide +kernel
theorem dX1_isMask_5 : decode cX1_isMask 5 = .ok (.iload_n 1, 1) := by decide +kernel
theorem dX1_isMask_6 : decode cX1_isMask 6 = .ok (.sipush 255, 3) := by decide +kernel
theorem dX1_isMask_9 : decode cX1_isMask 9 = .ok (.if_icmp .gt 7, 3) := by decide +kernel
theorem dX1_isMask_12 : decode cX1_isMask 12 = .ok (.iconst 1, 1) := by decide +kernel
theorem dX1_isMask_13 : decode cX1_isMask 13 = .ok (.goto 4, 3) := by decide +kernel
theorem dX1_isMask_16 : decode cX1_isMask 16 = .ok (.iconst 0, 1) := by decide +kernel
theorem dX1_isMask_17 : decode cX1_isMask 17 = .ok (.ireturn, 1) := by decide +kernel
abbrev cX1_hit : ByteArray := prog_3_method_15_code
def yX1_hit : MethodName := ⟨RX1, "hit", "(IIZ)Z"⟩
theorem dX1_hit_0 : decode cX1_hit 0 = .ok (.iload_n 3, 1) := by decide +kernel
theorem dX1_hit_1 : decode cX1_hit 1 = .ok (.ifCond .eq 33, 3) := by decide +kernel
theorem dX1_hit_4 : decode cX1_hit 4 = .ok (.iload_n 2, 1) := by decide +kernel
theorem dX1_hit_5 : decode cX1_hit 5 = .ok (.ifCond .lt 29, 3) := by decide +kernel
theorem dX1_hit_8 : decode cX1_hit 8 = .ok (.iload_n 2, 1) := by decide +kernel
theorem dX1_hit_9 : decode cX1_hit 9 = .ok (.iconst 2, 1) := by decide +kernel
theorem dX1_hit_10 : decode cX1_hit 10 = .ok (.if_icmp .gt 24, 3) := by decide +kernel
theorem dX1_hit_13 : decode cX1_hit 13 = .ok (.aload_n 0, 1) := by decide +kernel
theorem dX1_hit_14 : decode cX1_hit 14 = .ok (.getfield 32, 3) := by decide +kernel
theorem dX1_hit_17 : decode cX1_hit 17 = .ok (.iload_n 1, 1) := by decide +kernel
theorem dX1_hit_18 : decode cX1_hit 18 = .ok (.iaload, 1) := by decide +kernel
theorem dX1_hit_19 : decode cX1_hit 19 = .ok (.ifCond .eq 17, 3) := by decide +kernel
theorem dX1_hit_22 : decode cX1_hit 22 = .ok (.aload_n 0, 1) := by decide +kernel
theorem dX1_hit_23 : decode cX1_hit 23 = .ok (.getfield 32, 3) := by decide +kernel
theorem dX1_hit_26 : decode cX1_hit 26 = .ok (.iload_n 1, 1) := by decide +kernel
theorem dX1_hit_27 : decode cX1_hit 27 = .ok (.iaload, 1) := by decide +kernel
theorem dX1_hit_28 : decode cX1_hit 28 = .ok (.iload_n 2, 1) := by decide +kernel
theorem dX1_hit_29 : decode cX1_hit 29 = .ok (.iconst 1, 1) := by decide +kernel
theorem dX1_hit_30 : decode cX1_hit 30 = .ok (.iadd, 1) := by decide +kernel
theorem dX1_hit_31 : decode cX1_hit 31 = .ok (.if_icmp .eq 5, 3) := by decide +kernel
theorem dX1_hit_34 : decode cX1_hit 34 = .ok (.iconst 0, 1) := by decide +kernel
theorem dX1_hit_35 : decode cX1_hit 35 = .ok (.ireturn, 1) := by decide +kernel
theorem dX1_hit_36 : decode cX1_hit 36 = .ok (.aload_n 0, 1) := by decide +kernel
theorem dX1_hit_37 : decode cX1_hit 37 = .ok (.getfield 32, 3) := by decide +kernel
theorem dX1_hit_40 : decode cX1_hit 40 = .ok (.iload_n 1, 1) := by decide +kernel
theorem dX1_hit_41 : decode cX1_hit 41 = .ok (.iload_n 2, 1) := by decide +kernel
theorem dX1_hit_42 : decode cX1_hit 42 = .ok (.iconst 1, 1) := by decide +kernel
theorem dX1_hit_43 : decode cX1_hit 43 = .ok (.iadd, 1) := by decide +kernel
theorem dX1_hit_44 : decode cX1_hit 44 = .ok (.iastore, 1) := by decide +kernel
theorem dX1_hit_45 : decode cX1_hit 45 = .ok (.iconst 1, 1) := by decide +kernel
theorem dX1_hit_46 : decode cX1_hit 46 = .ok (.ireturn, 1) := by decide +kernel
abbrev cX1_hitPlace : ByteArray := prog_3_method_18_code
def yX1_hitPlace : MethodName := ⟨RX1, "hitPlace", "(II)Z"⟩
theorem dX1_hitPlace_0 : decode cX1_hitPlace 0 = .ok (.aload_n 0, 1) := by decide +kernel
theorem dX1_hitPlace_1 : decode cX1_hitPlace 1 = .ok (.iconst 4, 1) := by decide +kernel
theorem dX1_hitPlace_2 : decode cX1_hitPlace 2 = .ok (.iload_n 1, 1) := by decide +kernel
theorem dX1_hitPlace_3 : decode cX1_hitPlace 3 = .ok (.iload_n 2, 1) := by decide +kernel
theorem dX1_hitPlace_4 : decode cX1_hitPlace 4 = .ok (.iconst 1, 1) := by decide +kernel
theorem dX1_hitPlace_5 : decode cX1_hitPlace 5 = .ok (.if_icmp .lt 13, 3) := by decide +kernel
theorem dX1_hitPlace_8 : decode cX1_hitPlace 8 = .ok (.iload_n 2, 1) := by decide +kernel
theorem dX1_hitPlace_9 : decode cX1_hitPlace 9 = .ok (.bipush 31, 2) := by decide +kernel
theorem dX1_hitPlace_11 : decode cX1_hitPlace 11 = .ok (.if_icmp .gt 7, 3) := by decide +kernel
theorem dX1_hitPlace_14 : decode cX1_hitPlace 14 = .ok (.iconst 1, 1) := by decide +kernel
theorem dX1_hitPlace_15 : decode cX1_hitPlace 15 = .ok (.goto 4, 3) := by decide +kernel
theorem dX1_hitPlace_18 : decode cX1_hitPlace 18 = .ok (.iconst 0, 1) := by decide +kernel
theorem dX1_hitPlace_19 : decode cX1_hitPlace 19 = .ok (.invokevirtual 83, 3) := by decide +kernel
theorem dX1_hitPlace_22 : decode cX1_hitPlace 22 = .ok (.ireturn, 1) := by decide +kernel
abbrev cX1_hitWork : ByteArray := prog_3_method_19_code
def yX1_hitWork : MethodName := ⟨RX1, "hitWork", "(II)Z"⟩
theorem dX1_hitWork_0 : decode cX1_hitWork 0 = .ok (.aload_n 0, 1) := by decide +kernel
theorem dX1_hitWork_1 : decode cX1_hitWork 1 = .ok (.iconst 5, 1) := by decide +kernel
theorem dX1_hitWork_2 : decode cX1_hitWork 2 = .ok (.iload_n 1, 1) := by decide +kernel
theorem dX1_hitWork_3 : decode cX1_hitWork 3 = .ok (.aload_n 0, 1) := by decide +kernel
theorem dX1_hitWork_4 : decode cX1_hitWork 4 = .ok (.iload_n 2, 1) := by decide +kernel
theorem dX1_hitWork_5 : decode cX1_hitWork 5 = .ok (.invokevirtual 80, 3) := by decide +kernel
theorem dX1_hitWork_8 : decode cX1_hitWork 8 = .ok (.invokevirtual 83, 3) := by decide +kernel
theorem dX1_hitWork_11 : decode cX1_hitWork 11 = .ok (.ireturn, 1) := by decide +kernel
abbrev cX1_hitData : ByteArray := prog_3_method_21_code
def yX1_hitData : MethodName := ⟨RX1, "hitData", "(II)Z"⟩
theorem dX1_hitData_0 : decode cX1_hitData 0 = .ok (.aload_n 0, 1) := by decide +kernel
theorem dX1_hitData_1 : decode cX1_hitData 1 = .ok (.iload_n 1, 1) := by decide +kernel
theorem dX1_hitData_2 : decode cX1_hitData 2 = .ok (.invokevirtual 45, 3) := by decide +kernel
theorem dX1_hitData_5 : decode cX1_hitData 5 = .ok (.ifCond .eq 28, 3) := by decide +kernel
theorem dX1_hitData_8 : decode cX1_hitData 8 = .ok (.iload_n 2, 1) := by decide +kernel
theorem dX1_hitData_9 : decode cX1_hitData 9 = .ok (.ifCond .lt 24, 3) := by decide +kernel
theorem dX1_hitData_12 : decode cX1_hitData 12 = .ok (.iload_n 2, 1) := by decide +kernel
theorem dX1_hitData_13 : decode cX1_hitData 13 = .ok (.bipush 12, 2) := by decide +kernel
theorem dX1_hitData_15 : decode cX1_hitData 15 = .ok (.if_icmp .gt 18, 3) := by decide +kernel
theorem dX1_hitData_18 : decode cX1_hitData 18 = .ok (.aload_n 0, 1) := by decide +kernel
theorem dX1_hitData_19 : decode cX1_hitData 19 = .ok (.bipush 32, 2) := by decide +kernel
theorem dX1_hitData_21 : decode cX1_hitData 21 = .ok (.iload_n 1, 1) := by decide +kernel
theorem dX1_hitData_22 : decode cX1_hitData 22 = .ok (.iadd, 1) := by decide +kernel
theorem dX1_hitData_23 : decode cX1_hitData 23 = .ok (.invokevirtual 87, 3) := by decide +kernel
theorem dX1_hitData_26 : decode cX1_hitData 26 = .ok (.ifCond .eq 7, 3) := by decide +kernel
theorem dX1_hitData_29 : decode cX1_hitData 29 = .ok (.iconst 1, 1) := by decide +kernel
theorem dX1_hitData_30 : decode cX1_hitData 30 = .ok (.goto 4, 3) := by decide +kernel
theorem dX1_hitData_33 : decode cX1_hitData 33 = .ok (.iconst 0, 1) := by decide +kernel
theorem dX1_hitData_34 : decode cX1_hitData 34 = .ok (.ireturn, 1) := by decide +kernel
abbrev cX1_spoil : ByteArray := prog_3_method_20_code
def yX1_spoil : MethodName := ⟨RX1, "spoil", "(I)Z"⟩
theorem dX1_spoil_0 : decode cX1_spoil 0 = .ok (.aload_n 0, 1) := by decide +kernel
theorem dX1_spoil_1 : decode cX1_spoil 1 = .ok (.getfield 28, 3) := by decide +kernel
theorem dX1_spoil_4 : decode cX1_spoil 4 = .ok (.iload_n 1, 1) := by decide +kernel
theorem dX1_spoil_5 : decode cX1_spoil 5 = .ok (.baload, 1) := by decide +kernel
theorem dX1_spoil_6 : decode cX1_spoil 6 = .ok (.ifCond .eq 5, 3) := by decide +kernel
theorem dX1_spoil_9 : decode cX1_spoil 9 = .ok (.iconst 0, 1) := by decide +kernel
theorem dX1_spoil_10 : decode cX1_spoil 10 = .ok (.ireturn, 1) := by decide +kernel
theorem dX1_spoil_11 : decode cX1_spoil 11 = .ok (.aload_n 0, 1) := by decide +kernel
theorem dX1_spoil_12 : decode cX1_spoil 12 = .ok (.getfield 28, 3) := by decide +kernel
theorem dX1_spoil_15 : decode cX1_spoil 15 = .ok (.iload_n 1, 1) := by decide +kernel
theorem dX1_spoil_16 : decode cX1_spoil 16 = .ok (.iconst 1, 1) := by decide +kernel
theorem dX1_spoil_17 : decode cX1_spoil 17 = .ok (.bastore, 1) := by decide +kernel
theorem dX1_spoil_18 : decode cX1_spoil 18 = .ok (.iconst 1, 1) := by decide +kernel
theorem dX1_spoil_19 : decode cX1_spoil 19 = .ok (.ireturn, 1) := by decide +kernel
abbrev cX1_hitProgram : ByteArray := prog_3_method_22_code
def yX1_hitProgram : MethodName := ⟨RX1, "hitProgram", "(II)Z"⟩
theorem dX1_hitProgram_0 : decode cX1_hitProgram 0 = .ok (.aload_n 0, 1) := by decide +kernel
theorem dX1_hitProgram_1 : decode cX1_hitProgram 1 = .ok (.iload_n 1, 1) := by decide +kernel
theorem dX1_hitProgram_2 : decode cX1_hitProgram 2 = .ok (.invokevirtual 35, 3) := by decide +kernel
theorem dX1_hitProgram_5 : decode cX1_hitProgram 5 = .ok (.ifCond .eq 25, 3) := by decide +kernel
theorem dX1_hitProgram_8 : decode cX1_hitProgram 8 = .ok (.iload_n 2, 1) := by decide +kernel
theorem dX1_hitProgram_9 : decode cX1_hitProgram 9 = .ok (.ifCond .lt 21, 3) := by decide +kernel
theorem dX1_hitProgram_12 : decode cX1_hitProgram 12 = .ok (.iload_n 2, 1) := by decide +kernel
theorem dX1_hitProgram_13 : decode cX1_hitProgram 13 = .ok (.bipush 21, 2) := by decide +kernel
theorem dX1_hitProgram_15 : decode cX1_hitProgram 15 = .ok (.if_icmp .gt 15, 3) := by decide +kernel
theorem dX1_hitProgram_18 : decode cX1_hitProgram 18 = .ok (.aload_n 0, 1) := by decide +kernel
theorem dX1_hitProgram_19 : decode cX1_hitProgram 19 = .ok (.iload_n 1, 1) := by decide +kernel
theorem dX1_hitProgram_20 : decode cX1_hitProgram 20 = .ok (.invokevirtual 87, 3) := by decide +kernel
theorem dX1_hitProgram_23 : decode cX1_hitProgram 23 = .ok (.ifCond .eq 7, 3) := by decide +kernel
theorem dX1_hitProgram_26 : decode cX1_hitProgram 26 = .ok (.iconst 1, 1) := by decide +kernel
theorem dX1_hitProgram_27 : decode cX1_hitProgram 27 = .ok (.goto 4, 3) := by decide +kernel
theorem dX1_hitProgram_30 : decode cX1_hitProgram 30 = .ok (.iconst 0, 1) := by decide +kernel
theorem dX1_hitProgram_31 : decode cX1_hitProgram 31 = .ok (.ireturn, 1) := by decide +kernel
abbrev cX1_register : ByteArray := prog_3_method_23_code
def yX1_register : MethodName := ⟨RX1, "register", "(I)I"⟩
theorem dX1_register_0 : decode cX1_register 0 = .ok (.aload_n 0, 1) := by decide +kernel
theorem dX1_register_1 : decode cX1_register 1 = .ok (.iload_n 1, 1) := by decide +kernel
theorem dX1_register_2 : decode cX1_register 2 = .ok (.invokevirtual 39, 3) := by decide +kernel
theorem dX1_register_5 : decode cX1_register 5 = .ok (.ifCond .eq 12, 3) := by decide +kernel
theorem dX1_register_8 : decode cX1_register 8 = .ok (.aload_n 0, 1) := by decide +kernel
theorem dX1_register_9 : decode cX1_register 9 = .ok (.getfield 7, 3) := by decide +kernel
theorem dX1_register_12 : decode cX1_register 12 = .ok (.iload_n 1, 1) := by decide +kernel
theorem dX1_register_13 : decode cX1_register 13 = .ok (.iaload, 1) := by decide +kernel
theorem dX1_register_14 : decode cX1_register 14 = .ok (.goto 4, 3) := by decide +kernel
theorem dX1_register_17 : decode cX1_register 17 = .ok (.iconst (-1), 1) := by decide +kernel
theorem dX1_register_18 : decode cX1_register 18 = .ok (.ireturn, 1) := by decide +kernel
abbrev cX1_place : ByteArray := prog_3_method_24_code
def yX1_place : MethodName := ⟨RX1, "place", "()I"⟩
theorem dX1_place_0 : decode cX1_place 0 = .ok (.aload_n 0, 1) := by decide +kernel
theorem dX1_place_1 : decode cX1_place 1 = .ok (.getfield 56, 3) := by decide +kernel
theorem dX1_place_4 : decode cX1_place 4 = .ok (.ireturn, 1) := by decide +kernel
abbrev cX1_data : ByteArray := prog_3_method_25_code
def yX1_data : MethodName := ⟨RX1, "data", "(I)I"⟩
theorem dX1_data_0 : decode cX1_data 0 = .ok (.aload_n 0, 1) := by decide +kernel
theorem dX1_data_1 : decode cX1_data 1 = .ok (.iload_n 1, 1) := by decide +kernel
theorem dX1_data_2 : decode cX1_data 2 = .ok (.invokevirtual 45, 3) := by decide +kernel
theorem dX1_data_5 : decode cX1_data 5 = .ok (.ifCond .eq 12, 3) := by decide +kernel
theorem dX1_data_8 : decode cX1_data 8 = .ok (.aload_n 0, 1) := by decide +kernel
theorem dX1_data_9 : decode cX1_data 9 = .ok (.getfield 13, 3) := by decide +kernel
theorem dX1_data_12 : decode cX1_data 12 = .ok (.iload_n 1, 1) := by decide +kernel
theorem dX1_data_13 : decode cX1_data 13 = .ok (.iaload, 1) := by decide +kernel
theorem dX1_data_14 : decode cX1_data 14 = .ok (.goto 4, 3) := by decide +kernel
theorem dX1_data_17 : decode cX1_data 17 = .ok (.iconst (-1), 1) := by decide +kernel
theorem dX1_data_18 : decode cX1_data 18 = .ok (.ireturn, 1) := by decide +kernel
abbrev cX1_outs : ByteArray := prog_3_method_26_code
def yX1_outs : MethodName := ⟨RX1, "outs", "()I"⟩
theorem dX1_outs_0 : decode cX1_outs 0 = .ok (.aload_n 0, 1) := by decide +kernel
theorem dX1_outs_1 : decode cX1_outs 1 = .ok (.getfield 48, 3) := by decide +kernel
theorem dX1_outs_4 : decode cX1_outs 4 = .ok (.ireturn, 1) := by decide +kernel
abbrev cX1_out : ByteArray := prog_3_method_27_code
def yX1_out : MethodName := ⟨RX1, "out", "(I)I"⟩
theorem dX1_out_0 : decode cX1_out 0 = .ok (.iload_n 1, 1) := by decide +kernel
theorem dX1_out_1 : decode cX1_out 1 = .ok (.ifCond .lt 20, 3) := by decide +kernel
theorem dX1_out_4 : decode cX1_out 4 = .ok (.iload_n 1, 1) := by decide +kernel
theorem dX1_out_5 : decode cX1_out 5 = .ok (.aload_n 0, 1) := by decide +kernel
theorem dX1_out_6 : decode cX1_out 6 = .ok (.getfield 48, 3) := by decide +kernel
theorem dX1_out_9 : decode cX1_out 9 = .ok (.if_icmp .ge 12, 3) := by decide +kernel
theorem dX1_out_12 : decode cX1_out 12 = .ok (.aload_n 0, 1) := by decide +kernel
theorem dX1_out_13 : decode cX1_out 13 = .ok (.getfield 25, 3) := by decide +kernel
theorem dX1_out_16 : decode cX1_out 16 = .ok (.iload_n 1, 1) := by decide +kernel
theorem dX1_out_17 : decode cX1_out 17 = .ok (.iaload, 1) := by decide +kernel
theorem dX1_out_18 : decode cX1_out 18 = .ok (.goto 4, 3) := by decide +kernel
theorem dX1_out_21 : decode cX1_out 21 = .ok (.iconst (-1), 1) := by decide +kernel
theorem dX1_out_22 : decode cX1_out 22 = .ok (.ireturn, 1) := by decide +kernel
abbrev cX1_stopped : ByteArray := prog_3_method_28_code
def yX1_stopped : MethodName := ⟨RX1, "stopped", "()Z"⟩
theorem dX1_stopped_0 : decode cX1_stopped 0 = .ok (.aload_n 0, 1) := by decide +kernel
theorem dX1_stopped_1 : decode cX1_stopped 1 = .ok (.getfield 52, 3) := by decide +kernel
theorem dX1_stopped_4 : decode cX1_stopped 4 = .ok (.ireturn, 1) := by decide +kernel
abbrev cX1_spoiled : ByteArray := prog_3_method_29_code
def yX1_spoiled : MethodName := ⟨RX1, "spoiled", "()I"⟩
theorem dX1_spoiled_0 : decode cX1_spoiled 0 = .ok (.iconst 0, 1) := by decide +kernel
theorem dX1_spoiled_1 : decode cX1_spoiled 1 = .ok (.istore_n 1, 1) := by decide +kernel
theorem dX1_spoiled_2 : decode cX1_spoiled 2 = .ok (.iconst 0, 1) := by decide +kernel
theorem dX1_spoiled_3 : decode cX1_spoiled 3 = .ok (.istore_n 2, 1) := by decide +kernel
theorem dX1_spoiled_4 : decode cX1_spoiled 4 = .ok (.iload_n 2, 1) := by decide +kernel
theorem dX1_spoiled_5 : decode cX1_spoiled 5 = .ok (.bipush 48, 2) := by decide +kernel
theorem dX1_spoiled_7 : decode cX1_spoiled 7 = .ok (.if_icmp .ge 26, 3) := by decide +kernel
theorem dX1_spoiled_10 : decode cX1_spoiled 10 = .ok (.aload_n 0, 1) := by decide +kernel
theorem dX1_spoiled_11 : decode cX1_spoiled 11 = .ok (.getfield 28, 3) := by decide +kernel
theorem dX1_spoiled_14 : decode cX1_spoiled 14 = .ok (.iload_n 2, 1) := by decide +kernel
theorem dX1_spoiled_15 : decode cX1_spoiled 15 = .ok (.baload, 1) := by decide +kernel
theorem dX1_spoiled_16 : decode cX1_spoiled 16 = .ok (.ifCond .eq 9, 3) := by decide +kernel
theorem dX1_spoiled_19 : decode cX1_spoiled 19 = .ok (.iload_n 1, 1) := by decide +kernel
theorem dX1_spoiled_20 : decode cX1_spoiled 20 = .ok (.iconst 1, 1) := by decide +kernel
theorem dX1_spoiled_21 : decode cX1_spoiled 21 = .ok (.iadd, 1) := by decide +kernel
theorem dX1_spoiled_22 : decode cX1_spoiled 22 = .ok (.goto 4, 3) := by decide +kernel
theorem dX1_spoiled_25 : decode cX1_spoiled 25 = .ok (.iload_n 1, 1) := by decide +kernel
theorem dX1_spoiled_26 : decode cX1_spoiled 26 = .ok (.istore_n 1, 1) := by decide +kernel
theorem dX1_spoiled_27 : decode cX1_spoiled 27 = .ok (.iinc 2 1, 3) := by decide +kernel
theorem dX1_spoiled_30 : decode cX1_spoiled 30 = .ok (.goto (-26), 3) := by decide +kernel
theorem dX1_spoiled_33 : decode cX1_spoiled 33 = .ok (.iload_n 1, 1) := by decide +kernel
theorem dX1_spoiled_34 : decode cX1_spoiled 34 = .ok (.ireturn, 1) := by decide +kernel
end
section
set_option maxRecDepth 100000
theorem q28 : (Jvm.Cond.initialized "ShieldedMachine") ∈ lw_all := lw_g (lw_at lw_m1 1 rfl) rfl
theorem q31 : (Jvm.Cond.instantiable "ShieldedMachine" (13 : Nat)) ∈ lw_all := lw_g (lw_at lw_m1 4 rfl) rfl
theorem q33 : (Jvm.Cond.instanceMethod ({ cls := "ShieldedMachine", name := "<init>", desc := "()V" } : Jvm.MethodName)) ∈ lw_all := lw_g (lw_at lw_m1 6 rfl) rfl
theorem q34 : (Jvm.Cond.code ({ cls := "ShieldedMachine", name := "<init>", desc := "()V" } : Jvm.MethodName) prog_1_method_1_code (2 : Nat) (Option.none : Option Jvm.ClassFile.FieldType)) ∈ lw_all := lw_g (lw_at lw_m1 7 rfl) rfl
theorem q35 : (Jvm.Cond.methodLink "ShieldedMachine" (1 : Nat) ({ cls := "java/lang/Object", name := "<init>", desc := "()V" } : Jvm.MethodName)) ∈ lw_all := lw_g (lw_at lw_m1 8 rfl) rfl
theorem q38 : (Jvm.Cond.methodLink "ShieldedMachine" (36 : Nat) ({ cls := "ShieldedMachine", name := "writeWord", desc := "(II)V" } : Jvm.MethodName)) ∈ lw_all := lw_g (lw_at lw_m1 11 rfl) rfl
theorem q39 : (Jvm.Cond.privateMethod ({ cls := "ShieldedMachine", name := "writeWord", desc := "(II)V" } : Jvm.MethodName)) ∈ lw_tbl := lw_at lw_m1 12 rfl
theorem q40 : (Jvm.Cond.instanceMethod ({ cls := "ShieldedMachine", name := "writeWord", desc := "(II)V" } : Jvm.MethodName)) ∈ lw_all := lw_g (lw_at lw_m1 13 rfl) rfl
theorem q41 : (Jvm.Cond.code ({ cls := "ShieldedMachine", name := "writeWord", desc := "(II)V" } : Jvm.MethodName) prog_1_method_9_code (4 : Nat) (Option.none : Option Jvm.ClassFile.FieldType)) ∈ lw_all := lw_g (lw_at lw_m1 14 rfl) rfl
theorem q42 : (Jvm.Cond.methodLink "ShieldedMachine" (51 : Nat) ({ cls := "ShieldedMachine", name := "placesOf", desc := "(I)I" } : Jvm.MethodName)) ∈ lw_all := lw_g (lw_at lw_m1 15 rfl) rfl
theorem q43 : (Jvm.Cond.static ({ cls := "ShieldedMachine", name := "placesOf", desc := "(I)I" } : Jvm.MethodName)) ∈ lw_all := lw_g (lw_at lw_m1 16 rfl) rfl
theorem q44 : (Jvm.Cond.code ({ cls := "ShieldedMachine", name := "placesOf", desc := "(I)I" } : Jvm.MethodName) prog_1_method_3_code (1 : Nat) (Option.some Jvm.ClassFile.FieldType.int)) ∈ lw_all := lw_g (lw_at lw_m1 17 rfl) rfl
theorem q45 : (Jvm.Cond.methodLink "ShieldedMachine" (55 : Nat) ({ cls := "ShieldedMachine", name := "encode", desc := "(II)I" } : Jvm.MethodName)) ∈ lw_all := lw_g (lw_at lw_m1 18 rfl) rfl
theorem q46 : (Jvm.Cond.static ({ cls := "ShieldedMachine", name := "encode", desc := "(II)I" } : Jvm.MethodName)) ∈ lw_all := lw_g (lw_at lw_m1 19 rfl) rfl
theorem q47 : (Jvm.Cond.code ({ cls := "ShieldedMachine", name := "encode", desc := "(II)I" } : Jvm.MethodName) prog_1_method_6_code (6 : Nat) (Option.some Jvm.ClassFile.FieldType.int)) ∈ lw_all := lw_g (lw_at lw_m1 20 rfl) rfl
theorem q48 : (Jvm.Cond.methodLink "ShieldedMachine" (40 : Nat) ({ cls := "ShieldedMachine", name := "isPower", desc := "(I)Z" } : Jvm.MethodName)) ∈ lw_all := lw_g (lw_at lw_m1 21 rfl) rfl
theorem q49 : (Jvm.Cond.static ({ cls := "ShieldedMachine", name := "isPower", desc := "(I)Z" } : Jvm.MethodName)) ∈ lw_all := lw_g (lw_at lw_m1 22 rfl) rfl
theorem q50 : (Jvm.Cond.code ({ cls := "ShieldedMachine", name := "isPower", desc := "(I)Z" } : Jvm.MethodName) prog_1_method_2_code (1 : Nat) (Option.some Jvm.ClassFile.FieldType.boolean)) ∈ lw_all := lw_g (lw_at lw_m1 23 rfl) rfl
theorem q51 : (Jvm.Cond.methodLink "ShieldedMachine" (44 : Nat) ({ cls := "ShieldedMachine", name := "checksOf", desc := "(II)I" } : Jvm.MethodName)) ∈ lw_all := lw_g (lw_at lw_m1 24 rfl) rfl
theorem q52 : (Jvm.Cond.static ({ cls := "ShieldedMachine", name := "checksOf", desc := "(II)I" } : Jvm.MethodName)) ∈ lw_all := lw_g (lw_at lw_m1 25 rfl) rfl
theorem q53 : (Jvm.Cond.code ({ cls := "ShieldedMachine", name := "checksOf", desc := "(II)I" } : Jvm.MethodName) prog_1_method_4_code (4 : Nat) (Option.some Jvm.ClassFile.FieldType.int)) ∈ lw_all := lw_g (lw_at lw_m1 26 rfl) rfl
theorem q54 : (Jvm.Cond.methodLink "ShieldedMachine" (48 : Nat) ({ cls := "ShieldedMachine", name := "onesOf", desc := "(II)I" } : Jvm.MethodName)) ∈ lw_all := lw_g (lw_at lw_m1 27 rfl) rfl
theorem q55 : (Jvm.Cond.static ({ cls := "ShieldedMachine", name := "onesOf", desc := "(II)I" } : Jvm.MethodName)) ∈ lw_all := lw_g (lw_at lw_m1 28 rfl) rfl
theorem q56 : (Jvm.Cond.code ({ cls := "ShieldedMachine", name := "onesOf", desc := "(II)I" } : Jvm.MethodName) prog_1_method_5_code (4 : Nat) (Option.some Jvm.ClassFile.FieldType.int)) ∈ lw_all := lw_g (lw_at lw_m1 29 rfl) rfl
theorem q57 : (Jvm.Cond.fieldLink "ShieldedMachine" (7 : Nat) "ShieldedMachine" "registers" "[I") ∈ lw_all := lw_g (lw_at lw_m1 30 rfl) rfl
theorem q58 : (Jvm.Cond.fieldLink "ShieldedMachine" (13 : Nat) "ShieldedMachine" "place" "[I") ∈ lw_all := lw_g (lw_at lw_m1 31 rfl) rfl
theorem q59 : (Jvm.Cond.fieldLink "ShieldedMachine" (16 : Nat) "ShieldedMachine" "registerHits" "[B") ∈ lw_all := lw_g (lw_at lw_m1 32 rfl) rfl
theorem q60 : (Jvm.Cond.fieldLink "ShieldedMachine" (88 : Nat) "ShieldedMachine" "placeHits" "I") ∈ lw_all := lw_g (lw_at lw_m1 33 rfl) rfl
theorem q61 : (Jvm.Cond.fieldLink "ShieldedMachine" (20 : Nat) "ShieldedMachine" "workMask" "[I") ∈ lw_all := lw_g (lw_at lw_m1 34 rfl) rfl
theorem q62 : (Jvm.Cond.fieldLink "ShieldedMachine" (115 : Nat) "ShieldedMachine" "workHits" "I") ∈ lw_all := lw_g (lw_at lw_m1 35 rfl) rfl
theorem q63 : (Jvm.Cond.fieldLink "ShieldedMachine" (23 : Nat) "ShieldedMachine" "codeWords" "[I") ∈ lw_all := lw_g (lw_at lw_m1 36 rfl) rfl
theorem q64 : (Jvm.Cond.fieldLink "ShieldedMachine" (26 : Nat) "ShieldedMachine" "isSpoiled" "[Z") ∈ lw_all := lw_g (lw_at lw_m1 37 rfl) rfl
theorem q65 : (Jvm.Cond.fieldLink "ShieldedMachine" (118 : Nat) "ShieldedMachine" "stepsDone" "I") ∈ lw_all := lw_g (lw_at lw_m1 38 rfl) rfl
theorem q66 : (Jvm.Cond.fieldLink "ShieldedMachine" (121 : Nat) "ShieldedMachine" "isStopped" "Z") ∈ lw_all := lw_g (lw_at lw_m1 39 rfl) rfl
theorem q67 : (Jvm.Cond.fieldLink "ShieldedMachine" (128 : Nat) "ShieldedMachine" "outCount" "I") ∈ lw_all := lw_g (lw_at lw_m1 40 rfl) rfl
theorem q68 : (Jvm.Cond.fieldLink "ShieldedMachine" (30 : Nat) "ShieldedMachine" "outList" "[B") ∈ lw_all := lw_g (lw_at lw_m1 41 rfl) rfl
theorem q69 : (Jvm.Cond.fieldLink "ShieldedMachine" (33 : Nat) "ShieldedMachine" "results" "[I") ∈ lw_all := lw_g (lw_at lw_m1 42 rfl) rfl
theorem q70 : (Jvm.Cond.laysFinal "ShieldedMachine" "ShieldedMachine" "registers" "[I") ∈ lw_all := lw_g (lw_at lw_m1 43 rfl) rfl
theorem q71 : (Jvm.Cond.soleField "ShieldedMachine" "registers") ∈ lw_all := lw_g (lw_at lw_m1 44 rfl) rfl
theorem q72 : (Jvm.Cond.laysFinal "ShieldedMachine" "ShieldedMachine" "place" "[I") ∈ lw_all := lw_g (lw_at lw_m1 45 rfl) rfl
theorem q73 : (Jvm.Cond.soleField "ShieldedMachine" "place") ∈ lw_all := lw_g (lw_at lw_m1 46 rfl) rfl
theorem q74 : (Jvm.Cond.laysFinal "ShieldedMachine" "ShieldedMachine" "registerHits" "[B") ∈ lw_all := lw_g (lw_at lw_m1 47 rfl) rfl
theorem q75 : (Jvm.Cond.soleField "ShieldedMachine" "registerHits") ∈ lw_all := lw_g (lw_at lw_m1 48 rfl) rfl
theorem q76 : (Jvm.Cond.lays "ShieldedMachine" "ShieldedMachine" "placeHits" "I") ∈ lw_all := lw_g (lw_at lw_m1 49 rfl) rfl
theorem q77 : (Jvm.Cond.soleField "ShieldedMachine" "placeHits") ∈ lw_all := lw_g (lw_at lw_m1 50 rfl) rfl
theorem q78 : (Jvm.Cond.laysFinal "ShieldedMachine" "ShieldedMachine" "workMask" "[I") ∈ lw_all := lw_g (lw_at lw_m1 51 rfl) rfl
theorem q79 : (Jvm.Cond.soleField "ShieldedMachine" "workMask") ∈ lw_all := lw_g (lw_at lw_m1 52 rfl) rfl
theorem q80 : (Jvm.Cond.lays "ShieldedMachine" "ShieldedMachine" "workHits" "I") ∈ lw_all := lw_g (lw_at lw_m1 53 rfl) rfl
theorem q81 : (Jvm.Cond.soleField "ShieldedMachine" "workHits") ∈ lw_all := lw_g (lw_at lw_m1 54 rfl) rfl
theorem q82 : (Jvm.Cond.laysFinal "ShieldedMachine" "ShieldedMachine" "codeWords" "[I") ∈ lw_all := lw_g (lw_at lw_m1 55 rfl) rfl
theorem q83 : (Jvm.Cond.soleField "ShieldedMachine" "codeWords") ∈ lw_all := lw_g (lw_at lw_m1 56 rfl) rfl
theorem q84 : (Jvm.Cond.laysFinal "ShieldedMachine" "ShieldedMachine" "isSpoiled" "[Z") ∈ lw_all := lw_g (lw_at lw_m1 57 rfl) rfl
theorem q85 : (Jvm.Cond.soleField "ShieldedMachine" "isSpoiled") ∈ lw_all := lw_g (lw_at lw_m1 58 rfl) rfl
theorem q86 : (Jvm.Cond.lays "ShieldedMachine" "ShieldedMachine" "stepsDone" "I") ∈ lw_all := lw_g (lw_at lw_m1 59 rfl) rfl
theorem q87 : (Jvm.Cond.soleField "ShieldedMachine" "stepsDone") ∈ lw_all := lw_g (lw_at lw_m1 60 rfl) rfl
theorem q88 : (Jvm.Cond.lays "ShieldedMachine" "ShieldedMachine" "isStopped" "Z") ∈ lw_all := lw_g (lw_at lw_m1 61 rfl) rfl
theorem q89 : (Jvm.Cond.soleField "ShieldedMachine" "isStopped") ∈ lw_all := lw_g (lw_at lw_m1 62 rfl) rfl
theorem q90 : (Jvm.Cond.lays "ShieldedMachine" "ShieldedMachine" "outCount" "I") ∈ lw_all := lw_g (lw_at lw_m1 63 rfl) rfl
theorem q91 : (Jvm.Cond.soleField "ShieldedMachine" "outCount") ∈ lw_all := lw_g (lw_at lw_m1 64 rfl) rfl
theorem q92 : (Jvm.Cond.laysFinal "ShieldedMachine" "ShieldedMachine" "outList" "[B") ∈ lw_all := lw_g (lw_at lw_m1 65 rfl) rfl
theorem q93 : (Jvm.Cond.soleField "ShieldedMachine" "outList") ∈ lw_all := lw_g (lw_at lw_m1 66 rfl) rfl
theorem q94 : (Jvm.Cond.laysFinal "ShieldedMachine" "ShieldedMachine" "results" "[I") ∈ lw_all := lw_g (lw_at lw_m1 67 rfl) rfl
theorem q95 : (Jvm.Cond.soleField "ShieldedMachine" "results") ∈ lw_all := lw_g (lw_at lw_m1 68 rfl) rfl
theorem q96 : (Jvm.Cond.superclass "ShieldedMachine" "java/lang/Object") ∈ lw_all := lw_g (lw_at lw_m1 69 rfl) rfl
theorem q101 : (Jvm.Cond.instanceMethod ({ cls := "ShieldedMachine", name := "set", desc := "(IIII)Z" } : Jvm.MethodName)) ∈ lw_all := lw_g (lw_at lw_m1 74 rfl) rfl
theorem q102 : (Jvm.Cond.selects "ShieldedMachine" ({ cls := "ShieldedMachine", name := "set", desc := "(IIII)Z" } : Jvm.MethodName) ({ cls := "ShieldedMachine", name := "set", desc := "(IIII)Z" } : Jvm.MethodName)) ∈ lw_all := lw_g (lw_at lw_m1 75 rfl) rfl
theorem q103 : (Jvm.Cond.code ({ cls := "ShieldedMachine", name := "set", desc := "(IIII)Z" } : Jvm.MethodName) prog_1_method_28_code (5 : Nat) (Option.some Jvm.ClassFile.FieldType.boolean)) ∈ lw_all := lw_g (lw_at lw_m1 76 rfl) rfl
theorem q104 : (Jvm.Cond.methodLink "ShieldedMachine" (131 : Nat) ({ cls := "ShieldedMachine", name := "isRegister", desc := "(I)Z" } : Jvm.MethodName)) ∈ lw_all := lw_g (lw_at lw_m1 77 rfl) rfl
theorem q105 : (Jvm.Cond.static ({ cls := "ShieldedMachine", name := "isRegister", desc := "(I)Z" } : Jvm.MethodName)) ∈ lw_all := lw_g (lw_at lw_m1 78 rfl) rfl
theorem q106 : (Jvm.Cond.code ({ cls := "ShieldedMachine", name := "isRegister", desc := "(I)Z" } : Jvm.MethodName) prog_1_method_26_code (1 : Nat) (Option.some Jvm.ClassFile.FieldType.boolean)) ∈ lw_all := lw_g (lw_at lw_m1 79 rfl) rfl
theorem q108 : (Jvm.Cond.instanceMethod ({ cls := "ShieldedMachine", name := "setData", desc := "(II)Z" } : Jvm.MethodName)) ∈ lw_all := lw_g (lw_at lw_m1 81 rfl) rfl
theorem q109 : (Jvm.Cond.selects "ShieldedMachine" ({ cls := "ShieldedMachine", name := "setData", desc := "(II)Z" } : Jvm.MethodName) ({ cls := "ShieldedMachine", name := "setData", desc := "(II)Z" } : Jvm.MethodName)) ∈ lw_all := lw_g (lw_at lw_m1 82 rfl) rfl
theorem q110 : (Jvm.Cond.code ({ cls := "ShieldedMachine", name := "setData", desc := "(II)Z" } : Jvm.MethodName) prog_1_method_29_code (3 : Nat) (Option.some Jvm.ClassFile.FieldType.boolean)) ∈ lw_all := lw_g (lw_at lw_m1 83 rfl) rfl
theorem q112 : (Jvm.Cond.instanceMethod ({ cls := "ShieldedMachine", name := "run", desc := "(I)I" } : Jvm.MethodName)) ∈ lw_all := lw_g (lw_at lw_m1 85 rfl) rfl
theorem q113 : (Jvm.Cond.selects "ShieldedMachine" ({ cls := "ShieldedMachine", name := "run", desc := "(I)I" } : Jvm.MethodName) ({ cls := "ShieldedMachine", name := "run", desc := "(I)I" } : Jvm.MethodName)) ∈ lw_all := lw_g (lw_at lw_m1 86 rfl) rfl
theorem q114 : (Jvm.Cond.code ({ cls := "ShieldedMachine", name := "run", desc := "(I)I" } : Jvm.MethodName) prog_1_method_30_code (4 : Nat) (Option.some Jvm.ClassFile.FieldType.int)) ∈ lw_all := lw_g (lw_at lw_m1 87 rfl) rfl
theorem q115 : (Jvm.Cond.methodLink "ShieldedMachine" (134 : Nat) ({ cls := "ShieldedMachine", name := "step", desc := "()V" } : Jvm.MethodName)) ∈ lw_all := lw_g (lw_at lw_m1 88 rfl) rfl
theorem q116 : (Jvm.Cond.privateMethod ({ cls := "ShieldedMachine", name := "step", desc := "()V" } : Jvm.MethodName)) ∈ lw_tbl := lw_at lw_m1 89 rfl
theorem q117 : (Jvm.Cond.instanceMethod ({ cls := "ShieldedMachine", name := "step", desc := "()V" } : Jvm.MethodName)) ∈ lw_all := lw_g (lw_at lw_m1 90 rfl) rfl
theorem q118 : (Jvm.Cond.code ({ cls := "ShieldedMachine", name := "step", desc := "()V" } : Jvm.MethodName) prog_1_method_23_code (8 : Nat) (Option.none : Option Jvm.ClassFile.FieldType)) ∈ lw_all := lw_g (lw_at lw_m1 91 rfl) rfl
theorem q119 : (Jvm.Cond.methodLink "ShieldedMachine" (99 : Nat) ({ cls := "ShieldedMachine", name := "voteAll", desc := "()V" } : Jvm.MethodName)) ∈ lw_all := lw_g (lw_at lw_m1 92 rfl) rfl
theorem q120 : (Jvm.Cond.privateMethod ({ cls := "ShieldedMachine", name := "voteAll", desc := "()V" } : Jvm.MethodName)) ∈ lw_tbl := lw_at lw_m1 93 rfl
theorem q121 : (Jvm.Cond.instanceMethod ({ cls := "ShieldedMachine", name := "voteAll", desc := "()V" } : Jvm.MethodName)) ∈ lw_all := lw_g (lw_at lw_m1 94 rfl) rfl
theorem q122 : (Jvm.Cond.code ({ cls := "ShieldedMachine", name := "voteAll", desc := "()V" } : Jvm.MethodName) prog_1_method_18_code (3 : Nat) (Option.none : Option Jvm.ClassFile.FieldType)) ∈ lw_all := lw_g (lw_at lw_m1 95 rfl) rfl
theorem q123 : (Jvm.Cond.methodLink "ShieldedMachine" (75 : Nat) ({ cls := "ShieldedMachine", name := "voteRegister", desc := "(I)I" } : Jvm.MethodName)) ∈ lw_all := lw_g (lw_at lw_m1 96 rfl) rfl
theorem q124 : (Jvm.Cond.privateMethod ({ cls := "ShieldedMachine", name := "voteRegister", desc := "(I)I" } : Jvm.MethodName)) ∈ lw_tbl := lw_at lw_m1 97 rfl
theorem q125 : (Jvm.Cond.instanceMethod ({ cls := "ShieldedMachine", name := "voteRegister", desc := "(I)I" } : Jvm.MethodName)) ∈ lw_all := lw_g (lw_at lw_m1 98 rfl) rfl
theorem q126 : (Jvm.Cond.code ({ cls := "ShieldedMachine", name := "voteRegister", desc := "(I)I" } : Jvm.MethodName) prog_1_method_14_code (2 : Nat) (Option.some Jvm.ClassFile.FieldType.int)) ∈ lw_all := lw_g (lw_at lw_m1 99 rfl) rfl
theorem q127 : (Jvm.Cond.methodLink "ShieldedMachine" (71 : Nat) ({ cls := "ShieldedMachine", name := "vote", desc := "(III)I" } : Jvm.MethodName)) ∈ lw_all := lw_g (lw_at lw_m1 100 rfl) rfl
theorem q128 : (Jvm.Cond.static ({ cls := "ShieldedMachine", name := "vote", desc := "(III)I" } : Jvm.MethodName)) ∈ lw_all := lw_g (lw_at lw_m1 101 rfl) rfl
theorem q129 : (Jvm.Cond.code ({ cls := "ShieldedMachine", name := "vote", desc := "(III)I" } : Jvm.MethodName) prog_1_method_13_code (3 : Nat) (Option.some Jvm.ClassFile.FieldType.int)) ∈ lw_all := lw_g (lw_at lw_m1 102 rfl) rfl
theorem q130 : (Jvm.Cond.methodLink "ShieldedMachine" (78 : Nat) ({ cls := "ShieldedMachine", name := "writeRegister", desc := "(II)V" } : Jvm.MethodName)) ∈ lw_all := lw_g (lw_at lw_m1 103 rfl) rfl
theorem q131 : (Jvm.Cond.privateMethod ({ cls := "ShieldedMachine", name := "writeRegister", desc := "(II)V" } : Jvm.MethodName)) ∈ lw_tbl := lw_at lw_m1 104 rfl
theorem q132 : (Jvm.Cond.instanceMethod ({ cls := "ShieldedMachine", name := "writeRegister", desc := "(II)V" } : Jvm.MethodName)) ∈ lw_all := lw_g (lw_at lw_m1 105 rfl) rfl
theorem q133 : (Jvm.Cond.code ({ cls := "ShieldedMachine", name := "writeRegister", desc := "(II)V" } : Jvm.MethodName) prog_1_method_16_code (4 : Nat) (Option.none : Option Jvm.ClassFile.FieldType)) ∈ lw_all := lw_g (lw_at lw_m1 106 rfl) rfl
theorem q134 : (Jvm.Cond.methodLink "ShieldedMachine" (81 : Nat) ({ cls := "ShieldedMachine", name := "votePlace", desc := "()I" } : Jvm.MethodName)) ∈ lw_all := lw_g (lw_at lw_m1 107 rfl) rfl
theorem q135 : (Jvm.Cond.privateMethod ({ cls := "ShieldedMachine", name := "votePlace", desc := "()I" } : Jvm.MethodName)) ∈ lw_tbl := lw_at lw_m1 108 rfl
theorem q136 : (Jvm.Cond.instanceMethod ({ cls := "ShieldedMachine", name := "votePlace", desc := "()I" } : Jvm.MethodName)) ∈ lw_all := lw_g (lw_at lw_m1 109 rfl) rfl
theorem q137 : (Jvm.Cond.code ({ cls := "ShieldedMachine", name := "votePlace", desc := "()I" } : Jvm.MethodName) prog_1_method_15_code (1 : Nat) (Option.some Jvm.ClassFile.FieldType.int)) ∈ lw_all := lw_g (lw_at lw_m1 110 rfl) rfl
theorem q138 : (Jvm.Cond.methodLink "ShieldedMachine" (85 : Nat) ({ cls := "ShieldedMachine", name := "writePlace", desc := "(I)V" } : Jvm.MethodName)) ∈ lw_all := lw_g (lw_at lw_m1 111 rfl) rfl
theorem q139 : (Jvm.Cond.privateMethod ({ cls := "ShieldedMachine", name := "writePlace", desc := "(I)V" } : Jvm.MethodName)) ∈ lw_tbl := lw_at lw_m1 112 rfl
theorem q140 : (Jvm.Cond.instanceMethod ({ cls := "ShieldedMachine", name := "writePlace", desc := "(I)V" } : Jvm.MethodName)) ∈ lw_all := lw_g (lw_at lw_m1 113 rfl) rfl
theorem q141 : (Jvm.Cond.code ({ cls := "ShieldedMachine", name := "writePlace", desc := "(I)V" } : Jvm.MethodName) prog_1_method_17_code (3 : Nat) (Option.none : Option Jvm.ClassFile.FieldType)) ∈ lw_all := lw_g (lw_at lw_m1 114 rfl) rfl
theorem q142 : (Jvm.Cond.methodLink "ShieldedMachine" (102 : Nat) ({ cls := "ShieldedMachine", name := "readAndRepair", desc := "(I)I" } : Jvm.MethodName)) ∈ lw_all := lw_g (lw_at lw_m1 115 rfl) rfl
theorem q143 : (Jvm.Cond.privateMethod ({ cls := "ShieldedMachine", name := "readAndRepair", desc := "(I)I" } : Jvm.MethodName)) ∈ lw_tbl := lw_at lw_m1 116 rfl
theorem q144 : (Jvm.Cond.instanceMethod ({ cls := "ShieldedMachine", name := "readAndRepair", desc := "(I)I" } : Jvm.MethodName)) ∈ lw_all := lw_g (lw_at lw_m1 117 rfl) rfl
theorem q145 : (Jvm.Cond.code ({ cls := "ShieldedMachine", name := "readAndRepair", desc := "(I)I" } : Jvm.MethodName) prog_1_method_12_code (2 : Nat) (Option.some Jvm.ClassFile.FieldType.int)) ∈ lw_all := lw_g (lw_at lw_m1 118 rfl) rfl
theorem q146 : (Jvm.Cond.methodLink "ShieldedMachine" (64 : Nat) ({ cls := "ShieldedMachine", name := "repair", desc := "(I)V" } : Jvm.MethodName)) ∈ lw_all := lw_g (lw_at lw_m1 119 rfl) rfl
theorem q147 : (Jvm.Cond.privateMethod ({ cls := "ShieldedMachine", name := "repair", desc := "(I)V" } : Jvm.MethodName)) ∈ lw_tbl := lw_at lw_m1 120 rfl
theorem q148 : (Jvm.Cond.instanceMethod ({ cls := "ShieldedMachine", name := "repair", desc := "(I)V" } : Jvm.MethodName)) ∈ lw_all := lw_g (lw_at lw_m1 121 rfl) rfl
theorem q149 : (Jvm.Cond.code ({ cls := "ShieldedMachine", name := "repair", desc := "(I)V" } : Jvm.MethodName) prog_1_method_11_code (3 : Nat) (Option.none : Option Jvm.ClassFile.FieldType)) ∈ lw_all := lw_g (lw_at lw_m1 122 rfl) rfl
theorem q150 : (Jvm.Cond.methodLink "ShieldedMachine" (58 : Nat) ({ cls := "ShieldedMachine", name := "correct", desc := "(II)I" } : Jvm.MethodName)) ∈ lw_all := lw_g (lw_at lw_m1 123 rfl) rfl
theorem q151 : (Jvm.Cond.static ({ cls := "ShieldedMachine", name := "correct", desc := "(II)I" } : Jvm.MethodName)) ∈ lw_all := lw_g (lw_at lw_m1 124 rfl) rfl
theorem q152 : (Jvm.Cond.code ({ cls := "ShieldedMachine", name := "correct", desc := "(II)I" } : Jvm.MethodName) prog_1_method_7_code (4 : Nat) (Option.some Jvm.ClassFile.FieldType.int)) ∈ lw_all := lw_g (lw_at lw_m1 125 rfl) rfl
theorem q153 : (Jvm.Cond.methodLink "ShieldedMachine" (68 : Nat) ({ cls := "ShieldedMachine", name := "readWord", desc := "(I)I" } : Jvm.MethodName)) ∈ lw_all := lw_g (lw_at lw_m1 126 rfl) rfl
theorem q154 : (Jvm.Cond.privateMethod ({ cls := "ShieldedMachine", name := "readWord", desc := "(I)I" } : Jvm.MethodName)) ∈ lw_tbl := lw_at lw_m1 127 rfl
theorem q155 : (Jvm.Cond.instanceMethod ({ cls := "ShieldedMachine", name := "readWord", desc := "(I)I" } : Jvm.MethodName)) ∈ lw_all := lw_g (lw_at lw_m1 128 rfl) rfl
theorem q156 : (Jvm.Cond.code ({ cls := "ShieldedMachine", name := "readWord", desc := "(I)I" } : Jvm.MethodName) prog_1_method_10_code (4 : Nat) (Option.some Jvm.ClassFile.FieldType.int)) ∈ lw_all := lw_g (lw_at lw_m1 129 rfl) rfl
theorem q157 : (Jvm.Cond.methodLink "ShieldedMachine" (61 : Nat) ({ cls := "ShieldedMachine", name := "decode", desc := "(II)I" } : Jvm.MethodName)) ∈ lw_all := lw_g (lw_at lw_m1 130 rfl) rfl
theorem q158 : (Jvm.Cond.static ({ cls := "ShieldedMachine", name := "decode", desc := "(II)I" } : Jvm.MethodName)) ∈ lw_all := lw_g (lw_at lw_m1 131 rfl) rfl
theorem q159 : (Jvm.Cond.code ({ cls := "ShieldedMachine", name := "decode", desc := "(II)I" } : Jvm.MethodName) prog_1_method_8_code (5 : Nat) (Option.some Jvm.ClassFile.FieldType.int)) ∈ lw_all := lw_g (lw_at lw_m1 132 rfl) rfl
theorem q160 : (Jvm.Cond.methodLink "ShieldedMachine" (105 : Nat) ({ cls := "ShieldedMachine", name := "stepWithCells", desc := "(IIIII)I" } : Jvm.MethodName)) ∈ lw_all := lw_g (lw_at lw_m1 133 rfl) rfl
theorem q161 : (Jvm.Cond.privateMethod ({ cls := "ShieldedMachine", name := "stepWithCells", desc := "(IIIII)I" } : Jvm.MethodName)) ∈ lw_tbl := lw_at lw_m1 134 rfl
theorem q162 : (Jvm.Cond.instanceMethod ({ cls := "ShieldedMachine", name := "stepWithCells", desc := "(IIIII)I" } : Jvm.MethodName)) ∈ lw_all := lw_g (lw_at lw_m1 135 rfl) rfl
theorem q163 : (Jvm.Cond.code ({ cls := "ShieldedMachine", name := "stepWithCells", desc := "(IIIII)I" } : Jvm.MethodName) prog_1_method_24_code (10 : Nat) (Option.some Jvm.ClassFile.FieldType.int)) ∈ lw_all := lw_g (lw_at lw_m1 136 rfl) rfl
theorem q164 : (Jvm.Cond.methodLink "ShieldedMachine" (109 : Nat) ({ cls := "ShieldedMachine", name := "workThrice", desc := "(IIII)I" } : Jvm.MethodName)) ∈ lw_all := lw_g (lw_at lw_m1 137 rfl) rfl
theorem q165 : (Jvm.Cond.privateMethod ({ cls := "ShieldedMachine", name := "workThrice", desc := "(IIII)I" } : Jvm.MethodName)) ∈ lw_tbl := lw_at lw_m1 138 rfl
theorem q166 : (Jvm.Cond.instanceMethod ({ cls := "ShieldedMachine", name := "workThrice", desc := "(IIII)I" } : Jvm.MethodName)) ∈ lw_all := lw_g (lw_at lw_m1 139 rfl) rfl
theorem q167 : (Jvm.Cond.code ({ cls := "ShieldedMachine", name := "workThrice", desc := "(IIII)I" } : Jvm.MethodName) prog_1_method_21_code (7 : Nat) (Option.some Jvm.ClassFile.FieldType.int)) ∈ lw_all := lw_g (lw_at lw_m1 140 rfl) rfl
theorem q168 : (Jvm.Cond.methodLink "ShieldedMachine" (95 : Nat) ({ cls := "ShieldedMachine", name := "workOut", desc := "(IIII)I" } : Jvm.MethodName)) ∈ lw_all := lw_g (lw_at lw_m1 141 rfl) rfl
theorem q169 : (Jvm.Cond.static ({ cls := "ShieldedMachine", name := "workOut", desc := "(IIII)I" } : Jvm.MethodName)) ∈ lw_all := lw_g (lw_at lw_m1 142 rfl) rfl
theorem q170 : (Jvm.Cond.code ({ cls := "ShieldedMachine", name := "workOut", desc := "(IIII)I" } : Jvm.MethodName) prog_1_method_20_code (4 : Nat) (Option.some Jvm.ClassFile.FieldType.int)) ∈ lw_all := lw_g (lw_at lw_m1 143 rfl) rfl
theorem q171 : (Jvm.Cond.methodLink "ShieldedMachine" (92 : Nat) ({ cls := "ShieldedMachine", name := "addBits", desc := "(III)I" } : Jvm.MethodName)) ∈ lw_all := lw_g (lw_at lw_m1 144 rfl) rfl
theorem q172 : (Jvm.Cond.static ({ cls := "ShieldedMachine", name := "addBits", desc := "(III)I" } : Jvm.MethodName)) ∈ lw_all := lw_g (lw_at lw_m1 145 rfl) rfl
theorem q173 : (Jvm.Cond.code ({ cls := "ShieldedMachine", name := "addBits", desc := "(III)I" } : Jvm.MethodName) prog_1_method_19_code (8 : Nat) (Option.some Jvm.ClassFile.FieldType.int)) ∈ lw_all := lw_g (lw_at lw_m1 146 rfl) rfl
theorem q174 : (Jvm.Cond.methodLink "ShieldedMachine" (125 : Nat) ({ cls := "ShieldedMachine", name := "passThrice", desc := "(I)I" } : Jvm.MethodName)) ∈ lw_all := lw_g (lw_at lw_m1 147 rfl) rfl
theorem q175 : (Jvm.Cond.privateMethod ({ cls := "ShieldedMachine", name := "passThrice", desc := "(I)I" } : Jvm.MethodName)) ∈ lw_tbl := lw_at lw_m1 148 rfl
theorem q176 : (Jvm.Cond.instanceMethod ({ cls := "ShieldedMachine", name := "passThrice", desc := "(I)I" } : Jvm.MethodName)) ∈ lw_all := lw_g (lw_at lw_m1 149 rfl) rfl
theorem q177 : (Jvm.Cond.code ({ cls := "ShieldedMachine", name := "passThrice", desc := "(I)I" } : Jvm.MethodName) prog_1_method_22_code (3 : Nat) (Option.some Jvm.ClassFile.FieldType.int)) ∈ lw_all := lw_g (lw_at lw_m1 150 rfl) rfl
theorem q178 : (Jvm.Cond.methodLink "ShieldedMachine" (112 : Nat) ({ cls := "ShieldedMachine", name := "stepOn", desc := "(IIIII)I" } : Jvm.MethodName)) ∈ lw_all := lw_g (lw_at lw_m1 151 rfl) rfl
theorem q179 : (Jvm.Cond.privateMethod ({ cls := "ShieldedMachine", name := "stepOn", desc := "(IIIII)I" } : Jvm.MethodName)) ∈ lw_tbl := lw_at lw_m1 152 rfl
theorem q180 : (Jvm.Cond.instanceMethod ({ cls := "ShieldedMachine", name := "stepOn", desc := "(IIIII)I" } : Jvm.MethodName)) ∈ lw_all := lw_g (lw_at lw_m1 153 rfl) rfl
theorem q181 : (Jvm.Cond.code ({ cls := "ShieldedMachine", name := "stepOn", desc := "(IIIII)I" } : Jvm.MethodName) prog_1_method_25_code (7 : Nat) (Option.some Jvm.ClassFile.FieldType.int)) ∈ lw_all := lw_g (lw_at lw_m1 154 rfl) rfl
theorem q183 : (Jvm.Cond.instanceMethod ({ cls := "ShieldedMachine", name := "reset", desc := "()V" } : Jvm.MethodName)) ∈ lw_all := lw_g (lw_at lw_m1 156 rfl) rfl
theorem q184 : (Jvm.Cond.selects "ShieldedMachine" ({ cls := "ShieldedMachine", name := "reset", desc := "()V" } : Jvm.MethodName) ({ cls := "ShieldedMachine", name := "reset", desc := "()V" } : Jvm.MethodName)) ∈ lw_all := lw_g (lw_at lw_m1 157 rfl) rfl
theorem q185 : (Jvm.Cond.code ({ cls := "ShieldedMachine", name := "reset", desc := "()V" } : Jvm.MethodName) prog_1_method_31_code (2 : Nat) (Option.none : Option Jvm.ClassFile.FieldType)) ∈ lw_all := lw_g (lw_at lw_m1 158 rfl) rfl
theorem q187 : (Jvm.Cond.instanceMethod ({ cls := "ShieldedMachine", name := "hitRegister", desc := "(III)Z" } : Jvm.MethodName)) ∈ lw_all := lw_g (lw_at lw_m1 160 rfl) rfl
theorem q188 : (Jvm.Cond.selects "ShieldedMachine" ({ cls := "ShieldedMachine", name := "hitRegister", desc := "(III)Z" } : Jvm.MethodName) ({ cls := "ShieldedMachine", name := "hitRegister", desc := "(III)Z" } : Jvm.MethodName)) ∈ lw_all := lw_g (lw_at lw_m1 161 rfl) rfl
theorem q189 : (Jvm.Cond.code ({ cls := "ShieldedMachine", name := "hitRegister", desc := "(III)Z" } : Jvm.MethodName) prog_1_method_32_code (4 : Nat) (Option.some Jvm.ClassFile.FieldType.boolean)) ∈ lw_all := lw_g (lw_at lw_m1 162 rfl) rfl
theorem q190 : (Jvm.Cond.methodLink "ShieldedMachine" (137 : Nat) ({ cls := "ShieldedMachine", name := "isCopy", desc := "(I)Z" } : Jvm.MethodName)) ∈ lw_all := lw_g (lw_at lw_m1 163 rfl) rfl
theorem q191 : (Jvm.Cond.static ({ cls := "ShieldedMachine", name := "isCopy", desc := "(I)Z" } : Jvm.MethodName)) ∈ lw_all := lw_g (lw_at lw_m1 164 rfl) rfl
theorem q192 : (Jvm.Cond.code ({ cls := "ShieldedMachine", name := "isCopy", desc := "(I)Z" } : Jvm.MethodName) prog_1_method_27_code (1 : Nat) (Option.some Jvm.ClassFile.FieldType.boolean)) ∈ lw_all := lw_g (lw_at lw_m1 165 rfl) rfl
theorem q194 : (Jvm.Cond.instanceMethod ({ cls := "ShieldedMachine", name := "hitPlace", desc := "(II)Z" } : Jvm.MethodName)) ∈ lw_all := lw_g (lw_at lw_m1 167 rfl) rfl
theorem q195 : (Jvm.Cond.selects "ShieldedMachine" ({ cls := "ShieldedMachine", name := "hitPlace", desc := "(II)Z" } : Jvm.MethodName) ({ cls := "ShieldedMachine", name := "hitPlace", desc := "(II)Z" } : Jvm.MethodName)) ∈ lw_all := lw_g (lw_at lw_m1 168 rfl) rfl
theorem q196 : (Jvm.Cond.code ({ cls := "ShieldedMachine", name := "hitPlace", desc := "(II)Z" } : Jvm.MethodName) prog_1_method_33_code (3 : Nat) (Option.some Jvm.ClassFile.FieldType.boolean)) ∈ lw_all := lw_g (lw_at lw_m1 169 rfl) rfl
theorem q198 : (Jvm.Cond.instanceMethod ({ cls := "ShieldedMachine", name := "hitWork", desc := "(II)Z" } : Jvm.MethodName)) ∈ lw_all := lw_g (lw_at lw_m1 171 rfl) rfl
theorem q199 : (Jvm.Cond.selects "ShieldedMachine" ({ cls := "ShieldedMachine", name := "hitWork", desc := "(II)Z" } : Jvm.MethodName) ({ cls := "ShieldedMachine", name := "hitWork", desc := "(II)Z" } : Jvm.MethodName)) ∈ lw_all := lw_g (lw_at lw_m1 172 rfl) rfl
theorem q200 : (Jvm.Cond.code ({ cls := "ShieldedMachine", name := "hitWork", desc := "(II)Z" } : Jvm.MethodName) prog_1_method_34_code (3 : Nat) (Option.some Jvm.ClassFile.FieldType.boolean)) ∈ lw_all := lw_g (lw_at lw_m1 173 rfl) rfl
theorem q202 : (Jvm.Cond.instanceMethod ({ cls := "ShieldedMachine", name := "hitData", desc := "(II)Z" } : Jvm.MethodName)) ∈ lw_all := lw_g (lw_at lw_m1 175 rfl) rfl
theorem q203 : (Jvm.Cond.selects "ShieldedMachine" ({ cls := "ShieldedMachine", name := "hitData", desc := "(II)Z" } : Jvm.MethodName) ({ cls := "ShieldedMachine", name := "hitData", desc := "(II)Z" } : Jvm.MethodName)) ∈ lw_all := lw_g (lw_at lw_m1 176 rfl) rfl
theorem q204 : (Jvm.Cond.code ({ cls := "ShieldedMachine", name := "hitData", desc := "(II)Z" } : Jvm.MethodName) prog_1_method_36_code (3 : Nat) (Option.some Jvm.ClassFile.FieldType.boolean)) ∈ lw_all := lw_g (lw_at lw_m1 177 rfl) rfl
theorem q205 : (Jvm.Cond.methodLink "ShieldedMachine" (140 : Nat) ({ cls := "ShieldedMachine", name := "hitWord", desc := "(II)Z" } : Jvm.MethodName)) ∈ lw_all := lw_g (lw_at lw_m1 178 rfl) rfl
theorem q206 : (Jvm.Cond.privateMethod ({ cls := "ShieldedMachine", name := "hitWord", desc := "(II)Z" } : Jvm.MethodName)) ∈ lw_tbl := lw_at lw_m1 179 rfl
theorem q207 : (Jvm.Cond.instanceMethod ({ cls := "ShieldedMachine", name := "hitWord", desc := "(II)Z" } : Jvm.MethodName)) ∈ lw_all := lw_g (lw_at lw_m1 180 rfl) rfl
theorem q208 : (Jvm.Cond.code ({ cls := "ShieldedMachine", name := "hitWord", desc := "(II)Z" } : Jvm.MethodName) prog_1_method_35_code (3 : Nat) (Option.some Jvm.ClassFile.FieldType.boolean)) ∈ lw_all := lw_g (lw_at lw_m1 181 rfl) rfl
theorem q210 : (Jvm.Cond.instanceMethod ({ cls := "ShieldedMachine", name := "hitProgram", desc := "(II)Z" } : Jvm.MethodName)) ∈ lw_all := lw_g (lw_at lw_m1 183 rfl) rfl
theorem q211 : (Jvm.Cond.selects "ShieldedMachine" ({ cls := "ShieldedMachine", name := "hitProgram", desc := "(II)Z" } : Jvm.MethodName) ({ cls := "ShieldedMachine", name := "hitProgram", desc := "(II)Z" } : Jvm.MethodName)) ∈ lw_all := lw_g (lw_at lw_m1 184 rfl) rfl
theorem q212 : (Jvm.Cond.code ({ cls := "ShieldedMachine", name := "hitProgram", desc := "(II)Z" } : Jvm.MethodName) prog_1_method_37_code (3 : Nat) (Option.some Jvm.ClassFile.FieldType.boolean)) ∈ lw_all := lw_g (lw_at lw_m1 185 rfl) rfl
theorem q214 : (Jvm.Cond.instanceMethod ({ cls := "ShieldedMachine", name := "register", desc := "(I)I" } : Jvm.MethodName)) ∈ lw_all := lw_g (lw_at lw_m1 187 rfl) rfl
theorem q215 : (Jvm.Cond.selects "ShieldedMachine" ({ cls := "ShieldedMachine", name := "register", desc := "(I)I" } : Jvm.MethodName) ({ cls := "ShieldedMachine", name := "register", desc := "(I)I" } : Jvm.MethodName)) ∈ lw_all := lw_g (lw_at lw_m1 188 rfl) rfl
theorem q216 : (Jvm.Cond.code ({ cls := "ShieldedMachine", name := "register", desc := "(I)I" } : Jvm.MethodName) prog_1_method_38_code (2 : Nat) (Option.some Jvm.ClassFile.FieldType.int)) ∈ lw_all := lw_g (lw_at lw_m1 189 rfl) rfl
theorem q218 : (Jvm.Cond.instanceMethod ({ cls := "ShieldedMachine", name := "place", desc := "()I" } : Jvm.MethodName)) ∈ lw_all := lw_g (lw_at lw_m1 191 rfl) rfl
theorem q219 : (Jvm.Cond.selects "ShieldedMachine" ({ cls := "ShieldedMachine", name := "place", desc := "()I" } : Jvm.MethodName) ({ cls := "ShieldedMachine", name := "place", desc := "()I" } : Jvm.MethodName)) ∈ lw_all := lw_g (lw_at lw_m1 192 rfl) rfl
theorem q220 : (Jvm.Cond.code ({ cls := "ShieldedMachine", name := "place", desc := "()I" } : Jvm.MethodName) prog_1_method_39_code (1 : Nat) (Option.some Jvm.ClassFile.FieldType.int)) ∈ lw_all := lw_g (lw_at lw_m1 193 rfl) rfl
theorem q222 : (Jvm.Cond.instanceMethod ({ cls := "ShieldedMachine", name := "data", desc := "(I)I" } : Jvm.MethodName)) ∈ lw_all := lw_g (lw_at lw_m1 195 rfl) rfl
theorem q223 : (Jvm.Cond.selects "ShieldedMachine" ({ cls := "ShieldedMachine", name := "data", desc := "(I)I" } : Jvm.MethodName) ({ cls := "ShieldedMachine", name := "data", desc := "(I)I" } : Jvm.MethodName)) ∈ lw_all := lw_g (lw_at lw_m1 196 rfl) rfl
theorem q224 : (Jvm.Cond.code ({ cls := "ShieldedMachine", name := "data", desc := "(I)I" } : Jvm.MethodName) prog_1_method_40_code (2 : Nat) (Option.some Jvm.ClassFile.FieldType.int)) ∈ lw_all := lw_g (lw_at lw_m1 197 rfl) rfl
theorem q226 : (Jvm.Cond.instanceMethod ({ cls := "ShieldedMachine", name := "outs", desc := "()I" } : Jvm.MethodName)) ∈ lw_all := lw_g (lw_at lw_m1 199 rfl) rfl
theorem q227 : (Jvm.Cond.selects "ShieldedMachine" ({ cls := "ShieldedMachine", name := "outs", desc := "()I" } : Jvm.MethodName) ({ cls := "ShieldedMachine", name := "outs", desc := "()I" } : Jvm.MethodName)) ∈ lw_all := lw_g (lw_at lw_m1 200 rfl) rfl
theorem q228 : (Jvm.Cond.code ({ cls := "ShieldedMachine", name := "outs", desc := "()I" } : Jvm.MethodName) prog_1_method_41_code (1 : Nat) (Option.some Jvm.ClassFile.FieldType.int)) ∈ lw_all := lw_g (lw_at lw_m1 201 rfl) rfl
theorem q230 : (Jvm.Cond.instanceMethod ({ cls := "ShieldedMachine", name := "out", desc := "(I)I" } : Jvm.MethodName)) ∈ lw_all := lw_g (lw_at lw_m1 203 rfl) rfl
theorem q231 : (Jvm.Cond.selects "ShieldedMachine" ({ cls := "ShieldedMachine", name := "out", desc := "(I)I" } : Jvm.MethodName) ({ cls := "ShieldedMachine", name := "out", desc := "(I)I" } : Jvm.MethodName)) ∈ lw_all := lw_g (lw_at lw_m1 204 rfl) rfl
theorem q232 : (Jvm.Cond.code ({ cls := "ShieldedMachine", name := "out", desc := "(I)I" } : Jvm.MethodName) prog_1_method_42_code (2 : Nat) (Option.some Jvm.ClassFile.FieldType.int)) ∈ lw_all := lw_g (lw_at lw_m1 205 rfl) rfl
theorem q234 : (Jvm.Cond.instanceMethod ({ cls := "ShieldedMachine", name := "stopped", desc := "()Z" } : Jvm.MethodName)) ∈ lw_all := lw_g (lw_at lw_m1 207 rfl) rfl
theorem q235 : (Jvm.Cond.selects "ShieldedMachine" ({ cls := "ShieldedMachine", name := "stopped", desc := "()Z" } : Jvm.MethodName) ({ cls := "ShieldedMachine", name := "stopped", desc := "()Z" } : Jvm.MethodName)) ∈ lw_all := lw_g (lw_at lw_m1 208 rfl) rfl
theorem q236 : (Jvm.Cond.code ({ cls := "ShieldedMachine", name := "stopped", desc := "()Z" } : Jvm.MethodName) prog_1_method_43_code (1 : Nat) (Option.some Jvm.ClassFile.FieldType.boolean)) ∈ lw_all := lw_g (lw_at lw_m1 209 rfl) rfl
theorem q238 : (Jvm.Cond.instanceMethod ({ cls := "ShieldedMachine", name := "spoiled", desc := "()I" } : Jvm.MethodName)) ∈ lw_all := lw_g (lw_at lw_m1 211 rfl) rfl
theorem q239 : (Jvm.Cond.selects "ShieldedMachine" ({ cls := "ShieldedMachine", name := "spoiled", desc := "()I" } : Jvm.MethodName) ({ cls := "ShieldedMachine", name := "spoiled", desc := "()I" } : Jvm.MethodName)) ∈ lw_all := lw_g (lw_at lw_m1 212 rfl) rfl
theorem q240 : (Jvm.Cond.code ({ cls := "ShieldedMachine", name := "spoiled", desc := "()I" } : Jvm.MethodName) prog_1_method_44_code (3 : Nat) (Option.some Jvm.ClassFile.FieldType.int)) ∈ lw_all := lw_g (lw_at lw_m1 213 rfl) rfl
theorem in_X0 : ∀ w ∈ wsX00, w ∈ lw_all := lw_in wsX00 [70, 72, 74, 76, 78, 80, 82, 84, 86, 88, 90, 92, 94] (by decide +kernel) (by decide +kernel)

theorem q29 : (Jvm.Cond.initialized "ShieldedMachineModel") ∈ lw_all := lw_g (lw_at lw_m1 2 rfl) rfl
theorem q242 : (Jvm.Cond.instantiable "ShieldedMachineModel" (12 : Nat)) ∈ lw_all := lw_g (lw_at lw_m1 215 rfl) rfl
theorem q244 : (Jvm.Cond.instanceMethod ({ cls := "ShieldedMachineModel", name := "<init>", desc := "()V" } : Jvm.MethodName)) ∈ lw_all := lw_g (lw_at lw_m1 217 rfl) rfl
theorem q245 : (Jvm.Cond.code ({ cls := "ShieldedMachineModel", name := "<init>", desc := "()V" } : Jvm.MethodName) prog_3_method_1_code (1 : Nat) (Option.none : Option Jvm.ClassFile.FieldType)) ∈ lw_all := lw_g (lw_at lw_m1 218 rfl) rfl
theorem q246 : (Jvm.Cond.methodLink "ShieldedMachineModel" (1 : Nat) ({ cls := "java/lang/Object", name := "<init>", desc := "()V" } : Jvm.MethodName)) ∈ lw_all := lw_g (lw_at lw_m1 219 rfl) rfl
theorem q247 : (Jvm.Cond.fieldLink "ShieldedMachineModel" (7 : Nat) "ShieldedMachineModel" "registers" "[I") ∈ lw_all := lw_g (lw_at lw_m1 220 rfl) rfl
theorem q248 : (Jvm.Cond.fieldLink "ShieldedMachineModel" (13 : Nat) "ShieldedMachineModel" "cells" "[I") ∈ lw_all := lw_g (lw_at lw_m1 221 rfl) rfl
theorem q249 : (Jvm.Cond.fieldLink "ShieldedMachineModel" (16 : Nat) "ShieldedMachineModel" "ops" "[I") ∈ lw_all := lw_g (lw_at lw_m1 222 rfl) rfl
theorem q250 : (Jvm.Cond.fieldLink "ShieldedMachineModel" (19 : Nat) "ShieldedMachineModel" "targets" "[I") ∈ lw_all := lw_g (lw_at lw_m1 223 rfl) rfl
theorem q251 : (Jvm.Cond.fieldLink "ShieldedMachineModel" (22 : Nat) "ShieldedMachineModel" "numbers" "[I") ∈ lw_all := lw_g (lw_at lw_m1 224 rfl) rfl
theorem q252 : (Jvm.Cond.fieldLink "ShieldedMachineModel" (56 : Nat) "ShieldedMachineModel" "at" "I") ∈ lw_all := lw_g (lw_at lw_m1 225 rfl) rfl
theorem q253 : (Jvm.Cond.fieldLink "ShieldedMachineModel" (48 : Nat) "ShieldedMachineModel" "shown" "I") ∈ lw_all := lw_g (lw_at lw_m1 226 rfl) rfl
theorem q254 : (Jvm.Cond.fieldLink "ShieldedMachineModel" (25 : Nat) "ShieldedMachineModel" "paper" "[I") ∈ lw_all := lw_g (lw_at lw_m1 227 rfl) rfl
theorem q255 : (Jvm.Cond.fieldLink "ShieldedMachineModel" (52 : Nat) "ShieldedMachineModel" "halted" "Z") ∈ lw_all := lw_g (lw_at lw_m1 228 rfl) rfl
theorem q256 : (Jvm.Cond.fieldLink "ShieldedMachineModel" (71 : Nat) "ShieldedMachineModel" "done" "I") ∈ lw_all := lw_g (lw_at lw_m1 229 rfl) rfl
theorem q257 : (Jvm.Cond.fieldLink "ShieldedMachineModel" (28 : Nat) "ShieldedMachineModel" "spoilt" "[Z") ∈ lw_all := lw_g (lw_at lw_m1 230 rfl) rfl
theorem q258 : (Jvm.Cond.fieldLink "ShieldedMachineModel" (32 : Nat) "ShieldedMachineModel" "hits" "[I") ∈ lw_all := lw_g (lw_at lw_m1 231 rfl) rfl
theorem q259 : (Jvm.Cond.lays "ShieldedMachineModel" "ShieldedMachineModel" "registers" "[I") ∈ lw_all := lw_g (lw_at lw_m1 232 rfl) rfl
theorem q260 : (Jvm.Cond.soleField "ShieldedMachineModel" "registers") ∈ lw_all := lw_g (lw_at lw_m1 233 rfl) rfl
theorem q261 : (Jvm.Cond.lays "ShieldedMachineModel" "ShieldedMachineModel" "cells" "[I") ∈ lw_all := lw_g (lw_at lw_m1 234 rfl) rfl
theorem q262 : (Jvm.Cond.soleField "ShieldedMachineModel" "cells") ∈ lw_all := lw_g (lw_at lw_m1 235 rfl) rfl
theorem q263 : (Jvm.Cond.lays "ShieldedMachineModel" "ShieldedMachineModel" "ops" "[I") ∈ lw_all := lw_g (lw_at lw_m1 236 rfl) rfl
theorem q264 : (Jvm.Cond.soleField "ShieldedMachineModel" "ops") ∈ lw_all := lw_g (lw_at lw_m1 237 rfl) rfl
theorem q265 : (Jvm.Cond.lays "ShieldedMachineModel" "ShieldedMachineModel" "targets" "[I") ∈ lw_all := lw_g (lw_at lw_m1 238 rfl) rfl
theorem q266 : (Jvm.Cond.soleField "ShieldedMachineModel" "targets") ∈ lw_all := lw_g (lw_at lw_m1 239 rfl) rfl
theorem q267 : (Jvm.Cond.lays "ShieldedMachineModel" "ShieldedMachineModel" "numbers" "[I") ∈ lw_all := lw_g (lw_at lw_m2 0 rfl) rfl
theorem q268 : (Jvm.Cond.soleField "ShieldedMachineModel" "numbers") ∈ lw_all := lw_g (lw_at lw_m2 1 rfl) rfl
theorem q269 : (Jvm.Cond.lays "ShieldedMachineModel" "ShieldedMachineModel" "at" "I") ∈ lw_all := lw_g (lw_at lw_m2 2 rfl) rfl
theorem q270 : (Jvm.Cond.soleField "ShieldedMachineModel" "at") ∈ lw_all := lw_g (lw_at lw_m2 3 rfl) rfl
theorem q271 : (Jvm.Cond.lays "ShieldedMachineModel" "ShieldedMachineModel" "shown" "I") ∈ lw_all := lw_g (lw_at lw_m2 4 rfl) rfl
theorem q272 : (Jvm.Cond.soleField "ShieldedMachineModel" "shown") ∈ lw_all := lw_g (lw_at lw_m2 5 rfl) rfl
theorem q273 : (Jvm.Cond.lays "ShieldedMachineModel" "ShieldedMachineModel" "paper" "[I") ∈ lw_all := lw_g (lw_at lw_m2 6 rfl) rfl
theorem q274 : (Jvm.Cond.soleField "ShieldedMachineModel" "paper") ∈ lw_all := lw_g (lw_at lw_m2 7 rfl) rfl
theorem q275 : (Jvm.Cond.lays "ShieldedMachineModel" "ShieldedMachineModel" "halted" "Z") ∈ lw_all := lw_g (lw_at lw_m2 8 rfl) rfl
theorem q276 : (Jvm.Cond.soleField "ShieldedMachineModel" "halted") ∈ lw_all := lw_g (lw_at lw_m2 9 rfl) rfl
theorem q277 : (Jvm.Cond.lays "ShieldedMachineModel" "ShieldedMachineModel" "done" "I") ∈ lw_all := lw_g (lw_at lw_m2 10 rfl) rfl
theorem q278 : (Jvm.Cond.soleField "ShieldedMachineModel" "done") ∈ lw_all := lw_g (lw_at lw_m2 11 rfl) rfl
theorem q279 : (Jvm.Cond.lays "ShieldedMachineModel" "ShieldedMachineModel" "spoilt" "[Z") ∈ lw_all := lw_g (lw_at lw_m2 12 rfl) rfl
theorem q280 : (Jvm.Cond.soleField "ShieldedMachineModel" "spoilt") ∈ lw_all := lw_g (lw_at lw_m2 13 rfl) rfl
theorem q281 : (Jvm.Cond.lays "ShieldedMachineModel" "ShieldedMachineModel" "hits" "[I") ∈ lw_all := lw_g (lw_at lw_m2 14 rfl) rfl
theorem q282 : (Jvm.Cond.soleField "ShieldedMachineModel" "hits") ∈ lw_all := lw_g (lw_at lw_m2 15 rfl) rfl
theorem q283 : (Jvm.Cond.superclass "ShieldedMachineModel" "java/lang/Object") ∈ lw_all := lw_g (lw_at lw_m2 16 rfl) rfl
theorem q285 : (Jvm.Cond.instanceMethod ({ cls := "ShieldedMachineModel", name := "set", desc := "(IIII)Z" } : Jvm.MethodName)) ∈ lw_all := lw_g (lw_at lw_m2 18 rfl) rfl
theorem q286 : (Jvm.Cond.selects "ShieldedMachineModel" ({ cls := "ShieldedMachineModel", name := "set", desc := "(IIII)Z" } : Jvm.MethodName) ({ cls := "ShieldedMachineModel", name := "set", desc := "(IIII)Z" } : Jvm.MethodName)) ∈ lw_all := lw_g (lw_at lw_m2 19 rfl) rfl
theorem q287 : (Jvm.Cond.code ({ cls := "ShieldedMachineModel", name := "set", desc := "(IIII)Z" } : Jvm.MethodName) prog_3_method_6_code (5 : Nat) (Option.some Jvm.ClassFile.FieldType.boolean)) ∈ lw_all := lw_g (lw_at lw_m2 20 rfl) rfl
theorem q288 : (Jvm.Cond.methodLink "ShieldedMachineModel" (35 : Nat) ({ cls := "ShieldedMachineModel", name := "isPlace", desc := "(I)Z" } : Jvm.MethodName)) ∈ lw_all := lw_g (lw_at lw_m2 21 rfl) rfl
theorem q289 : (Jvm.Cond.privateMethod ({ cls := "ShieldedMachineModel", name := "isPlace", desc := "(I)Z" } : Jvm.MethodName)) ∈ lw_tbl := lw_at lw_m2 22 rfl
theorem q290 : (Jvm.Cond.instanceMethod ({ cls := "ShieldedMachineModel", name := "isPlace", desc := "(I)Z" } : Jvm.MethodName)) ∈ lw_all := lw_g (lw_at lw_m2 23 rfl) rfl
theorem q291 : (Jvm.Cond.code ({ cls := "ShieldedMachineModel", name := "isPlace", desc := "(I)Z" } : Jvm.MethodName) prog_3_method_5_code (2 : Nat) (Option.some Jvm.ClassFile.FieldType.boolean)) ∈ lw_all := lw_g (lw_at lw_m2 24 rfl) rfl
theorem q292 : (Jvm.Cond.methodLink "ShieldedMachineModel" (39 : Nat) ({ cls := "ShieldedMachineModel", name := "isRegister", desc := "(I)Z" } : Jvm.MethodName)) ∈ lw_all := lw_g (lw_at lw_m2 25 rfl) rfl
theorem q293 : (Jvm.Cond.privateMethod ({ cls := "ShieldedMachineModel", name := "isRegister", desc := "(I)Z" } : Jvm.MethodName)) ∈ lw_tbl := lw_at lw_m2 26 rfl
theorem q294 : (Jvm.Cond.instanceMethod ({ cls := "ShieldedMachineModel", name := "isRegister", desc := "(I)Z" } : Jvm.MethodName)) ∈ lw_all := lw_g (lw_at lw_m2 27 rfl) rfl
theorem q295 : (Jvm.Cond.code ({ cls := "ShieldedMachineModel", name := "isRegister", desc := "(I)Z" } : Jvm.MethodName) prog_3_method_3_code (2 : Nat) (Option.some Jvm.ClassFile.FieldType.boolean)) ∈ lw_all := lw_g (lw_at lw_m2 28 rfl) rfl
theorem q296 : (Jvm.Cond.methodLink "ShieldedMachineModel" (42 : Nat) ({ cls := "ShieldedMachineModel", name := "isByte", desc := "(I)Z" } : Jvm.MethodName)) ∈ lw_all := lw_g (lw_at lw_m2 29 rfl) rfl
theorem q297 : (Jvm.Cond.privateMethod ({ cls := "ShieldedMachineModel", name := "isByte", desc := "(I)Z" } : Jvm.MethodName)) ∈ lw_tbl := lw_at lw_m2 30 rfl
theorem q298 : (Jvm.Cond.instanceMethod ({ cls := "ShieldedMachineModel", name := "isByte", desc := "(I)Z" } : Jvm.MethodName)) ∈ lw_all := lw_g (lw_at lw_m2 31 rfl) rfl
theorem q299 : (Jvm.Cond.code ({ cls := "ShieldedMachineModel", name := "isByte", desc := "(I)Z" } : Jvm.MethodName) prog_3_method_2_code (2 : Nat) (Option.some Jvm.ClassFile.FieldType.boolean)) ∈ lw_all := lw_g (lw_at lw_m2 32 rfl) rfl
theorem q301 : (Jvm.Cond.instanceMethod ({ cls := "ShieldedMachineModel", name := "setData", desc := "(II)Z" } : Jvm.MethodName)) ∈ lw_all := lw_g (lw_at lw_m2 34 rfl) rfl
theorem q302 : (Jvm.Cond.selects "ShieldedMachineModel" ({ cls := "ShieldedMachineModel", name := "setData", desc := "(II)Z" } : Jvm.MethodName) ({ cls := "ShieldedMachineModel", name := "setData", desc := "(II)Z" } : Jvm.MethodName)) ∈ lw_all := lw_g (lw_at lw_m2 35 rfl) rfl
theorem q303 : (Jvm.Cond.code ({ cls := "ShieldedMachineModel", name := "setData", desc := "(II)Z" } : Jvm.MethodName) prog_3_method_7_code (3 : Nat) (Option.some Jvm.ClassFile.FieldType.boolean)) ∈ lw_all := lw_g (lw_at lw_m2 36 rfl) rfl
theorem q304 : (Jvm.Cond.methodLink "ShieldedMachineModel" (45 : Nat) ({ cls := "ShieldedMachineModel", name := "isCell", desc := "(I)Z" } : Jvm.MethodName)) ∈ lw_all := lw_g (lw_at lw_m2 37 rfl) rfl
theorem q305 : (Jvm.Cond.privateMethod ({ cls := "ShieldedMachineModel", name := "isCell", desc := "(I)Z" } : Jvm.MethodName)) ∈ lw_tbl := lw_at lw_m2 38 rfl
theorem q306 : (Jvm.Cond.instanceMethod ({ cls := "ShieldedMachineModel", name := "isCell", desc := "(I)Z" } : Jvm.MethodName)) ∈ lw_all := lw_g (lw_at lw_m2 39 rfl) rfl
theorem q307 : (Jvm.Cond.code ({ cls := "ShieldedMachineModel", name := "isCell", desc := "(I)Z" } : Jvm.MethodName) prog_3_method_4_code (2 : Nat) (Option.some Jvm.ClassFile.FieldType.boolean)) ∈ lw_all := lw_g (lw_at lw_m2 40 rfl) rfl
theorem q309 : (Jvm.Cond.instanceMethod ({ cls := "ShieldedMachineModel", name := "run", desc := "(I)I" } : Jvm.MethodName)) ∈ lw_all := lw_g (lw_at lw_m2 42 rfl) rfl
theorem q310 : (Jvm.Cond.selects "ShieldedMachineModel" ({ cls := "ShieldedMachineModel", name := "run", desc := "(I)I" } : Jvm.MethodName) ({ cls := "ShieldedMachineModel", name := "run", desc := "(I)I" } : Jvm.MethodName)) ∈ lw_all := lw_g (lw_at lw_m2 43 rfl) rfl
theorem q311 : (Jvm.Cond.code ({ cls := "ShieldedMachineModel", name := "run", desc := "(I)I" } : Jvm.MethodName) prog_3_method_13_code (3 : Nat) (Option.some Jvm.ClassFile.FieldType.int)) ∈ lw_all := lw_g (lw_at lw_m2 44 rfl) rfl
theorem q312 : (Jvm.Cond.methodLink "ShieldedMachineModel" (77 : Nat) ({ cls := "ShieldedMachineModel", name := "once", desc := "()V" } : Jvm.MethodName)) ∈ lw_all := lw_g (lw_at lw_m2 45 rfl) rfl
theorem q313 : (Jvm.Cond.privateMethod ({ cls := "ShieldedMachineModel", name := "once", desc := "()V" } : Jvm.MethodName)) ∈ lw_tbl := lw_at lw_m2 46 rfl
theorem q314 : (Jvm.Cond.instanceMethod ({ cls := "ShieldedMachineModel", name := "once", desc := "()V" } : Jvm.MethodName)) ∈ lw_all := lw_g (lw_at lw_m2 47 rfl) rfl
theorem q315 : (Jvm.Cond.code ({ cls := "ShieldedMachineModel", name := "once", desc := "()V" } : Jvm.MethodName) prog_3_method_11_code (6 : Nat) (Option.none : Option Jvm.ClassFile.FieldType)) ∈ lw_all := lw_g (lw_at lw_m2 48 rfl) rfl
theorem q316 : (Jvm.Cond.methodLink "ShieldedMachineModel" (59 : Nat) ({ cls := "ShieldedMachineModel", name := "useCell", desc := "(IIZ)V" } : Jvm.MethodName)) ∈ lw_all := lw_g (lw_at lw_m2 49 rfl) rfl
theorem q317 : (Jvm.Cond.privateMethod ({ cls := "ShieldedMachineModel", name := "useCell", desc := "(IIZ)V" } : Jvm.MethodName)) ∈ lw_tbl := lw_at lw_m2 50 rfl
theorem q318 : (Jvm.Cond.instanceMethod ({ cls := "ShieldedMachineModel", name := "useCell", desc := "(IIZ)V" } : Jvm.MethodName)) ∈ lw_all := lw_g (lw_at lw_m2 51 rfl) rfl
theorem q319 : (Jvm.Cond.code ({ cls := "ShieldedMachineModel", name := "useCell", desc := "(IIZ)V" } : Jvm.MethodName) prog_3_method_9_code (4 : Nat) (Option.none : Option Jvm.ClassFile.FieldType)) ∈ lw_all := lw_g (lw_at lw_m2 52 rfl) rfl
theorem q320 : (Jvm.Cond.methodLink "ShieldedMachineModel" (63 : Nat) ({ cls := "ShieldedMachineModel", name := "putOut", desc := "(I)V" } : Jvm.MethodName)) ∈ lw_all := lw_g (lw_at lw_m2 53 rfl) rfl
theorem q321 : (Jvm.Cond.privateMethod ({ cls := "ShieldedMachineModel", name := "putOut", desc := "(I)V" } : Jvm.MethodName)) ∈ lw_tbl := lw_at lw_m2 54 rfl
theorem q322 : (Jvm.Cond.instanceMethod ({ cls := "ShieldedMachineModel", name := "putOut", desc := "(I)V" } : Jvm.MethodName)) ∈ lw_all := lw_g (lw_at lw_m2 55 rfl) rfl
theorem q323 : (Jvm.Cond.code ({ cls := "ShieldedMachineModel", name := "putOut", desc := "(I)V" } : Jvm.MethodName) prog_3_method_10_code (2 : Nat) (Option.none : Option Jvm.ClassFile.FieldType)) ∈ lw_all := lw_g (lw_at lw_m2 56 rfl) rfl
theorem q324 : (Jvm.Cond.methodLink "ShieldedMachineModel" (67 : Nat) ({ cls := "ShieldedMachineModel", name := "calculated", desc := "(IIII)I" } : Jvm.MethodName)) ∈ lw_all := lw_g (lw_at lw_m2 57 rfl) rfl
theorem q325 : (Jvm.Cond.privateMethod ({ cls := "ShieldedMachineModel", name := "calculated", desc := "(IIII)I" } : Jvm.MethodName)) ∈ lw_tbl := lw_at lw_m2 58 rfl
theorem q326 : (Jvm.Cond.instanceMethod ({ cls := "ShieldedMachineModel", name := "calculated", desc := "(IIII)I" } : Jvm.MethodName)) ∈ lw_all := lw_g (lw_at lw_m2 59 rfl) rfl
theorem q327 : (Jvm.Cond.code ({ cls := "ShieldedMachineModel", name := "calculated", desc := "(IIII)I" } : Jvm.MethodName) prog_3_method_8_code (5 : Nat) (Option.some Jvm.ClassFile.FieldType.int)) ∈ lw_all := lw_g (lw_at lw_m2 60 rfl) rfl
theorem q328 : (Jvm.Cond.methodLink "ShieldedMachineModel" (74 : Nat) ({ cls := "ShieldedMachineModel", name := "forgetHits", desc := "()V" } : Jvm.MethodName)) ∈ lw_all := lw_g (lw_at lw_m2 61 rfl) rfl
theorem q329 : (Jvm.Cond.privateMethod ({ cls := "ShieldedMachineModel", name := "forgetHits", desc := "()V" } : Jvm.MethodName)) ∈ lw_tbl := lw_at lw_m2 62 rfl
theorem q330 : (Jvm.Cond.instanceMethod ({ cls := "ShieldedMachineModel", name := "forgetHits", desc := "()V" } : Jvm.MethodName)) ∈ lw_all := lw_g (lw_at lw_m2 63 rfl) rfl
theorem q331 : (Jvm.Cond.code ({ cls := "ShieldedMachineModel", name := "forgetHits", desc := "()V" } : Jvm.MethodName) prog_3_method_12_code (2 : Nat) (Option.none : Option Jvm.ClassFile.FieldType)) ∈ lw_all := lw_g (lw_at lw_m2 64 rfl) rfl
theorem q333 : (Jvm.Cond.instanceMethod ({ cls := "ShieldedMachineModel", name := "reset", desc := "()V" } : Jvm.MethodName)) ∈ lw_all := lw_g (lw_at lw_m2 66 rfl) rfl
theorem q334 : (Jvm.Cond.selects "ShieldedMachineModel" ({ cls := "ShieldedMachineModel", name := "reset", desc := "()V" } : Jvm.MethodName) ({ cls := "ShieldedMachineModel", name := "reset", desc := "()V" } : Jvm.MethodName)) ∈ lw_all := lw_g (lw_at lw_m2 67 rfl) rfl
theorem q335 : (Jvm.Cond.code ({ cls := "ShieldedMachineModel", name := "reset", desc := "()V" } : Jvm.MethodName) prog_3_method_14_code (2 : Nat) (Option.none : Option Jvm.ClassFile.FieldType)) ∈ lw_all := lw_g (lw_at lw_m2 68 rfl) rfl
theorem q337 : (Jvm.Cond.instanceMethod ({ cls := "ShieldedMachineModel", name := "hitRegister", desc := "(III)Z" } : Jvm.MethodName)) ∈ lw_all := lw_g (lw_at lw_m2 70 rfl) rfl
theorem q338 : (Jvm.Cond.selects "ShieldedMachineModel" ({ cls := "ShieldedMachineModel", name := "hitRegister", desc := "(III)Z" } : Jvm.MethodName) ({ cls := "ShieldedMachineModel", name := "hitRegister", desc := "(III)Z" } : Jvm.MethodName)) ∈ lw_all := lw_g (lw_at lw_m2 71 rfl) rfl
theorem q339 : (Jvm.Cond.code ({ cls := "ShieldedMachineModel", name := "hitRegister", desc := "(III)Z" } : Jvm.MethodName) prog_3_method_17_code (4 : Nat) (Option.some Jvm.ClassFile.FieldType.boolean)) ∈ lw_all := lw_g (lw_at lw_m2 72 rfl) rfl
theorem q340 : (Jvm.Cond.methodLink "ShieldedMachineModel" (80 : Nat) ({ cls := "ShieldedMachineModel", name := "isMask", desc := "(I)Z" } : Jvm.MethodName)) ∈ lw_all := lw_g (lw_at lw_m2 73 rfl) rfl
theorem q341 : (Jvm.Cond.privateMethod ({ cls := "ShieldedMachineModel", name := "isMask", desc := "(I)Z" } : Jvm.MethodName)) ∈ lw_tbl := lw_at lw_m2 74 rfl
theorem q342 : (Jvm.Cond.instanceMethod ({ cls := "ShieldedMachineModel", name := "isMask", desc := "(I)Z" } : Jvm.MethodName)) ∈ lw_all := lw_g (lw_at lw_m2 75 rfl) rfl
theorem q343 : (Jvm.Cond.code ({ cls := "ShieldedMachineModel", name := "isMask", desc := "(I)Z" } : Jvm.MethodName) prog_3_method_16_code (2 : Nat) (Option.some Jvm.ClassFile.FieldType.boolean)) ∈ lw_all := lw_g (lw_at lw_m2 76 rfl) rfl
theorem q344 : (Jvm.Cond.methodLink "ShieldedMachineModel" (83 : Nat) ({ cls := "ShieldedMachineModel", name := "hit", desc := "(IIZ)Z" } : Jvm.MethodName)) ∈ lw_all := lw_g (lw_at lw_m2 77 rfl) rfl
theorem q345 : (Jvm.Cond.privateMethod ({ cls := "ShieldedMachineModel", name := "hit", desc := "(IIZ)Z" } : Jvm.MethodName)) ∈ lw_tbl := lw_at lw_m2 78 rfl
theorem q346 : (Jvm.Cond.instanceMethod ({ cls := "ShieldedMachineModel", name := "hit", desc := "(IIZ)Z" } : Jvm.MethodName)) ∈ lw_all := lw_g (lw_at lw_m2 79 rfl) rfl
theorem q347 : (Jvm.Cond.code ({ cls := "ShieldedMachineModel", name := "hit", desc := "(IIZ)Z" } : Jvm.MethodName) prog_3_method_15_code (4 : Nat) (Option.some Jvm.ClassFile.FieldType.boolean)) ∈ lw_all := lw_g (lw_at lw_m2 80 rfl) rfl
theorem q349 : (Jvm.Cond.instanceMethod ({ cls := "ShieldedMachineModel", name := "hitPlace", desc := "(II)Z" } : Jvm.MethodName)) ∈ lw_all := lw_g (lw_at lw_m2 82 rfl) rfl
theorem q350 : (Jvm.Cond.selects "ShieldedMachineModel" ({ cls := "ShieldedMachineModel", name := "hitPlace", desc := "(II)Z" } : Jvm.MethodName) ({ cls := "ShieldedMachineModel", name := "hitPlace", desc := "(II)Z" } : Jvm.MethodName)) ∈ lw_all := lw_g (lw_at lw_m2 83 rfl) rfl
theorem q351 : (Jvm.Cond.code ({ cls := "ShieldedMachineModel", name := "hitPlace", desc := "(II)Z" } : Jvm.MethodName) prog_3_method_18_code (3 : Nat) (Option.some Jvm.ClassFile.FieldType.boolean)) ∈ lw_all := lw_g (lw_at lw_m2 84 rfl) rfl
theorem q353 : (Jvm.Cond.instanceMethod ({ cls := "ShieldedMachineModel", name := "hitWork", desc := "(II)Z" } : Jvm.MethodName)) ∈ lw_all := lw_g (lw_at lw_m2 86 rfl) rfl
theorem q354 : (Jvm.Cond.selects "ShieldedMachineModel" ({ cls := "ShieldedMachineModel", name := "hitWork", desc := "(II)Z" } : Jvm.MethodName) ({ cls := "ShieldedMachineModel", name := "hitWork", desc := "(II)Z" } : Jvm.MethodName)) ∈ lw_all := lw_g (lw_at lw_m2 87 rfl) rfl
theorem q355 : (Jvm.Cond.code ({ cls := "ShieldedMachineModel", name := "hitWork", desc := "(II)Z" } : Jvm.MethodName) prog_3_method_19_code (3 : Nat) (Option.some Jvm.ClassFile.FieldType.boolean)) ∈ lw_all := lw_g (lw_at lw_m2 88 rfl) rfl
theorem q357 : (Jvm.Cond.instanceMethod ({ cls := "ShieldedMachineModel", name := "hitData", desc := "(II)Z" } : Jvm.MethodName)) ∈ lw_all := lw_g (lw_at lw_m2 90 rfl) rfl
theorem q358 : (Jvm.Cond.selects "ShieldedMachineModel" ({ cls := "ShieldedMachineModel", name := "hitData", desc := "(II)Z" } : Jvm.MethodName) ({ cls := "ShieldedMachineModel", name := "hitData", desc := "(II)Z" } : Jvm.MethodName)) ∈ lw_all := lw_g (lw_at lw_m2 91 rfl) rfl
theorem q359 : (Jvm.Cond.code ({ cls := "ShieldedMachineModel", name := "hitData", desc := "(II)Z" } : Jvm.MethodName) prog_3_method_21_code (3 : Nat) (Option.some Jvm.ClassFile.FieldType.boolean)) ∈ lw_all := lw_g (lw_at lw_m2 92 rfl) rfl
theorem q360 : (Jvm.Cond.methodLink "ShieldedMachineModel" (87 : Nat) ({ cls := "ShieldedMachineModel", name := "spoil", desc := "(I)Z" } : Jvm.MethodName)) ∈ lw_all := lw_g (lw_at lw_m2 93 rfl) rfl
theorem q361 : (Jvm.Cond.privateMethod ({ cls := "ShieldedMachineModel", name := "spoil", desc := "(I)Z" } : Jvm.MethodName)) ∈ lw_tbl := lw_at lw_m2 94 rfl
theorem q362 : (Jvm.Cond.instanceMethod ({ cls := "ShieldedMachineModel", name := "spoil", desc := "(I)Z" } : Jvm.MethodName)) ∈ lw_all := lw_g (lw_at lw_m2 95 rfl) rfl
theorem q363 : (Jvm.Cond.code ({ cls := "ShieldedMachineModel", name := "spoil", desc := "(I)Z" } : Jvm.MethodName) prog_3_method_20_code (2 : Nat) (Option.some Jvm.ClassFile.FieldType.boolean)) ∈ lw_all := lw_g (lw_at lw_m2 96 rfl) rfl
theorem q365 : (Jvm.Cond.instanceMethod ({ cls := "ShieldedMachineModel", name := "hitProgram", desc := "(II)Z" } : Jvm.MethodName)) ∈ lw_all := lw_g (lw_at lw_m2 98 rfl) rfl
theorem q366 : (Jvm.Cond.selects "ShieldedMachineModel" ({ cls := "ShieldedMachineModel", name := "hitProgram", desc := "(II)Z" } : Jvm.MethodName) ({ cls := "ShieldedMachineModel", name := "hitProgram", desc := "(II)Z" } : Jvm.MethodName)) ∈ lw_all := lw_g (lw_at lw_m2 99 rfl) rfl
theorem q367 : (Jvm.Cond.code ({ cls := "ShieldedMachineModel", name := "hitProgram", desc := "(II)Z" } : Jvm.MethodName) prog_3_method_22_code (3 : Nat) (Option.some Jvm.ClassFile.FieldType.boolean)) ∈ lw_all := lw_g (lw_at lw_m2 100 rfl) rfl
theorem q369 : (Jvm.Cond.instanceMethod ({ cls := "ShieldedMachineModel", name := "register", desc := "(I)I" } : Jvm.MethodName)) ∈ lw_all := lw_g (lw_at lw_m2 102 rfl) rfl
theorem q370 : (Jvm.Cond.selects "ShieldedMachineModel" ({ cls := "ShieldedMachineModel", name := "register", desc := "(I)I" } : Jvm.MethodName) ({ cls := "ShieldedMachineModel", name := "register", desc := "(I)I" } : Jvm.MethodName)) ∈ lw_all := lw_g (lw_at lw_m2 103 rfl) rfl
theorem q371 : (Jvm.Cond.code ({ cls := "ShieldedMachineModel", name := "register", desc := "(I)I" } : Jvm.MethodName) prog_3_method_23_code (2 : Nat) (Option.some Jvm.ClassFile.FieldType.int)) ∈ lw_all := lw_g (lw_at lw_m2 104 rfl) rfl
theorem q373 : (Jvm.Cond.instanceMethod ({ cls := "ShieldedMachineModel", name := "place", desc := "()I" } : Jvm.MethodName)) ∈ lw_all := lw_g (lw_at lw_m2 106 rfl) rfl
theorem q374 : (Jvm.Cond.selects "ShieldedMachineModel" ({ cls := "ShieldedMachineModel", name := "place", desc := "()I" } : Jvm.MethodName) ({ cls := "ShieldedMachineModel", name := "place", desc := "()I" } : Jvm.MethodName)) ∈ lw_all := lw_g (lw_at lw_m2 107 rfl) rfl
theorem q375 : (Jvm.Cond.code ({ cls := "ShieldedMachineModel", name := "place", desc := "()I" } : Jvm.MethodName) prog_3_method_24_code (1 : Nat) (Option.some Jvm.ClassFile.FieldType.int)) ∈ lw_all := lw_g (lw_at lw_m2 108 rfl) rfl
theorem q377 : (Jvm.Cond.instanceMethod ({ cls := "ShieldedMachineModel", name := "data", desc := "(I)I" } : Jvm.MethodName)) ∈ lw_all := lw_g (lw_at lw_m2 110 rfl) rfl
theorem q378 : (Jvm.Cond.selects "ShieldedMachineModel" ({ cls := "ShieldedMachineModel", name := "data", desc := "(I)I" } : Jvm.MethodName) ({ cls := "ShieldedMachineModel", name := "data", desc := "(I)I" } : Jvm.MethodName)) ∈ lw_all := lw_g (lw_at lw_m2 111 rfl) rfl
theorem q379 : (Jvm.Cond.code ({ cls := "ShieldedMachineModel", name := "data", desc := "(I)I" } : Jvm.MethodName) prog_3_method_25_code (2 : Nat) (Option.some Jvm.ClassFile.FieldType.int)) ∈ lw_all := lw_g (lw_at lw_m2 112 rfl) rfl
theorem q381 : (Jvm.Cond.instanceMethod ({ cls := "ShieldedMachineModel", name := "outs", desc := "()I" } : Jvm.MethodName)) ∈ lw_all := lw_g (lw_at lw_m2 114 rfl) rfl
theorem q382 : (Jvm.Cond.selects "ShieldedMachineModel" ({ cls := "ShieldedMachineModel", name := "outs", desc := "()I" } : Jvm.MethodName) ({ cls := "ShieldedMachineModel", name := "outs", desc := "()I" } : Jvm.MethodName)) ∈ lw_all := lw_g (lw_at lw_m2 115 rfl) rfl
theorem q383 : (Jvm.Cond.code ({ cls := "ShieldedMachineModel", name := "outs", desc := "()I" } : Jvm.MethodName) prog_3_method_26_code (1 : Nat) (Option.some Jvm.ClassFile.FieldType.int)) ∈ lw_all := lw_g (lw_at lw_m2 116 rfl) rfl
theorem q385 : (Jvm.Cond.instanceMethod ({ cls := "ShieldedMachineModel", name := "out", desc := "(I)I" } : Jvm.MethodName)) ∈ lw_all := lw_g (lw_at lw_m2 118 rfl) rfl
theorem q386 : (Jvm.Cond.selects "ShieldedMachineModel" ({ cls := "ShieldedMachineModel", name := "out", desc := "(I)I" } : Jvm.MethodName) ({ cls := "ShieldedMachineModel", name := "out", desc := "(I)I" } : Jvm.MethodName)) ∈ lw_all := lw_g (lw_at lw_m2 119 rfl) rfl
theorem q387 : (Jvm.Cond.code ({ cls := "ShieldedMachineModel", name := "out", desc := "(I)I" } : Jvm.MethodName) prog_3_method_27_code (2 : Nat) (Option.some Jvm.ClassFile.FieldType.int)) ∈ lw_all := lw_g (lw_at lw_m2 120 rfl) rfl
theorem q389 : (Jvm.Cond.instanceMethod ({ cls := "ShieldedMachineModel", name := "stopped", desc := "()Z" } : Jvm.MethodName)) ∈ lw_all := lw_g (lw_at lw_m2 122 rfl) rfl
theorem q390 : (Jvm.Cond.selects "ShieldedMachineModel" ({ cls := "ShieldedMachineModel", name := "stopped", desc := "()Z" } : Jvm.MethodName) ({ cls := "ShieldedMachineModel", name := "stopped", desc := "()Z" } : Jvm.MethodName)) ∈ lw_all := lw_g (lw_at lw_m2 123 rfl) rfl
theorem q391 : (Jvm.Cond.code ({ cls := "ShieldedMachineModel", name := "stopped", desc := "()Z" } : Jvm.MethodName) prog_3_method_28_code (1 : Nat) (Option.some Jvm.ClassFile.FieldType.boolean)) ∈ lw_all := lw_g (lw_at lw_m2 124 rfl) rfl
theorem q393 : (Jvm.Cond.instanceMethod ({ cls := "ShieldedMachineModel", name := "spoiled", desc := "()I" } : Jvm.MethodName)) ∈ lw_all := lw_g (lw_at lw_m2 126 rfl) rfl
theorem q394 : (Jvm.Cond.selects "ShieldedMachineModel" ({ cls := "ShieldedMachineModel", name := "spoiled", desc := "()I" } : Jvm.MethodName) ({ cls := "ShieldedMachineModel", name := "spoiled", desc := "()I" } : Jvm.MethodName)) ∈ lw_all := lw_g (lw_at lw_m2 127 rfl) rfl
theorem q395 : (Jvm.Cond.code ({ cls := "ShieldedMachineModel", name := "spoiled", desc := "()I" } : Jvm.MethodName) prog_3_method_29_code (3 : Nat) (Option.some Jvm.ClassFile.FieldType.int)) ∈ lw_all := lw_g (lw_at lw_m2 128 rfl) rfl
theorem in_X1 : ∀ w ∈ wsX10, w ∈ lw_all := lw_in wsX10 [259, 261, 263, 265, 267, 269, 271, 273, 275, 277, 279, 281] (by decide +kernel) (by decide +kernel)

/-! java/lang/Object -/
set_option maxRecDepth 100000
def RJ0 : String := "java/lang/Object"
abbrev cJ0_init : ByteArray := object_method_1_code
def yJ0_init : MethodName := ⟨RJ0, "<init>", "()V"⟩
theorem dJ0_init_0 : decode cJ0_init 0 = .ok (.return_, 1) := by decide +kernel
theorem q36 : (Jvm.Cond.instanceMethod ({ cls := "java/lang/Object", name := "<init>", desc := "()V" } : Jvm.MethodName)) ∈ lw_all := lw_g (lw_at lw_m1 9 rfl) rfl
theorem q37 : (Jvm.Cond.code ({ cls := "java/lang/Object", name := "<init>", desc := "()V" } : Jvm.MethodName) object_method_1_code (1 : Nat) (Option.none : Option Jvm.ClassFile.FieldType)) ∈ lw_all := lw_g (lw_at lw_m1 10 rfl) rfl

theorem q97 : (Jvm.Cond.arrayClass Jvm.ClassFile.FieldType.int) ∈ lw_all := lw_g (lw_at lw_m1 70 rfl) rfl
set_option maxRecDepth 100000
theorem q98 : (Jvm.Cond.arrayClass Jvm.ClassFile.FieldType.byte) ∈ lw_all := lw_g (lw_at lw_m1 71 rfl) rfl
theorem q99 : (Jvm.Cond.arrayClass Jvm.ClassFile.FieldType.boolean) ∈ lw_all := lw_g (lw_at lw_m1 72 rfl) rfl

theorem q27 : (Jvm.Cond.initialized "ShieldedMachineLaw") ∈ lw_all := lw_g (lw_at lw_m1 0 rfl) rfl
set_option maxRecDepth 100000
theorem q30 : (Jvm.Cond.classLink "ShieldedMachineLaw" (7 : Nat) "ShieldedMachine") ∈ lw_all := lw_g (lw_at lw_m1 3 rfl) rfl
theorem q32 : (Jvm.Cond.methodLink "ShieldedMachineLaw" (9 : Nat) ({ cls := "ShieldedMachine", name := "<init>", desc := "()V" } : Jvm.MethodName)) ∈ lw_all := lw_g (lw_at lw_m1 5 rfl) rfl
theorem q100 : (Jvm.Cond.methodLink "ShieldedMachineLaw" (13 : Nat) ({ cls := "ShieldedMachine", name := "set", desc := "(IIII)Z" } : Jvm.MethodName)) ∈ lw_all := lw_g (lw_at lw_m1 73 rfl) rfl
theorem q107 : (Jvm.Cond.methodLink "ShieldedMachineLaw" (18 : Nat) ({ cls := "ShieldedMachine", name := "setData", desc := "(II)Z" } : Jvm.MethodName)) ∈ lw_all := lw_g (lw_at lw_m1 80 rfl) rfl
theorem q111 : (Jvm.Cond.methodLink "ShieldedMachineLaw" (23 : Nat) ({ cls := "ShieldedMachine", name := "run", desc := "(I)I" } : Jvm.MethodName)) ∈ lw_all := lw_g (lw_at lw_m1 84 rfl) rfl
theorem q182 : (Jvm.Cond.methodLink "ShieldedMachineLaw" (28 : Nat) ({ cls := "ShieldedMachine", name := "reset", desc := "()V" } : Jvm.MethodName)) ∈ lw_all := lw_g (lw_at lw_m1 155 rfl) rfl
theorem q186 : (Jvm.Cond.methodLink "ShieldedMachineLaw" (32 : Nat) ({ cls := "ShieldedMachine", name := "hitRegister", desc := "(III)Z" } : Jvm.MethodName)) ∈ lw_all := lw_g (lw_at lw_m1 159 rfl) rfl
theorem q193 : (Jvm.Cond.methodLink "ShieldedMachineLaw" (37 : Nat) ({ cls := "ShieldedMachine", name := "hitPlace", desc := "(II)Z" } : Jvm.MethodName)) ∈ lw_all := lw_g (lw_at lw_m1 166 rfl) rfl
theorem q197 : (Jvm.Cond.methodLink "ShieldedMachineLaw" (41 : Nat) ({ cls := "ShieldedMachine", name := "hitWork", desc := "(II)Z" } : Jvm.MethodName)) ∈ lw_all := lw_g (lw_at lw_m1 170 rfl) rfl
theorem q201 : (Jvm.Cond.methodLink "ShieldedMachineLaw" (45 : Nat) ({ cls := "ShieldedMachine", name := "hitData", desc := "(II)Z" } : Jvm.MethodName)) ∈ lw_all := lw_g (lw_at lw_m1 174 rfl) rfl
theorem q209 : (Jvm.Cond.methodLink "ShieldedMachineLaw" (49 : Nat) ({ cls := "ShieldedMachine", name := "hitProgram", desc := "(II)Z" } : Jvm.MethodName)) ∈ lw_all := lw_g (lw_at lw_m1 182 rfl) rfl
theorem q213 : (Jvm.Cond.methodLink "ShieldedMachineLaw" (53 : Nat) ({ cls := "ShieldedMachine", name := "register", desc := "(I)I" } : Jvm.MethodName)) ∈ lw_all := lw_g (lw_at lw_m1 186 rfl) rfl
theorem q217 : (Jvm.Cond.methodLink "ShieldedMachineLaw" (57 : Nat) ({ cls := "ShieldedMachine", name := "place", desc := "()I" } : Jvm.MethodName)) ∈ lw_all := lw_g (lw_at lw_m1 190 rfl) rfl
theorem q221 : (Jvm.Cond.methodLink "ShieldedMachineLaw" (62 : Nat) ({ cls := "ShieldedMachine", name := "data", desc := "(I)I" } : Jvm.MethodName)) ∈ lw_all := lw_g (lw_at lw_m1 194 rfl) rfl
theorem q225 : (Jvm.Cond.methodLink "ShieldedMachineLaw" (66 : Nat) ({ cls := "ShieldedMachine", name := "outs", desc := "()I" } : Jvm.MethodName)) ∈ lw_all := lw_g (lw_at lw_m1 198 rfl) rfl
theorem q229 : (Jvm.Cond.methodLink "ShieldedMachineLaw" (70 : Nat) ({ cls := "ShieldedMachine", name := "out", desc := "(I)I" } : Jvm.MethodName)) ∈ lw_all := lw_g (lw_at lw_m1 202 rfl) rfl
theorem q233 : (Jvm.Cond.methodLink "ShieldedMachineLaw" (74 : Nat) ({ cls := "ShieldedMachine", name := "stopped", desc := "()Z" } : Jvm.MethodName)) ∈ lw_all := lw_g (lw_at lw_m1 206 rfl) rfl
theorem q237 : (Jvm.Cond.methodLink "ShieldedMachineLaw" (79 : Nat) ({ cls := "ShieldedMachine", name := "spoiled", desc := "()I" } : Jvm.MethodName)) ∈ lw_all := lw_g (lw_at lw_m1 210 rfl) rfl
theorem q241 : (Jvm.Cond.classLink "ShieldedMachineLaw" (10 : Nat) "ShieldedMachineModel") ∈ lw_all := lw_g (lw_at lw_m1 214 rfl) rfl
theorem q243 : (Jvm.Cond.methodLink "ShieldedMachineLaw" (12 : Nat) ({ cls := "ShieldedMachineModel", name := "<init>", desc := "()V" } : Jvm.MethodName)) ∈ lw_all := lw_g (lw_at lw_m1 216 rfl) rfl
theorem q284 : (Jvm.Cond.methodLink "ShieldedMachineLaw" (17 : Nat) ({ cls := "ShieldedMachineModel", name := "set", desc := "(IIII)Z" } : Jvm.MethodName)) ∈ lw_all := lw_g (lw_at lw_m2 17 rfl) rfl
theorem q300 : (Jvm.Cond.methodLink "ShieldedMachineLaw" (22 : Nat) ({ cls := "ShieldedMachineModel", name := "setData", desc := "(II)Z" } : Jvm.MethodName)) ∈ lw_all := lw_g (lw_at lw_m2 33 rfl) rfl
theorem q308 : (Jvm.Cond.methodLink "ShieldedMachineLaw" (27 : Nat) ({ cls := "ShieldedMachineModel", name := "run", desc := "(I)I" } : Jvm.MethodName)) ∈ lw_all := lw_g (lw_at lw_m2 41 rfl) rfl
theorem q332 : (Jvm.Cond.methodLink "ShieldedMachineLaw" (31 : Nat) ({ cls := "ShieldedMachineModel", name := "reset", desc := "()V" } : Jvm.MethodName)) ∈ lw_all := lw_g (lw_at lw_m2 65 rfl) rfl
theorem q336 : (Jvm.Cond.methodLink "ShieldedMachineLaw" (36 : Nat) ({ cls := "ShieldedMachineModel", name := "hitRegister", desc := "(III)Z" } : Jvm.MethodName)) ∈ lw_all := lw_g (lw_at lw_m2 69 rfl) rfl
theorem q348 : (Jvm.Cond.methodLink "ShieldedMachineLaw" (40 : Nat) ({ cls := "ShieldedMachineModel", name := "hitPlace", desc := "(II)Z" } : Jvm.MethodName)) ∈ lw_all := lw_g (lw_at lw_m2 81 rfl) rfl
theorem q352 : (Jvm.Cond.methodLink "ShieldedMachineLaw" (44 : Nat) ({ cls := "ShieldedMachineModel", name := "hitWork", desc := "(II)Z" } : Jvm.MethodName)) ∈ lw_all := lw_g (lw_at lw_m2 85 rfl) rfl
theorem q356 : (Jvm.Cond.methodLink "ShieldedMachineLaw" (48 : Nat) ({ cls := "ShieldedMachineModel", name := "hitData", desc := "(II)Z" } : Jvm.MethodName)) ∈ lw_all := lw_g (lw_at lw_m2 89 rfl) rfl
theorem q364 : (Jvm.Cond.methodLink "ShieldedMachineLaw" (52 : Nat) ({ cls := "ShieldedMachineModel", name := "hitProgram", desc := "(II)Z" } : Jvm.MethodName)) ∈ lw_all := lw_g (lw_at lw_m2 97 rfl) rfl
theorem q368 : (Jvm.Cond.methodLink "ShieldedMachineLaw" (56 : Nat) ({ cls := "ShieldedMachineModel", name := "register", desc := "(I)I" } : Jvm.MethodName)) ∈ lw_all := lw_g (lw_at lw_m2 101 rfl) rfl
theorem q372 : (Jvm.Cond.methodLink "ShieldedMachineLaw" (61 : Nat) ({ cls := "ShieldedMachineModel", name := "place", desc := "()I" } : Jvm.MethodName)) ∈ lw_all := lw_g (lw_at lw_m2 105 rfl) rfl
theorem q376 : (Jvm.Cond.methodLink "ShieldedMachineLaw" (65 : Nat) ({ cls := "ShieldedMachineModel", name := "data", desc := "(I)I" } : Jvm.MethodName)) ∈ lw_all := lw_g (lw_at lw_m2 109 rfl) rfl
theorem q380 : (Jvm.Cond.methodLink "ShieldedMachineLaw" (69 : Nat) ({ cls := "ShieldedMachineModel", name := "outs", desc := "()I" } : Jvm.MethodName)) ∈ lw_all := lw_g (lw_at lw_m2 113 rfl) rfl
theorem q384 : (Jvm.Cond.methodLink "ShieldedMachineLaw" (73 : Nat) ({ cls := "ShieldedMachineModel", name := "out", desc := "(I)I" } : Jvm.MethodName)) ∈ lw_all := lw_g (lw_at lw_m2 117 rfl) rfl
theorem q388 : (Jvm.Cond.methodLink "ShieldedMachineLaw" (78 : Nat) ({ cls := "ShieldedMachineModel", name := "stopped", desc := "()Z" } : Jvm.MethodName)) ∈ lw_all := lw_g (lw_at lw_m2 121 rfl) rfl
theorem q392 : (Jvm.Cond.methodLink "ShieldedMachineLaw" (82 : Nat) ({ cls := "ShieldedMachineModel", name := "spoiled", desc := "()I" } : Jvm.MethodName)) ∈ lw_all := lw_g (lw_at lw_m2 125 rfl) rfl
end
section
/-! the law's own entry -/
set_option maxRecDepth 100000
abbrev cL_law : ByteArray := code

theorem dL_law_0 : decode cL_law 0 = .ok (.new 7, 3) := by decide +kernel
theorem dL_law_3 : decode cL_law 3 = .ok (.dup, 1) := by decide +kernel
theorem dL_law_4 : decode cL_law 4 = .ok (.invokespecial 9, 3) := by decide +kernel
theorem dL_law_7 : decode cL_law 7 = .ok (.astore_n 1, 1) := by decide +kernel
theorem dL_law_8 : decode cL_law 8 = .ok (.new 10, 3) := by decide +kernel
theorem dL_law_11 : decode cL_law 11 = .ok (.dup, 1) := by decide +kernel
theorem dL_law_12 : decode cL_law 12 = .ok (.invokespecial 12, 3) := by decide +kernel
theorem dL_law_15 : decode cL_law 15 = .ok (.astore_n 2, 1) := by decide +kernel
theorem dL_law_16 : decode cL_law 16 = .ok (.iconst 0, 1) := by decide +kernel
theorem dL_law_17 : decode cL_law 17 = .ok (.istore_n 3, 1) := by decide +kernel
theorem dL_law_18 : decode cL_law 18 = .ok (.iload_n 3, 1) := by decide +kernel
theorem dL_law_19 : decode cL_law 19 = .ok (.aload_n 0, 1) := by decide +kernel
theorem dL_law_20 : decode cL_law 20 = .ok (.arraylength, 1) := by decide +kernel
theorem dL_law_21 : decode cL_law 21 = .ok (.iconst 5, 1) := by decide +kernel
theorem dL_law_22 : decode cL_law 22 = .ok (.isub, 1) := by decide +kernel
theorem dL_law_23 : decode cL_law 23 = .ok (.if_icmp .gt 511, 3) := by decide +kernel
theorem dL_law_26 : decode cL_law 26 = .ok (.aload_n 0, 1) := by decide +kernel
theorem dL_law_27 : decode cL_law 27 = .ok (.iload_n 3, 1) := by decide +kernel
theorem dL_law_28 : decode cL_law 28 = .ok (.iaload, 1) := by decide +kernel
theorem dL_law_29 : decode cL_law 29 = .ok (.bipush 15, 2) := by decide +kernel
theorem dL_law_31 : decode cL_law 31 = .ok (.iand, 1) := by decide +kernel
theorem dL_law_32 : decode cL_law 32 = .ok (.tableswitch 496 0 15 #[80, 133, 166, 189, 200, 243, 276, 309, 342, 375, 398, 411, 434, 447, 470, 483], 80) := by decide +kernel
theorem dL_law_112 : decode cL_law 112 = .ok (.aload_n 1, 1) := by decide +kernel
theorem dL_law_113 : decode cL_law 113 = .ok (.aload_n 0, 1) := by decide +kernel
theorem dL_law_114 : decode cL_law 114 = .ok (.iload_n 3, 1) := by decide +kernel
theorem dL_law_115 : decode cL_law 115 = .ok (.iconst 1, 1) := by decide +kernel
theorem dL_law_116 : decode cL_law 116 = .ok (.iadd, 1) := by decide +kernel
theorem dL_law_117 : decode cL_law 117 = .ok (.iaload, 1) := by decide +kernel
theorem dL_law_118 : decode cL_law 118 = .ok (.aload_n 0, 1) := by decide +kernel
theorem dL_law_119 : decode cL_law 119 = .ok (.iload_n 3, 1) := by decide +kernel
theorem dL_law_120 : decode cL_law 120 = .ok (.iconst 2, 1) := by decide +kernel
theorem dL_law_121 : decode cL_law 121 = .ok (.iadd, 1) := by decide +kernel
theorem dL_law_122 : decode cL_law 122 = .ok (.iaload, 1) := by decide +kernel
theorem dL_law_123 : decode cL_law 123 = .ok (.aload_n 0, 1) := by decide +kernel
theorem dL_law_124 : decode cL_law 124 = .ok (.iload_n 3, 1) := by decide +kernel
theorem dL_law_125 : decode cL_law 125 = .ok (.iconst 3, 1) := by decide +kernel
theorem dL_law_126 : decode cL_law 126 = .ok (.iadd, 1) := by decide +kernel
theorem dL_law_127 : decode cL_law 127 = .ok (.iaload, 1) := by decide +kernel
theorem dL_law_128 : decode cL_law 128 = .ok (.aload_n 0, 1) := by decide +kernel
theorem dL_law_129 : decode cL_law 129 = .ok (.iload_n 3, 1) := by decide +kernel
theorem dL_law_130 : decode cL_law 130 = .ok (.iconst 4, 1) := by decide +kernel
theorem dL_law_131 : decode cL_law 131 = .ok (.iadd, 1) := by decide +kernel
theorem dL_law_132 : decode cL_law 132 = .ok (.iaload, 1) := by decide +kernel
theorem dL_law_133 : decode cL_law 133 = .ok (.invokevirtual 13, 3) := by decide +kernel
theorem dL_law_136 : decode cL_law 136 = .ok (.aload_n 2, 1) := by decide +kernel
theorem dL_law_137 : decode cL_law 137 = .ok (.aload_n 0, 1) := by decide +kernel
theorem dL_law_138 : decode cL_law 138 = .ok (.iload_n 3, 1) := by decide +kernel
theorem dL_law_139 : decode cL_law 139 = .ok (.iconst 1, 1) := by decide +kernel
theorem dL_law_140 : decode cL_law 140 = .ok (.iadd, 1) := by decide +kernel
theorem dL_law_141 : decode cL_law 141 = .ok (.iaload, 1) := by decide +kernel
theorem dL_law_142 : decode cL_law 142 = .ok (.aload_n 0, 1) := by decide +kernel
theorem dL_law_143 : decode cL_law 143 = .ok (.iload_n 3, 1) := by decide +kernel
theorem dL_law_144 : decode cL_law 144 = .ok (.iconst 2, 1) := by decide +kernel
theorem dL_law_145 : decode cL_law 145 = .ok (.iadd, 1) := by decide +kernel
theorem dL_law_146 : decode cL_law 146 = .ok (.iaload, 1) := by decide +kernel
theorem dL_law_147 : decode cL_law 147 = .ok (.aload_n 0, 1) := by decide +kernel
theorem dL_law_148 : decode cL_law 148 = .ok (.iload_n 3, 1) := by decide +kernel
theorem dL_law_149 : decode cL_law 149 = .ok (.iconst 3, 1) := by decide +kernel
theorem dL_law_150 : decode cL_law 150 = .ok (.iadd, 1) := by decide +kernel
theorem dL_law_151 : decode cL_law 151 = .ok (.iaload, 1) := by decide +kernel
theorem dL_law_152 : decode cL_law 152 = .ok (.aload_n 0, 1) := by decide +kernel
theorem dL_law_153 : decode cL_law 153 = .ok (.iload_n 3, 1) := by decide +kernel
theorem dL_law_154 : decode cL_law 154 = .ok (.iconst 4, 1) := by decide +kernel
theorem dL_law_155 : decode cL_law 155 = .ok (.iadd, 1) := by decide +kernel
theorem dL_law_156 : decode cL_law 156 = .ok (.iaload, 1) := by decide +kernel
theorem dL_law_157 : decode cL_law 157 = .ok (.invokevirtual 17, 3) := by decide +kernel
theorem dL_law_160 : decode cL_law 160 = .ok (.if_icmp .eq 368, 3) := by decide +kernel
theorem dL_law_163 : decode cL_law 163 = .ok (.iconst 0, 1) := by decide +kernel
theorem dL_law_164 : decode cL_law 164 = .ok (.ireturn, 1) := by decide +kernel
theorem dL_law_165 : decode cL_law 165 = .ok (.aload_n 1, 1) := by decide +kernel
theorem dL_law_166 : decode cL_law 166 = .ok (.aload_n 0, 1) := by decide +kernel
theorem dL_law_167 : decode cL_law 167 = .ok (.iload_n 3, 1) := by decide +kernel
theorem dL_law_168 : decode cL_law 168 = .ok (.iconst 1, 1) := by decide +kernel
theorem dL_law_169 : decode cL_law 169 = .ok (.iadd, 1) := by decide +kernel
theorem dL_law_170 : decode cL_law 170 = .ok (.iaload, 1) := by decide +kernel
theorem dL_law_171 : decode cL_law 171 = .ok (.aload_n 0, 1) := by decide +kernel
theorem dL_law_172 : decode cL_law 172 = .ok (.iload_n 3, 1) := by decide +kernel
theorem dL_law_173 : decode cL_law 173 = .ok (.iconst 2, 1) := by decide +kernel
theorem dL_law_174 : decode cL_law 174 = .ok (.iadd, 1) := by decide +kernel
theorem dL_law_175 : decode cL_law 175 = .ok (.iaload, 1) := by decide +kernel
theorem dL_law_176 : decode cL_law 176 = .ok (.invokevirtual 18, 3) := by decide +kernel
theorem dL_law_179 : decode cL_law 179 = .ok (.aload_n 2, 1) := by decide +kernel
theorem dL_law_180 : decode cL_law 180 = .ok (.aload_n 0, 1) := by decide +kernel
theorem dL_law_181 : decode cL_law 181 = .ok (.iload_n 3, 1) := by decide +kernel
theorem dL_law_182 : decode cL_law 182 = .ok (.iconst 1, 1) := by decide +kernel
theorem dL_law_183 : decode cL_law 183 = .ok (.iadd, 1) := by decide +kernel
theorem dL_law_184 : decode cL_law 184 = .ok (.iaload, 1) := by decide +kernel
end
section
set_option maxRecDepth 100000
theorem dL_law_185 : decode cL_law 185 = .ok (.aload_n 0, 1) := by decide +kernel
theorem dL_law_186 : decode cL_law 186 = .ok (.iload_n 3, 1) := by decide +kernel
theorem dL_law_187 : decode cL_law 187 = .ok (.iconst 2, 1) := by decide +kernel
theorem dL_law_188 : decode cL_law 188 = .ok (.iadd, 1) := by decide +kernel
theorem dL_law_189 : decode cL_law 189 = .ok (.iaload, 1) := by decide +kernel
theorem dL_law_190 : decode cL_law 190 = .ok (.invokevirtual 22, 3) := by decide +kernel
theorem dL_law_193 : decode cL_law 193 = .ok (.if_icmp .eq 335, 3) := by decide +kernel
theorem dL_law_196 : decode cL_law 196 = .ok (.iconst 0, 1) := by decide +kernel
theorem dL_law_197 : decode cL_law 197 = .ok (.ireturn, 1) := by decide +kernel
theorem dL_law_198 : decode cL_law 198 = .ok (.aload_n 1, 1) := by decide +kernel
theorem dL_law_199 : decode cL_law 199 = .ok (.aload_n 0, 1) := by decide +kernel
theorem dL_law_200 : decode cL_law 200 = .ok (.iload_n 3, 1) := by decide +kernel
theorem dL_law_201 : decode cL_law 201 = .ok (.iconst 1, 1) := by decide +kernel
theorem dL_law_202 : decode cL_law 202 = .ok (.iadd, 1) := by decide +kernel
theorem dL_law_203 : decode cL_law 203 = .ok (.iaload, 1) := by decide +kernel
theorem dL_law_204 : decode cL_law 204 = .ok (.invokevirtual 23, 3) := by decide +kernel
theorem dL_law_207 : decode cL_law 207 = .ok (.aload_n 2, 1) := by decide +kernel
theorem dL_law_208 : decode cL_law 208 = .ok (.aload_n 0, 1) := by decide +kernel
theorem dL_law_209 : decode cL_law 209 = .ok (.iload_n 3, 1) := by decide +kernel
theorem dL_law_210 : decode cL_law 210 = .ok (.iconst 1, 1) := by decide +kernel
theorem dL_law_211 : decode cL_law 211 = .ok (.iadd, 1) := by decide +kernel
theorem dL_law_212 : decode cL_law 212 = .ok (.iaload, 1) := by decide +kernel
theorem dL_law_213 : decode cL_law 213 = .ok (.invokevirtual 27, 3) := by decide +kernel
theorem dL_law_216 : decode cL_law 216 = .ok (.if_icmp .eq 312, 3) := by decide +kernel
theorem dL_law_219 : decode cL_law 219 = .ok (.iconst 0, 1) := by decide +kernel
theorem dL_law_220 : decode cL_law 220 = .ok (.ireturn, 1) := by decide +kernel
theorem dL_law_221 : decode cL_law 221 = .ok (.aload_n 1, 1) := by decide +kernel
theorem dL_law_222 : decode cL_law 222 = .ok (.invokevirtual 28, 3) := by decide +kernel
theorem dL_law_225 : decode cL_law 225 = .ok (.aload_n 2, 1) := by decide +kernel
theorem dL_law_226 : decode cL_law 226 = .ok (.invokevirtual 31, 3) := by decide +kernel
theorem dL_law_229 : decode cL_law 229 = .ok (.goto 299, 3) := by decide +kernel
theorem dL_law_232 : decode cL_law 232 = .ok (.aload_n 1, 1) := by decide +kernel
theorem dL_law_233 : decode cL_law 233 = .ok (.aload_n 0, 1) := by decide +kernel
theorem dL_law_234 : decode cL_law 234 = .ok (.iload_n 3, 1) := by decide +kernel
theorem dL_law_235 : decode cL_law 235 = .ok (.iconst 1, 1) := by decide +kernel
theorem dL_law_236 : decode cL_law 236 = .ok (.iadd, 1) := by decide +kernel
theorem dL_law_237 : decode cL_law 237 = .ok (.iaload, 1) := by decide +kernel
theorem dL_law_238 : decode cL_law 238 = .ok (.aload_n 0, 1) := by decide +kernel
theorem dL_law_239 : decode cL_law 239 = .ok (.iload_n 3, 1) := by decide +kernel
theorem dL_law_240 : decode cL_law 240 = .ok (.iconst 2, 1) := by decide +kernel
theorem dL_law_241 : decode cL_law 241 = .ok (.iadd, 1) := by decide +kernel
theorem dL_law_242 : decode cL_law 242 = .ok (.iaload, 1) := by decide +kernel
theorem dL_law_243 : decode cL_law 243 = .ok (.aload_n 0, 1) := by decide +kernel
theorem dL_law_244 : decode cL_law 244 = .ok (.iload_n 3, 1) := by decide +kernel
theorem dL_law_245 : decode cL_law 245 = .ok (.iconst 3, 1) := by decide +kernel
theorem dL_law_246 : decode cL_law 246 = .ok (.iadd, 1) := by decide +kernel
theorem dL_law_247 : decode cL_law 247 = .ok (.iaload, 1) := by decide +kernel
theorem dL_law_248 : decode cL_law 248 = .ok (.invokevirtual 32, 3) := by decide +kernel
theorem dL_law_251 : decode cL_law 251 = .ok (.aload_n 2, 1) := by decide +kernel
theorem dL_law_252 : decode cL_law 252 = .ok (.aload_n 0, 1) := by decide +kernel
theorem dL_law_253 : decode cL_law 253 = .ok (.iload_n 3, 1) := by decide +kernel
theorem dL_law_254 : decode cL_law 254 = .ok (.iconst 1, 1) := by decide +kernel
theorem dL_law_255 : decode cL_law 255 = .ok (.iadd, 1) := by decide +kernel
theorem dL_law_256 : decode cL_law 256 = .ok (.iaload, 1) := by decide +kernel
theorem dL_law_257 : decode cL_law 257 = .ok (.aload_n 0, 1) := by decide +kernel
theorem dL_law_258 : decode cL_law 258 = .ok (.iload_n 3, 1) := by decide +kernel
theorem dL_law_259 : decode cL_law 259 = .ok (.iconst 2, 1) := by decide +kernel
theorem dL_law_260 : decode cL_law 260 = .ok (.iadd, 1) := by decide +kernel
theorem dL_law_261 : decode cL_law 261 = .ok (.iaload, 1) := by decide +kernel
theorem dL_law_262 : decode cL_law 262 = .ok (.aload_n 0, 1) := by decide +kernel
theorem dL_law_263 : decode cL_law 263 = .ok (.iload_n 3, 1) := by decide +kernel
theorem dL_law_264 : decode cL_law 264 = .ok (.iconst 3, 1) := by decide +kernel
theorem dL_law_265 : decode cL_law 265 = .ok (.iadd, 1) := by decide +kernel
theorem dL_law_266 : decode cL_law 266 = .ok (.iaload, 1) := by decide +kernel
theorem dL_law_267 : decode cL_law 267 = .ok (.invokevirtual 36, 3) := by decide +kernel
theorem dL_law_270 : decode cL_law 270 = .ok (.if_icmp .eq 258, 3) := by decide +kernel
theorem dL_law_273 : decode cL_law 273 = .ok (.iconst 0, 1) := by decide +kernel
theorem dL_law_274 : decode cL_law 274 = .ok (.ireturn, 1) := by decide +kernel
theorem dL_law_275 : decode cL_law 275 = .ok (.aload_n 1, 1) := by decide +kernel
theorem dL_law_276 : decode cL_law 276 = .ok (.aload_n 0, 1) := by decide +kernel
theorem dL_law_277 : decode cL_law 277 = .ok (.iload_n 3, 1) := by decide +kernel
theorem dL_law_278 : decode cL_law 278 = .ok (.iconst 1, 1) := by decide +kernel
theorem dL_law_279 : decode cL_law 279 = .ok (.iadd, 1) := by decide +kernel
theorem dL_law_280 : decode cL_law 280 = .ok (.iaload, 1) := by decide +kernel
theorem dL_law_281 : decode cL_law 281 = .ok (.aload_n 0, 1) := by decide +kernel
theorem dL_law_282 : decode cL_law 282 = .ok (.iload_n 3, 1) := by decide +kernel
theorem dL_law_283 : decode cL_law 283 = .ok (.iconst 2, 1) := by decide +kernel
theorem dL_law_284 : decode cL_law 284 = .ok (.iadd, 1) := by decide +kernel
theorem dL_law_285 : decode cL_law 285 = .ok (.iaload, 1) := by decide +kernel
theorem dL_law_286 : decode cL_law 286 = .ok (.invokevirtual 37, 3) := by decide +kernel
theorem dL_law_289 : decode cL_law 289 = .ok (.aload_n 2, 1) := by decide +kernel
theorem dL_law_290 : decode cL_law 290 = .ok (.aload_n 0, 1) := by decide +kernel
theorem dL_law_291 : decode cL_law 291 = .ok (.iload_n 3, 1) := by decide +kernel
theorem dL_law_292 : decode cL_law 292 = .ok (.iconst 1, 1) := by decide +kernel
theorem dL_law_293 : decode cL_law 293 = .ok (.iadd, 1) := by decide +kernel
theorem dL_law_294 : decode cL_law 294 = .ok (.iaload, 1) := by decide +kernel
theorem dL_law_295 : decode cL_law 295 = .ok (.aload_n 0, 1) := by decide +kernel
end
section
set_option maxRecDepth 100000
theorem dL_law_296 : decode cL_law 296 = .ok (.iload_n 3, 1) := by decide +kernel
theorem dL_law_297 : decode cL_law 297 = .ok (.iconst 2, 1) := by decide +kernel
theorem dL_law_298 : decode cL_law 298 = .ok (.iadd, 1) := by decide +kernel
theorem dL_law_299 : decode cL_law 299 = .ok (.iaload, 1) := by decide +kernel
theorem dL_law_300 : decode cL_law 300 = .ok (.invokevirtual 40, 3) := by decide +kernel
theorem dL_law_303 : decode cL_law 303 = .ok (.if_icmp .eq 225, 3) := by decide +kernel
theorem dL_law_306 : decode cL_law 306 = .ok (.iconst 0, 1) := by decide +kernel
theorem dL_law_307 : decode cL_law 307 = .ok (.ireturn, 1) := by decide +kernel
theorem dL_law_308 : decode cL_law 308 = .ok (.aload_n 1, 1) := by decide +kernel
theorem dL_law_309 : decode cL_law 309 = .ok (.aload_n 0, 1) := by decide +kernel
theorem dL_law_310 : decode cL_law 310 = .ok (.iload_n 3, 1) := by decide +kernel
theorem dL_law_311 : decode cL_law 311 = .ok (.iconst 1, 1) := by decide +kernel
theorem dL_law_312 : decode cL_law 312 = .ok (.iadd, 1) := by decide +kernel
theorem dL_law_313 : decode cL_law 313 = .ok (.iaload, 1) := by decide +kernel
theorem dL_law_314 : decode cL_law 314 = .ok (.aload_n 0, 1) := by decide +kernel
theorem dL_law_315 : decode cL_law 315 = .ok (.iload_n 3, 1) := by decide +kernel
theorem dL_law_316 : decode cL_law 316 = .ok (.iconst 2, 1) := by decide +kernel
theorem dL_law_317 : decode cL_law 317 = .ok (.iadd, 1) := by decide +kernel
theorem dL_law_318 : decode cL_law 318 = .ok (.iaload, 1) := by decide +kernel
theorem dL_law_319 : decode cL_law 319 = .ok (.invokevirtual 41, 3) := by decide +kernel
theorem dL_law_322 : decode cL_law 322 = .ok (.aload_n 2, 1) := by decide +kernel
theorem dL_law_323 : decode cL_law 323 = .ok (.aload_n 0, 1) := by decide +kernel
theorem dL_law_324 : decode cL_law 324 = .ok (.iload_n 3, 1) := by decide +kernel
theorem dL_law_325 : decode cL_law 325 = .ok (.iconst 1, 1) := by decide +kernel
theorem dL_law_326 : decode cL_law 326 = .ok (.iadd, 1) := by decide +kernel
theorem dL_law_327 : decode cL_law 327 = .ok (.iaload, 1) := by decide +kernel
theorem dL_law_328 : decode cL_law 328 = .ok (.aload_n 0, 1) := by decide +kernel
theorem dL_law_329 : decode cL_law 329 = .ok (.iload_n 3, 1) := by decide +kernel
theorem dL_law_330 : decode cL_law 330 = .ok (.iconst 2, 1) := by decide +kernel
theorem dL_law_331 : decode cL_law 331 = .ok (.iadd, 1) := by decide +kernel
theorem dL_law_332 : decode cL_law 332 = .ok (.iaload, 1) := by decide +kernel
theorem dL_law_333 : decode cL_law 333 = .ok (.invokevirtual 44, 3) := by decide +kernel
theorem dL_law_336 : decode cL_law 336 = .ok (.if_icmp .eq 192, 3) := by decide +kernel
theorem dL_law_339 : decode cL_law 339 = .ok (.iconst 0, 1) := by decide +kernel
theorem dL_law_340 : decode cL_law 340 = .ok (.ireturn, 1) := by decide +kernel
theorem dL_law_341 : decode cL_law 341 = .ok (.aload_n 1, 1) := by decide +kernel
theorem dL_law_342 : decode cL_law 342 = .ok (.aload_n 0, 1) := by decide +kernel
theorem dL_law_343 : decode cL_law 343 = .ok (.iload_n 3, 1) := by decide +kernel
theorem dL_law_344 : decode cL_law 344 = .ok (.iconst 1, 1) := by decide +kernel
theorem dL_law_345 : decode cL_law 345 = .ok (.iadd, 1) := by decide +kernel
theorem dL_law_346 : decode cL_law 346 = .ok (.iaload, 1) := by decide +kernel
theorem dL_law_347 : decode cL_law 347 = .ok (.aload_n 0, 1) := by decide +kernel
theorem dL_law_348 : decode cL_law 348 = .ok (.iload_n 3, 1) := by decide +kernel
theorem dL_law_349 : decode cL_law 349 = .ok (.iconst 2, 1) := by decide +kernel
theorem dL_law_350 : decode cL_law 350 = .ok (.iadd, 1) := by decide +kernel
theorem dL_law_351 : decode cL_law 351 = .ok (.iaload, 1) := by decide +kernel
theorem dL_law_352 : decode cL_law 352 = .ok (.invokevirtual 45, 3) := by decide +kernel
theorem dL_law_355 : decode cL_law 355 = .ok (.aload_n 2, 1) := by decide +kernel
theorem dL_law_356 : decode cL_law 356 = .ok (.aload_n 0, 1) := by decide +kernel
theorem dL_law_357 : decode cL_law 357 = .ok (.iload_n 3, 1) := by decide +kernel
theorem dL_law_358 : decode cL_law 358 = .ok (.iconst 1, 1) := by decide +kernel
theorem dL_law_359 : decode cL_law 359 = .ok (.iadd, 1) := by decide +kernel
theorem dL_law_360 : decode cL_law 360 = .ok (.iaload, 1) := by decide +kernel
theorem dL_law_361 : decode cL_law 361 = .ok (.aload_n 0, 1) := by decide +kernel
theorem dL_law_362 : decode cL_law 362 = .ok (.iload_n 3, 1) := by decide +kernel
theorem dL_law_363 : decode cL_law 363 = .ok (.iconst 2, 1) := by decide +kernel
theorem dL_law_364 : decode cL_law 364 = .ok (.iadd, 1) := by decide +kernel
theorem dL_law_365 : decode cL_law 365 = .ok (.iaload, 1) := by decide +kernel
theorem dL_law_366 : decode cL_law 366 = .ok (.invokevirtual 48, 3) := by decide +kernel
theorem dL_law_369 : decode cL_law 369 = .ok (.if_icmp .eq 159, 3) := by decide +kernel
theorem dL_law_372 : decode cL_law 372 = .ok (.iconst 0, 1) := by decide +kernel
theorem dL_law_373 : decode cL_law 373 = .ok (.ireturn, 1) := by decide +kernel
theorem dL_law_374 : decode cL_law 374 = .ok (.aload_n 1, 1) := by decide +kernel
theorem dL_law_375 : decode cL_law 375 = .ok (.aload_n 0, 1) := by decide +kernel
theorem dL_law_376 : decode cL_law 376 = .ok (.iload_n 3, 1) := by decide +kernel
theorem dL_law_377 : decode cL_law 377 = .ok (.iconst 1, 1) := by decide +kernel
theorem dL_law_378 : decode cL_law 378 = .ok (.iadd, 1) := by decide +kernel
theorem dL_law_379 : decode cL_law 379 = .ok (.iaload, 1) := by decide +kernel
theorem dL_law_380 : decode cL_law 380 = .ok (.aload_n 0, 1) := by decide +kernel
theorem dL_law_381 : decode cL_law 381 = .ok (.iload_n 3, 1) := by decide +kernel
theorem dL_law_382 : decode cL_law 382 = .ok (.iconst 2, 1) := by decide +kernel
theorem dL_law_383 : decode cL_law 383 = .ok (.iadd, 1) := by decide +kernel
theorem dL_law_384 : decode cL_law 384 = .ok (.iaload, 1) := by decide +kernel
theorem dL_law_385 : decode cL_law 385 = .ok (.invokevirtual 49, 3) := by decide +kernel
theorem dL_law_388 : decode cL_law 388 = .ok (.aload_n 2, 1) := by decide +kernel
theorem dL_law_389 : decode cL_law 389 = .ok (.aload_n 0, 1) := by decide +kernel
theorem dL_law_390 : decode cL_law 390 = .ok (.iload_n 3, 1) := by decide +kernel
theorem dL_law_391 : decode cL_law 391 = .ok (.iconst 1, 1) := by decide +kernel
theorem dL_law_392 : decode cL_law 392 = .ok (.iadd, 1) := by decide +kernel
theorem dL_law_393 : decode cL_law 393 = .ok (.iaload, 1) := by decide +kernel
theorem dL_law_394 : decode cL_law 394 = .ok (.aload_n 0, 1) := by decide +kernel
theorem dL_law_395 : decode cL_law 395 = .ok (.iload_n 3, 1) := by decide +kernel
theorem dL_law_396 : decode cL_law 396 = .ok (.iconst 2, 1) := by decide +kernel
theorem dL_law_397 : decode cL_law 397 = .ok (.iadd, 1) := by decide +kernel
theorem dL_law_398 : decode cL_law 398 = .ok (.iaload, 1) := by decide +kernel
theorem dL_law_399 : decode cL_law 399 = .ok (.invokevirtual 52, 3) := by decide +kernel
theorem dL_law_402 : decode cL_law 402 = .ok (.if_icmp .eq 126, 3) := by decide +kernel
end
section
set_option maxRecDepth 100000
theorem dL_law_405 : decode cL_law 405 = .ok (.iconst 0, 1) := by decide +kernel
theorem dL_law_406 : decode cL_law 406 = .ok (.ireturn, 1) := by decide +kernel
theorem dL_law_407 : decode cL_law 407 = .ok (.aload_n 1, 1) := by decide +kernel
theorem dL_law_408 : decode cL_law 408 = .ok (.aload_n 0, 1) := by decide +kernel
theorem dL_law_409 : decode cL_law 409 = .ok (.iload_n 3, 1) := by decide +kernel
theorem dL_law_410 : decode cL_law 410 = .ok (.iconst 1, 1) := by decide +kernel
theorem dL_law_411 : decode cL_law 411 = .ok (.iadd, 1) := by decide +kernel
theorem dL_law_412 : decode cL_law 412 = .ok (.iaload, 1) := by decide +kernel
theorem dL_law_413 : decode cL_law 413 = .ok (.invokevirtual 53, 3) := by decide +kernel
theorem dL_law_416 : decode cL_law 416 = .ok (.aload_n 2, 1) := by decide +kernel
theorem dL_law_417 : decode cL_law 417 = .ok (.aload_n 0, 1) := by decide +kernel
theorem dL_law_418 : decode cL_law 418 = .ok (.iload_n 3, 1) := by decide +kernel
theorem dL_law_419 : decode cL_law 419 = .ok (.iconst 1, 1) := by decide +kernel
theorem dL_law_420 : decode cL_law 420 = .ok (.iadd, 1) := by decide +kernel
theorem dL_law_421 : decode cL_law 421 = .ok (.iaload, 1) := by decide +kernel
theorem dL_law_422 : decode cL_law 422 = .ok (.invokevirtual 56, 3) := by decide +kernel
theorem dL_law_425 : decode cL_law 425 = .ok (.if_icmp .eq 103, 3) := by decide +kernel
theorem dL_law_428 : decode cL_law 428 = .ok (.iconst 0, 1) := by decide +kernel
theorem dL_law_429 : decode cL_law 429 = .ok (.ireturn, 1) := by decide +kernel
theorem dL_law_430 : decode cL_law 430 = .ok (.aload_n 1, 1) := by decide +kernel
theorem dL_law_431 : decode cL_law 431 = .ok (.invokevirtual 57, 3) := by decide +kernel
theorem dL_law_434 : decode cL_law 434 = .ok (.aload_n 2, 1) := by decide +kernel
theorem dL_law_435 : decode cL_law 435 = .ok (.invokevirtual 61, 3) := by decide +kernel
theorem dL_law_438 : decode cL_law 438 = .ok (.if_icmp .eq 90, 3) := by decide +kernel
theorem dL_law_441 : decode cL_law 441 = .ok (.iconst 0, 1) := by decide +kernel
theorem dL_law_442 : decode cL_law 442 = .ok (.ireturn, 1) := by decide +kernel
theorem dL_law_443 : decode cL_law 443 = .ok (.aload_n 1, 1) := by decide +kernel
theorem dL_law_444 : decode cL_law 444 = .ok (.aload_n 0, 1) := by decide +kernel
theorem dL_law_445 : decode cL_law 445 = .ok (.iload_n 3, 1) := by decide +kernel
theorem dL_law_446 : decode cL_law 446 = .ok (.iconst 1, 1) := by decide +kernel
theorem dL_law_447 : decode cL_law 447 = .ok (.iadd, 1) := by decide +kernel
theorem dL_law_448 : decode cL_law 448 = .ok (.iaload, 1) := by decide +kernel
theorem dL_law_449 : decode cL_law 449 = .ok (.invokevirtual 62, 3) := by decide +kernel
theorem dL_law_452 : decode cL_law 452 = .ok (.aload_n 2, 1) := by decide +kernel
theorem dL_law_453 : decode cL_law 453 = .ok (.aload_n 0, 1) := by decide +kernel
theorem dL_law_454 : decode cL_law 454 = .ok (.iload_n 3, 1) := by decide +kernel
theorem dL_law_455 : decode cL_law 455 = .ok (.iconst 1, 1) := by decide +kernel
theorem dL_law_456 : decode cL_law 456 = .ok (.iadd, 1) := by decide +kernel
theorem dL_law_457 : decode cL_law 457 = .ok (.iaload, 1) := by decide +kernel
theorem dL_law_458 : decode cL_law 458 = .ok (.invokevirtual 65, 3) := by decide +kernel
theorem dL_law_461 : decode cL_law 461 = .ok (.if_icmp .eq 67, 3) := by decide +kernel
theorem dL_law_464 : decode cL_law 464 = .ok (.iconst 0, 1) := by decide +kernel
theorem dL_law_465 : decode cL_law 465 = .ok (.ireturn, 1) := by decide +kernel
theorem dL_law_466 : decode cL_law 466 = .ok (.aload_n 1, 1) := by decide +kernel
theorem dL_law_467 : decode cL_law 467 = .ok (.invokevirtual 66, 3) := by decide +kernel
theorem dL_law_470 : decode cL_law 470 = .ok (.aload_n 2, 1) := by decide +kernel
theorem dL_law_471 : decode cL_law 471 = .ok (.invokevirtual 69, 3) := by decide +kernel
theorem dL_law_474 : decode cL_law 474 = .ok (.if_icmp .eq 54, 3) := by decide +kernel
theorem dL_law_477 : decode cL_law 477 = .ok (.iconst 0, 1) := by decide +kernel
theorem dL_law_478 : decode cL_law 478 = .ok (.ireturn, 1) := by decide +kernel
theorem dL_law_479 : decode cL_law 479 = .ok (.aload_n 1, 1) := by decide +kernel
theorem dL_law_480 : decode cL_law 480 = .ok (.aload_n 0, 1) := by decide +kernel
theorem dL_law_481 : decode cL_law 481 = .ok (.iload_n 3, 1) := by decide +kernel
theorem dL_law_482 : decode cL_law 482 = .ok (.iconst 1, 1) := by decide +kernel
theorem dL_law_483 : decode cL_law 483 = .ok (.iadd, 1) := by decide +kernel
theorem dL_law_484 : decode cL_law 484 = .ok (.iaload, 1) := by decide +kernel
theorem dL_law_485 : decode cL_law 485 = .ok (.invokevirtual 70, 3) := by decide +kernel
theorem dL_law_488 : decode cL_law 488 = .ok (.aload_n 2, 1) := by decide +kernel
theorem dL_law_489 : decode cL_law 489 = .ok (.aload_n 0, 1) := by decide +kernel
theorem dL_law_490 : decode cL_law 490 = .ok (.iload_n 3, 1) := by decide +kernel
theorem dL_law_491 : decode cL_law 491 = .ok (.iconst 1, 1) := by decide +kernel
theorem dL_law_492 : decode cL_law 492 = .ok (.iadd, 1) := by decide +kernel
theorem dL_law_493 : decode cL_law 493 = .ok (.iaload, 1) := by decide +kernel
theorem dL_law_494 : decode cL_law 494 = .ok (.invokevirtual 73, 3) := by decide +kernel
theorem dL_law_497 : decode cL_law 497 = .ok (.if_icmp .eq 31, 3) := by decide +kernel
theorem dL_law_500 : decode cL_law 500 = .ok (.iconst 0, 1) := by decide +kernel
theorem dL_law_501 : decode cL_law 501 = .ok (.ireturn, 1) := by decide +kernel
theorem dL_law_502 : decode cL_law 502 = .ok (.aload_n 1, 1) := by decide +kernel
theorem dL_law_503 : decode cL_law 503 = .ok (.invokevirtual 74, 3) := by decide +kernel
theorem dL_law_506 : decode cL_law 506 = .ok (.aload_n 2, 1) := by decide +kernel
theorem dL_law_507 : decode cL_law 507 = .ok (.invokevirtual 78, 3) := by decide +kernel
theorem dL_law_510 : decode cL_law 510 = .ok (.if_icmp .eq 18, 3) := by decide +kernel
theorem dL_law_513 : decode cL_law 513 = .ok (.iconst 0, 1) := by decide +kernel
theorem dL_law_514 : decode cL_law 514 = .ok (.ireturn, 1) := by decide +kernel
theorem dL_law_515 : decode cL_law 515 = .ok (.aload_n 1, 1) := by decide +kernel
theorem dL_law_516 : decode cL_law 516 = .ok (.invokevirtual 79, 3) := by decide +kernel
theorem dL_law_519 : decode cL_law 519 = .ok (.aload_n 2, 1) := by decide +kernel
theorem dL_law_520 : decode cL_law 520 = .ok (.invokevirtual 82, 3) := by decide +kernel
theorem dL_law_523 : decode cL_law 523 = .ok (.if_icmp .eq 5, 3) := by decide +kernel
theorem dL_law_526 : decode cL_law 526 = .ok (.iconst 0, 1) := by decide +kernel
theorem dL_law_527 : decode cL_law 527 = .ok (.ireturn, 1) := by decide +kernel
theorem dL_law_528 : decode cL_law 528 = .ok (.iinc 3 5, 3) := by decide +kernel
theorem dL_law_531 : decode cL_law 531 = .ok (.goto (-513), 3) := by decide +kernel
theorem dL_law_534 : decode cL_law 534 = .ok (.iconst 1, 1) := by decide +kernel
theorem dL_law_535 : decode cL_law 535 = .ok (.ireturn, 1) := by decide +kernel
end
section
/-! OWN ROWS: contracts over a world that is a function of a pure state, calls and ends for them -/
abbrev vwCl : List vw_C := [(RX0, TX0, 13), (RX1, TX1, 12)]
/-- a room by its depth -/
abbrev rm_ (d : Nat) : Room := { frames := d, cells := 0, slots := 0, locals := 30 * d }
def GPre (D : va_G) (tys : List (ClassId × FieldType)) (ws : va_W) (sz : Nat) (U : State) : Prop :=
  U.heap.size = sz ∧ va_P D vwCl ws U.heap ∧ va_K D vwCl tys U ∧ va_D (fun _ => True) ws
def GB {σ : Type} (D : va_G) (tys : List (ClassId × FieldType)) (wf : σ → va_W) (A : Nat → Prop) (u : σ) (t : State) : Prop :=
  va_P D vwCl (wf u) t.heap ∧ va_K D vwCl tys t ∧ va_D A (wf u)
/-- a method without an answer: from any heap that holds 'wf u' to one that holds 'wf u2', 'post u2' -/
abbrev Cv {σ : Type} (l : Launch) (y : MethodName) (b : ByteArray) (L : Nat) (rm : Room) (D : va_G) (tys : List (ClassId × FieldType)) (wf : σ → va_W) (sz : Nat) (av : List Value) (u : σ) (post : σ → Prop) : Prop :=
  Met l y (ws_ y b L none) rm (va_Pc av (GPre D tys (wf u) sz)) (va_Qv post (GB D tys wf (va_A (wf u) sz)) (va_A (wf u) sz)) 0 0 (va_A (wf u) sz)
/-- a method with an int answer -/
abbrev Ci {σ : Type} (l : Launch) (y : MethodName) (b : ByteArray) (L : Nat) (ret : FieldType) (rm : Room) (D : va_G) (tys : List (ClassId × FieldType)) (wf : σ → va_W) (sz : Nat) (av : List Value) (u : σ) (post : Int32 → σ → Prop) : Prop :=
  Met l y (ws_ y b L (some ret)) rm (va_Pc av (GPre D tys (wf u) sz)) (va_Qi post (GB D tys wf (va_A (wf u) sz)) (va_A (wf u) sz)) 0 0 (va_A (wf u) sz)
def Qp (post : Int32 → Prop) : Array Value → State → Outcome → State → Prop := fun _ st oc t => ∃ r : Int32, oc = .returned (some (.int r)) ∧ post r ∧ t.heap = st.heap
/-- a method that touches no cell -/
abbrev Cp (l : Launch) (y : MethodName) (b : ByteArray) (L : Nat) (ret : FieldType) (rm : Room) (av : List Value) (post : Int32 → Prop) : Prop :=
  Met l y (ws_ y b L (some ret)) rm (va_Pc av (fun _ => True)) (Qp post) 0 0 (fun _ => False)
/-- what a call asks of a method's name -/
abbrev hd_ (C : String) (y : MethodName) (n : Nat) : Prop := y.cls = C ∧ y.cls ≠ "java/lang/invoke/MethodHandle" ∧ y.cls ≠ "java/lang/invoke/VarHandle" ∧ (parseMethodDescriptor y.desc).map (fun d => d.parameters.length) = some n
theorem GPre.blind {D : va_G} {tys : List (ClassId × FieldType)} {ws : va_W} {sz : Nat} {av : List Value} : FrameBlind (va_Pc av (GPre D tys ws sz)) :=
  fun a U g mk q => by
    obtain ⟨q0, q1, qP, qK, qD⟩ := q
    exact ⟨q0, q1, qP, va_K.moved (u := U) (U := U.calling g mk a) (Vm.Alike.refl U.vm) qK, qD⟩
theorem st_p {l : Launch} {y : MethodName} {b : ByteArray} {L : Nat} {ret : FieldType} {rm : Room} {av : List Value} {post : Int32 → Prop} (hy : plainName y.cls = true) (hL : (lg_sl av).length ≤ L)
    (body : ∀ (p : Program) (e : Env) (s : State) (m : MethodId) (below : List Frame) (meth : Method) (c : Code) (ls : Array Slot), p.tables.exec = Jvm.exec → c.code = b → meth.sig.returnType = some ret → meth.locks = false → CallFix p m c b L s av.toArray lw_all y.cls → lv_has ls L (lv_args 0 av) →
      W p l e rm s m av.toArray below meth c s.heap [] 0 0 (MQ below (Qp post) av.toArray s 0 0 (fun _ => False)) (F0 m 0 ls [])) : Cp l y b L ret rm av post := by
  refine Met.ofW (cc := b) (maxL := L) (ret := some ret) hy rfl ?_
  intro p e s m args below meth c s₁ B hml hv
  obtain ⟨rfl, -⟩ := hv
  have hts := atoms_spec (ws := ws_ y b L (some ret)) B.pre
  rw [lg_entry_eq]
  exact body p e s m below meth c _ B.exec B.bytes B.returns B.notSynchronized ⟨B.exec, B.bytes, hml, findClass_of_methodNamed B.named, fun w h => hts w (List.mem_cons_of_mem _ h)⟩ (lv_entry av hL)
theorem st_v {σ : Type} {l : Launch} {y : MethodName} {b : ByteArray} {L : Nat} {rm : Room} {D : va_G} {tys : List (ClassId × FieldType)} {wf : σ → va_W} {sz : Nat} {av : List Value} {u : σ} {post : σ → Prop} (hy : plainName y.cls = true) (hL : (lg_sl av).length ≤ L)
    (body : ∀ (p : Program) (e : Env) (s : State) (m : MethodId) (below : List Frame) (meth : Method) (c : Code) (A : Nat → Prop) (ls : Array Slot), p.tables.exec = Jvm.exec → c.code = b → meth.sig.returnType = none → meth.locks = false → CallFix p m c b L s av.toArray lw_all y.cls → (∀ q : Nat, s.heap.size ≤ q → A q) → va_K D vwCl tys s → va_P D vwCl (wf u) s.heap → va_D A (wf u) → va_S A s.heap s.heap [] → lv_has ls L (lv_args 0 av) →
      W p l e rm s m av.toArray below meth c s.heap [] 0 0 (MQ below (va_Qv post (GB D tys wf A) A) av.toArray s 0 0 A) (F0 m 0 ls [])) : Cv l y b L rm D tys wf sz av u post := by
  refine Met.ofW (cc := b) (maxL := L) (ret := none) hy rfl ?_
  intro p e s m args below meth c s₁ B hml hv
  obtain ⟨rfl, hsz, hP, hK, hD0⟩ := hv
  have hts := atoms_spec (ws := ws_ y b L none) B.pre
  rw [lg_entry_eq]
  subst hsz
  exact body p e s m below meth c _ _ B.exec B.bytes B.returns B.notSynchronized ⟨B.exec, B.bytes, hml, findClass_of_methodNamed B.named, fun w h => hts w (List.mem_cons_of_mem _ h)⟩ (fun q h => Or.inr h) hK hP hD0.self va_S.rf (lv_entry av hL)
theorem st_i {σ : Type} {l : Launch} {y : MethodName} {b : ByteArray} {L : Nat} {ret : FieldType} {rm : Room} {D : va_G} {tys : List (ClassId × FieldType)} {wf : σ → va_W} {sz : Nat} {av : List Value} {u : σ} {post : Int32 → σ → Prop} (hy : plainName y.cls = true) (hL : (lg_sl av).length ≤ L)
    (body : ∀ (p : Program) (e : Env) (s : State) (m : MethodId) (below : List Frame) (meth : Method) (c : Code) (A : Nat → Prop) (ls : Array Slot), p.tables.exec = Jvm.exec → c.code = b → meth.sig.returnType = some ret → meth.locks = false → CallFix p m c b L s av.toArray lw_all y.cls → (∀ q : Nat, s.heap.size ≤ q → A q) → va_K D vwCl tys s → va_P D vwCl (wf u) s.heap → va_D A (wf u) → va_S A s.heap s.heap [] → lv_has ls L (lv_args 0 av) →
      W p l e rm s m av.toArray below meth c s.heap [] 0 0 (MQ below (va_Qi post (GB D tys wf A) A) av.toArray s 0 0 A) (F0 m 0 ls [])) : Ci l y b L ret rm D tys wf sz av u post := by
  refine Met.ofW (cc := b) (maxL := L) (ret := some ret) hy rfl ?_
  intro p e s m args below meth c s₁ B hml hv
  obtain ⟨rfl, hsz, hP, hK, hD0⟩ := hv
  have hts := atoms_spec (ws := ws_ y b L (some ret)) B.pre
  rw [lg_entry_eq]
  subst hsz
  exact body p e s m below meth c _ _ B.exec B.bytes B.returns B.notSynchronized ⟨B.exec, B.bytes, hml, findClass_of_methodNamed B.named, fun w h => hts w (List.mem_cons_of_mem _ h)⟩ (fun q h => Or.inr h) hK hP hD0.self va_S.rf (lv_entry av hL)
section RW
variable {p : Program} {l : Launch} {e : Env} {R : Room} {s : State} {m : MethodId} {args : Array Value} {below : List Frame} {meth : Method} {c : Code} {H : Heap} {locs : List Loc} {cells slots : Nat} {Q : State → Prop}
variable {cc : ByteArray} {pc : Nat} {ls : Array Slot} {rest st0 : List Value} {D : va_G} {A : Nat → Prop} {a : Nat} {tys : List (ClassId × FieldType)} {ws ws' : va_W} {H0 : Heap}
/-- a number on the stack by another spelling -/
theorem tx {x y : Int32} (h : x = y) (k : W p l e R s m args below meth c H locs cells slots Q (F0 m pc ls (.int y :: rest))) : W p l e R s m args below meth c H locs cells slots Q (F0 m pc ls (.int x :: rest)) := by
  subst h; exact k
theorem n_in {i : Int32} {j n : Nat} (hi : i = nI j) (hj : j < n) (hn : n < 2 ^ 31) : vp_in i n := by
  rw [hi]; exact vp_in_nI hj hn
theorem n_cl {i : Int32} {j n : Nat} (hi : i = nI j) (hj : j < n) (hn : n < 2 ^ 31) : i.toNatClampNeg = j := by
  rw [hi]; exact nI_clamp (Nat.lt_trans hj hn)
theorem n_iald (hexec : p.tables.exec = Jvm.exec) (hb : c.code = cc) (hK : va_K D vwCl tys s) (hP : va_P D vwCl ws H) (q0 t0 : Nat) {cA : ClassId} {n : Nat} {f : Nat → Int32} (ha : ws[q0]? = some (a, .inl (cA, n, .inl f))) (ht : tys[t0]? = some (cA, .int)) {i v : Int32} (j : Nat) (hi : i = nI j) (hj : j < n) (hn : n < 2 ^ 31) (hv : f j = v) (hdg : decode cc pc = .ok (.iaload, 1))
    (kk : W p l e R s m args below meth c H locs cells slots Q (F0 m (pc + 1) ls (.int v :: rest))) : W p l e R s m args below meth c H locs cells slots Q (F0 m pc ls (.int i :: .ref a :: rest)) :=
  va_iald hexec hb hK hP q0 t0 ha ht (n_in hi hj hn) hdg (by rw [n_cl hi hj hn, hv]; exact kk)
theorem n_bald (hexec : p.tables.exec = Jvm.exec) (hb : c.code = cc) (hK : va_K D vwCl tys s) (hP : va_P D vwCl ws H) (q0 t0 : Nat) {cA : ClassId} {n : Nat} {f : Nat → Int32} (ha : ws[q0]? = some (a, .inl (cA, n, .inl f))) (ht : tys[t0]? = some (cA, .byte)) {i v : Int32} (j : Nat) (hi : i = nI j) (hj : j < n) (hn : n < 2 ^ 31) (hv : f j = v) (hdg : decode cc pc = .ok (.baload, 1))
    (kk : W p l e R s m args below meth c H locs cells slots Q (F0 m (pc + 1) ls (.int v :: rest))) : W p l e R s m args below meth c H locs cells slots Q (F0 m pc ls (.int i :: .ref a :: rest)) :=
  va_bald hexec hb hK hP q0 t0 ha ht (n_in hi hj hn) hdg (by rw [n_cl hi hj hn, hv]; exact kk)
theorem n_zald (hexec : p.tables.exec = Jvm.exec) (hb : c.code = cc) (hK : va_K D vwCl tys s) (hP : va_P D vwCl ws H) (q0 t0 : Nat) {cA : ClassId} {n : Nat} {f : Nat → Int32} (ha : ws[q0]? = some (a, .inl (cA, n, .inl f))) (ht : tys[t0]? = some (cA, .boolean)) {i v : Int32} (j : Nat) (hi : i = nI j) (hj : j < n) (hn : n < 2 ^ 31) (hv : f j = v) (hdg : decode cc pc = .ok (.baload, 1))
    (kk : W p l e R s m args below meth c H locs cells slots Q (F0 m (pc + 1) ls (.int v :: rest))) : W p l e R s m args below meth c H locs cells slots Q (F0 m pc ls (.int i :: .ref a :: rest)) :=
  va_zald hexec hb hK hP q0 t0 ha ht (n_in hi hj hn) hdg (by rw [n_cl hi hj hn, hv]; exact kk)
theorem n_iast (hexec : p.tables.exec = Jvm.exec) (hb : c.code = cc) (hK : va_K D vwCl tys s) (hP : va_P D vwCl ws H) (hD : va_D A ws) (hS : va_S A H0 H locs) (q0 t0 : Nat) {cA : ClassId} {n : Nat} {f f' : Nat → Int32} (ha : ws[q0]? = some (a, .inl (cA, n, .inl f))) (ht : tys[t0]? = some (cA, .int)) {i x : Int32} (j : Nat) (hi : i = nI j) (hj : j < n) (hn : n < 2 ^ 31) (hf : upd f j x = f') (hw : ws.set q0 (a, .inl (cA, n, .inl f')) = ws') (hdg : decode cc pc = .ok (.iastore, 1))
    (kk : ∀ (H1 : Heap) (locs1 : List Loc), va_P D vwCl ws' H1 → va_D A ws' → va_S A H0 H1 locs1 → W p l e R s m args below meth c H1 locs1 cells slots Q (F0 m (pc + 1) ls rest)) : W p l e R s m args below meth c H locs cells slots Q (F0 m pc ls (.int x :: .int i :: .ref a :: rest)) := by
  refine va_iast hexec hb hK hP hD hS q0 t0 ha ht (n_in hi hj hn) hdg ?_
  rw [n_cl hi hj hn, hf, hw]
  exact kk
theorem n_bast (hexec : p.tables.exec = Jvm.exec) (hb : c.code = cc) (hK : va_K D vwCl tys s) (hP : va_P D vwCl ws H) (hD : va_D A ws) (hS : va_S A H0 H locs) (q0 t0 : Nat) {cA : ClassId} {n : Nat} {f f' : Nat → Int32} (ha : ws[q0]? = some (a, .inl (cA, n, .inl f))) (ht : tys[t0]? = some (cA, .byte)) {i x : Int32} (j : Nat) (hi : i = nI j) (hj : j < n) (hn : n < 2 ^ 31) (hf : upd f j (vp_nar .byte x) = f') (hw : ws.set q0 (a, .inl (cA, n, .inl f')) = ws') (hdg : decode cc pc = .ok (.bastore, 1))
    (kk : ∀ (H1 : Heap) (locs1 : List Loc), va_P D vwCl ws' H1 → va_D A ws' → va_S A H0 H1 locs1 → W p l e R s m args below meth c H1 locs1 cells slots Q (F0 m (pc + 1) ls rest)) : W p l e R s m args below meth c H locs cells slots Q (F0 m pc ls (.int x :: .int i :: .ref a :: rest)) := by
  refine va_bast hexec hb hK hP hD hS q0 t0 ha ht (n_in hi hj hn) hdg ?_
  rw [n_cl hi hj hn, hf, hw]
  exact kk
theorem n_zast (hexec : p.tables.exec = Jvm.exec) (hb : c.code = cc) (hK : va_K D vwCl tys s) (hP : va_P D vwCl ws H) (hD : va_D A ws) (hS : va_S A H0 H locs) (q0 t0 : Nat) {cA : ClassId} {n : Nat} {f f' : Nat → Int32} (ha : ws[q0]? = some (a, .inl (cA, n, .inl f))) (ht : tys[t0]? = some (cA, .boolean)) {i x : Int32} (j : Nat) (hi : i = nI j) (hj : j < n) (hn : n < 2 ^ 31) (hf : upd f j (vp_nar .boolean x) = f') (hw : ws.set q0 (a, .inl (cA, n, .inl f')) = ws') (hdg : decode cc pc = .ok (.bastore, 1))
    (kk : ∀ (H1 : Heap) (locs1 : List Loc), va_P D vwCl ws' H1 → va_D A ws' → va_S A H0 H1 locs1 → W p l e R s m args below meth c H1 locs1 cells slots Q (F0 m (pc + 1) ls rest)) : W p l e R s m args below meth c H locs cells slots Q (F0 m pc ls (.int x :: .int i :: .ref a :: rest)) := by
  refine va_zast hexec hb hK hP hD hS q0 t0 ha ht (n_in hi hj hn) hdg ?_
  rw [n_cl hi hj hn, hf, hw]
  exact kk
theorem x_get {nL : Nat} (hF : CallFix p m c cc nL s args lw_all RX0) (hK : va_K D vwCl tys s) (hP : va_P D vwCl ws H) (q0 : Nat) {fs : List Value} {index : Nat} (he : ws[q0]? = some (a, .inr (0, fs))) (k : Nat) (hk : k < 13) (hlink : Cond.fieldLink RX0 index RX0 (TX0 k).2.1 (TX0 k).2.2.1 ∈ lw_all) {v : Value} (hv : fs[k]? = some v) (ho : (TX0 k).1 = RX0) (hdg : decode cc pc = .ok (.getfield index, 3))
    (kk : W p l e R s m args below meth c H locs cells slots Q (F0 m (pc + 3) ls (v :: rest))) : W p l e R s m args below meth c H locs cells slots Q (F0 m pc ls (.ref a :: rest)) :=
  va_get (D := D) (ci := 0) (C := RX0) (T := TX0) (N := 13) hF.1 hF.2.1 hF.2.2.2.2 in_X0 hF.2.2.2.1 hK hP q0 he rfl k hk (hF.2.2.2.2 _ hlink) (fun _ h9 => by rw [ho] at h9; exact h9) hv hdg kk
theorem m_get {nL : Nat} (hF : CallFix p m c cc nL s args lw_all RX1) (hK : va_K D vwCl tys s) (hP : va_P D vwCl ws H) (q0 : Nat) {fs : List Value} {index : Nat} (he : ws[q0]? = some (a, .inr (1, fs))) (k : Nat) (hk : k < 12) (hlink : Cond.fieldLink RX1 index RX1 (TX1 k).2.1 (TX1 k).2.2.1 ∈ lw_all) {v : Value} (hv : fs[k]? = some v) (ho : (TX1 k).1 = RX1) (hdg : decode cc pc = .ok (.getfield index, 3))
    (kk : W p l e R s m args below meth c H locs cells slots Q (F0 m (pc + 3) ls (v :: rest))) : W p l e R s m args below meth c H locs cells slots Q (F0 m pc ls (.ref a :: rest)) :=
  va_get (D := D) (ci := 1) (C := RX1) (T := TX1) (N := 12) hF.1 hF.2.1 hF.2.2.2.2 in_X1 hF.2.2.2.1 hK hP q0 he rfl k hk (hF.2.2.2.2 _ hlink) (fun _ h9 => by rw [ho] at h9; exact h9) hv hdg kk
theorem x_put {nL : Nat} (hF : CallFix p m c cc nL s args lw_all RX0) (hK : va_K D vwCl tys s) (hP : va_P D vwCl ws H) (hD : va_D A ws) (hS : va_S A H0 H locs) (q0 : Nat) {fs : List Value} {index : Nat} (he : ws[q0]? = some (a, .inr (0, fs))) (k : Nat) (hk : k < 13) (hlink : Cond.fieldLink RX0 index RX0 (TX0 k).2.1 (TX0 k).2.2.1 ∈ lw_all) {v : Value} (ho : (TX0 k).1 = RX0) (hfin : (TX0 k).2.2.2 = false) (hn : narrow (tyX0 k) v = v) (hfit : fits (tyX0 k) v = true) (hl : k < fs.length) (hw : ws.set q0 (a, .inr (0, fs.set k v)) = ws') (hdg : decode cc pc = .ok (.putfield index, 3))
    (kk : ∀ (H1 : Heap) (locs1 : List Loc), va_P D vwCl ws' H1 → va_D A ws' → va_S A H0 H1 locs1 → W p l e R s m args below meth c H1 locs1 cells slots Q (F0 m (pc + 3) ls rest)) : W p l e R s m args below meth c H locs cells slots Q (F0 m pc ls (v :: .ref a :: rest)) := by
  refine va_put (D := D) (ci := 0) (C := RX0) (T := TX0) (N := 13) hF.1 hF.2.1 hF.2.2.2.2 in_X0 tyX0 tyX0_ok nmX0 hF.2.2.2.1 hK hP hD hS q0 he rfl k hk (hF.2.2.2.2 _ hlink) (fun _ h9 => by rw [ho] at h9; exact h9) hfin (tyX0_ok k hk) hn hfit hl hdg ?_
  rw [hw]
  exact kk
theorem x_putF {nL : Nat} (hF : CallFix p m c cc nL s args lw_all RX0) (hin2 : meth.name = "<init>") (hK : va_K D vwCl tys s) (hP : va_P D vwCl ws H) (hD : va_D A ws) (hS : va_S A H0 H locs) (q0 : Nat) {fs : List Value} {index : Nat} (he : ws[q0]? = some (a, .inr (0, fs))) (k : Nat) (hk : k < 13) (hlink : Cond.fieldLink RX0 index RX0 (TX0 k).2.1 (TX0 k).2.2.1 ∈ lw_all) {v : Value} (ho : (TX0 k).1 = RX0) (hfin : (TX0 k).2.2.2 = true) (hn : narrow (tyX0 k) v = v) (hfit : fits (tyX0 k) v = true) (hl : k < fs.length) (hw : ws.set q0 (a, .inr (0, fs.set k v)) = ws') (hdg : decode cc pc = .ok (.putfield index, 3))
    (kk : ∀ (H1 : Heap) (locs1 : List Loc), va_P D vwCl ws' H1 → va_D A ws' → va_S A H0 H1 locs1 → W p l e R s m args below meth c H1 locs1 cells slots Q (F0 m (pc + 3) ls rest)) : W p l e R s m args below meth c H locs cells slots Q (F0 m pc ls (v :: .ref a :: rest)) := by
  refine va_putF (D := D) (ci := 0) (C := RX0) (T := TX0) (N := 13) hF.1 hF.2.1 hF.2.2.2.2 in_X0 tyX0 tyX0_ok nmX0 hF.2.2.2.1 hK hP hD hS q0 he rfl k hk (hF.2.2.2.2 _ hlink) (fun _ h9 => by rw [ho] at h9; exact h9) hfin hin2 ho (tyX0_ok k hk) hn hfit hl hdg ?_
  rw [hw]
  exact kk
theorem m_put {nL : Nat} (hF : CallFix p m c cc nL s args lw_all RX1) (hK : va_K D vwCl tys s) (hP : va_P D vwCl ws H) (hD : va_D A ws) (hS : va_S A H0 H locs) (q0 : Nat) {fs : List Value} {index : Nat} (he : ws[q0]? = some (a, .inr (1, fs))) (k : Nat) (hk : k < 12) (hlink : Cond.fieldLink RX1 index RX1 (TX1 k).2.1 (TX1 k).2.2.1 ∈ lw_all) {v : Value} (ho : (TX1 k).1 = RX1) (hfin : (TX1 k).2.2.2 = false) (hn : narrow (tyX1 k) v = v) (hfit : fits (tyX1 k) v = true) (hl : k < fs.length) (hw : ws.set q0 (a, .inr (1, fs.set k v)) = ws') (hdg : decode cc pc = .ok (.putfield index, 3))
    (kk : ∀ (H1 : Heap) (locs1 : List Loc), va_P D vwCl ws' H1 → va_D A ws' → va_S A H0 H1 locs1 → W p l e R s m args below meth c H1 locs1 cells slots Q (F0 m (pc + 3) ls rest)) : W p l e R s m args below meth c H locs cells slots Q (F0 m pc ls (v :: .ref a :: rest)) := by
  refine va_put (D := D) (ci := 1) (C := RX1) (T := TX1) (N := 12) hF.1 hF.2.1 hF.2.2.2.2 in_X1 tyX1 tyX1_ok nmX1 hF.2.2.2.1 hK hP hD hS q0 he rfl k hk (hF.2.2.2.2 _ hlink) (fun _ h9 => by rw [ho] at h9; exact h9) hfin (tyX1_ok k hk) hn hfit hl hdg ?_
  rw [hw]
  exact kk
/-- a static call of a method that touches no cell -/
theorem s_p {own : String} {y : MethodName} {b : ByteArray} {L nL n idx : Nat} {ret : FieldType} {rm : Room} {av : List Value} {post : Int32 → Prop} (hF : CallFix p m c cc nL s args lw_all own) (hM : Cp l y b L ret rm av post)
    (h1 : Cond.methodLink own idx y ∈ lw_all) (h2 : Cond.static y ∈ lw_all) (h3 : Cond.initialized own ∈ lw_all) (h4 : Cond.code y b L (some ret) ∈ lw_all) (hd : hd_ own y n) (hrc : rm.cells = 0) (hrs : rm.slots = 0) (hR : rm.frames + 1 ≤ R.frames ∧ 8 + (L + 11) + rm.locals ≤ R.locals)
    (hn : av.length = n) (hsize : ls.size = nL) (hst : st0 = av.reverse ++ rest) (hroom : (rest.map fun v => v.category).sum ≤ 8) (hdg : decode cc pc = .ok (.invokestatic idx, 3)) (hfit : cells ≤ R.cells ∧ slots ≤ R.slots)
    (kk : ∀ r : Int32, post r → W p l e R s m args below meth c H locs cells slots Q (F0 m (pc + 3) ls (.int r :: rest))) : W p l e R s m args below meth c H locs cells slots Q (F0 m pc ls st0) := by
  obtain ⟨hd0, hd⟩ := hd
  subst hd0
  intro T hT X
  obtain ⟨v, st₀, t, T', L', h0, X', hL, e1, ⟨r, hv, hp, hh⟩, st⟩ := W.runS (g := F0 m pc ls st0) (As := av) (rest := rest) (H := H) hF hM (va_cwS n hF.2.2.2.2 (lw_S h1 h2 h3 h4) rfl hrc hrs hd hR) ⟨fun a U g mk q => q, fun U hU hW => ⟨rfl, trivial⟩⟩ rfl hn hsize hst (lv_room hroom) hdg hfit T hT X
  cases hv
  obtain ⟨t2, a1, b1⟩ := kk r hp T' (by rw [e1, hh, h0]) (Stand.forget X' (fun q h => (hL q h).elim))
  exact ⟨t2, st t2 a1, b1⟩
/-- a call through an object of a method that touches no cell -/
theorem c_p {own : String} {y : MethodName} {b : ByteArray} {L nL n idx h ci q0 : Nat} {q : vw_C} {fs : List Value} {ret : FieldType} {rm : Room} {As : List Value} {post : Int32 → Prop} (hF : CallFix p m c cc nL s args lw_all own) (hK : va_K D vwCl tys s) (hP : va_P D vwCl ws H) (hM : Cp l y b L ret rm (.ref h :: As) post)
    (h1 : Cond.methodLink own idx y ∈ lw_all) (h2 : Cond.instanceMethod y ∈ lw_all) (h3 : Cond.selects q.1 y y ∈ lw_all) (h4 : Cond.initialized q.1 ∈ lw_all) (h5 : Cond.code y b L (some ret) ∈ lw_all) (hd : hd_ q.1 y n) (hrc : rm.cells = 0) (hrs : rm.slots = 0) (hR : rm.frames + 1 ≤ R.frames ∧ 8 + (L + 11) + rm.locals ≤ R.locals)
    (he : ws[q0]? = some (h, .inr (ci, fs))) (hcl : vwCl[ci]? = some q)
    (hn : As.length = n) (hsize : ls.size = nL) (hst : st0 = As.reverse ++ .ref h :: rest) (hroom : (rest.map fun v => v.category).sum ≤ 8) (hdg : decode cc pc = .ok (.invokevirtual idx, 3)) (hfit : cells ≤ R.cells ∧ slots ≤ R.slots)
    (kk : ∀ r : Int32, post r → W p l e R s m args below meth c H locs cells slots Q (F0 m (pc + 3) ls (.int r :: rest))) : W p l e R s m args below meth c H locs cells slots Q (F0 m pc ls st0) := by
  intro T hT X
  obtain ⟨v, st₀, t, T', L', h0, X', hL, e1, ⟨r, hv, hp, hh⟩, st⟩ := W.runV (g := F0 m pc ls st0) (As := As) (rest := rest) (H := H) (C := q.1) hF hM (cwV n hF.2.2.2.2 (lw_V h1 h2 h3 h4 h5) rfl hrc hrs hd hR) ⟨fun a U g mk q => q, va_recv hK hP hcl he, fun U hU hW => ⟨rfl, trivial⟩⟩ rfl hn hsize hst (lv_room hroom) hdg hfit T hT X
  cases hv
  obtain ⟨t2, a1, b1⟩ := kk r hp T' (by rw [e1, hh, h0]) (Stand.forget X' (fun q h => (hL q h).elim))
  exact ⟨t2, st t2 a1, b1⟩
theorem w_free {ws : va_W} (hD : va_D A ws) (hS : va_S A H0 H locs) (hA : ∀ q : Nat, H0.size ≤ q → A q) : ∀ q, va_A ws H.size q → A q := by
  intro q h
  rcases h with ⟨k, e, h⟩ | h
  · exact hD.2 k (q, e) h
  · exact hA q (Nat.le_trans hS.1 h)
/-- a call within a class: the whole world is the callee's -/
theorem c_v {σ : Type} {wf : σ → va_W} {u : σ} {post : σ → Prop} {own : String} {y : MethodName} {b : ByteArray} {L nL n idx h ci : Nat} {q : vw_C} {fs : List Value} {rm : Room} {As : List Value} (hF : CallFix p m c cc nL s args lw_all own) (hA : ∀ q : Nat, H0.size ≤ q → A q) (hK : va_K D vwCl tys s) (hP : va_P D vwCl (wf u) H) (hD : va_D A (wf u)) (hS : va_S A H0 H locs) (hM : Cv l y b L rm D tys wf H.size (.ref h :: As) u post)
    (h1 : Cond.methodLink own idx y ∈ lw_all) (h2 : Cond.instanceMethod y ∈ lw_all) (h3 : Cond.selects q.1 y y ∈ lw_all) (h4 : Cond.initialized q.1 ∈ lw_all) (h5 : Cond.code y b L none ∈ lw_all) (hd : hd_ q.1 y n) (hrc : rm.cells = 0) (hrs : rm.slots = 0) (hR : rm.frames + 1 ≤ R.frames ∧ 8 + (L + 11) + rm.locals ≤ R.locals)
    (he : (wf u)[0]? = some (h, .inr (ci, fs))) (hcl : vwCl[ci]? = some q)
    (hn : As.length = n) (hsize : ls.size = nL) (hst : st0 = As.reverse ++ .ref h :: rest) (hroom : (rest.map fun v => v.category).sum ≤ 8) (hdg : decode cc pc = .ok (.invokevirtual idx, 3)) (hfit : cells ≤ R.cells ∧ slots ≤ R.slots)
    (kk : ∀ (u' : σ) (H1 : Heap) (locs1 : List Loc), post u' → va_P D vwCl (wf u') H1 → va_D A (wf u') → va_S A H0 H1 locs1 → W p l e R s m args below meth c H1 locs1 cells slots Q (F0 m (pc + 3) ls rest)) : W p l e R s m args below meth c H locs cells slots Q (F0 m pc ls st0) := by
  have hFc := w_free hD hS hA
  refine va_callv (rest := rest) (va_runV (As := As) (C := q.1) hF hM (cwV n hF.2.2.2.2 (lw_V h1 h2 h3 h4 h5) rfl hrc hrs hd hR) ⟨GPre.blind, va_recv hK hP hcl he, fun U hU hW => ⟨rfl, by rw [hU], by rw [hU]; exact hP, va_K.moved hW.alike hK, hD.weaken (fun _ _ _ _ => trivial)⟩⟩ rfl hn hsize hst (lv_room hroom) hdg hfit) hS (fun q _ h => hFc q h) hFc (fun u' t H1 locs1 ht hvm hpost hB hz hk hS1 => ?_)
  obtain ⟨hP1, hK1, hD1⟩ := hB
  rw [ht] at hP1
  exact kk u' H1 locs1 hpost hP1 (hD1.weaken (fun _ _ _ h => hFc _ h)) hS1
theorem c_i {σ : Type} {wf : σ → va_W} {u : σ} {post : Int32 → σ → Prop} {own : String} {y : MethodName} {b : ByteArray} {L nL n idx h ci : Nat} {ret : FieldType} {q : vw_C} {fs : List Value} {rm : Room} {As : List Value} (hF : CallFix p m c cc nL s args lw_all own) (hA : ∀ q : Nat, H0.size ≤ q → A q) (hK : va_K D vwCl tys s) (hP : va_P D vwCl (wf u) H) (hD : va_D A (wf u)) (hS : va_S A H0 H locs) (hM : Ci l y b L ret rm D tys wf H.size (.ref h :: As) u post)
    (h1 : Cond.methodLink own idx y ∈ lw_all) (h2 : Cond.instanceMethod y ∈ lw_all) (h3 : Cond.selects q.1 y y ∈ lw_all) (h4 : Cond.initialized q.1 ∈ lw_all) (h5 : Cond.code y b L (some ret) ∈ lw_all) (hd : hd_ q.1 y n) (hrc : rm.cells = 0) (hrs : rm.slots = 0) (hR : rm.frames + 1 ≤ R.frames ∧ 8 + (L + 11) + rm.locals ≤ R.locals)
    (he : (wf u)[0]? = some (h, .inr (ci, fs))) (hcl : vwCl[ci]? = some q)
    (hn : As.length = n) (hsize : ls.size = nL) (hst : st0 = As.reverse ++ .ref h :: rest) (hroom : (rest.map fun v => v.category).sum ≤ 8) (hdg : decode cc pc = .ok (.invokevirtual idx, 3)) (hfit : cells ≤ R.cells ∧ slots ≤ R.slots)
    (kk : ∀ (r : Int32) (u' : σ) (H1 : Heap) (locs1 : List Loc), post r u' → va_P D vwCl (wf u') H1 → va_D A (wf u') → va_S A H0 H1 locs1 → W p l e R s m args below meth c H1 locs1 cells slots Q (F0 m (pc + 3) ls (.int r :: rest))) : W p l e R s m args below meth c H locs cells slots Q (F0 m pc ls st0) := by
  have hFc := w_free hD hS hA
  refine va_calli (rest := rest) (va_runV (As := As) (C := q.1) hF hM (cwV n hF.2.2.2.2 (lw_V h1 h2 h3 h4 h5) rfl hrc hrs hd hR) ⟨GPre.blind, va_recv hK hP hcl he, fun U hU hW => ⟨rfl, by rw [hU], by rw [hU]; exact hP, va_K.moved hW.alike hK, hD.weaken (fun _ _ _ _ => trivial)⟩⟩ rfl hn hsize hst (lv_room hroom) hdg hfit) hS (fun q _ h => hFc q h) hFc (fun r u' t H1 locs1 ht hvm hpost hB hz hk hS1 => ?_)
  obtain ⟨hP1, hK1, hD1⟩ := hB
  rw [ht] at hP1
  exact kk r u' H1 locs1 hpost hP1 (hD1.weaken (fun _ _ _ h => hFc _ h)) hS1
/-- the ends -/
theorem e_v {σ : Type} {wf : σ → va_W} {u : σ} {post : σ → Prop} (hexec : p.tables.exec = Jvm.exec) (hb : c.code = cc) (hr : meth.sig.returnType = none) (hlocks : meth.locks = false) (hK : va_K D vwCl tys s) (hP : va_P D vwCl (wf u) H) (hD : va_D A (wf u)) (hS : va_S A s.heap H locs) (hdg : decode cc pc = .ok (.return_, 1)) (hp : post u) : W p l e R s m args below meth c H locs cells slots (MQ below (va_Qv post (GB D tys wf A) A) args s cells slots A) (F0 m pc ls []) :=
  W.vret hexec hb hr (fun t ht hW => ⟨⟨u, rfl, hp, by rw [ht]; exact hP, va_K.moved hW.alike hK, hD⟩, hS.F ht⟩) hS.2.2 hdg hlocks
theorem e_i {σ : Type} {wf : σ → va_W} {u : σ} {v : Int32} {post : Int32 → σ → Prop} (hexec : p.tables.exec = Jvm.exec) (hb : c.code = cc) (hr : meth.sig.returnType = some .int) (hlocks : meth.locks = false) (hK : va_K D vwCl tys s) (hP : va_P D vwCl (wf u) H) (hD : va_D A (wf u)) (hS : va_S A s.heap H locs) (hdg : decode cc pc = .ok (.ireturn, 1)) (hp : post v u) : W p l e R s m args below meth c H locs cells slots (MQ below (va_Qi post (GB D tys wf A) A) args s cells slots A) (F0 m pc ls [.int v]) :=
  W.iret hexec hb hr (fun t ht hW => ⟨⟨v, u, rfl, hp, by rw [ht]; exact hP, va_K.moved hW.alike hK, hD⟩, hS.F ht⟩) hS.2.2 hdg hlocks
theorem e_z {σ : Type} {wf : σ → va_W} {u : σ} {v : Int32} {post : Int32 → σ → Prop} (hexec : p.tables.exec = Jvm.exec) (hb : c.code = cc) (hr : meth.sig.returnType = some .boolean) (hlocks : meth.locks = false) (hK : va_K D vwCl tys s) (hP : va_P D vwCl (wf u) H) (hD : va_D A (wf u)) (hS : va_S A s.heap H locs) (hdg : decode cc pc = .ok (.ireturn, 1)) (hn : narrow .boolean (.int v) = .int v) (hp : post v u) : W p l e R s m args below meth c H locs cells slots (MQ below (va_Qi post (GB D tys wf A) A) args s cells slots A) (F0 m pc ls [.int v]) :=
  W.zret hexec hb hr hn (fun t ht hW => ⟨⟨v, u, rfl, hp, by rw [ht]; exact hP, va_K.moved hW.alike hK, hD⟩, hS.F ht⟩) hS.2.2 hdg hlocks
theorem e_pi {v : Int32} {post : Int32 → Prop} (hexec : p.tables.exec = Jvm.exec) (hb : c.code = cc) (hr : meth.sig.returnType = some .int) (hlocks : meth.locks = false) (hdg : decode cc pc = .ok (.ireturn, 1)) (hp : post v) : W p l e R s m args below meth c s.heap [] cells slots (MQ below (Qp post) args s cells slots (fun _ => False)) (F0 m pc ls [.int v]) :=
  W.iret hexec hb hr (fun t ht hW => ⟨v, rfl, hp, ht⟩) (fun q h => by cases h) hdg hlocks
theorem e_pz {v : Int32} {post : Int32 → Prop} (hexec : p.tables.exec = Jvm.exec) (hb : c.code = cc) (hr : meth.sig.returnType = some .boolean) (hlocks : meth.locks = false) (hdg : decode cc pc = .ok (.ireturn, 1)) (hn : narrow .boolean (.int v) = .int v) (hp : post v) : W p l e R s m args below meth c s.heap [] cells slots (MQ below (Qp post) args s cells slots (fun _ => False)) (F0 m pc ls [.int v]) :=
  W.zret hexec hb hr hn (fun t ht hW => ⟨v, rfl, hp, ht⟩) (fun q h => by cases h) hdg hlocks
/-- a loop that touches no cell: i counts up to n -/
theorem lp_p (I : Nat → Array Slot → Prop) (n : Nat)
    (step : ∀ (i : Nat) (ls : Array Slot), i ≤ n → I i ls → (i < n → ∀ ls' : Array Slot, I (i + 1) ls' → W p l e R s m args below meth c H locs cells slots Q (F0 m pc ls' [])) → W p l e R s m args below meth c H locs cells slots Q (F0 m pc ls [])) :
    ∀ (i : Nat) (ls : Array Slot), i ≤ n → I i ls → W p l e R s m args below meth c H locs cells slots Q (F0 m pc ls []) := by
  have key : ∀ (d i : Nat) (ls : Array Slot), n - i = d → i ≤ n → I i ls → W p l e R s m args below meth c H locs cells slots Q (F0 m pc ls []) := by
    intro d
    induction d with
    | zero =>
      intro i ls hd hi h
      exact step i ls hi h (fun q => by omega)
    | succ d ih =>
      intro i ls hd hi h
      exact step i ls hi h (fun q ls' h' => ih (i + 1) ls' (by omega) (by omega) h')
  intro i ls hi h
  exact key _ i ls rfl hi h
/-- a loop over a world -/
theorem lp_w {σ : Type} {wf : σ → va_W} (I : Nat → Array Slot → σ → Prop) (n : Nat)
    (step : ∀ (i : Nat) (ls : Array Slot) (u : σ) (H : Heap) (locs : List Loc), i ≤ n → I i ls u → va_P D vwCl (wf u) H → va_D A (wf u) → va_S A H0 H locs → (i < n → ∀ (ls' : Array Slot) (u' : σ) (H' : Heap) (locs' : List Loc), I (i + 1) ls' u' → va_P D vwCl (wf u') H' → va_D A (wf u') → va_S A H0 H' locs' → W p l e R s m args below meth c H' locs' cells slots Q (F0 m pc ls' [])) → W p l e R s m args below meth c H locs cells slots Q (F0 m pc ls [])) :
    ∀ (i : Nat) (ls : Array Slot) (u : σ) (H : Heap) (locs : List Loc), i ≤ n → I i ls u → va_P D vwCl (wf u) H → va_D A (wf u) → va_S A H0 H locs → W p l e R s m args below meth c H locs cells slots Q (F0 m pc ls []) := by
  have key : ∀ (d i : Nat) (ls : Array Slot) (u : σ) (H : Heap) (locs : List Loc), n - i = d → i ≤ n → I i ls u → va_P D vwCl (wf u) H → va_D A (wf u) → va_S A H0 H locs → W p l e R s m args below meth c H locs cells slots Q (F0 m pc ls []) := by
    intro d
    induction d with
    | zero =>
      intro i ls u H locs hd hi h h1 h2 h3
      exact step i ls u H locs hi h h1 h2 h3 (fun q => by omega)
    | succ d ih =>
      intro i ls u H locs hd hi h h1 h2 h3
      exact step i ls u H locs hi h h1 h2 h3 (fun q ls' u' H' locs' h' g1 g2 g3 => ih (i + 1) ls' u' H' locs' (by omega) (by omega) h' g1 g2 g3)
  intro i ls u H locs hi h h1 h2 h3
  exact key _ i ls u H locs rfl hi h h1 h2 h3
/-- ways that come together at tgt -/
theorem jn_w {σ : Type} {wf : σ → va_W} {g : JFrame} (J : Array Slot → σ → Prop) (tgt : Nat) (st : List Value)
    (K : ∀ (ls : Array Slot) (u : σ) (H : Heap) (locs : List Loc), J ls u → va_P D vwCl (wf u) H → va_D A (wf u) → va_S A H0 H locs → W p l e R s m args below meth c H locs cells slots Q (F0 m tgt ls st))
    (first : (∀ (ls : Array Slot) (u : σ) (H : Heap) (locs : List Loc), J ls u → va_P D vwCl (wf u) H → va_D A (wf u) → va_S A H0 H locs → W p l e R s m args below meth c H locs cells slots Q (F0 m tgt ls st)) → W p l e R s m args below meth c H locs cells slots Q g) : W p l e R s m args below meth c H locs cells slots Q g := first K
end RW
end
section
/-! THE WORLDS of the two machines, as functions of pure states -/
abbrev XS : Type := (Nat → Int32) × (Nat → Int32) × (Nat → Int32) × Int32 × (Nat → Int32) × Int32 × (Nat → Int32) × (Nat → Int32) × Int32 × Int32 × Int32 × (Nat → Int32) × (Nat → Int32)
abbrev xs0 (u : XS) : Nat → Int32 := u.1
abbrev xs1 (u : XS) : Nat → Int32 := u.2.1
abbrev xs2 (u : XS) : Nat → Int32 := u.2.2.1
abbrev xs3 (u : XS) : Int32 := u.2.2.2.1
abbrev xs4 (u : XS) : Nat → Int32 := u.2.2.2.2.1
abbrev xs5 (u : XS) : Int32 := u.2.2.2.2.2.1
abbrev xs6 (u : XS) : Nat → Int32 := u.2.2.2.2.2.2.1
abbrev xs7 (u : XS) : Nat → Int32 := u.2.2.2.2.2.2.2.1
abbrev xs8 (u : XS) : Int32 := u.2.2.2.2.2.2.2.2.1
abbrev xs9 (u : XS) : Int32 := u.2.2.2.2.2.2.2.2.2.1
abbrev xs10 (u : XS) : Int32 := u.2.2.2.2.2.2.2.2.2.2.1
abbrev xs11 (u : XS) : Nat → Int32 := u.2.2.2.2.2.2.2.2.2.2.2.1
abbrev xs12 (u : XS) : Nat → Int32 := u.2.2.2.2.2.2.2.2.2.2.2.2
abbrev xu0 (u : XS) (f : Nat → Int32) : XS := (f, xs1 u, xs2 u, xs3 u, xs4 u, xs5 u, xs6 u, xs7 u, xs8 u, xs9 u, xs10 u, xs11 u, xs12 u)
abbrev xu1 (u : XS) (f : Nat → Int32) : XS := (xs0 u, f, xs2 u, xs3 u, xs4 u, xs5 u, xs6 u, xs7 u, xs8 u, xs9 u, xs10 u, xs11 u, xs12 u)
abbrev xu2 (u : XS) (f : Nat → Int32) : XS := (xs0 u, xs1 u, f, xs3 u, xs4 u, xs5 u, xs6 u, xs7 u, xs8 u, xs9 u, xs10 u, xs11 u, xs12 u)
abbrev xu3 (u : XS) (f : Int32) : XS := (xs0 u, xs1 u, xs2 u, f, xs4 u, xs5 u, xs6 u, xs7 u, xs8 u, xs9 u, xs10 u, xs11 u, xs12 u)
abbrev xu4 (u : XS) (f : Nat → Int32) : XS := (xs0 u, xs1 u, xs2 u, xs3 u, f, xs5 u, xs6 u, xs7 u, xs8 u, xs9 u, xs10 u, xs11 u, xs12 u)
abbrev xu5 (u : XS) (f : Int32) : XS := (xs0 u, xs1 u, xs2 u, xs3 u, xs4 u, f, xs6 u, xs7 u, xs8 u, xs9 u, xs10 u, xs11 u, xs12 u)
abbrev xu6 (u : XS) (f : Nat → Int32) : XS := (xs0 u, xs1 u, xs2 u, xs3 u, xs4 u, xs5 u, f, xs7 u, xs8 u, xs9 u, xs10 u, xs11 u, xs12 u)
abbrev xu7 (u : XS) (f : Nat → Int32) : XS := (xs0 u, xs1 u, xs2 u, xs3 u, xs4 u, xs5 u, xs6 u, f, xs8 u, xs9 u, xs10 u, xs11 u, xs12 u)
abbrev xu8 (u : XS) (f : Int32) : XS := (xs0 u, xs1 u, xs2 u, xs3 u, xs4 u, xs5 u, xs6 u, xs7 u, f, xs9 u, xs10 u, xs11 u, xs12 u)
abbrev xu9 (u : XS) (f : Int32) : XS := (xs0 u, xs1 u, xs2 u, xs3 u, xs4 u, xs5 u, xs6 u, xs7 u, xs8 u, f, xs10 u, xs11 u, xs12 u)
abbrev xu10 (u : XS) (f : Int32) : XS := (xs0 u, xs1 u, xs2 u, xs3 u, xs4 u, xs5 u, xs6 u, xs7 u, xs8 u, xs9 u, f, xs11 u, xs12 u)
abbrev xu11 (u : XS) (f : Nat → Int32) : XS := (xs0 u, xs1 u, xs2 u, xs3 u, xs4 u, xs5 u, xs6 u, xs7 u, xs8 u, xs9 u, xs10 u, f, xs12 u)
abbrev xu12 (u : XS) (f : Nat → Int32) : XS := (xs0 u, xs1 u, xs2 u, xs3 u, xs4 u, xs5 u, xs6 u, xs7 u, xs8 u, xs9 u, xs10 u, xs11 u, f)
abbrev MS : Type := (Nat → Nat) × (Nat → Nat) × (Nat → Nat) × (Nat → Nat) × (Nat → Nat) × Nat × Nat × (Nat → Nat) × Nat × Nat × (Nat → Nat) × (Nat → Nat)
abbrev ms0 (u : MS) : Nat → Nat := u.1
abbrev ms1 (u : MS) : Nat → Nat := u.2.1
abbrev ms2 (u : MS) : Nat → Nat := u.2.2.1
abbrev ms3 (u : MS) : Nat → Nat := u.2.2.2.1
abbrev ms4 (u : MS) : Nat → Nat := u.2.2.2.2.1
abbrev ms5 (u : MS) : Nat := u.2.2.2.2.2.1
abbrev ms6 (u : MS) : Nat := u.2.2.2.2.2.2.1
abbrev ms7 (u : MS) : Nat → Nat := u.2.2.2.2.2.2.2.1
abbrev ms8 (u : MS) : Nat := u.2.2.2.2.2.2.2.2.1
abbrev ms9 (u : MS) : Nat := u.2.2.2.2.2.2.2.2.2.1
abbrev ms10 (u : MS) : Nat → Nat := u.2.2.2.2.2.2.2.2.2.2.1
abbrev ms11 (u : MS) : Nat → Nat := u.2.2.2.2.2.2.2.2.2.2.2
abbrev mu0 (u : MS) (f : Nat → Nat) : MS := (f, ms1 u, ms2 u, ms3 u, ms4 u, ms5 u, ms6 u, ms7 u, ms8 u, ms9 u, ms10 u, ms11 u)
abbrev mu1 (u : MS) (f : Nat → Nat) : MS := (ms0 u, f, ms2 u, ms3 u, ms4 u, ms5 u, ms6 u, ms7 u, ms8 u, ms9 u, ms10 u, ms11 u)
abbrev mu2 (u : MS) (f : Nat → Nat) : MS := (ms0 u, ms1 u, f, ms3 u, ms4 u, ms5 u, ms6 u, ms7 u, ms8 u, ms9 u, ms10 u, ms11 u)
abbrev mu3 (u : MS) (f : Nat → Nat) : MS := (ms0 u, ms1 u, ms2 u, f, ms4 u, ms5 u, ms6 u, ms7 u, ms8 u, ms9 u, ms10 u, ms11 u)
abbrev mu4 (u : MS) (f : Nat → Nat) : MS := (ms0 u, ms1 u, ms2 u, ms3 u, f, ms5 u, ms6 u, ms7 u, ms8 u, ms9 u, ms10 u, ms11 u)
abbrev mu5 (u : MS) (f : Nat) : MS := (ms0 u, ms1 u, ms2 u, ms3 u, ms4 u, f, ms6 u, ms7 u, ms8 u, ms9 u, ms10 u, ms11 u)
abbrev mu6 (u : MS) (f : Nat) : MS := (ms0 u, ms1 u, ms2 u, ms3 u, ms4 u, ms5 u, f, ms7 u, ms8 u, ms9 u, ms10 u, ms11 u)
abbrev mu7 (u : MS) (f : Nat → Nat) : MS := (ms0 u, ms1 u, ms2 u, ms3 u, ms4 u, ms5 u, ms6 u, f, ms8 u, ms9 u, ms10 u, ms11 u)
abbrev mu8 (u : MS) (f : Nat) : MS := (ms0 u, ms1 u, ms2 u, ms3 u, ms4 u, ms5 u, ms6 u, ms7 u, f, ms9 u, ms10 u, ms11 u)
abbrev mu9 (u : MS) (f : Nat) : MS := (ms0 u, ms1 u, ms2 u, ms3 u, ms4 u, ms5 u, ms6 u, ms7 u, ms8 u, f, ms10 u, ms11 u)
abbrev mu10 (u : MS) (f : Nat → Nat) : MS := (ms0 u, ms1 u, ms2 u, ms3 u, ms4 u, ms5 u, ms6 u, ms7 u, ms8 u, ms9 u, f, ms11 u)
abbrev mu11 (u : MS) (f : Nat → Nat) : MS := (ms0 u, ms1 u, ms2 u, ms3 u, ms4 u, ms5 u, ms6 u, ms7 u, ms8 u, ms9 u, ms10 u, f)
def nf (f : Nat → Nat) : Nat → Int32 := fun j => nI (f j)
theorem upd_nf (f : Nat → Nat) (j v : Nat) : upd (nf f) j (nI v) = nf (va_up f j v) := by
  funext q
  unfold upd nf va_up
  split <;> rfl
abbrev xw (g k : Nat → Nat) (u : XS) : va_W := [(g 0, .inr (0, [.ref (g 1), .ref (g 2), .ref (g 3), .int (xs3 u), .ref (g 4), .int (xs5 u), .ref (g 5), .ref (g 6), .int (xs8 u), .int (xs9 u), .int (xs10 u), .ref (g 7), .ref (g 8)])), (g 1, .inl (k 1, 12, .inl (xs0 u))), (g 2, .inl (k 2, 3, .inl (xs1 u))), (g 3, .inl (k 3, 4, .inl (xs2 u))), (g 4, .inl (k 4, 3, .inl (xs4 u))), (g 5, .inl (k 5, 48, .inl (xs6 u))), (g 6, .inl (k 6, 48, .inl (xs7 u))), (g 7, .inl (k 7, 16, .inl (xs11 u))), (g 8, .inl (k 8, 3, .inl (xs12 u)))]
abbrev mw (g k : Nat → Nat) (u : MS) : va_W := [(g 0, .inr (1, [.ref (g 1), .ref (g 2), .ref (g 3), .ref (g 4), .ref (g 5), .int (nI (ms5 u)), .int (nI (ms6 u)), .ref (g 6), .int (nI (ms8 u)), .int (nI (ms9 u)), .ref (g 7), .ref (g 8)])), (g 1, .inl (k 1, 4, .inl (nf (ms0 u)))), (g 2, .inl (k 2, 16, .inl (nf (ms1 u)))), (g 3, .inl (k 3, 32, .inl (nf (ms2 u)))), (g 4, .inl (k 4, 32, .inl (nf (ms3 u)))), (g 5, .inl (k 5, 32, .inl (nf (ms4 u)))), (g 6, .inl (k 6, 16, .inl (nf (ms7 u)))), (g 7, .inl (k 7, 48, .inl (nf (ms10 u)))), (g 8, .inl (k 8, 6, .inl (nf (ms11 u))))]
abbrev xt (k : Nat → Nat) : List (ClassId × FieldType) := [(k 1, .int), (k 2, .int), (k 3, .byte), (k 4, .int), (k 5, .int), (k 6, .boolean), (k 7, .byte), (k 8, .int)]
abbrev mt (k : Nat → Nat) : List (ClassId × FieldType) := [(k 1, .int), (k 2, .int), (k 3, .int), (k 4, .int), (k 5, .int), (k 6, .int), (k 7, .boolean), (k 8, .int)]
set_option maxRecDepth 100000
theorem hdX0_addBits : hd_ RX0 yX0_addBits 3 := by decide +kernel
theorem hdX0_checksOf : hd_ RX0 yX0_checksOf 2 := by decide +kernel
theorem hdX0_correct : hd_ RX0 yX0_correct 2 := by decide +kernel
theorem hdX0_data : hd_ RX0 yX0_data 1 := by decide +kernel
theorem hdX0_decode : hd_ RX0 yX0_decode 2 := by decide +kernel
theorem hdX0_encode : hd_ RX0 yX0_encode 2 := by decide +kernel
theorem hdX0_hitData : hd_ RX0 yX0_hitData 2 := by decide +kernel
theorem hdX0_hitPlace : hd_ RX0 yX0_hitPlace 2 := by decide +kernel
theorem hdX0_hitProgram : hd_ RX0 yX0_hitProgram 2 := by decide +kernel
theorem hdX0_hitRegister : hd_ RX0 yX0_hitRegister 3 := by decide +kernel
theorem hdX0_hitWord : hd_ RX0 yX0_hitWord 2 := by decide +kernel
theorem hdX0_hitWork : hd_ RX0 yX0_hitWork 2 := by decide +kernel
theorem hdX0_init : hd_ RX0 yX0_init 0 := by decide +kernel
theorem hdX0_isCopy : hd_ RX0 yX0_isCopy 1 := by decide +kernel
theorem hdX0_isPower : hd_ RX0 yX0_isPower 1 := by decide +kernel
theorem hdX0_isRegister : hd_ RX0 yX0_isRegister 1 := by decide +kernel
theorem hdX0_onesOf : hd_ RX0 yX0_onesOf 2 := by decide +kernel
theorem hdX0_out : hd_ RX0 yX0_out 1 := by decide +kernel
theorem hdX0_outs : hd_ RX0 yX0_outs 0 := by decide +kernel
theorem hdX0_passThrice : hd_ RX0 yX0_passThrice 1 := by decide +kernel
theorem hdX0_place : hd_ RX0 yX0_place 0 := by decide +kernel
theorem hdX0_placesOf : hd_ RX0 yX0_placesOf 1 := by decide +kernel
theorem hdX0_readAndRepair : hd_ RX0 yX0_readAndRepair 1 := by decide +kernel
theorem hdX0_readWord : hd_ RX0 yX0_readWord 1 := by decide +kernel
theorem hdX0_register : hd_ RX0 yX0_register 1 := by decide +kernel
theorem hdX0_repair : hd_ RX0 yX0_repair 1 := by decide +kernel
theorem hdX0_reset : hd_ RX0 yX0_reset 0 := by decide +kernel
theorem hdX0_run : hd_ RX0 yX0_run 1 := by decide +kernel
theorem hdX0_set : hd_ RX0 yX0_set 4 := by decide +kernel
theorem hdX0_setData : hd_ RX0 yX0_setData 2 := by decide +kernel
theorem hdX0_spoiled : hd_ RX0 yX0_spoiled 0 := by decide +kernel
theorem hdX0_step : hd_ RX0 yX0_step 0 := by decide +kernel
theorem hdX0_stepOn : hd_ RX0 yX0_stepOn 5 := by decide +kernel
theorem hdX0_stepWithCells : hd_ RX0 yX0_stepWithCells 5 := by decide +kernel
theorem hdX0_stopped : hd_ RX0 yX0_stopped 0 := by decide +kernel
theorem hdX0_vote : hd_ RX0 yX0_vote 3 := by decide +kernel
theorem hdX0_voteAll : hd_ RX0 yX0_voteAll 0 := by decide +kernel
theorem hdX0_votePlace : hd_ RX0 yX0_votePlace 0 := by decide +kernel
theorem hdX0_voteRegister : hd_ RX0 yX0_voteRegister 1 := by decide +kernel
theorem hdX0_workOut : hd_ RX0 yX0_workOut 4 := by decide +kernel
theorem hdX0_workThrice : hd_ RX0 yX0_workThrice 4 := by decide +kernel
theorem hdX0_writePlace : hd_ RX0 yX0_writePlace 1 := by decide +kernel
theorem hdX0_writeRegister : hd_ RX0 yX0_writeRegister 2 := by decide +kernel
theorem hdX0_writeWord : hd_ RX0 yX0_writeWord 2 := by decide +kernel
theorem hdX1_calculated : hd_ RX1 yX1_calculated 4 := by decide +kernel
theorem hdX1_data : hd_ RX1 yX1_data 1 := by decide +kernel
theorem hdX1_forgetHits : hd_ RX1 yX1_forgetHits 0 := by decide +kernel
theorem hdX1_hit : hd_ RX1 yX1_hit 3 := by decide +kernel
theorem hdX1_hitData : hd_ RX1 yX1_hitData 2 := by decide +kernel
theorem hdX1_hitPlace : hd_ RX1 yX1_hitPlace 2 := by decide +kernel
theorem hdX1_hitProgram : hd_ RX1 yX1_hitProgram 2 := by decide +kernel
theorem hdX1_hitRegister : hd_ RX1 yX1_hitRegister 3 := by decide +kernel
theorem hdX1_hitWork : hd_ RX1 yX1_hitWork 2 := by decide +kernel
theorem hdX1_init : hd_ RX1 yX1_init 0 := by decide +kernel
theorem hdX1_isByte : hd_ RX1 yX1_isByte 1 := by decide +kernel
theorem hdX1_isCell : hd_ RX1 yX1_isCell 1 := by decide +kernel
theorem hdX1_isMask : hd_ RX1 yX1_isMask 1 := by decide +kernel
theorem hdX1_isPlace : hd_ RX1 yX1_isPlace 1 := by decide +kernel
theorem hdX1_isRegister : hd_ RX1 yX1_isRegister 1 := by decide +kernel
theorem hdX1_once : hd_ RX1 yX1_once 0 := by decide +kernel
theorem hdX1_out : hd_ RX1 yX1_out 1 := by decide +kernel
theorem hdX1_outs : hd_ RX1 yX1_outs 0 := by decide +kernel
theorem hdX1_place : hd_ RX1 yX1_place 0 := by decide +kernel
theorem hdX1_putOut : hd_ RX1 yX1_putOut 1 := by decide +kernel
theorem hdX1_register : hd_ RX1 yX1_register 1 := by decide +kernel
theorem hdX1_reset : hd_ RX1 yX1_reset 0 := by decide +kernel
theorem hdX1_run : hd_ RX1 yX1_run 1 := by decide +kernel
theorem hdX1_set : hd_ RX1 yX1_set 4 := by decide +kernel
theorem hdX1_setData : hd_ RX1 yX1_setData 2 := by decide +kernel
theorem hdX1_spoil : hd_ RX1 yX1_spoil 1 := by decide +kernel
theorem hdX1_spoiled : hd_ RX1 yX1_spoiled 0 := by decide +kernel
theorem hdX1_stopped : hd_ RX1 yX1_stopped 0 := by decide +kernel
theorem hdX1_useCell : hd_ RX1 yX1_useCell 3 := by decide +kernel
end
section
/-! NUMBERS: nI under bits (nx_and, nx_xor, s_l: out of kit/laws/BITS.to-paste); the code words as functions of natural numbers -/
theorem nx_and (a b : Nat) : nI a &&& nI b = nI (a &&& b) := by
  apply Int32.toBitVec_inj.1
  show BitVec.ofNat 32 a &&& BitVec.ofNat 32 b = BitVec.ofNat 32 (a &&& b)
  apply BitVec.eq_of_getLsbD_eq
  intro i hi
  simp [hi]
theorem nx_xor (a b : Nat) : nI a ^^^ nI b = nI (a ^^^ b) := by
  apply Int32.toBitVec_inj.1
  show BitVec.ofNat 32 a ^^^ BitVec.ofNat 32 b = BitVec.ofNat 32 (a ^^^ b)
  apply BitVec.eq_of_getLsbD_eq
  intro i hi
  simp [hi]
theorem nx_or (a b : Nat) : nI a ||| nI b = nI (a ||| b) := by
  apply Int32.toBitVec_inj.1
  show BitVec.ofNat 32 a ||| BitVec.ofNat 32 b = BitVec.ofNat 32 (a ||| b)
  apply BitVec.eq_of_getLsbD_eq
  intro i hi
  simp [hi]
theorem s_l : ∀ n, n < 32 → ((nI n &&& 31).toBitVec.smod 32).toNat = n := by decide +kernel
theorem nI_shr {c p : Nat} (hc : c < 2 ^ 31) (hp : p < 32) : nI c >>> (nI p &&& 31) = nI (c / 2 ^ p) := pk_shrN hc _ p (s_l p hp)
theorem nI_shl {b p : Nat} (hp : p < 32) (h : b * 2 ^ p < 2 ^ 32) : nI b <<< (nI p &&& 31) = nI (b * 2 ^ p) := pk_shlN _ p (s_l p hp) h
def b01 (c p : Nat) : Nat := if c.testBit p = true then 1 else 0
theorem b01_eq (c p : Nat) : c / 2 ^ p % 2 = b01 c p := by
  unfold b01
  rw [Nat.testBit_eq_decide_div_mod_eq]
  by_cases h : c / 2 ^ p % 2 = 1
  · simp [h]
  · simp [h]; omega
theorem b01_lt (c p : Nat) : b01 c p < 2 := by unfold b01; split <;> omega
theorem nI_bit {c p : Nat} (hc : c < 2 ^ 31) (hp : p < 32) : (nI c >>> (nI p &&& 31)) &&& 1 = nI (b01 c p) := by
  rw [nI_shr hc hp]
  show nI _ &&& nI 1 = _
  rw [nx_and, Nat.and_one_is_mod, b01_eq]
theorem b01_0 {c p : Nat} : nI (b01 c p) = 0 ↔ c.testBit p = false := by
  have h := b01_lt c p
  rw [← nI_0, nI_eq (by omega) (by omega)]
  unfold b01
  cases c.testBit p <;> simp
def syn (c : Nat) : Nat → Nat
  | 0 => 0
  | p + 1 => syn c p ^^^ (if c.testBit p = true then p else 0)
def ones (c : Nat) : Nat → Nat
  | 0 => 0
  | p + 1 => ones c p + b01 c p
def pw (p : Nat) : Bool := (p &&& (p - 1)) == 0
def nx : Nat → Nat
  | 0 => 0
  | p + 1 => if p < 3 ∨ pw p = true then nx p else nx p + 1
def sprd (v : Nat) : Nat → Nat
  | 0 => 0
  | p + 1 => if p < 3 ∨ pw p = true then sprd v p else sprd v p ||| (b01 v (nx p) * 2 ^ p)
def chk (t : Nat) : Nat → Nat
  | 0 => 0
  | j + 1 => chk t j ||| (b01 t j * 2 ^ (2 ^ j))
def nj (n : Nat) : Nat := if n = 22 then 5 else 4
def enc2 (v n : Nat) : Nat := sprd v n ||| chk (syn (sprd v n) n) (nj n)
def enc (v n : Nat) : Nat := enc2 v n ||| (ones (enc2 v n) n % 2)
def cor (c n : Nat) : Nat := if ones c n % 2 = 1 then c ^^^ 2 ^ (syn c n) else c
def dcd (c : Nat) : Nat → Nat
  | 0 => 0
  | p + 1 => if p < 3 ∨ pw p = true then dcd c p else dcd c p ||| (b01 c p * 2 ^ (nx p))
def plc (w : Nat) : Nat := if w < 32 then 22 else 13
theorem plc_2 (w : Nat) : plc w = 22 ∨ plc w = 13 := by unfold plc; split <;> simp
theorem syn_1 (c : Nat) : syn c 1 = 0 := by simp [syn]
theorem syn_T {c i : Nat} (h : nI (b01 c i) = 0) : nI (syn c i) ^^^ 0 = nI (syn c (i + 1)) := by
  have h1 := b01_0.mp h
  show nI _ ^^^ nI 0 = _
  rw [nx_xor]
  simp [syn, h1]
theorem syn_F {c i : Nat} (h : ¬ nI (b01 c i) = 0) : nI (syn c i) ^^^ nI i = nI (syn c (i + 1)) := by
  have h1 : c.testBit i = true := by
    cases hc : c.testBit i
    · exact absurd (b01_0.mpr hc) h
    · rfl
  rw [nx_xor]
  simp [syn, h1]
theorem syn_lt (c n J : Nat) (hn : n ≤ 2 ^ J) : syn c n < 2 ^ J := by
  induction n with
  | zero => exact Nat.pos_of_ne_zero (by simp)
  | succ n ih =>
    unfold syn
    refine Nat.xor_lt_two_pow (ih (by omega)) ?_
    split
    · omega
    · exact Nat.pos_of_ne_zero (by simp)
theorem pw_0 : ∀ p, p < 32 → ((nI p &&& (nI p - 1)) = 0 ↔ pw p = true) := by decide +kernel
theorem nx_le (p : Nat) : nx p ≤ p := by
  induction p with
  | zero => simp [nx]
  | succ p ih => unfold nx; split <;> omega
theorem b01_mul_testBit (c p q i : Nat) : (b01 c p * 2 ^ q).testBit i = (c.testBit p && decide (q = i)) := by
  unfold b01
  cases c.testBit p
  · simp
  · simp [Nat.testBit_two_pow]
theorem sprd_bit (v n i : Nat) : (sprd v n).testBit i = (decide (i < n) && (decide (3 ≤ i) && (!pw i && v.testBit (nx i)))) := by
  induction n with
  | zero => simp [sprd]
  | succ n ih =>
    unfold sprd
    by_cases h : n < 3 ∨ pw n = true
    · rw [if_pos h, ih]
      by_cases hi : i = n
      · subst hi
        rcases h with h | h
        · have : ¬ 3 ≤ i := by omega
          simp [this]
        · simp [h]
      · have : (i < n + 1) = (i < n) := propext ⟨fun _ => by omega, fun _ => by omega⟩
        simp only [this]
    · rw [if_neg h, Nat.testBit_or, ih, b01_mul_testBit]
      by_cases hi : i = n
      · subst hi
        have h3 : 3 ≤ i := by omega
        have h4 : pw i = false := by
          cases hp : pw i
          · rfl
          · exact absurd (Or.inr hp) h
        simp [h3, h4]
      · have h1 : (i < n + 1) = (i < n) := propext ⟨fun _ => by omega, fun _ => by omega⟩
        have h2 : ¬ n = i := fun q => hi q.symm
        simp only [h1, h2, decide_false, Bool.and_false, Bool.or_false]
theorem sprd_lt (v n : Nat) : sprd v n < 2 ^ n := by
  refine Nat.lt_pow_two_of_testBit _ (fun i hi => ?_)
  rw [sprd_bit]
  have : ¬ i < n := by omega
  simp [this]
theorem xor4 (x y a b : Nat) : (x ^^^ y) ^^^ (a ^^^ b) = (x ^^^ a) ^^^ (y ^^^ b) := by
  refine Nat.eq_of_testBit_eq (fun i => ?_)
  simp only [Nat.testBit_xor]
  cases x.testBit i <;> cases y.testBit i <;> cases a.testBit i <;> cases b.testBit i <;> rfl
theorem syn_xor (a b n : Nat) : syn (a ^^^ b) n = syn a n ^^^ syn b n := by
  induction n with
  | zero => simp [syn]
  | succ n ih =>
    unfold syn
    rw [ih, Nat.testBit_xor, ← xor4]
    congr 1
    cases a.testBit n <;> cases b.testBit n <;> simp
theorem ones_xor (a b n : Nat) : ones (a ^^^ b) n % 2 = (ones a n + ones b n) % 2 := by
  induction n with
  | zero => simp [ones]
  | succ n ih =>
    unfold ones b01
    rw [Nat.testBit_xor]
    cases a.testBit n <;> cases b.testBit n <;> simp <;> omega
theorem syn_pow (b n : Nat) : syn (2 ^ b) n = if b < n then b else 0 := by
  induction n with
  | zero => simp [syn]
  | succ n ih =>
    unfold syn
    rw [ih, Nat.testBit_two_pow]
    by_cases h : b = n
    · subst h
      simp
    · by_cases h2 : b < n
      · have : b < n + 1 := by omega
        simp [h, h2, this]
      · have : ¬ b < n + 1 := by omega
        simp [h, h2, this]
theorem ones_pow (b n : Nat) : ones (2 ^ b) n = if b < n then 1 else 0 := by
  induction n with
  | zero => simp [ones]
  | succ n ih =>
    unfold ones b01
    rw [ih, Nat.testBit_two_pow]
    by_cases h : b = n
    · subst h
      simp
    · by_cases h2 : b < n
      · have : b < n + 1 := by omega
        simp [h, h2, this]
      · have : ¬ b < n + 1 := by omega
        simp [h, h2, this]
theorem ones_0 (n : Nat) : ones 0 n = 0 := by
  induction n with
  | zero => rfl
  | succ n ih => unfold ones b01; rw [ih]; simp
theorem syn_0 (n : Nat) : syn 0 n = 0 := by
  induction n with
  | zero => rfl
  | succ n ih => unfold syn; rw [ih]; simp
theorem chk_bit (t j i : Nat) : (chk t j).testBit i = true → ∃ q, q < j ∧ i = 2 ^ q := by
  induction j with
  | zero => simp [chk]
  | succ j ih =>
    unfold chk
    rw [Nat.testBit_or, b01_mul_testBit]
    intro h
    cases h1 : (chk t j).testBit i
    · rw [h1] at h
      simp at h
      exact ⟨j, by omega, h.2.symm⟩
    · obtain ⟨q, h2, h3⟩ := ih h1
      exact ⟨q, by omega, h3⟩
theorem or_xor {a b : Nat} (h : ∀ i, ¬ (a.testBit i = true ∧ b.testBit i = true)) : a ||| b = a ^^^ b := by
  refine Nat.eq_of_testBit_eq (fun i => ?_)
  rw [Nat.testBit_or, Nat.testBit_xor]
  have h1 := h i
  cases ha : a.testBit i <;> cases hb : b.testBit i <;> simp [ha, hb] at h1 ⊢
theorem pw_pow : ∀ q, q < 5 → pw (2 ^ q) = true := by decide +kernel
theorem chk_22 : ∀ t, t < 32 → syn (chk t 5) 22 = t := by decide +kernel
theorem chk_13 : ∀ t, t < 16 → syn (chk t 4) 13 = t := by decide +kernel
theorem nj_le (n : Nat) : nj n ≤ 5 := by unfold nj; split <;> omega
theorem enc2_xor (v n : Nat) : enc2 v n = sprd v n ^^^ chk (syn (sprd v n) n) (nj n) := by
  refine or_xor (fun i h => ?_)
  obtain ⟨q, h1, h2⟩ := chk_bit _ _ _ h.2
  have h3 := h.1
  rw [sprd_bit, h2, pw_pow q (Nat.lt_of_lt_of_le h1 (nj_le n))] at h3
  simp at h3
theorem enc2_syn (v : Nat) {n : Nat} (hn : n = 22 ∨ n = 13) : syn (enc2 v n) n = 0 := by
  rw [enc2_xor, syn_xor]
  rcases hn with rfl | rfl
  · rw [show nj 22 = 5 from rfl, chk_22 _ (syn_lt _ 22 5 (by decide))]
    simp
  · rw [show nj 13 = 4 from rfl, chk_13 _ (syn_lt _ 13 4 (by decide))]
    simp
theorem enc2_0 (v n : Nat) : (enc2 v n).testBit 0 = false := by
  unfold enc2
  rw [Nat.testBit_or, sprd_bit]
  cases h : (chk (syn (sprd v n) n) (nj n)).testBit 0
  · simp
  · obtain ⟨q, -, h2⟩ := chk_bit _ _ _ h
    have : 0 < 2 ^ q := Nat.pos_of_ne_zero (by simp)
    omega
theorem enc_xor (v n : Nat) : enc v n = enc2 v n ^^^ (ones (enc2 v n) n % 2) := by
  refine or_xor (fun i h => ?_)
  rcases Nat.mod_two_eq_zero_or_one (ones (enc2 v n) n) with e | e
  · rw [e] at h
    simp at h
  · rw [e] at h
    have h1 : i = 0 := Nat.testBit_one_eq_true_iff_self_eq_zero.mp h.2
    rw [h1, enc2_0] at h
    simp at h
theorem enc_syn (v : Nat) {n : Nat} (hn : n = 22 ∨ n = 13) : syn (enc v n) n = 0 := by
  rw [enc_xor, syn_xor, enc2_syn v hn]
  rcases Nat.mod_two_eq_zero_or_one (ones (enc2 v n) n) with e | e
  · rw [e, syn_0]; rfl
  · rw [e, show (1 : Nat) = 2 ^ 0 from rfl, syn_pow]
    simp
theorem enc_ones (v : Nat) {n : Nat} (hn : n = 22 ∨ n = 13) : ones (enc v n) n % 2 = 0 := by
  rw [enc_xor, ones_xor]
  rcases Nat.mod_two_eq_zero_or_one (ones (enc2 v n) n) with e | e
  · rw [e, ones_0]; omega
  · rw [e, show (1 : Nat) = 2 ^ 0 from rfl, ones_pow, if_pos (by rcases hn with rfl | rfl <;> decide)]
    omega
/-- a word that wasn't hit stays -/
theorem cor_enc (v : Nat) {n : Nat} (hn : n = 22 ∨ n = 13) : cor (enc v n) n = enc v n := by
  unfold cor
  rw [if_neg (by rw [enc_ones v hn]; decide)]
/-- a word of which one bit was hit is put right -/
theorem cor_hit (v : Nat) {n b : Nat} (hn : n = 22 ∨ n = 13) (hb : b < n) : cor (enc v n ^^^ 2 ^ b) n = enc v n := by
  unfold cor
  have h1 : ones (enc v n ^^^ 2 ^ b) n % 2 = 1 := by
    rw [ones_xor, ones_pow, if_pos hb]
    have := enc_ones v hn
    omega
  rw [if_pos h1, syn_xor, enc_syn v hn, syn_pow, if_pos hb, Nat.zero_xor, Nat.xor_assoc, Nat.xor_self, Nat.xor_zero]
theorem chk_lt (t : Nat) {n : Nat} (hn : n = 22 ∨ n = 13) : chk t (nj n) < 2 ^ n := by
  refine Nat.lt_pow_two_of_testBit _ (fun i hi => ?_)
  cases h : (chk t (nj n)).testBit i
  · rfl
  · obtain ⟨q, h1, h2⟩ := chk_bit _ _ _ h
    rcases hn with rfl | rfl
    · have h3 : q < 5 := h1
      have : ∀ q, q < 5 → 2 ^ q < 22 := by decide
      have := this q h3
      omega
    · have h3 : q < 4 := h1
      have : ∀ q, q < 4 → 2 ^ q < 13 := by decide
      have := this q h3
      omega
theorem enc2_lt (v : Nat) {n : Nat} (hn : n = 22 ∨ n = 13) : enc2 v n < 2 ^ n := Nat.or_lt_two_pow (sprd_lt v n) (chk_lt _ hn)
theorem enc_lt (v : Nat) {n : Nat} (hn : n = 22 ∨ n = 13) : enc v n < 2 ^ n := by
  refine Nat.or_lt_two_pow (enc2_lt v hn) ?_
  have h : 2 ≤ 2 ^ n := by rcases hn with rfl | rfl <;> decide
  omega
theorem enc_bit (v n p : Nat) (h1 : p < n) (h3 : ¬ (p < 3 ∨ pw p = true)) : (enc v n).testBit p = v.testBit (nx p) := by
  have hp : pw p = false := by
    cases h : pw p
    · rfl
    · exact absurd (Or.inr h) h3
  unfold enc enc2
  rw [Nat.testBit_or, Nat.testBit_or, sprd_bit, hp]
  have h4 : 3 ≤ p := by omega
  have e1 : (chk (syn (sprd v n) n) (nj n)).testBit p = false := by
    cases h : (chk (syn (sprd v n) n) (nj n)).testBit p
    · rfl
    · obtain ⟨q, g1, g2⟩ := chk_bit _ _ _ h
      rw [g2, pw_pow q (Nat.lt_of_lt_of_le g1 (nj_le n))] at hp
      cases hp
  have e2 : (ones (sprd v n ||| chk (syn (sprd v n) n) (nj n)) n % 2).testBit p = false := by
    refine Nat.testBit_lt_two_pow ?_
    have : 2 ^ 1 ≤ 2 ^ p := Nat.pow_le_pow_right (by decide) (by omega)
    omega
  rw [e1, e2]
  simp [h1, h4]
theorem mod_or (v q : Nat) : v % 2 ^ (q + 1) = v % 2 ^ q ||| (b01 v q * 2 ^ q) := by
  refine Nat.eq_of_testBit_eq (fun i => ?_)
  rw [Nat.testBit_or, Nat.testBit_mod_two_pow, Nat.testBit_mod_two_pow, b01_mul_testBit]
  by_cases h : i = q
  · subst h
    simp
  · by_cases h2 : i < q
    · have : i < q + 1 := by omega
      have h3 : ¬ q = i := fun e => h e.symm
      simp [h2, this, h3]
    · have : ¬ i < q + 1 := by omega
      have h3 : ¬ q = i := fun e => h e.symm
      simp [h2, this, h3]
theorem dcd_eq (c v n : Nat) (h : ∀ p, p < n → ¬ (p < 3 ∨ pw p = true) → c.testBit p = v.testBit (nx p)) : dcd c n = v % 2 ^ (nx n) := by
  induction n with
  | zero => simp [dcd, nx, Nat.mod_one]
  | succ n ih =>
    rw [show dcd c (n + 1) = if n < 3 ∨ pw n = true then dcd c n else dcd c n ||| (b01 c n * 2 ^ (nx n)) from rfl, show nx (n + 1) = if n < 3 ∨ pw n = true then nx n else nx n + 1 from rfl]
    by_cases hp : n < 3 ∨ pw n = true
    · rw [if_pos hp, if_pos hp]
      exact ih (fun p h1 h2 => h p (by omega) h2)
    · rw [if_neg hp, if_neg hp, mod_or, ih (fun p h1 h2 => h p (by omega) h2)]
      unfold b01
      rw [h n (by omega) hp]
theorem dcd_enc22 {v : Nat} (h : v < 65536) : dcd (enc v 22) 22 = v := by
  rw [dcd_eq (enc v 22) v 22 (fun p h1 h2 => enc_bit v 22 p h1 h2), show nx 22 = 16 by decide +kernel]
  exact Nat.mod_eq_of_lt h
theorem dcd_enc13 {v : Nat} (h : v < 256) : dcd (enc v 13) 13 = v := by
  rw [dcd_eq (enc v 13) v 13 (fun p h1 h2 => enc_bit v 13 p h1 h2), show nx 13 = 8 by decide +kernel]
  exact Nat.mod_eq_of_lt h
end
section
/-! helpers for the walks: compares of nI, the loops' steps, guards -/
theorem le_of {a b : Nat} (h : nI a ≤ nI b) (ha : a < 2 ^ 31 := by omega) (hb : b < 2 ^ 31 := by omega) : a ≤ b := (nI_leI ha hb).mp h
theorem nle_of {a b : Nat} (h : ¬ nI a ≤ nI b) (ha : a < 2 ^ 31 := by omega) (hb : b < 2 ^ 31 := by omega) : b < a := Nat.not_le.mp (fun q => h ((nI_leI ha hb).mpr q))
theorem lt_of {a b : Nat} (h : nI a < nI b) (ha : a < 2 ^ 31 := by omega) (hb : b < 2 ^ 31 := by omega) : a < b := (nI_ltI ha hb).mp h
theorem nlt_of {a b : Nat} (h : ¬ nI a < nI b) (ha : a < 2 ^ 31 := by omega) (hb : b < 2 ^ 31 := by omega) : b ≤ a := Nat.not_lt.mp (fun q => h ((nI_ltI ha hb).mpr q))
theorem eq_of {a b : Nat} (h : nI a = nI b) (ha : a < 2 ^ 31 := by omega) (hb : b < 2 ^ 31 := by omega) : a = b := (nI_eq ha hb).mp h
theorem ne_of {a b : Nat} (h : ¬ nI a = nI b) : a ≠ b := fun q => h (by rw [q])
theorem nI_and1 (a : Nat) : nI a &&& 1 = nI (a % 2) := by
  show nI a &&& nI 1 = _
  rw [nx_and, Nat.and_one_is_mod]
theorem nI_and3 (a : Nat) : nI a &&& 3 = nI (a % 4) := by
  show nI a &&& nI 3 = _
  rw [nx_and, show (3 : Nat) = 2 ^ 2 - 1 from rfl, Nat.and_two_pow_sub_one_eq_mod]
theorem nI_and15 (a : Nat) : nI a &&& 15 = nI (a % 16) := by
  show nI a &&& nI 15 = _
  rw [nx_and, show (15 : Nat) = 2 ^ 4 - 1 from rfl, Nat.and_two_pow_sub_one_eq_mod]
theorem nI_and31 (a : Nat) : nI a &&& 31 = nI (a % 32) := by
  show nI a &&& nI 31 = _
  rw [nx_and, show (31 : Nat) = 2 ^ 5 - 1 from rfl, Nat.and_two_pow_sub_one_eq_mod]
theorem nI_and255 (a : Nat) : nI a &&& 255 = nI (a % 256) := by
  show nI a &&& nI 255 = _
  rw [nx_and, show (255 : Nat) = 2 ^ 8 - 1 from rfl, Nat.and_two_pow_sub_one_eq_mod]
theorem sprd_3 (v : Nat) : sprd v 3 = 0 := by simp [sprd]
theorem dcd_3 (v : Nat) : dcd v 3 = 0 := by simp [dcd]
theorem sprd_T {i : Nat} (v : Nat) (h : pw i = true) : sprd v (i + 1) = sprd v i := if_pos (Or.inr h)
theorem dcd_T {i : Nat} (v : Nat) (h : pw i = true) : dcd v (i + 1) = dcd v i := if_pos (Or.inr h)
theorem nx_T {i : Nat} (h : pw i = true) : nx (i + 1) = nx i := if_pos (Or.inr h)
theorem dat {i : Nat} (h3 : 3 ≤ i) (h : pw i = false) : ¬ (i < 3 ∨ pw i = true) := by
  intro q
  rcases q with q | q
  · omega
  · rw [h] at q; cases q
theorem sprd_F {i v : Nat} (h3 : 3 ≤ i) (h : pw i = false) : nI (sprd v i) ||| nI (b01 v (nx i) * 2 ^ i) = nI (sprd v (i + 1)) := by
  rw [nx_or, show sprd v (i + 1) = _ from if_neg (dat h3 h)]
theorem dcd_F {i c : Nat} (h3 : 3 ≤ i) (h : pw i = false) : nI (dcd c i) ||| nI (b01 c i * 2 ^ (nx i)) = nI (dcd c (i + 1)) := by
  rw [nx_or, show dcd c (i + 1) = _ from if_neg (dat h3 h)]
theorem nx_F {i : Nat} (h3 : 3 ≤ i) (h : pw i = false) : nI (nx i) + 1 = nI (nx (i + 1)) := by
  rw [nI_1, show nx (i + 1) = _ from if_neg (dat h3 h)]
theorem b01_shl {c p i : Nat} (h : i < 32) : b01 c p * 2 ^ i < 2 ^ 32 := by
  have h1 := b01_lt c p
  have h2 : 2 ^ i < 2 ^ 32 := Nat.pow_lt_pow_right (by decide) h
  rcases (by omega : b01 c p = 0 ∨ b01 c p = 1) with e | e <;> rw [e] <;> omega
theorem pw_shl {i : Nat} (h : i < 32) : 1 * 2 ^ i < 2 ^ 32 := by
  have h2 : 2 ^ i < 2 ^ 32 := Nat.pow_lt_pow_right (by decide) h
  omega
theorem nj_lt {n j : Nat} (hn : n = 22 ∨ n = 13) (h : j < nj n) : 2 ^ j < n ∧ 2 ^ j < 32 := by
  rcases hn with rfl | rfl
  · exact (by decide : ∀ j, j < 5 → 2 ^ j < 22 ∧ 2 ^ j < 32) j h
  · exact (by decide : ∀ j, j < 4 → 2 ^ j < 13 ∧ 2 ^ j < 32) j h
theorem nj_ge {n : Nat} (hn : n = 22 ∨ n = 13) : n ≤ 2 ^ (nj n) ∧ 2 ^ (nj n) ≤ 32 := by
  rcases hn with rfl | rfl <;> decide
theorem nj_p {n j : Nat} (hn : n = 22 ∨ n = 13) (h : j ≤ nj n) : 2 ^ j ≤ 32 := by
  rcases Nat.lt_or_ge j (nj n) with q | q
  · have := nj_lt hn q; omega
  · have := nj_ge hn; rw [show j = nj n by omega]; omega
theorem and_pow_0 {t j : Nat} (ht : t < 2 ^ 31) (h : nI (t &&& 2 ^ j) = 0) : t.testBit j = false := by
  have h1 : t &&& 2 ^ j ≤ t := Nat.and_le_left
  have h2 : t &&& 2 ^ j = 0 := eq_of (h.trans nI_0.symm)
  have h3 : (t &&& 2 ^ j).testBit j = false := by rw [h2]; exact Nat.zero_testBit j
  rw [Nat.testBit_and, Nat.testBit_two_pow_self, Bool.and_true] at h3
  exact h3
theorem and_pow_1 {t j : Nat} (h : ¬ nI (t &&& 2 ^ j) = 0) : t.testBit j = true := by
  cases hb : t.testBit j
  · refine absurd ?_ h
    rw [show t &&& 2 ^ j = 0 from ?_]
    · rfl
    · refine Nat.eq_of_testBit_eq (fun i => ?_)
      rw [Nat.testBit_and, Nat.testBit_two_pow, Nat.zero_testBit]
      by_cases e : j = i
      · subst e; rw [hb]; rfl
      · simp [e]
  · rfl
theorem chk_T {x t j : Nat} (ht : t < 2 ^ 31) (h : nI (t &&& 2 ^ j) = 0) : nI (x ||| chk t j) ||| 0 = nI (x ||| chk t (j + 1)) := by
  have h1 := and_pow_0 ht h
  show _ ||| nI 0 = _
  rw [nx_or, show chk t (j + 1) = chk t j ||| (b01 t j * 2 ^ (2 ^ j)) from rfl]
  simp [b01, h1]
theorem chk_F {x t j : Nat} (h : ¬ nI (t &&& 2 ^ j) = 0) : nI (x ||| chk t j) ||| nI (1 * 2 ^ (2 ^ j)) = nI (x ||| chk t (j + 1)) := by
  have h1 := and_pow_1 h
  rw [nx_or, show chk t (j + 1) = chk t j ||| (b01 t j * 2 ^ (2 ^ j)) from rfl]
  simp [b01, h1, Nat.or_assoc]
theorem cor_T {c n : Nat} (h : nI (ones c n % 2) = 0) : c = cor c n := by
  have h1 : ones c n % 2 = 0 := eq_of (h.trans nI_0.symm)
  unfold cor
  rw [if_neg (by omega)]
theorem cor_F {c n : Nat} (h : ¬ nI (ones c n % 2) = 0) : nI c ^^^ nI (1 * 2 ^ (syn c n)) = nI (cor c n) := by
  have h1 : ones c n % 2 ≠ 0 := fun q => h (by rw [q]; rfl)
  rw [nx_xor]
  unfold cor
  rw [if_pos (by omega), Nat.one_mul]
def vt (a b c : Int32) : Int32 := (a &&& b) ||| (a &&& c) ||| (b &&& c)
def mj (a b c : Nat) : Nat := (a &&& b) ||| (a &&& c) ||| (b &&& c)
theorem vt_nI (a b c : Nat) : vt (nI a) (nI b) (nI c) = nI (mj a b c) := by
  unfold vt mj
  simp only [nx_and, nx_or]
def cy (a b c0 : Nat) : Nat → Nat
  | 0 => c0
  | i + 1 => mj (b01 a i) (b01 b i) (cy a b c0 i)
def sm (a b c0 : Nat) : Nat → Nat
  | 0 => 0
  | i + 1 => sm a b c0 i ||| ((b01 a i ^^^ b01 b i ^^^ cy a b c0 i) * 2 ^ i)
theorem mj_lt {a b c : Nat} (ha : a < 2) (hb : b < 2) (hc : c < 2) : mj a b c < 2 :=
  (by decide : ∀ a, a < 2 → ∀ b, b < 2 → ∀ c, c < 2 → mj a b c < 2) a ha b hb c hc
theorem cy_lt {a b c0 : Nat} (h : c0 < 2) (i : Nat) : cy a b c0 i < 2 := by
  induction i with
  | zero => exact h
  | succ i ih => exact mj_lt (b01_lt _ _) (b01_lt _ _) ih
theorem add3 {a b c : Nat} (ha : a < 2) (hb : b < 2) (hc : c < 2) : (a ^^^ b ^^^ c) + 2 * mj a b c = a + b + c ∧ a ^^^ b ^^^ c < 2 :=
  (by decide : ∀ a, a < 2 → ∀ b, b < 2 → ∀ c, c < 2 → (a ^^^ b ^^^ c) + 2 * mj a b c = a + b + c ∧ a ^^^ b ^^^ c < 2) a ha b hb c hc
theorem sm_inv {a b c0 : Nat} (h : c0 < 2) (i : Nat) : sm a b c0 i + cy a b c0 i * 2 ^ i = a % 2 ^ i + b % 2 ^ i + c0 ∧ sm a b c0 i < 2 ^ i := by
  induction i with
  | zero => simp [sm, cy, Nat.mod_one]
  | succ i ih =>
    obtain ⟨h1, h2⟩ := ih
    obtain ⟨h3, h4⟩ := add3 (b01_lt a i) (b01_lt b i) (cy_lt (a := a) (b := b) h i)
    have e : sm a b c0 (i + 1) = 2 ^ i * (b01 a i ^^^ b01 b i ^^^ cy a b c0 i) + sm a b c0 i := by
      rw [Nat.two_pow_add_eq_or_of_lt h2, Nat.or_comm, Nat.mul_comm]
      rfl
    rw [show cy a b c0 (i + 1) = mj (b01 a i) (b01 b i) (cy a b c0 i) from rfl, e, Nat.mod_pow_succ, Nat.mod_pow_succ, b01_eq, b01_eq, Nat.pow_succ]
    generalize b01 a i ^^^ b01 b i ^^^ cy a b c0 i = z at *
    generalize mj (b01 a i) (b01 b i) (cy a b c0 i) = y at *
    generalize cy a b c0 i = x at *
    generalize b01 a i = p at *
    generalize b01 b i = q at *
    generalize 2 ^ i = w at *
    generalize sm a b c0 i = t at *
    constructor
    · have : w * (z + 2 * y) = w * (p + q + x) := by rw [h3]
      simp only [Nat.mul_add] at this
      have e1 : y * (w * 2) = w * (2 * y) := by rw [Nat.mul_comm y, Nat.mul_assoc]
      have e2 : x * w = w * x := Nat.mul_comm _ _
      omega
    · have : w * z ≤ w * 1 := Nat.mul_le_mul_left w (by omega)
      omega
theorem sm_8 {a b c0 : Nat} (ha : a < 256) (hb : b < 256) (h : c0 < 2) : sm a b c0 8 = (a + b + c0) % 256 := by
  obtain ⟨h1, h2⟩ := sm_inv (a := a) (b := b) h 8
  have := cy_lt (a := a) (b := b) h 8
  rw [show (2 : Nat) ^ 8 = 256 from rfl, Nat.mod_eq_of_lt ha, Nat.mod_eq_of_lt hb] at h1
  rw [show (2 : Nat) ^ 8 = 256 from rfl] at h2
  omega
def wo (op a b n : Nat) : Nat := if op = 1 then n else if op = 4 then (a + b) % 256 else if op = 5 then (a + 256 - b) % 256 else if op = 6 then a &&& b else if op = 7 then a ^^^ b else if op = 8 then a / 2 else n % 32
theorem x255 : ∀ b, b < 256 → b ^^^ 255 = 255 - b := by decide +kernel
/-- a guard: 1 if x is one of 0 .. n - 1 -/
def iv (x : Int32) (n : Nat) : Nat := if x < 0 then 0 else if nI n ≤ x then 0 else 1
theorem iv_lt {x : Int32} {n : Nat} (h : x < 0) : iv x n = 0 := if_pos h
theorem iv_ge {x : Int32} {n : Nat} (h : ¬ x < 0) (h2 : nI n ≤ x) : iv x n = 0 := by unfold iv; rw [if_neg h, if_pos h2]
theorem iv_in {x : Int32} {n : Nat} (h : ¬ x < 0) (h2 : ¬ nI n ≤ x) : iv x n = 1 := by unfold iv; rw [if_neg h, if_neg h2]
theorem iv_gt {x : Int32} {n : Nat} (h : ¬ x < 0) (h2 : nI n < x) (hn : n + 1 < 2 ^ 31) : iv x (n + 1) = 0 := by
  refine iv_ge h ?_
  rw [Int32.lt_iff_toInt_lt, nI_toInt (by omega)] at h2
  rw [Int32.le_iff_toInt_le, nI_toInt hn]
  omega
theorem iv_le {x : Int32} {n : Nat} (h : ¬ x < 0) (h2 : ¬ nI n < x) (hn : n + 1 < 2 ^ 31) : iv x (n + 1) = 1 := by
  refine iv_in h (fun q => h2 ?_)
  rw [Int32.le_iff_toInt_le, nI_toInt hn] at q
  rw [Int32.lt_iff_toInt_lt, nI_toInt (by omega)]
  omega
theorem iv_of {x : Int32} {n : Nat} (h : iv x n = 1) (hn : n < 2 ^ 31) : ∃ j : Nat, j < n ∧ x = nI j := by
  rcases pk_ix x hn with q | q | q
  · rw [iv_lt q] at h; cases h
  · by_cases q0 : x < 0
    · rw [iv_lt q0] at h; cases h
    · rw [iv_ge q0 q] at h; cases h
  · exact q
theorem iv_2 (x : Int32) (n : Nat) : iv x n = 0 ∨ iv x n = 1 := by unfold iv; split <;> (try split) <;> simp
theorem iv_n {j n : Nat} (h : j < n) (hn : n < 2 ^ 31) : iv (nI j) n = 1 := iv_in (nI_pos (by omega)) (nI_ge h hn)
end
section
/-! THE PLAIN LAW: the machine's pure state (MS), what it does, and what the shielded machine's cells (XS) hold of it -/
def hb (h : Nat) : Nat := if h = 0 then 0 else 2 ^ (h - 1)
def wd (S : MS) (w : Nat) : Nat := if w < 32 then ms2 S w + 16 * ms3 S w + 64 * ms4 S w else ms1 S (w - 32)
def CodeOK (v n sp c : Nat) : Prop := c = enc v n ∨ (sp = 1 ∧ ∃ b, b < n ∧ c = enc v n ^^^ 2 ^ b)
/-- the ranges -/
def RG (S : MS) : Prop := (∀ r, r < 4 → ms0 S r < 256) ∧ (∀ q, q < 16 → ms1 S q < 256) ∧ (∀ q, q < 32 → ms2 S q ≤ 13 ∧ ms3 S q < 4 ∧ ms4 S q < 256) ∧ ms5 S < 32 ∧ ms6 S ≤ 16 ∧ (∀ i, i < 16 → ms7 S i < 256) ∧ ms8 S ≤ 1 ∧ (∀ w, w < 48 → ms10 S w ≤ 1) ∧ (∀ j, j < 6 → ms11 S j ≤ 3)
def rA (R h : Nat → Nat) (f : Nat → Int32) : Prop := ∀ r, r < 4 → ∀ q, q < 3 → ∃ v, v < 256 ∧ f (r * 3 + q) = nI v ∧ (h r ≠ q + 1 → v = R r)
def rB (at_ h4 : Nat) (f : Nat → Int32) : Prop := ∀ q, q < 3 → ∃ v, v < 32 ∧ f q = nI v ∧ (h4 ≠ q + 1 → v = at_)
def rC (h : Nat → Nat) (f : Nat → Int32) : Prop := ∀ r, r < 4 → f r = nI (hb (h r))
def rE (h5 : Nat) (f : Nat → Int32) : Prop := ∀ q, q < 3 → ∃ v, v < 256 ∧ f q = nI v ∧ (h5 ≠ q + 1 → v = 0)
def rG (W sp : Nat → Nat) (f : Nat → Int32) : Prop := ∀ w, w < 48 → ∃ c, c < 2 ^ 31 ∧ f w = nI c ∧ CodeOK (W w) (plc w) (sp w) c
def rH (sp : Nat → Nat) (f : Nat → Int32) : Prop := ∀ w, w < 48 → f w = nI (sp w)
def rL (pp : Nat → Nat) (f : Nat → Int32) : Prop := ∀ i, i < 16 → f i = (nI (pp i)).toInt8.toInt32
/-- what the cells of a ShieldedMachine hold of the pure state -/
def RX (S : MS) (u : XS) : Prop := rA (ms0 S) (ms11 S) (xs0 u) ∧ rB (ms5 S) (ms11 S 4) (xs1 u) ∧ rC (ms11 S) (xs2 u) ∧ xs3 u = nI (hb (ms11 S 4)) ∧ rE (ms11 S 5) (xs4 u) ∧ xs5 u = nI (hb (ms11 S 5)) ∧ rG (wd S) (ms10 S) (xs6 u) ∧ rH (ms10 S) (xs7 u) ∧ xs8 u = nI (ms9 S % 48) ∧ xs9 u = nI (ms8 S) ∧ xs10 u = nI (ms6 S) ∧ rL (ms7 S) (xs11 u)
theorem mj_01 (a x : Nat) : mj a a x = a := by
  refine Nat.eq_of_testBit_eq (fun i => ?_)
  unfold mj
  simp only [Nat.testBit_or, Nat.testBit_and]
  cases a.testBit i <;> cases x.testBit i <;> rfl
theorem mj_02 (a x : Nat) : mj a x a = a := by
  refine Nat.eq_of_testBit_eq (fun i => ?_)
  unfold mj
  simp only [Nat.testBit_or, Nat.testBit_and]
  cases a.testBit i <;> cases x.testBit i <;> rfl
theorem mj_12 (a x : Nat) : mj x a a = a := by
  refine Nat.eq_of_testBit_eq (fun i => ?_)
  unfold mj
  simp only [Nat.testBit_or, Nat.testBit_and]
  cases a.testBit i <;> cases x.testBit i <;> rfl
/-- two of three are right -/
theorem mj_h {h a v0 v1 v2 : Nat} (h0 : h ≠ 0 + 1 → v0 = a) (h1 : h ≠ 1 + 1 → v1 = a) (h2 : h ≠ 2 + 1 → v2 = a) : mj v0 v1 v2 = a := by
  by_cases e1 : h = 1
  · rw [h1 (by omega), h2 (by omega)]; exact mj_12 _ _
  · by_cases e2 : h = 2
    · rw [h0 (by omega), h2 (by omega)]; exact mj_02 _ _
    · rw [h0 (by omega), h1 (by omega)]; exact mj_01 _ _
theorem rA_vote {R h : Nat → Nat} {f : Nat → Int32} (H : rA R h f) {r : Nat} (hr : r < 4) : vt (f (r * 3)) (f (r * 3 + 1)) (f (r * 3 + 2)) = nI (R r) := by
  obtain ⟨v0, -, e0, g0⟩ := H r hr 0 (by decide)
  obtain ⟨v1, -, e1, g1⟩ := H r hr 1 (by decide)
  obtain ⟨v2, -, e2, g2⟩ := H r hr 2 (by decide)
  rw [Nat.add_zero] at e0
  rw [e0, e1, e2, vt_nI, mj_h g0 g1 g2]
theorem rB_vote {at_ h4 : Nat} {f : Nat → Int32} (H : rB at_ h4 f) : vt (f 0) (f 1) (f 2) = nI at_ := by
  obtain ⟨v0, -, e0, g0⟩ := H 0 (by decide)
  obtain ⟨v1, -, e1, g1⟩ := H 1 (by decide)
  obtain ⟨v2, -, e2, g2⟩ := H 2 (by decide)
  rw [e0, e1, e2, vt_nI, mj_h g0 g1 g2]
def w3 (f : Nat → Int32) (r : Nat) (x : Int32) : Nat → Int32 := upd (upd (upd f (r * 3) x) (r * 3 + 1) x) (r * 3 + 2) x
def p3 (f : Nat → Int32) (x : Int32) : Nat → Int32 := upd (upd (upd f 0 x) 1 x) 2 x
theorem rA_w3 {R h h' : Nat → Nat} {f : Nat → Int32} (H : rA R h f) {r0 v : Nat} (hv : v < 256) (hh : ∀ r, r < 4 → r ≠ r0 → h' r = h r) : rA (va_up R r0 v) h' (w3 f r0 (nI v)) := by
  intro r hr q hq
  by_cases e : r = r0
  · subst e
    refine ⟨v, hv, ?_, fun _ => (va_up_self _ _ _).symm⟩
    rcases (by omega : q = 0 ∨ q = 1 ∨ q = 2) with rfl | rfl | rfl <;> simp [w3, upd]
  · obtain ⟨x, h1, h2, h3⟩ := H r hr q hq
    refine ⟨x, h1, ?_, fun g => ?_⟩
    · rw [← h2]
      simp only [w3, upd]
      rw [if_neg (by omega), if_neg (by omega), if_neg (by omega)]
    · rw [va_up_ne _ _ e]
      rw [hh r hr e] at g
      exact h3 g
theorem rB_p3 {f : Nat → Int32} (h4 : Nat) {v : Nat} (hv : v < 32) : rB v h4 (p3 f (nI v)) := by
  intro q hq
  refine ⟨v, hv, ?_, fun _ => rfl⟩
  rcases (by omega : q = 0 ∨ q = 1 ∨ q = 2) with rfl | rfl | rfl <;> simp [p3, upd]
theorem rE_p3 {f : Nat → Int32} (h5 : Nat) : rE h5 (p3 f 0) := by
  intro q hq
  refine ⟨0, by decide, ?_, fun _ => rfl⟩
  rcases (by omega : q = 0 ∨ q = 1 ∨ q = 2) with rfl | rfl | rfl <;> simp [p3, upd] <;> rfl
theorem rC_up {h : Nat → Nat} {f : Nat → Int32} (H : rC h f) (r0 x : Nat) {v : Int32} (hv : v = nI (hb x)) : rC (va_up h r0 x) (upd f r0 v) := by
  intro r hr
  by_cases e : r = r0
  · subst e
    simp [upd, va_up, hv]
  · simp only [upd, va_up, if_neg e]
    exact H r hr
theorem rC_eq {h h' : Nat → Nat} {f : Nat → Int32} (H : rC h f) (e : ∀ r, r < 4 → h' r = h r) : rC h' f := by
  intro r hr
  rw [e r hr]
  exact H r hr
theorem rA_eq {R h h' : Nat → Nat} {f : Nat → Int32} (H : rA R h f) (e : ∀ r, r < 4 → h' r = h r) : rA R h' f := by
  intro r hr q hq
  rw [e r hr]
  exact H r hr q hq
theorem rG_set {W W' sp : Nat → Nat} {f : Nat → Int32} (H : rG W sp f) {w0 v : Nat} (h1 : W' w0 = v) (h2 : ∀ w, w < 48 → w ≠ w0 → W' w = W w) : rG W' (va_up sp w0 0) (upd f w0 (nI (enc v (plc w0)))) := by
  intro w hw
  by_cases e : w = w0
  · subst e
    refine ⟨enc v (plc w), Nat.lt_of_lt_of_le (enc_lt v (plc_2 w)) ?_, by simp [upd], Or.inl (by rw [h1])⟩
    exact Nat.pow_le_pow_right (by decide) (by rcases plc_2 w with q | q <;> rw [q] <;> decide)
  · obtain ⟨c, g1, g2, g3⟩ := H w hw
    refine ⟨c, g1, by simp [upd, e, g2], ?_⟩
    rw [h2 w hw e, va_up_ne _ _ e]
    exact g3
theorem code_cor {v n sp c : Nat} (hn : n = 22 ∨ n = 13) (h : CodeOK v n sp c) : cor c n = enc v n := by
  rcases h with rfl | ⟨-, b, hb, rfl⟩
  · exact cor_enc v hn
  · exact cor_hit v hn hb
theorem rG_hit {W sp : Nat → Nat} {f : Nat → Int32} (H : rG W sp f) {w0 b : Nat} (hw0 : w0 < 48) (h0 : sp w0 = 0) (hb : b < plc w0) {x : Int32} (hx : ∀ c, f w0 = nI c → c < 2 ^ 31 → x = nI (c ^^^ 2 ^ b)) : rG W (va_up sp w0 1) (upd f w0 x) := by
  have hp : plc w0 ≤ 22 := by rcases plc_2 w0 with q | q <;> rw [q] <;> decide
  intro w hw
  obtain ⟨c, g1, g2, g3⟩ := H w hw
  by_cases e : w = w0
  · subst e
    have g4 : c = enc (W w) (plc w) := by
      rcases g3 with q | ⟨q, -⟩
      · exact q
      · rw [h0] at q; cases q
    refine ⟨c ^^^ 2 ^ b, ?_, ?_, Or.inr ⟨va_up_self _ _ _, b, hb, by rw [g4]⟩⟩
    · refine Nat.xor_lt_two_pow g1 (Nat.pow_lt_pow_right (by decide) (by omega))
    · simp only [upd, if_pos]
      exact hx c g2 g1
  · refine ⟨c, g1, by simp [upd, e, g2], ?_⟩
    rw [va_up_ne _ _ e]
    exact g3
theorem rH_up {sp : Nat → Nat} {f : Nat → Int32} (H : rH sp f) (w0 x : Nat) {v : Int32} (hv : v = nI x) : rH (va_up sp w0 x) (upd f w0 v) := by
  intro w hw
  by_cases e : w = w0
  · subst e
    simp [upd, va_up, hv]
  · simp only [upd, va_up, if_neg e]
    exact H w hw
theorem rL_up {pp : Nat → Nat} {f : Nat → Int32} (H : rL pp f) (i0 x : Nat) {v : Int32} (hv : v = (nI x).toInt8.toInt32) : rL (va_up pp i0 x) (upd f i0 v) := by
  intro w hw
  by_cases e : w = i0
  · subst e
    simp [upd, va_up, hv]
  · simp only [upd, va_up, if_neg e]
    exact H w hw
theorem up_self (f : Nat → Nat) (j : Nat) : va_up f j (f j) = f := by
  funext q
  unfold va_up
  split
  · next h => rw [h]
  · rfl
/-! what the machine does -/
def unsp (S : MS) (w : Nat) : MS := mu10 S (va_up (ms10 S) w 0)
def setR (S : MS) (r v : Nat) : MS := mu0 S (va_up (ms0 S) r v)
def z5 (h : Nat → Nat) : Nat → Nat := va_up (va_up (va_up (va_up (va_up h 0 0) 1 0) 2 0) 3 0) 4 0
def z6 (h : Nat → Nat) : Nat → Nat := va_up (va_up (va_up (va_up (va_up (va_up h 0 0) 1 0) 2 0) 3 0) 4 0) 5 0
theorem wd_lt {S : MS} (h : RG S) {w : Nat} (hw : w < 48) : wd S w < 65536 ∧ (32 ≤ w → wd S w < 256) := by
  obtain ⟨h0, h1, h2, -⟩ := h
  unfold wd
  by_cases e : w < 32
  · rw [if_pos e]
    have := h2 w e
    omega
  · rw [if_neg e]
    have := h1 (w - 32) (by omega)
    omega
/-- what is read off a code word -/
theorem wd_read {S : MS} (h : RG S) {w : Nat} (hw : w < 48) : dcd (enc (wd S w) (plc w)) (plc w) = wd S w := by
  have h1 := wd_lt h hw
  by_cases e : w < 32
  · rw [show plc w = 22 from if_pos e]
    exact dcd_enc22 h1.1
  · rw [show plc w = 13 from if_neg e]
    exact dcd_enc13 (h1.2 (by omega))
theorem RX.cword {S : MS} {u : XS} (h : RX S u) {w : Nat} (hw : w < 48) : ∃ c, c < 2 ^ 31 ∧ xs6 u w = nI c ∧ cor c (plc w) = enc (wd S w) (plc w) := by
  obtain ⟨-, -, -, -, -, -, hG, -⟩ := h
  obtain ⟨c, h1, h2, h3⟩ := hG w hw
  exact ⟨c, h1, h2, code_cor (plc_2 w) h3⟩
theorem RX.fix {S : MS} {u : XS} (h : RX S u) {w : Nat} (hw : w < 48) : RX (unsp S w) (xu7 (xu6 u (upd (xs6 u) w (nI (enc (wd S w) (plc w))))) (upd (xs7 u) w 0)) := by
  obtain ⟨hA, hB, hC, hD, hE, hF, hG, hH, hI, hJ, hK, hL⟩ := h
  exact ⟨hA, hB, hC, hD, hE, hF, rG_set hG rfl (fun _ _ _ => rfl), rH_up hH w 0 rfl, hI, hJ, hK, hL⟩
theorem RX.reg {S : MS} {u : XS} (h : RX S u) {r v : Nat} (hv : v < 256) : RX (setR S r v) (xu0 u (w3 (xs0 u) r (nI v))) := by
  obtain ⟨hA, hB, hC, hD, hE, hF, hG, hH, hI, hJ, hK, hL⟩ := h
  exact ⟨rA_w3 hA hv (fun _ _ _ => rfl), hB, hC, hD, hE, hF, hG, hH, hI, hJ, hK, hL⟩
theorem up_4 {h : Nat → Nat} {r x : Nat} (j : Nat) (hj : j ≠ r) : va_up h r x j = h j := va_up_ne _ _ hj
/-- a register is written, its hits forgotten -/
theorem RX.regc {S : MS} {u : XS} (h : RX S u) {r v : Nat} (hr : r < 4) (hv : v < 256) : RX (mu11 (setR S r v) (va_up (ms11 S) r 0)) (xu2 (xu0 u (w3 (xs0 u) r (nI v))) (upd (xs2 u) r 0)) := by
  obtain ⟨hA, hB, hC, hD, hE, hF, hG, hH, hI, hJ, hK, hL⟩ := h
  have e4 : va_up (ms11 S) r 0 4 = ms11 S 4 := up_4 4 (by omega)
  have e5 : va_up (ms11 S) r 0 5 = ms11 S 5 := up_4 5 (by omega)
  refine ⟨rA_w3 hA hv (fun q _ hq => up_4 q hq), ?_, rC_up hC r 0 rfl, ?_, ?_, ?_, hG, hH, hI, hJ, hK, hL⟩
  · show rB (ms5 S) (va_up (ms11 S) r 0 4) (xs1 u)
    rw [e4]; exact hB
  · show xs3 u = nI (hb (va_up (ms11 S) r 0 4))
    rw [e4]; exact hD
  · show rE (va_up (ms11 S) r 0 5) (xs4 u)
    rw [e5]; exact hE
  · show xs5 u = nI (hb (va_up (ms11 S) r 0 5))
    rw [e5]; exact hF
/-- the place is written -/
theorem RX.wplc {S : MS} {u : XS} (h : RX S u) {v : Nat} (hv : v < 32) : RX (mu5 S v) (xu1 u (p3 (xs1 u) (nI v))) := by
  obtain ⟨hA, hB, hC, hD, hE, hF, hG, hH, hI, hJ, hK, hL⟩ := h
  exact ⟨hA, rB_p3 _ hv, hC, hD, hE, hF, hG, hH, hI, hJ, hK, hL⟩
/-- the place is written, its hits forgotten -/
theorem RX.wplcc {S : MS} {u : XS} (h : RX S u) {v : Nat} (hv : v < 32) : RX (mu11 (mu5 S v) (va_up (ms11 S) 4 0)) (xu3 (xu1 u (p3 (xs1 u) (nI v))) 0) := by
  obtain ⟨hA, hB, hC, hD, hE, hF, hG, hH, hI, hJ, hK, hL⟩ := h
  refine ⟨rA_eq hA (fun r hr => up_4 r (by omega)), rB_p3 _ hv, rC_eq hC (fun r hr => up_4 r (by omega)), rfl, ?_, ?_, hG, hH, hI, hJ, hK, hL⟩
  · show rE (va_up (ms11 S) 4 0 5) (xs4 u)
    rw [up_4 5 (by omega)]; exact hE
  · show xs5 u = nI (hb (va_up (ms11 S) 4 0 5))
    rw [up_4 5 (by omega)]; exact hF
/-- the work's masks are taken away -/
theorem RX.wrkc {S : MS} {u : XS} (h : RX S u) : RX (mu11 S (va_up (ms11 S) 5 0)) (xu5 (xu4 u (p3 (xs4 u) 0)) 0) := by
  obtain ⟨hA, hB, hC, hD, hE, hF, hG, hH, hI, hJ, hK, hL⟩ := h
  refine ⟨rA_eq hA (fun r hr => up_4 r (by omega)), ?_, rC_eq hC (fun r hr => up_4 r (by omega)), ?_, rE_p3 _, rfl, hG, hH, hI, hJ, hK, hL⟩
  · show rB (ms5 S) (va_up (ms11 S) 5 0 4) (xs1 u)
    rw [up_4 4 (by omega)]; exact hB
  · show xs3 u = nI (hb (va_up (ms11 S) 5 0 4))
    rw [up_4 4 (by omega)]; exact hD
theorem RX.res {S : MS} {u : XS} (h : RX S u) (f : Nat → Int32) : RX S (xu12 u f) := h
theorem RX.stop {S : MS} {u : XS} (h : RX S u) (x : Nat) : RX (mu8 S x) (xu9 u (nI x)) := by
  obtain ⟨hA, hB, hC, hD, hE, hF, hG, hH, hI, hJ, hK, hL⟩ := h
  exact ⟨hA, hB, hC, hD, hE, hF, hG, hH, hI, rfl, hK, hL⟩
theorem RX.cell {S : MS} {u : XS} (h : RX S u) {q v : Nat} (hq : q < 16) : RX (unsp (mu1 S (va_up (ms1 S) q v)) (32 + q)) (xu7 (xu6 u (upd (xs6 u) (32 + q) (nI (enc v (plc (32 + q)))))) (upd (xs7 u) (32 + q) 0)) := by
  obtain ⟨hA, hB, hC, hD, hE, hF, hG, hH, hI, hJ, hK, hL⟩ := h
  refine ⟨hA, hB, hC, hD, hE, hF, rG_set (W' := wd (unsp (mu1 S (va_up (ms1 S) q v)) (32 + q))) hG ?_ ?_, rH_up hH (32 + q) 0 rfl, hI, hJ, hK, hL⟩
  · unfold wd unsp
    rw [if_neg (by omega)]
    show va_up (ms1 S) q v (32 + q - 32) = v
    rw [show 32 + q - 32 = q by omega, va_up_self]
  · intro w hw hne
    unfold wd unsp
    by_cases e : w < 32
    · rw [if_pos e, if_pos e]
    · rw [if_neg e, if_neg e]
      show va_up (ms1 S) q v (w - 32) = ms1 S (w - 32)
      exact va_up_ne _ _ (by omega)
def setS (S : MS) (q o r n : Nat) : MS := mu10 (mu4 (mu3 (mu2 S (va_up (ms2 S) q o)) (va_up (ms3 S) q r)) (va_up (ms4 S) q n)) (va_up (ms10 S) q 0)
theorem RX.prog {S : MS} {u : XS} (h : RX S u) {q o r n : Nat} (hq : q < 32) : RX (setS S q o r n) (xu7 (xu6 u (upd (xs6 u) q (nI (enc (o + 16 * r + 64 * n) (plc q))))) (upd (xs7 u) q 0)) := by
  obtain ⟨hA, hB, hC, hD, hE, hF, hG, hH, hI, hJ, hK, hL⟩ := h
  refine ⟨hA, hB, hC, hD, hE, hF, rG_set (W' := wd (setS S q o r n)) hG ?_ ?_, rH_up hH q 0 rfl, hI, hJ, hK, hL⟩
  · unfold wd setS
    rw [if_pos hq]
    show va_up (ms2 S) q o q + 16 * va_up (ms3 S) q r q + 64 * va_up (ms4 S) q n q = _
    rw [va_up_self, va_up_self, va_up_self]
  · intro w hw hne
    unfold wd setS
    by_cases e : w < 32
    · rw [if_pos e, if_pos e]
      show va_up (ms2 S) q o w + 16 * va_up (ms3 S) q r w + 64 * va_up (ms4 S) q n w = _
      rw [va_up_ne _ _ hne, va_up_ne _ _ hne, va_up_ne _ _ hne]
    · rw [if_neg e, if_neg e]
theorem RX.out {S : MS} {u : XS} (h : RX S u) {v : Nat} {x : Int32} (hx : x = (nI v).toInt8.toInt32) : RX (mu6 (mu7 S (va_up (ms7 S) (ms6 S) v)) (ms6 S + 1)) (xu10 (xu11 u (upd (xs11 u) (ms6 S) x)) (nI (ms6 S + 1))) := by
  obtain ⟨hA, hB, hC, hD, hE, hF, hG, hH, hI, hJ, hK, hL⟩ := h
  exact ⟨hA, hB, hC, hD, hE, hF, hG, hH, hI, hJ, rfl, rL_up hL _ _ hx⟩
theorem RX.done {S : MS} {u : XS} (h : RX S u) : RX (mu9 S (ms9 S + 1)) (xu8 u (nI ((ms9 S + 1) % 48))) := by
  obtain ⟨hA, hB, hC, hD, hE, hF, hG, hH, hI, hJ, hK, hL⟩ := h
  exact ⟨hA, hB, hC, hD, hE, hF, hG, hH, rfl, hJ, hK, hL⟩
/-- what comes out of three workings of which one may be masked -/
theorem RX.work {S : MS} {u : XS} (h : RX S u) (a : Nat) : vt (nI a ^^^ xs4 u 0) (nI a ^^^ xs4 u 1) (nI a ^^^ xs4 u 2) = nI a := by
  obtain ⟨-, -, -, -, hE, -⟩ := h
  obtain ⟨v0, -, e0, g0⟩ := hE 0 (by decide)
  obtain ⟨v1, -, e1, g1⟩ := hE 1 (by decide)
  obtain ⟨v2, -, e2, g2⟩ := hE 2 (by decide)
  rw [e0, e1, e2, nx_xor, nx_xor, nx_xor, vt_nI, mj_h (h := ms11 S 5) (a := a) (fun q => by rw [g0 q, Nat.xor_zero]) (fun q => by rw [g1 q, Nat.xor_zero]) (fun q => by rw [g2 q, Nat.xor_zero])]
/-- a register's copies where it wasn't hit -/
theorem RX.cp {S : MS} {u : XS} (h : RX S u) {r : Nat} (hr : r < 4) (h0 : ms11 S r = 0) (q : Nat) (hq : q < 3) : xs0 u (r * 3 + q) = nI (ms0 S r) := by
  obtain ⟨v, -, e, g⟩ := h.1 r hr q hq
  rw [e, g (by rw [h0]; omega)]
theorem RX.vreg {S : MS} {u : XS} (h : RX S u) {r : Nat} (hr : r < 4) : vt (xs0 u (r * 3)) (xs0 u (r * 3 + 1)) (xs0 u (r * 3 + 2)) = nI (ms0 S r) := rA_vote h.1 hr
theorem RX.vplc {S : MS} {u : XS} (h : RX S u) : vt (xs1 u 0) (xs1 u 1) (xs1 u 2) = nI (ms5 S) := rB_vote h.2.1
end
section
theorem enc_31 (v w : Nat) : enc v (plc w) < 2 ^ 31 := Nat.lt_of_lt_of_le (enc_lt v (plc_2 w)) (Nat.pow_le_pow_right (by decide) (by rcases plc_2 w with q | q <;> rw [q] <;> decide))
theorem RG.uns {S : MS} (h : RG S) (w : Nat) : RG (unsp S w) := by
  obtain ⟨h0, h1, h2, h3, h4, h5, h6, h7, h8⟩ := h
  refine ⟨h0, h1, h2, h3, h4, h5, h6, fun v hv => ?_, h8⟩
  show va_up (ms10 S) w 0 v ≤ 1
  unfold va_up
  split
  · omega
  · exact h7 v hv
theorem RG.hits {S : MS} (h : RG S) {f : Nat → Nat} (hf : ∀ j, j < 6 → f j ≤ 3) : RG (mu11 S f) := by
  obtain ⟨h0, h1, h2, h3, h4, h5, h6, h7, h8⟩ := h
  exact ⟨h0, h1, h2, h3, h4, h5, h6, h7, hf⟩
theorem RX.regv {S : MS} {u : XS} (h : RX S u) {r : Nat} (hr : r < 4) (hv : ms0 S r < 256) : RX (mu11 S (va_up (ms11 S) r 0)) (xu2 (xu0 u (w3 (xs0 u) r (nI (ms0 S r)))) (upd (xs2 u) r 0)) := by
  have h1 := h.regc hr hv
  unfold setR at h1
  rw [up_self] at h1
  exact h1
end
section
/-! what one step does to the pure state, and the two ways to say it -/
theorem RX.oc {S : MS} {u : XS} (h : RX S u) : xs10 u = nI (ms6 S) := h.2.2.2.2.2.2.2.2.2.2.1
theorem RX.st {S : MS} {u : XS} (h : RX S u) : xs9 u = nI (ms8 S) := h.2.2.2.2.2.2.2.2.2.1
theorem RX.sd {S : MS} {u : XS} (h : RX S u) : xs8 u = nI (ms9 S % 48) := h.2.2.2.2.2.2.2.2.1
theorem RX.sp {S : MS} {u : XS} (h : RX S u) {w : Nat} (hw : w < 48) : xs7 u w = nI (ms10 S w) := h.2.2.2.2.2.2.2.1 w hw
theorem RX.ol {S : MS} {u : XS} (h : RX S u) {i : Nat} (hi : i < 16) : xs11 u i = (nI (ms7 S i)).toInt8.toInt32 := h.2.2.2.2.2.2.2.2.2.2.2 i hi
theorem wd_cell (S : MS) (q : Nat) : wd S (32 + q) = ms1 S q := by
  unfold wd
  rw [if_neg (by omega), show 32 + q - 32 = q by omega]
theorem rem_n {a d : Nat} (ha : a < 2 ^ 31) (h0 : 0 < d) (hd : d < 2 ^ 31) : nI a - nI a / nI d * nI d = nI (a % d) := pk_rem ha h0 hd
theorem rem48 (d : Nat) : nI (d % 48) - nI (d % 48) / 48 * 48 = nI (d % 48) := by
  have h := rem_n (a := d % 48) (d := 48) (by omega) (by omega) (by omega)
  rw [Nat.mod_mod] at h
  exact h
theorem rem48s (d : Nat) : nI (d % 48 + 1) - nI (d % 48 + 1) / 48 * 48 = nI ((d + 1) % 48) := by
  have h := rem_n (a := d % 48 + 1) (d := 48) (by omega) (by omega) (by omega)
  rw [show (d % 48 + 1) % 48 = (d + 1) % 48 by omega] at h
  exact h
def useS (S : MS) (q r wr : Nat) : MS := if wr = 1 then mu10 (mu1 S (va_up (ms1 S) q (ms0 S r))) (va_up (ms10 S) (32 + q) 0) else mu10 (mu0 S (va_up (ms0 S) r (ms1 S q))) (va_up (ms10 S) (32 + q) 0)
def outS (S : MS) (v : Nat) : MS := if ms6 S = 16 then mu8 S 1 else mu6 (mu7 S (va_up (ms7 S) (ms6 S) v)) (ms6 S + 1)
def clc (op x y n : Nat) : Nat := if op = 1 then n else if op = 4 then (x + y) % 256 else if op = 5 then (x + 256 - y) % 256 else if op = 6 then x &&& y else if op = 7 then x ^^^ y else if op = 8 then x / 2 else x
/-- the step's operation op, r, n at the place a on the state S; the next place -/
def brS (S : MS) (op r n a : Nat) : MS × Nat :=
  if op = 0 then (mu8 S 1, (a + 1) % 32)
  else if op = 2 ∨ op = 3 then (useS S (n % 16) r (if op = 3 then 1 else 0), (a + 1) % 32)
  else if op = 12 ∨ op = 13 then (useS S (ms0 S (n % 4) % 16) r (if op = 13 then 1 else 0), (a + 1) % 32)
  else if op = 11 then (outS S (ms0 S r), (a + 1) % 32)
  else if op = 9 ∨ (op = 10 ∧ ms0 S r = 0) then (S, n % 32)
  else (mu0 S (va_up (ms0 S) r (clc op (ms0 S r) (ms0 S (n % 4)) n)), (a + 1) % 32)
/-- the end of a step, from the state and the next place -/
def endS (b : MS × Nat) (a : Nat) : MS :=
  mu11 (mu9 (mu10 (mu5 b.1 (if ms8 b.1 = 1 then a else b.2)) (va_up (ms10 b.1) (ms9 b.1 % 48) 0)) (ms9 b.1 + 1)) (z6 (ms11 b.1))
def onceS (S : MS) : MS := endS (brS (unsp S (ms5 S)) (ms2 S (ms5 S)) (ms3 S (ms5 S)) (ms4 S (ms5 S)) (ms5 S)) (ms5 S)
/-- the shielded machine's way: hits forgotten first -/
def preS (S : MS) : MS := unsp (mu11 S (z5 (ms11 S))) (ms5 S)
def finS (S : MS) (on : Nat) : MS := mu9 (unsp (mu11 (mu5 S on) (va_up (ms11 S) 5 0)) (ms9 S % 48)) (ms9 S + 1)
def swS (S : MS) (op r n : Nat) : MS := if op = 0 then mu8 S 1 else if op = 1 then setR S r n else useS S (if op = 12 ∨ op = 13 then ms0 S (n % 4) % 16 else n % 16) r (if op = 3 ∨ op = 13 then 1 else 0)
def swR (op a on : Nat) : Nat := if op = 0 then a else on
def soS (S : MS) (op r : Nat) : MS := if op = 11 then outS S (ms0 S r) else S
def soR (S : MS) (op r n a on : Nat) : Nat := if op = 9 then n % 32 else if op = 10 then (if ms0 S r = 0 then n % 32 else on) else if ms6 S = 16 then a else on
theorem fin_end (T : MS) {on on' a : Nat} (h : (if ms8 T = 1 then a else on') = on) : finS (mu11 T (z5 (ms11 T))) on = endS (T, on') a := by
  unfold finS endS unsp
  dsimp only
  rw [h]
  obtain ⟨t0, t1, t2, t3, t4, t5, t6, t7, t8, t9, t10, t11⟩ := T
  dsimp only [ms0, ms1, ms2, ms3, ms4, ms5, ms6, ms7, ms8, ms9, ms10, ms11, mu0, mu1, mu2, mu3, mu4, mu5, mu6, mu7, mu8, mu9, mu10, mu11, z5, z6]
/-- the hits forgotten -/
def h5 (T : MS) : MS := mu11 T (z5 (ms11 T))
theorem pre_h5 (S : MS) : preS S = h5 (unsp S (ms5 S)) := by
  obtain ⟨t0, t1, t2, t3, t4, t5, t6, t7, t8, t9, t10, t11⟩ := S
  dsimp only [preS, h5, unsp, ms0, ms1, ms2, ms3, ms4, ms5, ms6, ms7, ms8, ms9, ms10, ms11, mu0, mu1, mu2, mu3, mu4, mu5, mu6, mu7, mu8, mu9, mu10, mu11]
theorem h5_use (T : MS) (q r wr : Nat) : useS (h5 T) q r wr = h5 (useS T q r wr) := by
  obtain ⟨t0, t1, t2, t3, t4, t5, t6, t7, t8, t9, t10, t11⟩ := T
  by_cases h : wr = 1
  · rw [useS, if_pos h, useS, if_pos h]
    dsimp only [h5, ms0, ms1, ms2, ms3, ms4, ms5, ms6, ms7, ms8, ms9, ms10, ms11, mu0, mu1, mu2, mu3, mu4, mu5, mu6, mu7, mu8, mu9, mu10, mu11]
  · rw [useS, if_neg h, useS, if_neg h]
    dsimp only [h5, ms0, ms1, ms2, ms3, ms4, ms5, ms6, ms7, ms8, ms9, ms10, ms11, mu0, mu1, mu2, mu3, mu4, mu5, mu6, mu7, mu8, mu9, mu10, mu11]
theorem h5_out (T : MS) (v : Nat) : outS (h5 T) v = h5 (outS T v) := by
  by_cases h : ms6 T = 16
  · have h2 : ms6 (h5 T) = 16 := h
    rw [outS, if_pos h2, outS, if_pos h]
    obtain ⟨t0, t1, t2, t3, t4, t5, t6, t7, t8, t9, t10, t11⟩ := T
    dsimp only [h5, ms0, ms1, ms2, ms3, ms4, ms5, ms6, ms7, ms8, ms9, ms10, ms11, mu0, mu1, mu2, mu3, mu4, mu5, mu6, mu7, mu8, mu9, mu10, mu11]
  · have h2 : ¬ ms6 (h5 T) = 16 := h
    rw [outS, if_neg h2, outS, if_neg h]
    obtain ⟨t0, t1, t2, t3, t4, t5, t6, t7, t8, t9, t10, t11⟩ := T
    dsimp only [h5, ms0, ms1, ms2, ms3, ms4, ms5, ms6, ms7, ms8, ms9, ms10, ms11, mu0, mu1, mu2, mu3, mu4, mu5, mu6, mu7, mu8, mu9, mu10, mu11]
theorem h5_8 (T : MS) (x : Nat) : mu8 (h5 T) x = h5 (mu8 T x) := by
  obtain ⟨t0, t1, t2, t3, t4, t5, t6, t7, t8, t9, t10, t11⟩ := T
  dsimp only [h5, ms0, ms1, ms2, ms3, ms4, ms5, ms6, ms7, ms8, ms9, ms10, ms11, mu0, mu1, mu2, mu3, mu4, mu5, mu6, mu7, mu8, mu9, mu10, mu11]
theorem h5_0 (T : MS) (x : Nat → Nat) : mu0 (h5 T) x = h5 (mu0 T x) := by
  obtain ⟨t0, t1, t2, t3, t4, t5, t6, t7, t8, t9, t10, t11⟩ := T
  dsimp only [h5, ms0, ms1, ms2, ms3, ms4, ms5, ms6, ms7, ms8, ms9, ms10, ms11, mu0, mu1, mu2, mu3, mu4, mu5, mu6, mu7, mu8, mu9, mu10, mu11]
theorem use_8 (T : MS) (q r wr : Nat) : ms8 (useS T q r wr) = ms8 T := by
  unfold useS
  split <;> rfl
theorem once_sw {S : MS} (h8 : ms8 S = 0) {op r n : Nat} (e1 : ms2 S (ms5 S) = op) (e2 : ms3 S (ms5 S) = r) (e3 : ms4 S (ms5 S) = n) (hop : op = 0 ∨ op = 1 ∨ op = 2 ∨ op = 3 ∨ op = 12 ∨ op = 13) : finS (swS (preS S) op r n) (swR op (ms5 S) ((ms5 S + 1) % 32)) = onceS S := by
  unfold onceS
  rw [e1, e2, e3, pre_h5]
  have g8 : ms8 (unsp S (ms5 S)) = 0 := h8
  generalize unsp S (ms5 S) = T at g8
  generalize ms5 S = a
  rcases hop with rfl | rfl | rfl | rfl | rfl | rfl
  · show finS (mu8 (h5 T) 1) a = endS (mu8 T 1, (a + 1) % 32) a
    rw [h5_8]
    exact fin_end (mu8 T 1) (if_pos rfl)
  · show finS (mu0 (h5 T) (va_up (ms0 T) r n)) ((a + 1) % 32) = endS (mu0 T (va_up (ms0 T) r n), (a + 1) % 32) a
    rw [h5_0]
    exact fin_end (mu0 T _) (if_neg (by show ¬ ms8 T = 1; rw [g8]; decide))
  · show finS (useS (h5 T) (n % 16) r 0) ((a + 1) % 32) = endS (useS T (n % 16) r 0, (a + 1) % 32) a
    rw [h5_use]
    exact fin_end (useS T _ _ _) (if_neg (by rw [use_8, g8]; decide))
  · show finS (useS (h5 T) (n % 16) r 1) ((a + 1) % 32) = endS (useS T (n % 16) r 1, (a + 1) % 32) a
    rw [h5_use]
    exact fin_end (useS T _ _ _) (if_neg (by rw [use_8, g8]; decide))
  · show finS (useS (h5 T) (ms0 T (n % 4) % 16) r 0) ((a + 1) % 32) = endS (useS T (ms0 T (n % 4) % 16) r 0, (a + 1) % 32) a
    rw [h5_use]
    exact fin_end (useS T _ _ _) (if_neg (by rw [use_8, g8]; decide))
  · show finS (useS (h5 T) (ms0 T (n % 4) % 16) r 1) ((a + 1) % 32) = endS (useS T (ms0 T (n % 4) % 16) r 1, (a + 1) % 32) a
    rw [h5_use]
    exact fin_end (useS T _ _ _) (if_neg (by rw [use_8, g8]; decide))
theorem once_wk {S : MS} (h8 : ms8 S = 0) {op r n : Nat} (e1 : ms2 S (ms5 S) = op) (e2 : ms3 S (ms5 S) = r) (e3 : ms4 S (ms5 S) = n) (hop : op = 4 ∨ op = 5 ∨ op = 6 ∨ op = 7 ∨ op = 8) : finS (setR (preS S) r (wo op (ms0 S r) (ms0 S (n % 4)) n)) ((ms5 S + 1) % 32) = onceS S := by
  unfold onceS
  rw [e1, e2, e3, pre_h5]
  have g8 : ms8 (unsp S (ms5 S)) = 0 := h8
  have e0 : ms0 S = ms0 (unsp S (ms5 S)) := rfl
  rw [e0]
  generalize unsp S (ms5 S) = T at g8
  generalize ms5 S = a
  have key : ∀ v, finS (mu0 (h5 T) (va_up (ms0 T) r v)) ((a + 1) % 32) = endS (mu0 T (va_up (ms0 T) r v), (a + 1) % 32) a := by
    intro v
    rw [h5_0]
    exact fin_end (mu0 T _) (if_neg (by show ¬ ms8 T = 1; rw [g8]; decide))
  rcases hop with rfl | rfl | rfl | rfl | rfl
  · exact key _
  · exact key _
  · exact key _
  · exact key _
  · exact key _
theorem once_so {S : MS} (h8 : ms8 S = 0) {op r n : Nat} (e1 : ms2 S (ms5 S) = op) (e2 : ms3 S (ms5 S) = r) (e3 : ms4 S (ms5 S) = n) (hop : op = 9 ∨ op = 10 ∨ op = 11) : finS (soS (preS S) op r) (soR (preS S) op r n (ms5 S) ((ms5 S + 1) % 32)) = onceS S := by
  unfold onceS
  rw [e1, e2, e3, pre_h5]
  have g8 : ms8 (unsp S (ms5 S)) = 0 := h8
  generalize unsp S (ms5 S) = T at g8
  generalize ms5 S = a
  have nh : ¬ ms8 T = 1 := by rw [g8]; decide
  rcases hop with rfl | rfl | rfl
  · show finS (h5 T) (n % 32) = endS (T, n % 32) a
    exact fin_end T (if_neg nh)
  · show finS (h5 T) (if ms0 T r = 0 then n % 32 else (a + 1) % 32) = _
    by_cases h : ms0 T r = 0
    · rw [if_pos h, show brS T 10 r n a = (T, n % 32) from (if_pos (Or.inr ⟨rfl, h⟩))]
      exact fin_end T (if_neg nh)
    · have e : brS T 10 r n a = (mu0 T (va_up (ms0 T) r (ms0 T r)), (a + 1) % 32) := by
        show (if 10 = 9 ∨ (10 = 10 ∧ ms0 T r = 0) then (T, n % 32) else (mu0 T (va_up (ms0 T) r (ms0 T r)), (a + 1) % 32)) = _
        exact if_neg (by rintro (q | q); exact absurd q (by decide); exact h q.2)
      rw [if_neg h, e, up_self]
      exact fin_end T (if_neg nh)
  · show finS (outS (h5 T) (ms0 T r)) (if ms6 T = 16 then a else (a + 1) % 32) = endS (outS T (ms0 T r), (a + 1) % 32) a
    rw [h5_out]
    refine fin_end (outS T (ms0 T r)) ?_
    unfold outS
    by_cases h : ms6 T = 16
    · rw [if_pos h, if_pos h]
      exact if_pos rfl
    · rw [if_neg h, if_neg h]
      exact if_neg nh
theorem RG.z5_ {S : MS} (h : RG S) : RG (mu11 S (z5 (ms11 S))) := by
  refine RG.hits h ?_
  intro j hj
  have := h.2.2.2.2.2.2.2.2 j hj
  unfold z5 va_up
  repeat' split
  all_goals omega
theorem RG.pre {S : MS} (h : RG S) : RG (preS S) := RG.uns (RG.z5_ h) _
theorem pre_h0 (S : MS) : ∀ j, j < 4 → ms11 (preS S) j = 0 := by
  intro j hj
  rcases (by omega : j = 0 ∨ j = 1 ∨ j = 2 ∨ j = 3) with rfl | rfl | rfl | rfl <;> rfl
/-- the word of a step, taken apart -/
theorem wd_op {S : MS} (h : RG S) (a : Nat) (ha : a < 32) : wd S a % 16 = ms2 S a ∧ wd S a / 2 ^ 4 % 4 = ms3 S a ∧ wd S a / 2 ^ 6 % 256 = ms4 S a ∧ wd S a < 2 ^ 31 := by
  have h2 := h.2.2.1 a ha
  unfold wd
  rw [if_pos ha]
  omega
theorem soR_lt {S : MS} (h : RG S) {op r n a on : Nat} (ha : a < 32) (ho : on < 32) : soR S op r n a on < 32 := by
  unfold soR
  repeat' split
  all_goals omega
theorem swR_lt {op a on : Nat} (ha : a < 32) (ho : on < 32) : swR op a on < 32 := by
  unfold swR
  split <;> omega
theorem wo_lt {op a b n : Nat} (hop : op = 1 ∨ op = 4 ∨ op = 5 ∨ op = 6 ∨ op = 7 ∨ op = 8 ∨ op = 9) (ha : a < 256) (hb : b < 256) (hn : n < 256) : wo op a b n < 256 := by
  have h6 : a &&& b ≤ a := Nat.and_le_left
  have h7 : a ^^^ b < 2 ^ 8 := Nat.xor_lt_two_pow (by omega) (by omega)
  unfold wo
  repeat' split
  all_goals omega
end
section
/-! the machine's calls on the pure state: answer and new state -/
abbrev cl (x : Int32) : Nat := x.toNatClampNeg
theorem cl_n {j : Nat} (h : j < 2 ^ 31) : cl (nI j) = j := nI_clamp h
def ivm (x : Int32) (n : Nat) : Nat := if x < 1 then 0 else if nI n < x then 0 else 1
theorem ivm_lt {x : Int32} {n : Nat} (h : x < 1) : ivm x n = 0 := if_pos h
theorem ivm_gt {x : Int32} {n : Nat} (h : ¬ x < 1) (h2 : nI n < x) : ivm x n = 0 := by unfold ivm; rw [if_neg h, if_pos h2]
theorem ivm_in {x : Int32} {n : Nat} (h : ¬ x < 1) (h2 : ¬ nI n < x) : ivm x n = 1 := by unfold ivm; rw [if_neg h, if_neg h2]
theorem ivm_of {x : Int32} {n : Nat} (h : ivm x n = 1) (hn : n < 2 ^ 30) : ∃ j : Nat, j < n + 1 ∧ x = nI j := by
  unfold ivm at h
  by_cases h1 : x < 1
  · rw [if_pos h1] at h; cases h
  · rw [if_neg h1] at h
    by_cases h2 : nI n < x
    · rw [if_pos h2] at h; cases h
    · have h0 : ¬ x < 0 := by
        intro q
        refine h1 ?_
        rw [Int32.lt_iff_toInt_lt] at q ⊢
        have e0 : (0 : Int32).toInt = 0 := by decide
        have e1 : (1 : Int32).toInt = 1 := by decide
        omega
      obtain ⟨j, hj, rfl⟩ := nI_of h0
      exact ⟨j, by have := nlt_of h2; omega, rfl⟩
def oSet (S : MS) (q o r n : Int32) : Nat × MS := if iv q 32 = 1 ∧ iv o 14 = 1 ∧ iv r 4 = 1 ∧ iv n 256 = 1 then (1, setS S (cl q) (cl o) (cl r) (cl n)) else (0, S)
def datS (S : MS) (q v : Nat) : MS := mu10 (mu1 S (va_up (ms1 S) q v)) (va_up (ms10 S) (32 + q) 0)
def oDat (S : MS) (q v : Int32) : Nat × MS := if iv q 16 = 1 ∧ iv v 256 = 1 then (1, datS S (cl q) (cl v)) else (0, S)
def runS : Nat → MS → Nat × MS
  | 0, S => (0, S)
  | n + 1, S => if ms8 S = 0 then ((runS n (onceS S)).1 + 1, (runS n (onceS S)).2) else (0, S)
def oRun (S : MS) (n : Int32) : Int32 × MS := if iv n 101 = 1 then (nI (runS (cl n) S).1, (runS (cl n) S).2) else (-1, S)
def z4 (f : Nat → Nat) : Nat → Nat := va_up (va_up (va_up (va_up f 0 0) 1 0) 2 0) 3 0
def rstS (S : MS) : MS := mu11 (mu8 (mu6 (mu5 (mu0 S (z4 (ms0 S))) 0) 0) 0) (z6 (ms11 S))
def oHit (S : MS) (what : Nat) (q : Int32) (ok : Nat) : Nat × MS := if ok = 1 ∧ iv q 3 = 1 ∧ (ms11 S what = 0 ∨ ms11 S what = cl q + 1) then (1, mu11 S (va_up (ms11 S) what (cl q + 1))) else (0, S)
def oHitR (S : MS) (r q k : Int32) : Nat × MS := if iv r 4 = 1 then oHit S (cl r) q (ivm k 255) else (0, S)
def oHitP (S : MS) (q k : Int32) : Nat × MS := oHit S 4 q (ivm k 31)
def oHitW (S : MS) (q k : Int32) : Nat × MS := oHit S 5 q (ivm k 255)
def oSpl (S : MS) (w : Nat) : Nat × MS := if ms10 S w = 0 then (1, mu10 S (va_up (ms10 S) w 1)) else (0, S)
def oHitD (S : MS) (q b : Int32) : Nat × MS := if iv q 16 = 1 ∧ iv b 13 = 1 then oSpl S (32 + cl q) else (0, S)
def oHitG (S : MS) (q b : Int32) : Nat × MS := if iv q 32 = 1 ∧ iv b 22 = 1 then oSpl S (cl q) else (0, S)
def aReg (S : MS) (x : Int32) : Int32 := if iv x 4 = 1 then nI (ms0 S (cl x)) else -1
def aDat (S : MS) (x : Int32) : Int32 := if iv x 16 = 1 then nI (ms1 S (cl x)) else -1
def aOut (S : MS) (x : Int32) : Int32 := if x < 0 then -1 else if nI (ms6 S) ≤ x then -1 else nI (ms7 S (cl x))
def cnt (f : Nat → Nat) : Nat → Nat
  | 0 => 0
  | i + 1 => cnt f i + f i
theorem oSpl_le (S : MS) (w : Nat) : (oSpl S w).1 ≤ 1 := by unfold oSpl; split <;> simp
theorem nzb {a : Nat} (h : a ≤ 1) : narrow .boolean (.int (nI a)) = .int (nI a) := by
  rcases (by omega : a = 0 ∨ a = 1) with rfl | rfl <;> rfl
theorem pk1 {o r : Nat} (ho : o < 16) : nI o ||| nI (r * 2 ^ 4) = nI (o + 16 * r) := by
  rw [nx_or, Nat.or_comm, Nat.mul_comm r, ← Nat.two_pow_add_eq_or_of_lt (i := 4) ho]
  congr 1
  omega
theorem pk2 {o n : Nat} (ho : o < 64) : nI o ||| nI (n * 2 ^ 6) = nI (o + 64 * n) := by
  rw [nx_or, Nat.or_comm, Nat.mul_comm n, ← Nat.two_pow_add_eq_or_of_lt (i := 6) ho]
  congr 1
  omega
theorem hb_ok : ∀ h, h < 4 → ∀ c, c < 3 → ((nI (hb h) &&& ((1 <<< (nI c &&& 31)) ^^^ (-1))) = 0 ↔ (h = 0 ∨ h = c + 1)) := by decide +kernel
theorem hb_st : ∀ c, c < 3 → vp_nar .byte ((1 : Int32) <<< (nI c &&& 31)).toInt8.toInt32 = nI (hb (c + 1)) := by decide +kernel
theorem hb_sh : ∀ c, c < 3 → (1 : Int32) <<< (nI c &&& 31) = nI (hb (c + 1)) := by decide +kernel
theorem RX.hitR {S : MS} {u : XS} (h : RX S u) {r q k : Nat} (hr : r < 4) (hq : q < 3) (hk : k < 256) (h0 : ms11 S r = 0 ∨ ms11 S r = q + 1) : RX (mu11 S (va_up (ms11 S) r (q + 1))) (xu2 (xu0 u (upd (xs0 u) (r * 3 + q) (xs0 u (r * 3 + q) ^^^ nI k))) (upd (xs2 u) r (nI (hb (q + 1))))) := by
  obtain ⟨hA, hB, hC, hD, hE, hF, hG, hH, hI, hJ, hK, hL⟩ := h
  have e4 : va_up (ms11 S) r (q + 1) 4 = ms11 S 4 := up_4 4 (by omega)
  have e5 : va_up (ms11 S) r (q + 1) 5 = ms11 S 5 := up_4 5 (by omega)
  refine ⟨?_, ?_, rC_up hC r (q + 1) rfl, ?_, ?_, ?_, hG, hH, hI, hJ, hK, hL⟩
  · intro r' hr' q' hq'
    obtain ⟨v, g1, g2, g3⟩ := hA r' hr' q' hq'
    show ∃ v, v < 256 ∧ upd (xs0 u) (r * 3 + q) (xs0 u (r * 3 + q) ^^^ nI k) (r' * 3 + q') = nI v ∧ (va_up (ms11 S) r (q + 1) r' ≠ q' + 1 → v = ms0 S r')
    by_cases e : r' * 3 + q' = r * 3 + q
    · have e1 : r' = r := by omega
      have e2 : q' = q := by omega
      subst e1; subst e2
      refine ⟨v ^^^ k, ?_, ?_, fun g => absurd (va_up_self _ _ _) g⟩
      · have : v ^^^ k < 2 ^ 8 := Nat.xor_lt_two_pow (by omega) (by omega)
        omega
      · simp only [upd, if_pos]
        rw [g2, nx_xor]
    · refine ⟨v, g1, ?_, fun g => ?_⟩
      · simp only [upd, if_neg e]
        exact g2
      · by_cases e1 : r' = r
        · subst e1
          refine g3 ?_
          have : q' ≠ q := by omega
          omega
        · rw [up_4 r' e1] at g
          exact g3 g
  · show rB (ms5 S) (va_up (ms11 S) r (q + 1) 4) (xs1 u)
    rw [e4]; exact hB
  · show xs3 u = nI (hb (va_up (ms11 S) r (q + 1) 4))
    rw [e4]; exact hD
  · show rE (va_up (ms11 S) r (q + 1) 5) (xs4 u)
    rw [e5]; exact hE
  · show xs5 u = nI (hb (va_up (ms11 S) r (q + 1) 5))
    rw [e5]; exact hF
theorem RX.hitP {S : MS} {u : XS} (h : RX S u) {q k : Nat} (hq : q < 3) (hk : k < 32) (h0 : ms11 S 4 = 0 ∨ ms11 S 4 = q + 1) : RX (mu11 S (va_up (ms11 S) 4 (q + 1))) (xu3 (xu1 u (upd (xs1 u) q (xs1 u q ^^^ nI k))) (nI (hb (q + 1)))) := by
  obtain ⟨hA, hB, hC, hD, hE, hF, hG, hH, hI, hJ, hK, hL⟩ := h
  refine ⟨rA_eq hA (fun r hr => up_4 r (by omega)), ?_, rC_eq hC (fun r hr => up_4 r (by omega)), ?_, ?_, ?_, hG, hH, hI, hJ, hK, hL⟩
  · intro q' hq'
    obtain ⟨v, g1, g2, g3⟩ := hB q' hq'
    show ∃ v, v < 32 ∧ upd (xs1 u) q (xs1 u q ^^^ nI k) q' = nI v ∧ (va_up (ms11 S) 4 (q + 1) 4 ≠ q' + 1 → v = ms5 S)
    rw [va_up_self]
    by_cases e : q' = q
    · subst e
      refine ⟨v ^^^ k, ?_, ?_, fun g => absurd rfl g⟩
      · have : v ^^^ k < 2 ^ 5 := Nat.xor_lt_two_pow (by omega) (by omega)
        omega
      · simp only [upd, if_pos]
        rw [g2, nx_xor]
    · refine ⟨v, g1, ?_, fun g => g3 (by omega)⟩
      simp only [upd, if_neg e]
      exact g2
  · show nI (hb (q + 1)) = nI (hb (va_up (ms11 S) 4 (q + 1) 4))
    rw [va_up_self]
  · show rE (va_up (ms11 S) 4 (q + 1) 5) (xs4 u)
    rw [up_4 5 (by omega)]; exact hE
  · show xs5 u = nI (hb (va_up (ms11 S) 4 (q + 1) 5))
    rw [up_4 5 (by omega)]; exact hF
theorem RX.hitW {S : MS} {u : XS} (h : RX S u) {q k : Nat} (hq : q < 3) (hk : k < 256) (h0 : ms11 S 5 = 0 ∨ ms11 S 5 = q + 1) : RX (mu11 S (va_up (ms11 S) 5 (q + 1))) (xu5 (xu4 u (upd (xs4 u) q (xs4 u q ^^^ nI k))) (nI (hb (q + 1)))) := by
  obtain ⟨hA, hB, hC, hD, hE, hF, hG, hH, hI, hJ, hK, hL⟩ := h
  refine ⟨rA_eq hA (fun r hr => up_4 r (by omega)), ?_, rC_eq hC (fun r hr => up_4 r (by omega)), ?_, ?_, ?_, hG, hH, hI, hJ, hK, hL⟩
  · show rB (ms5 S) (va_up (ms11 S) 5 (q + 1) 4) (xs1 u)
    rw [up_4 4 (by omega)]; exact hB
  · show xs3 u = nI (hb (va_up (ms11 S) 5 (q + 1) 4))
    rw [up_4 4 (by omega)]; exact hD
  · intro q' hq'
    obtain ⟨v, g1, g2, g3⟩ := hE q' hq'
    show ∃ v, v < 256 ∧ upd (xs4 u) q (xs4 u q ^^^ nI k) q' = nI v ∧ (va_up (ms11 S) 5 (q + 1) 5 ≠ q' + 1 → v = 0)
    rw [va_up_self]
    by_cases e : q' = q
    · subst e
      refine ⟨v ^^^ k, ?_, ?_, fun g => absurd rfl g⟩
      · have : v ^^^ k < 2 ^ 8 := Nat.xor_lt_two_pow (by omega) (by omega)
        omega
      · simp only [upd, if_pos]
        rw [g2, nx_xor]
    · refine ⟨v, g1, ?_, fun g => g3 (by omega)⟩
      simp only [upd, if_neg e]
      exact g2
  · show nI (hb (q + 1)) = nI (hb (va_up (ms11 S) 5 (q + 1) 5))
    rw [va_up_self]
theorem RX.hitw {S : MS} {u : XS} (h : RX S u) {w b : Nat} (hw : w < 48) (h0 : ms10 S w = 0) (hb : b < plc w) : RX (mu10 S (va_up (ms10 S) w 1)) (xu7 (xu6 u (upd (xs6 u) w (xs6 u w ^^^ nI (1 * 2 ^ b)))) (upd (xs7 u) w 1)) := by
  obtain ⟨hA, hB, hC, hD, hE, hF, hG, hH, hI, hJ, hK, hL⟩ := h
  exact ⟨hA, hB, hC, hD, hE, hF, rG_hit hG hw h0 hb (fun c e _ => by rw [e, nx_xor, Nat.one_mul]), rH_up hH w 1 rfl, hI, hJ, hK, hL⟩
theorem RX.sh0 {S : MS} {u : XS} (h : RX S u) : RX (mu6 S 0) (xu10 u 0) := by
  obtain ⟨hA, hB, hC, hD, hE, hF, hG, hH, hI, hJ, hK, hL⟩ := h
  exact ⟨hA, hB, hC, hD, hE, hF, hG, hH, hI, hJ, rfl, hL⟩
/-! the ranges are kept -/
theorem up_lt {f : Nat → Nat} {n b : Nat} (h : ∀ j, j < n → f j < b) {i v : Nat} (hv : v < b) : ∀ j, j < n → va_up f i v j < b := by
  intro j hj
  unfold va_up
  split
  · exact hv
  · exact h j hj
theorem up_le {f : Nat → Nat} {n b : Nat} (h : ∀ j, j < n → f j ≤ b) {i v : Nat} (hv : v ≤ b) : ∀ j, j < n → va_up f i v j ≤ b := by
  intro j hj
  unfold va_up
  split
  · exact hv
  · exact h j hj
theorem RG.c0 {S : MS} (h : RG S) {r v : Nat} (hv : v < 256) : RG (mu0 S (va_up (ms0 S) r v)) := by
  obtain ⟨h0, h1, h2, h3, h4, h5, h6, h7, h8⟩ := h
  exact ⟨up_lt h0 hv, h1, h2, h3, h4, h5, h6, h7, h8⟩
theorem RG.c1 {S : MS} (h : RG S) {q v : Nat} (hv : v < 256) : RG (mu1 S (va_up (ms1 S) q v)) := by
  obtain ⟨h0, h1, h2, h3, h4, h5, h6, h7, h8⟩ := h
  exact ⟨h0, up_lt h1 hv, h2, h3, h4, h5, h6, h7, h8⟩
theorem RG.c5 {S : MS} (h : RG S) {v : Nat} (hv : v < 32) : RG (mu5 S v) := by
  obtain ⟨h0, h1, h2, h3, h4, h5, h6, h7, h8⟩ := h
  exact ⟨h0, h1, h2, hv, h4, h5, h6, h7, h8⟩
theorem RG.c67 {S : MS} (h : RG S) {v n : Nat} (hv : v < 256) (hn : n ≤ 16) : RG (mu6 (mu7 S (va_up (ms7 S) (ms6 S) v)) n) := by
  obtain ⟨h0, h1, h2, h3, h4, h5, h6, h7, h8⟩ := h
  exact ⟨h0, h1, h2, h3, hn, up_lt h5 hv, h6, h7, h8⟩
theorem RG.c8 {S : MS} (h : RG S) {v : Nat} (hv : v ≤ 1) : RG (mu8 S v) := by
  obtain ⟨h0, h1, h2, h3, h4, h5, h6, h7, h8⟩ := h
  exact ⟨h0, h1, h2, h3, h4, h5, hv, h7, h8⟩
theorem RG.c9 {S : MS} (h : RG S) (v : Nat) : RG (mu9 S v) := h
theorem RG.c10 {S : MS} (h : RG S) {w v : Nat} (hv : v ≤ 1) : RG (mu10 S (va_up (ms10 S) w v)) := by
  obtain ⟨h0, h1, h2, h3, h4, h5, h6, h7, h8⟩ := h
  exact ⟨h0, h1, h2, h3, h4, h5, h6, up_le h7 hv, h8⟩
theorem z6_le (f : Nat → Nat) : ∀ j, j < 6 → z6 f j ≤ 3 := by
  intro j hj
  rcases (by omega : j = 0 ∨ j = 1 ∨ j = 2 ∨ j = 3 ∨ j = 4 ∨ j = 5) with rfl | rfl | rfl | rfl | rfl | rfl <;> exact Nat.zero_le 3
theorem clc_lt {op x y n : Nat} (hx : x < 256) (hy : y < 256) (hn : n < 256) : clc op x y n < 256 := by
  have h6 : x &&& y ≤ x := Nat.and_le_left
  have h7 : x ^^^ y < 2 ^ 8 := Nat.xor_lt_two_pow (by omega) (by omega)
  unfold clc
  repeat' split
  all_goals omega
theorem RG.use {S : MS} (h : RG S) {q r : Nat} (wr : Nat) (hq : q < 16) (hr : r < 4) : RG (useS S q r wr) := by
  unfold useS
  split
  · exact RG.c10 (RG.c1 h (h.1 r hr)) (w := 32 + q) (by decide)
  · exact RG.c10 (RG.c0 h (h.2.1 q hq)) (w := 32 + q) (by decide)
theorem RG.br {S : MS} (h : RG S) {op r n a : Nat} (hr : r < 4) (hn : n < 256) (ha : a < 32) : RG (brS S op r n a).1 ∧ (brS S op r n a).2 < 32 ∧ ms9 (brS S op r n a).1 = ms9 S := by
  have hx : ∀ q r wr, ms9 (useS S q r wr) = ms9 S := by
    intro q r wr
    unfold useS
    split <;> rfl
  unfold brS
  split
  · exact ⟨RG.c8 h (by decide), by show (a + 1) % 32 < 32; omega, rfl⟩
  · split
    · exact ⟨RG.use h _ (by omega) hr, by show (a + 1) % 32 < 32; omega, hx _ _ _⟩
    · split
      · exact ⟨RG.use h _ (by omega) hr, by show (a + 1) % 32 < 32; omega, hx _ _ _⟩
      · split
        · refine ⟨?_, by show (a + 1) % 32 < 32; omega, ?_⟩
          · show RG (outS S (ms0 S r))
            unfold outS
            split
            · exact RG.c8 h (by decide)
            · exact RG.c67 h (h.1 r hr) (by have := h.2.2.2.2.1; omega)
          · show ms9 (outS S (ms0 S r)) = ms9 S
            unfold outS
            split <;> rfl
        · split
          · exact ⟨h, by show n % 32 < 32; omega, rfl⟩
          · exact ⟨RG.c0 h (clc_lt (h.1 r hr) (h.1 _ (by omega)) hn), by show (a + 1) % 32 < 32; omega, rfl⟩
theorem RG.once {S : MS} (h : RG S) : RG (onceS S) ∧ ms9 (onceS S) = ms9 S + 1 := by
  have h5 := h.2.2.2.1
  have h2 := h.2.2.1 (ms5 S) h5
  obtain ⟨g1, g2, g3⟩ := RG.br (RG.uns h (ms5 S)) (op := ms2 S (ms5 S)) (a := ms5 S) h2.2.1 h2.2.2 h5
  unfold onceS endS
  refine ⟨RG.hits (RG.c9 (RG.c10 (S := mu5 _ _) (RG.c5 g1 ?_) (by decide)) _) (z6_le _), ?_⟩
  · split
    · exact h5
    · exact g2
  · show ms9 (brS (unsp S (ms5 S)) (ms2 S (ms5 S)) (ms3 S (ms5 S)) (ms4 S (ms5 S)) (ms5 S)).1 + 1 = ms9 S + 1
    rw [g3]
    rfl
theorem run_le : ∀ (n : Nat) (S : MS), (runS n S).1 ≤ n := by
  intro n
  induction n with
  | zero => intro S; exact Nat.le_refl 0
  | succ n ih =>
    intro S
    unfold runS
    split
    · have := ih (onceS S)
      show (runS n (onceS S)).1 + 1 ≤ n + 1
      omega
    · exact Nat.zero_le _
theorem RG.run : ∀ (n : Nat) {S : MS}, RG S → RG (runS n S).2 ∧ ms9 (runS n S).2 ≤ ms9 S + n := by
  intro n
  induction n with
  | zero => intro S h; exact ⟨h, Nat.le_refl _⟩
  | succ n ih =>
    intro S h
    unfold runS
    split
    · have h1 := RG.once h
      have h2 := ih h1.1
      refine ⟨h2.1, ?_⟩
      show ms9 (runS n (onceS S)).2 ≤ ms9 S + (n + 1)
      have := h2.2
      omega
    · exact ⟨h, Nat.le_add_right _ _⟩
end
section
theorem iv_c0 {x : Int32} {n : Nat} (h : nI (iv x n) = 0) : iv x n = 0 := by
  rcases iv_2 x n with q | q
  · exact q
  · rw [q] at h; exact absurd h (by decide)
theorem iv_c1 {x : Int32} {n : Nat} (h : ¬ nI (iv x n) = 0) : iv x n = 1 := by
  rcases iv_2 x n with q | q
  · exact absurd (by rw [q]; rfl) h
  · exact q
theorem iv_nge {x : Int32} {n : Nat} (h : ¬ x < 0) (h2 : x ≤ nI n) (hn : n + 1 < 2 ^ 31) : iv x (n + 1) = 1 := by
  refine iv_le h (fun q => ?_) hn
  rw [Int32.lt_iff_toInt_lt] at q
  rw [Int32.le_iff_toInt_le] at h2
  omega
theorem iv_nle {x : Int32} {n : Nat} (h : ¬ x < 0) (h2 : ¬ x ≤ nI n) (hn : n + 1 < 2 ^ 31) : iv x (n + 1) = 0 := by
  refine iv_gt h ?_ hn
  rw [Int32.le_iff_toInt_le] at h2
  rw [Int32.lt_iff_toInt_lt]
  omega
theorem iv_nlt {x : Int32} {n : Nat} (h : ¬ x < 0) (h2 : ¬ x < nI n) : iv x n = 0 := by
  refine iv_ge h ?_
  rw [Int32.lt_iff_toInt_lt] at h2
  rw [Int32.le_iff_toInt_le]
  omega
theorem iv_ilt {x : Int32} {n : Nat} (h : ¬ x < 0) (h2 : x < nI n) : iv x n = 1 := by
  refine iv_in h (fun q => ?_)
  rw [Int32.lt_iff_toInt_lt] at h2
  rw [Int32.le_iff_toInt_le] at q
  omega
theorem ivm_le {x : Int32} {n : Nat} (h : ¬ x < 1) (h2 : x ≤ nI n) : ivm x n = 1 := by
  refine ivm_in h (fun q => ?_)
  rw [Int32.lt_iff_toInt_lt] at q
  rw [Int32.le_iff_toInt_le] at h2
  omega
theorem ivm_2 (x : Int32) (n : Nat) : ivm x n = 0 ∨ ivm x n = 1 := by unfold ivm; split <;> (try split) <;> simp
theorem run_step {i j : Nat} {S S2 : MS} (hi : i < j) (h8 : ms8 S2 = 0) (h : runS j S = (i + (runS (j - i) S2).1, (runS (j - i) S2).2)) : runS j S = (i + 1 + (runS (j - (i + 1)) (onceS S2)).1, (runS (j - (i + 1)) (onceS S2)).2) := by
  rw [h, show j - i = (j - (i + 1)) + 1 by omega]
  have e : runS ((j - (i + 1)) + 1) S2 = ((runS (j - (i + 1)) (onceS S2)).1 + 1, (runS (j - (i + 1)) (onceS S2)).2) := if_pos h8
  rw [e]
  show (i + ((runS (j - (i + 1)) (onceS S2)).1 + 1), _) = _
  rw [show i + ((runS (j - (i + 1)) (onceS S2)).1 + 1) = i + 1 + (runS (j - (i + 1)) (onceS S2)).1 by omega]
theorem run_end1 {i j : Nat} {S S2 : MS} (hi : i = j) (h : runS j S = (i + (runS (j - i) S2).1, (runS (j - i) S2).2)) : runS j S = (i, S2) := by
  rw [h, show j - i = 0 by omega]
  rfl
theorem run_end2 {i j : Nat} {S S2 : MS} (h8 : ¬ ms8 S2 = 0) (h : runS j S = (i + (runS (j - i) S2).1, (runS (j - i) S2).2)) : runS j S = (i, S2) := by
  rw [h]
  cases j - i with
  | zero => rfl
  | succ n =>
    have e : runS (n + 1) S2 = (0, S2) := if_neg h8
    rw [e]
    rfl
end
section
/-! SHIELDEDMACHINE: the methods that touch no cell -/
set_option maxHeartbeats 4000000 in
set_option maxRecDepth 100000 in
theorem kX0_vote (l : Launch) (xa xb xc : Int32) : Cp l yX0_vote cX0_vote 3 .int (rm_ 0) [.int xa, .int xb, .int xc] (fun r => r = vt xa xb xc) := by
  refine st_p (by decide) (Nat.le_of_ble_eq_true rfl) ?_
  intro p e s m below meth c ls hx hb hr hlocks hF hl
  have hl : lv_has ls 3 [(0, .int xa), (1, .int xb), (2, .int xc)] := hl
  refine lv_iload_n hx hb dX0_vote_0 rfl (lv_at hl 0 rfl) ?_
  refine lv_iload_n hx hb dX0_vote_1 rfl (lv_at hl 1 rfl) ?_
  refine lv_iand hx hb dX0_vote_2 ?_
  refine lv_iload_n hx hb dX0_vote_3 rfl (lv_at hl 0 rfl) ?_
  refine lv_iload_n hx hb dX0_vote_4 rfl (lv_at hl 2 rfl) ?_
  refine lv_iand hx hb dX0_vote_5 ?_
  refine lv_ior hx hb dX0_vote_6 ?_
  refine lv_iload_n hx hb dX0_vote_7 rfl (lv_at hl 1 rfl) ?_
  refine lv_iload_n hx hb dX0_vote_8 rfl (lv_at hl 2 rfl) ?_
  refine lv_iand hx hb dX0_vote_9 ?_
  refine lv_ior hx hb dX0_vote_10 ?_
  exact e_pi hx hb hr hlocks dX0_vote_11 (rfl)

set_option maxHeartbeats 4000000 in
set_option maxRecDepth 100000 in
theorem kX0_isPower (l : Launch) (q : Nat) (hq : q < 32) : Cp l yX0_isPower cX0_isPower 1 .boolean (rm_ 0) [.int (nI q)] (fun r => (r = 0 ↔ pw q = false)) := by
  refine st_p (by decide) (Nat.le_of_ble_eq_true rfl) ?_
  intro p e s m below meth c ls hx hb hr hlocks hF hl
  have hl : lv_has ls 1 [(0, .int (nI q))] := hl
  refine lv_iload_n hx hb dX0_isPower_0 rfl (lv_at hl 0 rfl) ?_
  refine lv_iload_n hx hb dX0_isPower_1 rfl (lv_at hl 0 rfl) ?_
  refine lv_iconst (v := 1) hx hb dX0_isPower_2 (by decide) ?_
  refine lv_isub hx hb dX0_isPower_3 ?_
  refine lv_iand hx hb dX0_isPower_4 ?_
  refine lv_if_ne (tgt := 12) hx hb dX0_isPower_5 (by decide) (fun c_5 => ?_) (fun c_5 => ?_)
  · refine lv_iconst (v := 0) hx hb dX0_isPower_12 (by decide) ?_
    exact e_pz hx hb hr hlocks dX0_isPower_13 (rfl) (by rw [show pw q = false from (by cases hz : pw q; rfl; exact absurd ((pw_0 q hq).mpr hz) c_5)]; decide)
  · refine lv_iconst (v := 1) hx hb dX0_isPower_8 (by decide) ?_
    refine lv_goto (tgt := 13) hx hb dX0_isPower_9 (by decide) ?_
    exact e_pz hx hb hr hlocks dX0_isPower_13 (rfl) (by rw [(pw_0 q hq).mp c_5]; decide)

set_option maxHeartbeats 4000000 in
set_option maxRecDepth 100000 in
theorem kX0_placesOf (l : Launch) (w : Nat) (hw : w < 48) : Cp l yX0_placesOf cX0_placesOf 1 .int (rm_ 0) [.int (nI w)] (fun r => r = nI (plc w)) := by
  refine st_p (by decide) (Nat.le_of_ble_eq_true rfl) ?_
  intro p e s m below meth c ls hx hb hr hlocks hF hl
  have hl : lv_has ls 1 [(0, .int (nI w))] := hl
  refine lv_iload_n hx hb dX0_placesOf_0 rfl (lv_at hl 0 rfl) ?_
  refine lv_bipush (v := 32) hx hb dX0_placesOf_1 (by decide) ?_
  refine lv_icmp_ge (tgt := 11) hx hb dX0_placesOf_3 (by decide) (fun c_3 => ?_) (fun c_3 => ?_)
  · refine lv_bipush (v := 13) hx hb dX0_placesOf_11 (by decide) ?_
    exact e_pi hx hb hr hlocks dX0_placesOf_13 (by unfold plc; rw [if_neg (by have := le_of (a := 32) (b := w) c_3; omega)]; rfl)
  · refine lv_bipush (v := 22) hx hb dX0_placesOf_6 (by decide) ?_
    refine lv_goto (tgt := 13) hx hb dX0_placesOf_8 (by decide) ?_
    exact e_pi hx hb hr hlocks dX0_placesOf_13 (by unfold plc; rw [if_pos (by have := nle_of (a := 32) (b := w) c_3; omega)]; rfl)

set_option maxHeartbeats 4000000 in
set_option maxRecDepth 100000 in
theorem kX0_checksOf (l : Launch) (cd n : Nat) (hc : cd < 2 ^ 31) (hn1 : 1 ≤ n) (hn : n < 32) : Cp l yX0_checksOf cX0_checksOf 4 .int (rm_ 0) [.int (nI cd), .int (nI n)] (fun r => r = nI (syn cd n)) := by
  refine st_p (by decide) (Nat.le_of_ble_eq_true rfl) ?_
  intro p e s m below meth c ls hx hb hr hlocks hF hl
  have hl : lv_has ls 4 [(0, .int (nI cd)), (1, .int (nI n))] := hl
  refine lv_iconst (v := 0) hx hb dX0_checksOf_0 (by decide) ?_
  refine tx (y := nI (syn cd 1)) (by rw [syn_1]; rfl) ?_
  refine lv_istore_n (lv' := [(2, .int (nI (syn cd 1))), (0, .int (nI cd)), (1, .int (nI n))]) hx hb dX0_checksOf_1 rfl hl (by decide) rfl (fun ls hl => ?_)
  refine lv_iconst (v := 1) hx hb dX0_checksOf_2 (by decide) ?_
  refine lv_istore_n (lv' := [(3, .int 1), (2, .int (nI (syn cd 1))), (0, .int (nI cd)), (1, .int (nI n))]) hx hb dX0_checksOf_3 rfl hl (by decide) rfl (fun ls hl => ?_)
  refine lp_p (fun i ls => lv_has ls 4 [(0, .int (nI cd)), (1, .int (nI n)), (2, .int (nI (syn cd i))), (3, .int (nI i))]) n ?_ 1 ls (by omega) (lv_sub hl [2, 3, 1, 0] rfl)
  intro i ls hi hI ih
  have hl := hI
  have hl : lv_has ls 4 [(0, .int (nI cd)), (1, .int (nI n)), (2, .int (nI (syn cd i))), (3, .int (nI i))] := hl
  refine lv_iload_n hx hb dX0_checksOf_4 rfl (lv_at hl 3 rfl) ?_
  refine lv_iload_n hx hb dX0_checksOf_5 rfl (lv_at hl 1 rfl) ?_
  refine lv_icmp_ge (tgt := 31) hx hb dX0_checksOf_6 (by decide) (fun c_6 => ?_) (fun c_6 => ?_)
  · have hin : i = n := by have := le_of c_6; omega
    refine lv_iload_n hx hb dX0_checksOf_31 rfl (lv_at hl 2 rfl) ?_
    exact e_pi hx hb hr hlocks dX0_checksOf_32 (by rw [hin])
  · have hlt : i < n := nle_of c_6
    refine lv_iload_n hx hb dX0_checksOf_9 rfl (lv_at hl 2 rfl) ?_
    refine lv_iload_n hx hb dX0_checksOf_10 rfl (lv_at hl 0 rfl) ?_
    refine lv_iload_n hx hb dX0_checksOf_11 rfl (lv_at hl 3 rfl) ?_
    refine lv_ishr hx hb dX0_checksOf_12 ?_
    refine lv_iconst (v := 1) hx hb dX0_checksOf_13 (by decide) ?_
    refine lv_iand hx hb dX0_checksOf_14 ?_
    refine tx (y := nI (b01 cd i)) (nI_bit hc (by omega)) ?_
    refine lv_if_eq (tgt := 22) hx hb dX0_checksOf_15 (by decide) (fun c_15 => ?_) (fun c_15 => ?_)
    · refine lv_iconst (v := 0) hx hb dX0_checksOf_22 (by decide) ?_
      refine lv_ixor hx hb dX0_checksOf_23 ?_
      refine tx (y := nI (syn cd (i + 1))) (syn_T c_15) ?_
      refine lv_istore_n (lv' := [(2, .int (nI (syn cd (i + 1)))), (0, .int (nI cd)), (1, .int (nI n)), (3, .int (nI i))]) hx hb dX0_checksOf_24 rfl hl (by decide) rfl (fun ls hl => ?_)
      refine lv_iinc (v := nI (i + 1)) (lv' := [(3, .int (nI (i + 1))), (2, .int (nI (syn cd (i + 1)))), (0, .int (nI cd)), (1, .int (nI n))]) (k := 3) hx hb dX0_checksOf_25 hl rfl (nI_1 _) (by decide) rfl (fun ls hl => ?_)
      refine lv_goto (tgt := 4) hx hb dX0_checksOf_28 (by decide) ?_
      exact ih (hlt) ls (lv_sub hl [2, 3, 1, 0] rfl)
    · refine lv_iload_n hx hb dX0_checksOf_18 rfl (lv_at hl 3 rfl) ?_
      refine lv_goto (tgt := 23) hx hb dX0_checksOf_19 (by decide) ?_
      refine lv_ixor hx hb dX0_checksOf_23 ?_
      refine tx (y := nI (syn cd (i + 1))) (syn_F c_15) ?_
      refine lv_istore_n (lv' := [(2, .int (nI (syn cd (i + 1)))), (0, .int (nI cd)), (1, .int (nI n)), (3, .int (nI i))]) hx hb dX0_checksOf_24 rfl hl (by decide) rfl (fun ls hl => ?_)
      refine lv_iinc (v := nI (i + 1)) (lv' := [(3, .int (nI (i + 1))), (2, .int (nI (syn cd (i + 1)))), (0, .int (nI cd)), (1, .int (nI n))]) (k := 3) hx hb dX0_checksOf_25 hl rfl (nI_1 _) (by decide) rfl (fun ls hl => ?_)
      refine lv_goto (tgt := 4) hx hb dX0_checksOf_28 (by decide) ?_
      exact ih (hlt) ls (lv_sub hl [2, 3, 1, 0] rfl)

set_option maxHeartbeats 4000000 in
set_option maxRecDepth 100000 in
theorem kX0_onesOf (l : Launch) (cd n : Nat) (hc : cd < 2 ^ 31) (hn : n < 32) : Cp l yX0_onesOf cX0_onesOf 4 .int (rm_ 0) [.int (nI cd), .int (nI n)] (fun r => r = nI (ones cd n)) := by
  refine st_p (by decide) (Nat.le_of_ble_eq_true rfl) ?_
  intro p e s m below meth c ls hx hb hr hlocks hF hl
  have hl : lv_has ls 4 [(0, .int (nI cd)), (1, .int (nI n))] := hl
  refine lv_iconst (v := 0) hx hb dX0_onesOf_0 (by decide) ?_
  refine tx (y := nI (ones cd 0)) (rfl) ?_
  refine lv_istore_n (lv' := [(2, .int (nI (ones cd 0))), (0, .int (nI cd)), (1, .int (nI n))]) hx hb dX0_onesOf_1 rfl hl (by decide) rfl (fun ls hl => ?_)
  refine lv_iconst (v := 0) hx hb dX0_onesOf_2 (by decide) ?_
  refine lv_istore_n (lv' := [(3, .int 0), (2, .int (nI (ones cd 0))), (0, .int (nI cd)), (1, .int (nI n))]) hx hb dX0_onesOf_3 rfl hl (by decide) rfl (fun ls hl => ?_)
  refine lp_p (fun i ls => lv_has ls 4 [(0, .int (nI cd)), (1, .int (nI n)), (2, .int (nI (ones cd i))), (3, .int (nI i))]) n ?_ 0 ls (by omega) (lv_sub hl [2, 3, 1, 0] rfl)
  intro i ls hi hI ih
  have hl := hI
  have hl : lv_has ls 4 [(0, .int (nI cd)), (1, .int (nI n)), (2, .int (nI (ones cd i))), (3, .int (nI i))] := hl
  refine lv_iload_n hx hb dX0_onesOf_4 rfl (lv_at hl 3 rfl) ?_
  refine lv_iload_n hx hb dX0_onesOf_5 rfl (lv_at hl 1 rfl) ?_
  refine lv_icmp_ge (tgt := 23) hx hb dX0_onesOf_6 (by decide) (fun c_6 => ?_) (fun c_6 => ?_)
  · have hin : i = n := by have := le_of c_6; omega
    refine lv_iload_n hx hb dX0_onesOf_23 rfl (lv_at hl 2 rfl) ?_
    exact e_pi hx hb hr hlocks dX0_onesOf_24 (by rw [hin])
  · have hlt : i < n := nle_of c_6
    refine lv_iload_n hx hb dX0_onesOf_9 rfl (lv_at hl 2 rfl) ?_
    refine lv_iload_n hx hb dX0_onesOf_10 rfl (lv_at hl 0 rfl) ?_
    refine lv_iload_n hx hb dX0_onesOf_11 rfl (lv_at hl 3 rfl) ?_
    refine lv_ishr hx hb dX0_onesOf_12 ?_
    refine lv_iconst (v := 1) hx hb dX0_onesOf_13 (by decide) ?_
    refine lv_iand hx hb dX0_onesOf_14 ?_
    refine tx (y := nI (b01 cd i)) (nI_bit hc (by omega)) ?_
    refine lv_iadd hx hb dX0_onesOf_15 ?_
    refine tx (y := nI (ones cd (i + 1))) (nI_add _ _) ?_
    refine lv_istore_n (lv' := [(2, .int (nI (ones cd (i + 1)))), (0, .int (nI cd)), (1, .int (nI n)), (3, .int (nI i))]) hx hb dX0_onesOf_16 rfl hl (by decide) rfl (fun ls hl => ?_)
    refine lv_iinc (v := nI (i + 1)) (lv' := [(3, .int (nI (i + 1))), (2, .int (nI (ones cd (i + 1)))), (0, .int (nI cd)), (1, .int (nI n))]) (k := 3) hx hb dX0_onesOf_17 hl rfl (nI_1 _) (by decide) rfl (fun ls hl => ?_)
    refine lv_goto (tgt := 4) hx hb dX0_onesOf_20 (by decide) ?_
    exact ih (hlt) ls (lv_sub hl [2, 3, 1, 0] rfl)

set_option maxHeartbeats 4000000 in
set_option maxRecDepth 100000 in
theorem kX0_encode (l : Launch) (vv n : Nat) (hv : vv < 65536) (hn : n = 22 ∨ n = 13) : Cp l yX0_encode cX0_encode 6 .int (rm_ 1) [.int (nI vv), .int (nI n)] (fun r => r = nI (enc vv n)) := by
  refine st_p (by decide) (Nat.le_of_ble_eq_true rfl) ?_
  intro p e s m below meth c ls hx hb hr hlocks hF hl
  have hl : lv_has ls 6 [(0, .int (nI vv)), (1, .int (nI n))] := hl
  have hn32 : 1 ≤ n ∧ n < 32 := by rcases hn with rfl | rfl <;> decide
  refine lv_iconst (v := 0) hx hb dX0_encode_0 (by decide) ?_
  refine tx (y := nI (sprd vv 3)) (by rw [sprd_3]; rfl) ?_
  refine lv_istore_n (lv' := [(2, .int (nI (sprd vv 3))), (0, .int (nI vv)), (1, .int (nI n))]) hx hb dX0_encode_1 rfl hl (by decide) rfl (fun ls hl => ?_)
  refine lv_iconst (v := 0) hx hb dX0_encode_2 (by decide) ?_
  refine tx (y := nI (nx 3)) (by decide) ?_
  refine lv_istore_n (lv' := [(3, .int (nI (nx 3))), (2, .int (nI (sprd vv 3))), (0, .int (nI vv)), (1, .int (nI n))]) hx hb dX0_encode_3 rfl hl (by decide) rfl (fun ls hl => ?_)
  refine lv_iconst (v := 3) hx hb dX0_encode_4 (by decide) ?_
  refine lv_istore (lv' := [(4, .int 3), (3, .int (nI (nx 3))), (2, .int (nI (sprd vv 3))), (0, .int (nI vv)), (1, .int (nI n))]) hx hb dX0_encode_5 hl (by decide) rfl (fun ls hl => ?_)
  refine lp_p (fun i ls => lv_has ls 6 [(0, .int (nI vv)), (1, .int (nI n)), (2, .int (nI (sprd vv i))), (3, .int (nI (nx i))), (4, .int (nI i))] ∧ 3 ≤ i) n ?_ 3 ls (by rcases hn with rfl | rfl <;> decide) ⟨lv_sub hl [3, 4, 2, 1, 0] rfl, by omega⟩
  intro i ls hi hI ih
  obtain ⟨hl, h3⟩ := hI
  have hl : lv_has ls 6 [(0, .int (nI vv)), (1, .int (nI n)), (2, .int (nI (sprd vv i))), (3, .int (nI (nx i))), (4, .int (nI i))] := hl
  refine lv_iload hx hb dX0_encode_7 (lv_at hl 4 rfl) ?_
  refine lv_iload_n hx hb dX0_encode_9 rfl (lv_at hl 1 rfl) ?_
  refine lv_icmp_ge (tgt := 41) hx hb dX0_encode_10 (by decide) (fun c_10 => ?_) (fun c_10 => ?_)
  · have hin : i = n := by have := le_of c_10; omega
    have hl : lv_has ls 6 [(0, .int (nI vv)), (1, .int (nI n)), (2, .int (nI (sprd vv n))), (3, .int (nI (nx n))), (4, .int (nI n))] := by rw [hin] at hl; exact hl
    have hs1 : sprd vv n < 2 ^ 31 := Nat.lt_of_lt_of_le (sprd_lt vv n) (Nat.pow_le_pow_right (by decide) (by omega))
    refine lv_iload_n hx hb dX0_encode_41 rfl (lv_at hl 2 rfl) ?_
    refine lv_iload_n hx hb dX0_encode_42 rfl (lv_at hl 1 rfl) ?_
    refine s_p (rest := []) hF (kX0_checksOf l (sprd vv n) n hs1 (by omega) (by omega)) q51 q52 q28 q53 hdX0_checksOf rfl rfl ⟨Nat.le_of_ble_eq_true rfl, Nat.le_of_ble_eq_true rfl⟩ rfl hl.1 rfl (Nat.le_of_ble_eq_true rfl) dX0_encode_43 ⟨Nat.zero_le _, Nat.zero_le _⟩ (fun r1 hr1 => ?_)
    refine tx (y := nI (syn (sprd vv n) n)) (hr1) ?_
    refine lv_istore (lv' := [(4, .int (nI (syn (sprd vv n) n))), (0, .int (nI vv)), (1, .int (nI n)), (2, .int (nI (sprd vv n))), (3, .int (nI (nx n)))]) hx hb dX0_encode_46 hl (by decide) rfl (fun ls hl => ?_)
    have hs3 : syn (sprd vv n) n < 2 ^ 31 := Nat.lt_of_lt_of_le (syn_lt _ _ 5 (by omega)) (by decide)
    have hl : lv_has ls 6 [(4, .int (nI (syn (sprd vv n) n))), (0, .int (nI vv)), (1, .int (nI n)), (2, .int (nI (sprd vv n ||| chk (syn (sprd vv n) n) 0))), (3, .int (nI (nx n)))] := by rw [show chk (syn (sprd vv n) n) 0 = 0 from rfl, Nat.or_zero]; exact hl
    refine lv_iconst (v := 1) hx hb dX0_encode_48 (by decide) ?_
    refine lv_istore (lv' := [(5, .int 1), (4, .int (nI (syn (sprd vv n) n))), (0, .int (nI vv)), (1, .int (nI n)), (2, .int (nI (sprd vv n ||| chk (syn (sprd vv n) n) 0))), (3, .int (nI (nx n)))]) hx hb dX0_encode_49 hl (by decide) rfl (fun ls hl => ?_)
    refine lp_p (fun j ls => lv_has ls 6 [(0, .int (nI vv)), (1, .int (nI n)), (2, .int (nI (sprd vv n ||| chk (syn (sprd vv n) n) j))), (4, .int (nI (syn (sprd vv n) n))), (5, .int (nI (2 ^ j)))]) (nj n) ?_ 0 ls (Nat.zero_le _) (lv_sub hl [2, 3, 4, 1, 0] rfl)
    intro j ls hi hI ih
    have hl := hI
    have hl : lv_has ls 6 [(0, .int (nI vv)), (1, .int (nI n)), (2, .int (nI (sprd vv n ||| chk (syn (sprd vv n) n) j))), (4, .int (nI (syn (sprd vv n) n))), (5, .int (nI (2 ^ j)))] := hl
    refine lv_iload hx hb dX0_encode_51 (lv_at hl 4 rfl) ?_
    refine lv_iload_n hx hb dX0_encode_53 rfl (lv_at hl 1 rfl) ?_
    refine lv_icmp_ge (tgt := 85) hx hb dX0_encode_54 (by decide) (fun c_54 => ?_) (fun c_54 => ?_)
    · have hjn : j = nj n := by
        rcases Nat.lt_or_ge j (nj n) with q | q
        · have h1 := nj_lt hn q
          have h2 := le_of (a := n) (b := 2 ^ j) c_54
          omega
        · omega
      have hl : lv_has ls 6 [(0, .int (nI vv)), (1, .int (nI n)), (2, .int (nI (enc2 vv n))), (4, .int (nI (syn (sprd vv n) n))), (5, .int (nI (2 ^ (nj n))))] := by rw [hjn] at hl; exact hl
      have hs2 : enc2 vv n < 2 ^ 31 := Nat.lt_of_lt_of_le (enc2_lt vv hn) (Nat.pow_le_pow_right (by decide) (by omega))
      refine lv_iload_n hx hb dX0_encode_85 rfl (lv_at hl 2 rfl) ?_
      refine lv_iload_n hx hb dX0_encode_86 rfl (lv_at hl 2 rfl) ?_
      refine lv_iload_n hx hb dX0_encode_87 rfl (lv_at hl 1 rfl) ?_
      refine s_p (rest := [.int (nI (enc2 vv n))]) hF (kX0_onesOf l (enc2 vv n) n hs2 (by omega)) q54 q55 q28 q56 hdX0_onesOf rfl rfl ⟨Nat.le_of_ble_eq_true rfl, Nat.le_of_ble_eq_true rfl⟩ rfl hl.1 rfl (Nat.le_of_ble_eq_true rfl) dX0_encode_88 ⟨Nat.zero_le _, Nat.zero_le _⟩ (fun r2 hr2 => ?_)
      refine tx (y := nI (ones (enc2 vv n) n)) (hr2) ?_
      refine lv_iconst (v := 1) hx hb dX0_encode_91 (by decide) ?_
      refine lv_iand hx hb dX0_encode_92 ?_
      refine tx (y := nI (ones (enc2 vv n) n % 2)) (nI_and1 _) ?_
      refine lv_ior hx hb dX0_encode_93 ?_
      refine tx (y := nI (enc vv n)) (nx_or _ _) ?_
      exact e_pi hx hb hr hlocks dX0_encode_94 (rfl)
    · have hlt : j < nj n := by
        rcases Nat.lt_or_ge j (nj n) with q | q
        · exact q
        · have h1 := nj_ge hn
          have h3 : j = nj n := by omega
          rw [h3] at c_54
          have h2 := nle_of (a := n) (b := 2 ^ (nj n)) c_54
          omega
      refine lv_iload_n hx hb dX0_encode_57 rfl (lv_at hl 2 rfl) ?_
      refine lv_iload hx hb dX0_encode_58 (lv_at hl 3 rfl) ?_
      refine lv_iload hx hb dX0_encode_60 (lv_at hl 4 rfl) ?_
      refine lv_iand hx hb dX0_encode_62 ?_
      refine tx (y := nI (syn (sprd vv n) n &&& 2 ^ j)) (nx_and _ _) ?_
      refine lv_if_eq (tgt := 73) hx hb dX0_encode_63 (by decide) (fun c_63 => ?_) (fun c_63 => ?_)
      · refine lv_iconst (v := 0) hx hb dX0_encode_73 (by decide) ?_
        refine lv_ior hx hb dX0_encode_74 ?_
        refine tx (y := nI (sprd vv n ||| chk (syn (sprd vv n) n) (j + 1))) (chk_T hs3 c_63) ?_
        refine lv_istore_n (lv' := [(2, .int (nI (sprd vv n ||| chk (syn (sprd vv n) n) (j + 1)))), (0, .int (nI vv)), (1, .int (nI n)), (4, .int (nI (syn (sprd vv n) n))), (5, .int (nI (2 ^ j)))]) hx hb dX0_encode_75 rfl hl (by decide) rfl (fun ls hl => ?_)
        refine lv_iload hx hb dX0_encode_76 (lv_at hl 4 rfl) ?_
        refine lv_iconst (v := 2) hx hb dX0_encode_78 (by decide) ?_
        refine lv_imul hx hb dX0_encode_79 ?_
        refine tx (y := nI (2 ^ (j + 1))) (pk_mul _ 2) ?_
        refine lv_istore (lv' := [(5, .int (nI (2 ^ (j + 1)))), (2, .int (nI (sprd vv n ||| chk (syn (sprd vv n) n) (j + 1)))), (0, .int (nI vv)), (1, .int (nI n)), (4, .int (nI (syn (sprd vv n) n)))]) hx hb dX0_encode_80 hl (by decide) rfl (fun ls hl => ?_)
        refine lv_goto (tgt := 51) hx hb dX0_encode_82 (by decide) ?_
        exact ih (hlt) ls (lv_sub hl [2, 3, 1, 4, 0] rfl)
      · refine lv_iconst (v := 1) hx hb dX0_encode_66 (by decide) ?_
        refine lv_iload hx hb dX0_encode_67 (lv_at hl 4 rfl) ?_
        refine lv_ishl hx hb dX0_encode_69 ?_
        refine tx (y := nI (1 * 2 ^ (2 ^ j))) (nI_shl (nj_lt hn hlt).2 (pw_shl (nj_lt hn hlt).2)) ?_
        refine lv_goto (tgt := 74) hx hb dX0_encode_70 (by decide) ?_
        refine lv_ior hx hb dX0_encode_74 ?_
        refine tx (y := nI (sprd vv n ||| chk (syn (sprd vv n) n) (j + 1))) (chk_F c_63) ?_
        refine lv_istore_n (lv' := [(2, .int (nI (sprd vv n ||| chk (syn (sprd vv n) n) (j + 1)))), (0, .int (nI vv)), (1, .int (nI n)), (4, .int (nI (syn (sprd vv n) n))), (5, .int (nI (2 ^ j)))]) hx hb dX0_encode_75 rfl hl (by decide) rfl (fun ls hl => ?_)
        refine lv_iload hx hb dX0_encode_76 (lv_at hl 4 rfl) ?_
        refine lv_iconst (v := 2) hx hb dX0_encode_78 (by decide) ?_
        refine lv_imul hx hb dX0_encode_79 ?_
        refine tx (y := nI (2 ^ (j + 1))) (pk_mul _ 2) ?_
        refine lv_istore (lv' := [(5, .int (nI (2 ^ (j + 1)))), (2, .int (nI (sprd vv n ||| chk (syn (sprd vv n) n) (j + 1)))), (0, .int (nI vv)), (1, .int (nI n)), (4, .int (nI (syn (sprd vv n) n)))]) hx hb dX0_encode_80 hl (by decide) rfl (fun ls hl => ?_)
        refine lv_goto (tgt := 51) hx hb dX0_encode_82 (by decide) ?_
        exact ih (hlt) ls (lv_sub hl [2, 3, 1, 4, 0] rfl)
  · have hlt : i < n := nle_of c_10
    refine lv_iload hx hb dX0_encode_13 (lv_at hl 4 rfl) ?_
    refine s_p (rest := []) hF (kX0_isPower l i (by omega)) q48 q49 q28 q50 hdX0_isPower rfl rfl ⟨Nat.le_of_ble_eq_true rfl, Nat.le_of_ble_eq_true rfl⟩ rfl hl.1 rfl (Nat.le_of_ble_eq_true rfl) dX0_encode_15 ⟨Nat.zero_le _, Nat.zero_le _⟩ (fun r3 hr3 => ?_)
    refine lv_if_ne (tgt := 35) hx hb dX0_encode_18 (by decide) (fun c_18 => ?_) (fun c_18 => ?_)
    · have hp : pw i = true := by cases hz : pw i; exact absurd (hr3.mpr hz) c_18; rfl
      have hl : lv_has ls 6 [(0, .int (nI vv)), (1, .int (nI n)), (2, .int (nI (sprd vv (i + 1)))), (3, .int (nI (nx (i + 1)))), (4, .int (nI i))] := by rw [sprd_T vv hp, nx_T hp]; exact hl
      refine lv_iinc (v := nI (i + 1)) (lv' := [(4, .int (nI (i + 1))), (0, .int (nI vv)), (1, .int (nI n)), (2, .int (nI (sprd vv (i + 1)))), (3, .int (nI (nx (i + 1))))]) (k := 4) hx hb dX0_encode_35 hl rfl (nI_1 _) (by decide) rfl (fun ls hl => ?_)
      refine lv_goto (tgt := 7) hx hb dX0_encode_38 (by decide) ?_
      exact ih (hlt) ls ⟨lv_sub hl [1, 2, 3, 4, 0] rfl, by omega⟩
    · have hp : pw i = false := hr3.mp c_18
      refine lv_iload_n hx hb dX0_encode_21 rfl (lv_at hl 2 rfl) ?_
      refine lv_iload_n hx hb dX0_encode_22 rfl (lv_at hl 0 rfl) ?_
      refine lv_iload_n hx hb dX0_encode_23 rfl (lv_at hl 3 rfl) ?_
      refine lv_ishr hx hb dX0_encode_24 ?_
      refine lv_iconst (v := 1) hx hb dX0_encode_25 (by decide) ?_
      refine lv_iand hx hb dX0_encode_26 ?_
      refine tx (y := nI (b01 vv (nx i))) (nI_bit (by omega) (by have := nx_le i; omega)) ?_
      refine lv_iload hx hb dX0_encode_27 (lv_at hl 4 rfl) ?_
      refine lv_ishl hx hb dX0_encode_29 ?_
      refine tx (y := nI (b01 vv (nx i) * 2 ^ i)) (nI_shl (by omega) (b01_shl (by omega))) ?_
      refine lv_ior hx hb dX0_encode_30 ?_
      refine tx (y := nI (sprd vv (i + 1))) (sprd_F h3 hp) ?_
      refine lv_istore_n (lv' := [(2, .int (nI (sprd vv (i + 1)))), (0, .int (nI vv)), (1, .int (nI n)), (3, .int (nI (nx i))), (4, .int (nI i))]) hx hb dX0_encode_31 rfl hl (by decide) rfl (fun ls hl => ?_)
      refine lv_iinc (v := nI (nx (i + 1))) (lv' := [(3, .int (nI (nx (i + 1)))), (2, .int (nI (sprd vv (i + 1)))), (0, .int (nI vv)), (1, .int (nI n)), (4, .int (nI i))]) (k := 3) hx hb dX0_encode_32 hl rfl (nx_F h3 hp) (by decide) rfl (fun ls hl => ?_)
      refine lv_iinc (v := nI (i + 1)) (lv' := [(4, .int (nI (i + 1))), (3, .int (nI (nx (i + 1)))), (2, .int (nI (sprd vv (i + 1)))), (0, .int (nI vv)), (1, .int (nI n))]) (k := 4) hx hb dX0_encode_35 hl rfl (nI_1 _) (by decide) rfl (fun ls hl => ?_)
      refine lv_goto (tgt := 7) hx hb dX0_encode_38 (by decide) ?_
      exact ih (hlt) ls ⟨lv_sub hl [3, 4, 2, 1, 0] rfl, by omega⟩

set_option maxHeartbeats 4000000 in
set_option maxRecDepth 100000 in
theorem kX0_correct (l : Launch) (cd n : Nat) (hc : cd < 2 ^ 31) (hn : n = 22 ∨ n = 13) : Cp l yX0_correct cX0_correct 4 .int (rm_ 1) [.int (nI cd), .int (nI n)] (fun r => r = nI (cor cd n)) := by
  refine st_p (by decide) (Nat.le_of_ble_eq_true rfl) ?_
  intro p e s m below meth c ls hx hb hr hlocks hF hl
  have hl : lv_has ls 4 [(0, .int (nI cd)), (1, .int (nI n))] := hl
  have hn32 : 1 ≤ n ∧ n < 32 := by rcases hn with rfl | rfl <;> decide
  have hs : syn cd n < 32 := syn_lt _ _ 5 (by omega)
  refine lv_iload_n hx hb dX0_correct_0 rfl (lv_at hl 0 rfl) ?_
  refine lv_iload_n hx hb dX0_correct_1 rfl (lv_at hl 1 rfl) ?_
  refine s_p (rest := []) hF (kX0_onesOf l cd n hc (by omega)) q54 q55 q28 q56 hdX0_onesOf rfl rfl ⟨Nat.le_of_ble_eq_true rfl, Nat.le_of_ble_eq_true rfl⟩ rfl hl.1 rfl (Nat.le_of_ble_eq_true rfl) dX0_correct_2 ⟨Nat.zero_le _, Nat.zero_le _⟩ (fun r1 hr1 => ?_)
  refine tx (y := nI (ones cd n)) (hr1) ?_
  refine lv_istore_n (lv' := [(2, .int (nI (ones cd n))), (0, .int (nI cd)), (1, .int (nI n))]) hx hb dX0_correct_5 rfl hl (by decide) rfl (fun ls hl => ?_)
  refine lv_iload_n hx hb dX0_correct_6 rfl (lv_at hl 1 rfl) ?_
  refine lv_iload_n hx hb dX0_correct_7 rfl (lv_at hl 2 rfl) ?_
  refine s_p (rest := []) hF (kX0_checksOf l cd n hc (by omega) (by omega)) q51 q52 q28 q53 hdX0_checksOf rfl rfl ⟨Nat.le_of_ble_eq_true rfl, Nat.le_of_ble_eq_true rfl⟩ rfl hl.1 rfl (Nat.le_of_ble_eq_true rfl) dX0_correct_8 ⟨Nat.zero_le _, Nat.zero_le _⟩ (fun r2 hr2 => ?_)
  refine tx (y := nI (syn cd n)) (hr2) ?_
  refine lv_istore_n (lv' := [(3, .int (nI (syn cd n))), (2, .int (nI (ones cd n))), (0, .int (nI cd)), (1, .int (nI n))]) hx hb dX0_correct_11 rfl hl (by decide) rfl (fun ls hl => ?_)
  refine lv_iload_n hx hb dX0_correct_12 rfl (lv_at hl 1 rfl) ?_
  refine lv_iconst (v := 1) hx hb dX0_correct_13 (by decide) ?_
  refine lv_iand hx hb dX0_correct_14 ?_
  refine tx (y := nI (ones cd n % 2)) (nI_and1 _) ?_
  refine lv_if_eq (tgt := 26) hx hb dX0_correct_15 (by decide) (fun c_15 => ?_) (fun c_15 => ?_)
  · refine lv_iload_n hx hb dX0_correct_26 rfl (lv_at hl 2 rfl) ?_
    exact e_pi hx hb hr hlocks dX0_correct_27 (by rw [← cor_T c_15])
  · refine lv_iload_n hx hb dX0_correct_18 rfl (lv_at hl 2 rfl) ?_
    refine lv_iconst (v := 1) hx hb dX0_correct_19 (by decide) ?_
    refine lv_iload_n hx hb dX0_correct_20 rfl (lv_at hl 0 rfl) ?_
    refine lv_ishl hx hb dX0_correct_21 ?_
    refine tx (y := nI (1 * 2 ^ (syn cd n))) (nI_shl hs (pw_shl hs)) ?_
    refine lv_ixor hx hb dX0_correct_22 ?_
    refine tx (y := nI (cor cd n)) (cor_F c_15) ?_
    refine lv_goto (tgt := 27) hx hb dX0_correct_23 (by decide) ?_
    exact e_pi hx hb hr hlocks dX0_correct_27 (rfl)

set_option maxHeartbeats 4000000 in
set_option maxRecDepth 100000 in
theorem kX0_decode (l : Launch) (cd n : Nat) (hc : cd < 2 ^ 31) (hn : n = 22 ∨ n = 13) : Cp l yX0_decode cX0_decode 5 .int (rm_ 1) [.int (nI cd), .int (nI n)] (fun r => r = nI (dcd cd n)) := by
  refine st_p (by decide) (Nat.le_of_ble_eq_true rfl) ?_
  intro p e s m below meth c ls hx hb hr hlocks hF hl
  have hl : lv_has ls 5 [(0, .int (nI cd)), (1, .int (nI n))] := hl
  have hn32 : 1 ≤ n ∧ n < 32 := by rcases hn with rfl | rfl <;> decide
  refine lv_iconst (v := 0) hx hb dX0_decode_0 (by decide) ?_
  refine tx (y := nI (dcd cd 3)) (by rw [dcd_3]; rfl) ?_
  refine lv_istore_n (lv' := [(2, .int (nI (dcd cd 3))), (0, .int (nI cd)), (1, .int (nI n))]) hx hb dX0_decode_1 rfl hl (by decide) rfl (fun ls hl => ?_)
  refine lv_iconst (v := 0) hx hb dX0_decode_2 (by decide) ?_
  refine tx (y := nI (nx 3)) (by decide) ?_
  refine lv_istore_n (lv' := [(3, .int (nI (nx 3))), (2, .int (nI (dcd cd 3))), (0, .int (nI cd)), (1, .int (nI n))]) hx hb dX0_decode_3 rfl hl (by decide) rfl (fun ls hl => ?_)
  refine lv_iconst (v := 3) hx hb dX0_decode_4 (by decide) ?_
  refine lv_istore (lv' := [(4, .int 3), (3, .int (nI (nx 3))), (2, .int (nI (dcd cd 3))), (0, .int (nI cd)), (1, .int (nI n))]) hx hb dX0_decode_5 hl (by decide) rfl (fun ls hl => ?_)
  refine lp_p (fun i ls => lv_has ls 5 [(0, .int (nI cd)), (1, .int (nI n)), (2, .int (nI (dcd cd i))), (3, .int (nI (nx i))), (4, .int (nI i))] ∧ 3 ≤ i) n ?_ 3 ls (by rcases hn with rfl | rfl <;> decide) ⟨lv_sub hl [3, 4, 2, 1, 0] rfl, by omega⟩
  intro i ls hi hI ih
  obtain ⟨hl, h3⟩ := hI
  have hl : lv_has ls 5 [(0, .int (nI cd)), (1, .int (nI n)), (2, .int (nI (dcd cd i))), (3, .int (nI (nx i))), (4, .int (nI i))] := hl
  refine lv_iload hx hb dX0_decode_7 (lv_at hl 4 rfl) ?_
  refine lv_iload_n hx hb dX0_decode_9 rfl (lv_at hl 1 rfl) ?_
  refine lv_icmp_ge (tgt := 41) hx hb dX0_decode_10 (by decide) (fun c_10 => ?_) (fun c_10 => ?_)
  · have hin : i = n := by have := le_of c_10; omega
    refine lv_iload_n hx hb dX0_decode_41 rfl (lv_at hl 2 rfl) ?_
    exact e_pi hx hb hr hlocks dX0_decode_42 (by rw [hin])
  · have hlt : i < n := nle_of c_10
    refine lv_iload hx hb dX0_decode_13 (lv_at hl 4 rfl) ?_
    refine s_p (rest := []) hF (kX0_isPower l i (by omega)) q48 q49 q28 q50 hdX0_isPower rfl rfl ⟨Nat.le_of_ble_eq_true rfl, Nat.le_of_ble_eq_true rfl⟩ rfl hl.1 rfl (Nat.le_of_ble_eq_true rfl) dX0_decode_15 ⟨Nat.zero_le _, Nat.zero_le _⟩ (fun r1 hr1 => ?_)
    refine lv_if_ne (tgt := 35) hx hb dX0_decode_18 (by decide) (fun c_18 => ?_) (fun c_18 => ?_)
    · have hp : pw i = true := by cases hz : pw i; exact absurd (hr1.mpr hz) c_18; rfl
      have hl : lv_has ls 5 [(0, .int (nI cd)), (1, .int (nI n)), (2, .int (nI (dcd cd (i + 1)))), (3, .int (nI (nx (i + 1)))), (4, .int (nI i))] := by rw [dcd_T cd hp, nx_T hp]; exact hl
      refine lv_iinc (v := nI (i + 1)) (lv' := [(4, .int (nI (i + 1))), (0, .int (nI cd)), (1, .int (nI n)), (2, .int (nI (dcd cd (i + 1)))), (3, .int (nI (nx (i + 1))))]) (k := 4) hx hb dX0_decode_35 hl rfl (nI_1 _) (by decide) rfl (fun ls hl => ?_)
      refine lv_goto (tgt := 7) hx hb dX0_decode_38 (by decide) ?_
      exact ih (hlt) ls ⟨lv_sub hl [1, 2, 3, 4, 0] rfl, by omega⟩
    · have hp : pw i = false := hr1.mp c_18
      refine lv_iload_n hx hb dX0_decode_21 rfl (lv_at hl 2 rfl) ?_
      refine lv_iload_n hx hb dX0_decode_22 rfl (lv_at hl 0 rfl) ?_
      refine lv_iload hx hb dX0_decode_23 (lv_at hl 4 rfl) ?_
      refine lv_ishr hx hb dX0_decode_25 ?_
      refine lv_iconst (v := 1) hx hb dX0_decode_26 (by decide) ?_
      refine lv_iand hx hb dX0_decode_27 ?_
      refine tx (y := nI (b01 cd i)) (nI_bit hc (by omega)) ?_
      refine lv_iload_n hx hb dX0_decode_28 rfl (lv_at hl 3 rfl) ?_
      refine lv_ishl hx hb dX0_decode_29 ?_
      refine tx (y := nI (b01 cd i * 2 ^ (nx i))) (nI_shl (by have := nx_le i; omega) (b01_shl (by have := nx_le i; omega))) ?_
      refine lv_ior hx hb dX0_decode_30 ?_
      refine tx (y := nI (dcd cd (i + 1))) (dcd_F h3 hp) ?_
      refine lv_istore_n (lv' := [(2, .int (nI (dcd cd (i + 1)))), (0, .int (nI cd)), (1, .int (nI n)), (3, .int (nI (nx i))), (4, .int (nI i))]) hx hb dX0_decode_31 rfl hl (by decide) rfl (fun ls hl => ?_)
      refine lv_iinc (v := nI (nx (i + 1))) (lv' := [(3, .int (nI (nx (i + 1)))), (2, .int (nI (dcd cd (i + 1)))), (0, .int (nI cd)), (1, .int (nI n)), (4, .int (nI i))]) (k := 3) hx hb dX0_decode_32 hl rfl (nx_F h3 hp) (by decide) rfl (fun ls hl => ?_)
      refine lv_iinc (v := nI (i + 1)) (lv' := [(4, .int (nI (i + 1))), (3, .int (nI (nx (i + 1)))), (2, .int (nI (dcd cd (i + 1)))), (0, .int (nI cd)), (1, .int (nI n))]) (k := 4) hx hb dX0_decode_35 hl rfl (nI_1 _) (by decide) rfl (fun ls hl => ?_)
      refine lv_goto (tgt := 7) hx hb dX0_decode_38 (by decide) ?_
      exact ih (hlt) ls ⟨lv_sub hl [3, 4, 2, 1, 0] rfl, by omega⟩

set_option maxHeartbeats 4000000 in
set_option maxRecDepth 100000 in
theorem kX0_addBits (l : Launch) (aa bb ci : Nat) (ha : aa < 256) (hb2 : bb < 256) (hc : ci < 2) : Cp l yX0_addBits cX0_addBits 8 .int (rm_ 1) [.int (nI aa), .int (nI bb), .int (nI ci)] (fun r => r = nI ((aa + bb + ci) % 256)) := by
  refine st_p (by decide) (Nat.le_of_ble_eq_true rfl) ?_
  intro p e s m below meth c ls hx hb hr hlocks hF hl
  have hl : lv_has ls 8 [(0, .int (nI aa)), (1, .int (nI bb)), (2, .int (nI ci))] := hl
  refine lv_iconst (v := 0) hx hb dX0_addBits_0 (by decide) ?_
  refine tx (y := nI (sm aa bb ci 0)) (rfl) ?_
  refine lv_istore_n (lv' := [(3, .int (nI (sm aa bb ci 0))), (0, .int (nI aa)), (1, .int (nI bb)), (2, .int (nI ci))]) hx hb dX0_addBits_1 rfl hl (by decide) rfl (fun ls hl => ?_)
  refine lv_iload_n hx hb dX0_addBits_2 rfl (lv_at hl 3 rfl) ?_
  refine lv_istore (lv' := [(4, .int (nI ci)), (3, .int (nI (sm aa bb ci 0))), (0, .int (nI aa)), (1, .int (nI bb)), (2, .int (nI ci))]) hx hb dX0_addBits_3 hl (by decide) rfl (fun ls hl => ?_)
  refine lv_iconst (v := 0) hx hb dX0_addBits_5 (by decide) ?_
  refine lv_istore (lv' := [(5, .int 0), (4, .int (nI ci)), (3, .int (nI (sm aa bb ci 0))), (0, .int (nI aa)), (1, .int (nI bb)), (2, .int (nI ci))]) hx hb dX0_addBits_6 hl (by decide) rfl (fun ls hl => ?_)
  refine lp_p (fun i ls => lv_has ls 8 [(0, .int (nI aa)), (1, .int (nI bb)), (3, .int (nI (sm aa bb ci i))), (4, .int (nI (cy aa bb ci i))), (5, .int (nI i))]) 8 ?_ 0 ls (by omega) (lv_sub hl [3, 4, 2, 1, 0] rfl)
  intro i ls hi hI ih
  have hl := hI
  have hl : lv_has ls 8 [(0, .int (nI aa)), (1, .int (nI bb)), (3, .int (nI (sm aa bb ci i))), (4, .int (nI (cy aa bb ci i))), (5, .int (nI i))] := hl
  refine lv_iload hx hb dX0_addBits_8 (lv_at hl 4 rfl) ?_
  refine lv_bipush (v := 8) hx hb dX0_addBits_10 (by decide) ?_
  refine lv_icmp_ge (tgt := 62) hx hb dX0_addBits_12 (by decide) (fun c_12 => ?_) (fun c_12 => ?_)
  · have hin : i = 8 := by have := le_of (a := 8) (b := i) c_12; omega
    refine lv_iload_n hx hb dX0_addBits_62 rfl (lv_at hl 2 rfl) ?_
    exact e_pi hx hb hr hlocks dX0_addBits_63 (by rw [hin, sm_8 ha hb2 hc])
  · have hlt : i < 8 := nle_of (a := 8) (b := i) c_12
    have hz0 := (add3 (b01_lt aa i) (b01_lt bb i) (cy_lt (a := aa) (b := bb) hc i)).2
    have hz1 : (b01 aa i ^^^ b01 bb i ^^^ cy aa bb ci i) * 2 ^ i < 2 ^ 32 := by
      have h2 : 2 ^ i < 2 ^ 31 := Nat.pow_lt_pow_right (by decide) (by omega)
      have h3 : (b01 aa i ^^^ b01 bb i ^^^ cy aa bb ci i) * 2 ^ i ≤ 1 * 2 ^ i := Nat.mul_le_mul_right _ (by omega)
      omega
    refine lv_iload_n hx hb dX0_addBits_15 rfl (lv_at hl 0 rfl) ?_
    refine lv_iload hx hb dX0_addBits_16 (lv_at hl 4 rfl) ?_
    refine lv_ishr hx hb dX0_addBits_18 ?_
    refine lv_iconst (v := 1) hx hb dX0_addBits_19 (by decide) ?_
    refine lv_iand hx hb dX0_addBits_20 ?_
    refine tx (y := nI (b01 aa i)) (nI_bit (by omega) (by omega)) ?_
    refine lv_istore (lv' := [(6, .int (nI (b01 aa i))), (0, .int (nI aa)), (1, .int (nI bb)), (3, .int (nI (sm aa bb ci i))), (4, .int (nI (cy aa bb ci i))), (5, .int (nI i))]) hx hb dX0_addBits_21 hl (by decide) rfl (fun ls hl => ?_)
    refine lv_iload_n hx hb dX0_addBits_23 rfl (lv_at hl 2 rfl) ?_
    refine lv_iload hx hb dX0_addBits_24 (lv_at hl 5 rfl) ?_
    refine lv_ishr hx hb dX0_addBits_26 ?_
    refine lv_iconst (v := 1) hx hb dX0_addBits_27 (by decide) ?_
    refine lv_iand hx hb dX0_addBits_28 ?_
    refine tx (y := nI (b01 bb i)) (nI_bit (by omega) (by omega)) ?_
    refine lv_istore (lv' := [(7, .int (nI (b01 bb i))), (6, .int (nI (b01 aa i))), (0, .int (nI aa)), (1, .int (nI bb)), (3, .int (nI (sm aa bb ci i))), (4, .int (nI (cy aa bb ci i))), (5, .int (nI i))]) hx hb dX0_addBits_29 hl (by decide) rfl (fun ls hl => ?_)
    refine lv_iload_n hx hb dX0_addBits_31 rfl (lv_at hl 4 rfl) ?_
    refine lv_iload hx hb dX0_addBits_32 (lv_at hl 1 rfl) ?_
    refine lv_iload hx hb dX0_addBits_34 (lv_at hl 0 rfl) ?_
    refine lv_ixor hx hb dX0_addBits_36 ?_
    refine tx (y := nI (b01 aa i ^^^ b01 bb i)) (nx_xor _ _) ?_
    refine lv_iload hx hb dX0_addBits_37 (lv_at hl 5 rfl) ?_
    refine lv_ixor hx hb dX0_addBits_39 ?_
    refine tx (y := nI (b01 aa i ^^^ b01 bb i ^^^ cy aa bb ci i)) (nx_xor _ _) ?_
    refine lv_iload hx hb dX0_addBits_40 (lv_at hl 6 rfl) ?_
    refine lv_ishl hx hb dX0_addBits_42 ?_
    refine tx (y := nI ((b01 aa i ^^^ b01 bb i ^^^ cy aa bb ci i) * 2 ^ i)) (nI_shl (by omega) hz1) ?_
    refine lv_ior hx hb dX0_addBits_43 ?_
    refine tx (y := nI (sm aa bb ci (i + 1))) (nx_or _ _) ?_
    refine lv_istore_n (lv' := [(3, .int (nI (sm aa bb ci (i + 1)))), (7, .int (nI (b01 bb i))), (6, .int (nI (b01 aa i))), (0, .int (nI aa)), (1, .int (nI bb)), (4, .int (nI (cy aa bb ci i))), (5, .int (nI i))]) hx hb dX0_addBits_44 rfl hl (by decide) rfl (fun ls hl => ?_)
    refine lv_iload hx hb dX0_addBits_45 (lv_at hl 2 rfl) ?_
    refine lv_iload hx hb dX0_addBits_47 (lv_at hl 1 rfl) ?_
    refine lv_iload hx hb dX0_addBits_49 (lv_at hl 5 rfl) ?_
    refine s_p (rest := []) hF (kX0_vote l (nI (b01 aa i)) (nI (b01 bb i)) (nI (cy aa bb ci i))) q127 q128 q28 q129 hdX0_vote rfl rfl ⟨Nat.le_of_ble_eq_true rfl, Nat.le_of_ble_eq_true rfl⟩ rfl hl.1 rfl (Nat.le_of_ble_eq_true rfl) dX0_addBits_51 ⟨Nat.zero_le _, Nat.zero_le _⟩ (fun r1 hr1 => ?_)
    refine tx (y := nI (mj (b01 aa i) (b01 bb i) (cy aa bb ci i))) (hr1.trans (vt_nI _ _ _)) ?_
    refine tx (y := nI (cy aa bb ci (i + 1))) (rfl) ?_
    refine lv_istore (lv' := [(4, .int (nI (cy aa bb ci (i + 1)))), (3, .int (nI (sm aa bb ci (i + 1)))), (7, .int (nI (b01 bb i))), (6, .int (nI (b01 aa i))), (0, .int (nI aa)), (1, .int (nI bb)), (5, .int (nI i))]) hx hb dX0_addBits_54 hl (by decide) rfl (fun ls hl => ?_)
    refine lv_iinc (v := nI (i + 1)) (lv' := [(5, .int (nI (i + 1))), (4, .int (nI (cy aa bb ci (i + 1)))), (3, .int (nI (sm aa bb ci (i + 1)))), (7, .int (nI (b01 bb i))), (6, .int (nI (b01 aa i))), (0, .int (nI aa)), (1, .int (nI bb))]) (k := 6) hx hb dX0_addBits_56 hl rfl (nI_1 _) (by decide) rfl (fun ls hl => ?_)
    refine lv_goto (tgt := 8) hx hb dX0_addBits_59 (by decide) ?_
    exact ih (hlt) ls (lv_sub hl [5, 6, 2, 1, 0] rfl)

set_option maxHeartbeats 4000000 in
set_option maxRecDepth 100000 in
theorem kX0_workOut (l : Launch) (op aa bb nn : Nat) (hop : op = 1 ∨ op = 4 ∨ op = 5 ∨ op = 6 ∨ op = 7 ∨ op = 8 ∨ op = 9) (ha : aa < 256) (hb2 : bb < 256) : Cp l yX0_workOut cX0_workOut 4 .int (rm_ 2) [.int (nI op), .int (nI aa), .int (nI bb), .int (nI nn)] (fun r => r = nI (wo op aa bb nn)) := by
  refine st_p (by decide) (Nat.le_of_ble_eq_true rfl) ?_
  intro p e s m below meth c ls hx hb hr hlocks hF hl
  have hl : lv_has ls 4 [(0, .int (nI op)), (1, .int (nI aa)), (2, .int (nI bb)), (3, .int (nI nn))] := hl
  refine lv_iload_n hx hb dX0_workOut_0 rfl (lv_at hl 0 rfl) ?_
  rcases hop with rfl | rfl | rfl | rfl | rfl | rfl | rfl
  · refine lv_tableIn (tgt := 52) (off := 51) hx hb dX0_workOut_1 (by decide) (by decide) (by decide) (by decide) ?_
    have hl : lv_has ls 4 [(0, .int (nI 1)), (1, .int (nI aa)), (2, .int (nI bb)), (3, .int (nI nn))] := hl
    refine lv_iload_n hx hb dX0_workOut_52 rfl (lv_at hl 3 rfl) ?_
    exact e_pi hx hb hr hlocks dX0_workOut_53 (rfl)
  · refine lv_tableIn (tgt := 54) (off := 53) hx hb dX0_workOut_1 (by decide) (by decide) (by decide) (by decide) ?_
    have hl : lv_has ls 4 [(0, .int (nI 4)), (1, .int (nI aa)), (2, .int (nI bb)), (3, .int (nI nn))] := hl
    refine lv_iload_n hx hb dX0_workOut_54 rfl (lv_at hl 1 rfl) ?_
    refine lv_iload_n hx hb dX0_workOut_55 rfl (lv_at hl 2 rfl) ?_
    refine lv_iconst (v := 0) hx hb dX0_workOut_56 (by decide) ?_
    refine s_p (rest := []) hF (kX0_addBits l aa bb 0 (by omega) (by omega) (by omega)) q171 q172 q28 q173 hdX0_addBits rfl rfl ⟨Nat.le_of_ble_eq_true rfl, Nat.le_of_ble_eq_true rfl⟩ rfl hl.1 rfl (Nat.le_of_ble_eq_true rfl) dX0_workOut_57 ⟨Nat.zero_le _, Nat.zero_le _⟩ (fun r1 hr1 => ?_)
    refine tx (y := nI ((aa + bb + 0) % 256)) (hr1) ?_
    exact e_pi hx hb hr hlocks dX0_workOut_60 (rfl)
  · refine lv_tableIn (tgt := 61) (off := 60) hx hb dX0_workOut_1 (by decide) (by decide) (by decide) (by decide) ?_
    have hl : lv_has ls 4 [(0, .int (nI 5)), (1, .int (nI aa)), (2, .int (nI bb)), (3, .int (nI nn))] := hl
    refine lv_iload_n hx hb dX0_workOut_61 rfl (lv_at hl 1 rfl) ?_
    refine lv_iload_n hx hb dX0_workOut_62 rfl (lv_at hl 2 rfl) ?_
    refine lv_sipush (v := 255) hx hb dX0_workOut_63 (by decide) ?_
    refine lv_ixor hx hb dX0_workOut_66 ?_
    refine tx (y := nI (255 - bb)) ((nx_xor bb 255).trans (by rw [x255 bb hb2])) ?_
    refine lv_iconst (v := 1) hx hb dX0_workOut_67 (by decide) ?_
    refine s_p (rest := []) hF (kX0_addBits l aa (255 - bb) 1 (by omega) (by omega) (by omega)) q171 q172 q28 q173 hdX0_addBits rfl rfl ⟨Nat.le_of_ble_eq_true rfl, Nat.le_of_ble_eq_true rfl⟩ rfl hl.1 rfl (Nat.le_of_ble_eq_true rfl) dX0_workOut_68 ⟨Nat.zero_le _, Nat.zero_le _⟩ (fun r2 hr2 => ?_)
    refine tx (y := nI ((aa + (255 - bb) + 1) % 256)) (hr2) ?_
    exact e_pi hx hb hr hlocks dX0_workOut_71 (by rw [show (aa + (255 - bb) + 1) % 256 = wo 5 aa bb nn from ?_]; show _ = (aa + 256 - bb) % 256; congr 1; omega)
  · refine lv_tableIn (tgt := 72) (off := 71) hx hb dX0_workOut_1 (by decide) (by decide) (by decide) (by decide) ?_
    have hl : lv_has ls 4 [(0, .int (nI 6)), (1, .int (nI aa)), (2, .int (nI bb)), (3, .int (nI nn))] := hl
    refine lv_iload_n hx hb dX0_workOut_72 rfl (lv_at hl 1 rfl) ?_
    refine lv_iload_n hx hb dX0_workOut_73 rfl (lv_at hl 2 rfl) ?_
    refine lv_iand hx hb dX0_workOut_74 ?_
    refine tx (y := nI (aa &&& bb)) (nx_and _ _) ?_
    exact e_pi hx hb hr hlocks dX0_workOut_75 (rfl)
  · refine lv_tableIn (tgt := 76) (off := 75) hx hb dX0_workOut_1 (by decide) (by decide) (by decide) (by decide) ?_
    have hl : lv_has ls 4 [(0, .int (nI 7)), (1, .int (nI aa)), (2, .int (nI bb)), (3, .int (nI nn))] := hl
    refine lv_iload_n hx hb dX0_workOut_76 rfl (lv_at hl 1 rfl) ?_
    refine lv_iload_n hx hb dX0_workOut_77 rfl (lv_at hl 2 rfl) ?_
    refine lv_ixor hx hb dX0_workOut_78 ?_
    refine tx (y := nI (aa ^^^ bb)) (nx_xor _ _) ?_
    exact e_pi hx hb hr hlocks dX0_workOut_79 (rfl)
  · refine lv_tableIn (tgt := 80) (off := 79) hx hb dX0_workOut_1 (by decide) (by decide) (by decide) (by decide) ?_
    have hl : lv_has ls 4 [(0, .int (nI 8)), (1, .int (nI aa)), (2, .int (nI bb)), (3, .int (nI nn))] := hl
    refine lv_iload_n hx hb dX0_workOut_80 rfl (lv_at hl 1 rfl) ?_
    refine lv_iconst (v := 1) hx hb dX0_workOut_81 (by decide) ?_
    refine lv_ishr hx hb dX0_workOut_82 ?_
    refine tx (y := nI (aa / 2 ^ 1)) (nI_shr (p := 1) (by omega) (by decide)) ?_
    exact e_pi hx hb hr hlocks dX0_workOut_83 (rfl)
  · refine lv_tableIn (tgt := 84) (off := 83) hx hb dX0_workOut_1 (by decide) (by decide) (by decide) (by decide) ?_
    have hl : lv_has ls 4 [(0, .int (nI 9)), (1, .int (nI aa)), (2, .int (nI bb)), (3, .int (nI nn))] := hl
    refine lv_iload_n hx hb dX0_workOut_84 rfl (lv_at hl 3 rfl) ?_
    refine lv_bipush (v := 31) hx hb dX0_workOut_85 (by decide) ?_
    refine lv_iand hx hb dX0_workOut_87 ?_
    refine tx (y := nI (nn % 32)) (nI_and31 _) ?_
    exact e_pi hx hb hr hlocks dX0_workOut_88 (rfl)

set_option maxHeartbeats 4000000 in
set_option maxRecDepth 100000 in
theorem kX0_isRegister (l : Launch) (x : Int32) : Cp l yX0_isRegister cX0_isRegister 1 .boolean (rm_ 0) [.int x] (fun r => r = nI (iv x 4)) := by
  refine st_p (by decide) (Nat.le_of_ble_eq_true rfl) ?_
  intro p e s m below meth c ls hx hb hr hlocks hF hl
  have hl : lv_has ls 1 [(0, .int x)] := hl
  refine lv_iload_n hx hb dX0_isRegister_0 rfl (lv_at hl 0 rfl) ?_
  refine lv_if_lt (tgt := 13) hx hb dX0_isRegister_1 (by decide) (fun c_1 => ?_) (fun c_1 => ?_)
  · refine lv_iconst (v := 0) hx hb dX0_isRegister_13 (by decide) ?_
    exact e_pz hx hb hr hlocks dX0_isRegister_14 (rfl) (by rw [iv_lt c_1]; rfl)
  · refine lv_iload_n hx hb dX0_isRegister_4 rfl (lv_at hl 0 rfl) ?_
    refine lv_iconst (v := 4) hx hb dX0_isRegister_5 (by decide) ?_
    refine lv_icmp_ge (tgt := 13) hx hb dX0_isRegister_6 (by decide) (fun c_6 => ?_) (fun c_6 => ?_)
    · refine lv_iconst (v := 0) hx hb dX0_isRegister_13 (by decide) ?_
      exact e_pz hx hb hr hlocks dX0_isRegister_14 (rfl) (by rw [iv_ge c_1 (n := 4) c_6]; rfl)
    · refine lv_iconst (v := 1) hx hb dX0_isRegister_9 (by decide) ?_
      refine lv_goto (tgt := 14) hx hb dX0_isRegister_10 (by decide) ?_
      exact e_pz hx hb hr hlocks dX0_isRegister_14 (rfl) (by rw [iv_in c_1 (n := 4) c_6]; rfl)

set_option maxHeartbeats 4000000 in
set_option maxRecDepth 100000 in
theorem kX0_isCopy (l : Launch) (x : Int32) : Cp l yX0_isCopy cX0_isCopy 1 .boolean (rm_ 0) [.int x] (fun r => r = nI (iv x 3)) := by
  refine st_p (by decide) (Nat.le_of_ble_eq_true rfl) ?_
  intro p e s m below meth c ls hx hb hr hlocks hF hl
  have hl : lv_has ls 1 [(0, .int x)] := hl
  refine lv_iload_n hx hb dX0_isCopy_0 rfl (lv_at hl 0 rfl) ?_
  refine lv_if_lt (tgt := 13) hx hb dX0_isCopy_1 (by decide) (fun c_1 => ?_) (fun c_1 => ?_)
  · refine lv_iconst (v := 0) hx hb dX0_isCopy_13 (by decide) ?_
    exact e_pz hx hb hr hlocks dX0_isCopy_14 (rfl) (by rw [iv_lt c_1]; rfl)
  · refine lv_iload_n hx hb dX0_isCopy_4 rfl (lv_at hl 0 rfl) ?_
    refine lv_iconst (v := 3) hx hb dX0_isCopy_5 (by decide) ?_
    refine lv_icmp_ge (tgt := 13) hx hb dX0_isCopy_6 (by decide) (fun c_6 => ?_) (fun c_6 => ?_)
    · refine lv_iconst (v := 0) hx hb dX0_isCopy_13 (by decide) ?_
      exact e_pz hx hb hr hlocks dX0_isCopy_14 (rfl) (by rw [iv_ge c_1 (n := 3) c_6]; rfl)
    · refine lv_iconst (v := 1) hx hb dX0_isCopy_9 (by decide) ?_
      refine lv_goto (tgt := 14) hx hb dX0_isCopy_10 (by decide) ?_
      exact e_pz hx hb hr hlocks dX0_isCopy_14 (rfl) (by rw [iv_in c_1 (n := 3) c_6]; rfl)
end
section
/-! SHIELDEDMACHINE: the leaves over its cells -/
set_option maxHeartbeats 4000000 in
set_option maxRecDepth 100000 in
theorem kX0_voteRegister (l : Launch) (D : va_G) (g k : Nat → Nat) (sz : Nat) (S : MS) (u : XS) (hR : RX S u) (ri : Nat) (hr4 : ri < 4) : Ci l yX0_voteRegister cX0_voteRegister 2 .int (rm_ 1) D (xt k) (xw g k) sz [.ref (g 0), .int (nI ri)] u (fun r u2 => r = nI (ms0 S ri) ∧ u2 = u) := by
  refine st_i (by decide) (Nat.le_of_ble_eq_true rfl) ?_
  intro p e s m below meth c A ls hx hb hr hlocks hF hA hK hP hD hS hl
  have hl : lv_has ls 2 [(0, .ref (g 0)), (1, .int (nI ri))] := hl
  refine lv_aload_n hx hb dX0_voteRegister_0 rfl (lv_at hl 0 rfl) ?_
  refine x_get (v := .ref (g 1)) hF hK hP 0 rfl 0 (by decide) q57 rfl rfl dX0_voteRegister_1 ?_
  refine lv_iload_n hx hb dX0_voteRegister_4 rfl (lv_at hl 1 rfl) ?_
  refine lv_iconst (v := 3) hx hb dX0_voteRegister_5 (by decide) ?_
  refine lv_imul hx hb dX0_voteRegister_6 ?_
  refine tx (y := nI (ri * 3)) (pk_mul _ _) ?_
  refine n_iald (v := (xs0 u) (ri * 3)) hx hb hK hP 1 0 rfl rfl (ri * 3) (rfl) (by omega) (by decide) (rfl) dX0_voteRegister_7 ?_
  refine lv_aload_n hx hb dX0_voteRegister_8 rfl (lv_at hl 0 rfl) ?_
  refine x_get (v := .ref (g 1)) hF hK hP 0 rfl 0 (by decide) q57 rfl rfl dX0_voteRegister_9 ?_
  refine lv_iload_n hx hb dX0_voteRegister_12 rfl (lv_at hl 1 rfl) ?_
  refine lv_iconst (v := 3) hx hb dX0_voteRegister_13 (by decide) ?_
  refine lv_imul hx hb dX0_voteRegister_14 ?_
  refine tx (y := nI (ri * 3)) (pk_mul _ _) ?_
  refine lv_iconst (v := 1) hx hb dX0_voteRegister_15 (by decide) ?_
  refine lv_iadd hx hb dX0_voteRegister_16 ?_
  refine tx (y := nI (ri * 3 + 1)) (nI_add _ _) ?_
  refine n_iald (v := (xs0 u) (ri * 3 + 1)) hx hb hK hP 1 0 rfl rfl (ri * 3 + 1) (rfl) (by omega) (by decide) (rfl) dX0_voteRegister_17 ?_
  refine lv_aload_n hx hb dX0_voteRegister_18 rfl (lv_at hl 0 rfl) ?_
  refine x_get (v := .ref (g 1)) hF hK hP 0 rfl 0 (by decide) q57 rfl rfl dX0_voteRegister_19 ?_
  refine lv_iload_n hx hb dX0_voteRegister_22 rfl (lv_at hl 1 rfl) ?_
  refine lv_iconst (v := 3) hx hb dX0_voteRegister_23 (by decide) ?_
  refine lv_imul hx hb dX0_voteRegister_24 ?_
  refine tx (y := nI (ri * 3)) (pk_mul _ _) ?_
  refine lv_iconst (v := 2) hx hb dX0_voteRegister_25 (by decide) ?_
  refine lv_iadd hx hb dX0_voteRegister_26 ?_
  refine tx (y := nI (ri * 3 + 2)) (nI_add _ _) ?_
  refine n_iald (v := (xs0 u) (ri * 3 + 2)) hx hb hK hP 1 0 rfl rfl (ri * 3 + 2) (rfl) (by omega) (by decide) (rfl) dX0_voteRegister_27 ?_
  refine s_p (rest := []) hF (kX0_vote l ((xs0 u) (ri * 3)) ((xs0 u) (ri * 3 + 1)) ((xs0 u) (ri * 3 + 2))) q127 q128 q28 q129 hdX0_vote rfl rfl ⟨Nat.le_of_ble_eq_true rfl, Nat.le_of_ble_eq_true rfl⟩ rfl hl.1 rfl (Nat.le_of_ble_eq_true rfl) dX0_voteRegister_28 ⟨Nat.zero_le _, Nat.zero_le _⟩ (fun r1 hr1 => ?_)
  refine tx (y := vt ((xs0 u) (ri * 3)) ((xs0 u) (ri * 3 + 1)) ((xs0 u) (ri * 3 + 2))) (hr1) ?_
  exact e_i (wf := xw g k) (u := u) hx hb hr hlocks hK hP hD hS dX0_voteRegister_31 (⟨hR.vreg hr4, rfl⟩)

set_option maxHeartbeats 4000000 in
set_option maxRecDepth 100000 in
theorem kX0_votePlace (l : Launch) (D : va_G) (g k : Nat → Nat) (sz : Nat) (S : MS) (u : XS) (hR : RX S u) : Ci l yX0_votePlace cX0_votePlace 1 .int (rm_ 1) D (xt k) (xw g k) sz [.ref (g 0)] u (fun r u2 => r = nI (ms5 S) ∧ u2 = u) := by
  refine st_i (by decide) (Nat.le_of_ble_eq_true rfl) ?_
  intro p e s m below meth c A ls hx hb hr hlocks hF hA hK hP hD hS hl
  have hl : lv_has ls 1 [(0, .ref (g 0))] := hl
  refine lv_aload_n hx hb dX0_votePlace_0 rfl (lv_at hl 0 rfl) ?_
  refine x_get (v := .ref (g 2)) hF hK hP 0 rfl 1 (by decide) q58 rfl rfl dX0_votePlace_1 ?_
  refine lv_iconst (v := 0) hx hb dX0_votePlace_4 (by decide) ?_
  refine n_iald (v := (xs1 u) 0) hx hb hK hP 2 1 rfl rfl 0 (rfl) (by omega) (by decide) (rfl) dX0_votePlace_5 ?_
  refine lv_aload_n hx hb dX0_votePlace_6 rfl (lv_at hl 0 rfl) ?_
  refine x_get (v := .ref (g 2)) hF hK hP 0 rfl 1 (by decide) q58 rfl rfl dX0_votePlace_7 ?_
  refine lv_iconst (v := 1) hx hb dX0_votePlace_10 (by decide) ?_
  refine n_iald (v := (xs1 u) 1) hx hb hK hP 2 1 rfl rfl 1 (rfl) (by omega) (by decide) (rfl) dX0_votePlace_11 ?_
  refine lv_aload_n hx hb dX0_votePlace_12 rfl (lv_at hl 0 rfl) ?_
  refine x_get (v := .ref (g 2)) hF hK hP 0 rfl 1 (by decide) q58 rfl rfl dX0_votePlace_13 ?_
  refine lv_iconst (v := 2) hx hb dX0_votePlace_16 (by decide) ?_
  refine n_iald (v := (xs1 u) 2) hx hb hK hP 2 1 rfl rfl 2 (rfl) (by omega) (by decide) (rfl) dX0_votePlace_17 ?_
  refine s_p (rest := []) hF (kX0_vote l ((xs1 u) 0) ((xs1 u) 1) ((xs1 u) 2)) q127 q128 q28 q129 hdX0_vote rfl rfl ⟨Nat.le_of_ble_eq_true rfl, Nat.le_of_ble_eq_true rfl⟩ rfl hl.1 rfl (Nat.le_of_ble_eq_true rfl) dX0_votePlace_18 ⟨Nat.zero_le _, Nat.zero_le _⟩ (fun r1 hr1 => ?_)
  refine tx (y := vt ((xs1 u) 0) ((xs1 u) 1) ((xs1 u) 2)) (hr1) ?_
  exact e_i (wf := xw g k) (u := u) hx hb hr hlocks hK hP hD hS dX0_votePlace_21 (⟨hR.vplc, rfl⟩)

set_option maxHeartbeats 4000000 in
set_option maxRecDepth 100000 in
theorem kX0_writeRegister (l : Launch) (D : va_G) (g k : Nat → Nat) (sz : Nat) (u : XS) (ri : Nat) (hr4 : ri < 4) (x : Int32) : Cv l yX0_writeRegister cX0_writeRegister 4 (rm_ 0) D (xt k) (xw g k) sz [.ref (g 0), .int (nI ri), .int x] u (fun u2 => u2 = xu0 u (w3 (xs0 u) ri x)) := by
  refine st_v (by decide) (Nat.le_of_ble_eq_true rfl) ?_
  intro p e s m below meth c A ls hx hb hr hlocks hF hA hK hP hD hS hl
  have hl : lv_has ls 4 [(0, .ref (g 0)), (1, .int (nI ri)), (2, .int x)] := hl
  refine lv_iconst (v := 0) hx hb dX0_writeRegister_0 (by decide) ?_
  refine lv_istore_n (lv' := [(3, .int 0), (0, .ref (g 0)), (1, .int (nI ri)), (2, .int x)]) hx hb dX0_writeRegister_1 rfl hl (by decide) rfl (fun ls hl => ?_)
  refine lv_iload_n hx hb dX0_writeRegister_2 rfl (lv_at hl 0 rfl) ?_
  refine lv_iconst (v := 3) hx hb dX0_writeRegister_3 (by decide) ?_
  refine lv_icmp_ge (tgt := 24) hx hb dX0_writeRegister_4 (by decide) (fun q => absurd q (by decide)) (fun _ => ?_)
  refine lv_aload_n hx hb dX0_writeRegister_7 rfl (lv_at hl 1 rfl) ?_
  refine x_get (v := .ref (g 1)) hF hK hP 0 rfl 0 (by decide) q57 rfl rfl dX0_writeRegister_8 ?_
  refine lv_iload_n hx hb dX0_writeRegister_11 rfl (lv_at hl 2 rfl) ?_
  refine lv_iconst (v := 3) hx hb dX0_writeRegister_12 (by decide) ?_
  refine lv_imul hx hb dX0_writeRegister_13 ?_
  refine tx (y := nI (ri * 3)) (pk_mul _ _) ?_
  refine lv_iload_n hx hb dX0_writeRegister_14 rfl (lv_at hl 0 rfl) ?_
  refine lv_iadd hx hb dX0_writeRegister_15 ?_
  refine tx (y := nI (ri * 3 + 0)) (nI_add _ _) ?_
  refine lv_iload_n hx hb dX0_writeRegister_16 rfl (lv_at hl 3 rfl) ?_
  refine n_iast (f' := upd (xs0 u) (ri * 3 + 0) x) (ws' := xw g k (xu0 u (upd (xs0 u) (ri * 3 + 0) x))) hx hb hK hP hD hS 1 0 rfl rfl (ri * 3 + 0) (rfl) (by omega) (by decide) (rfl) rfl dX0_writeRegister_17 (fun H locs hP hD hS => ?_)
  refine lv_iinc (v := 1) (lv' := [(3, .int 1), (0, .ref (g 0)), (1, .int (nI ri)), (2, .int x)]) (k := 0) hx hb dX0_writeRegister_18 hl rfl (by decide) (by decide) rfl (fun ls hl => ?_)
  refine lv_goto (tgt := 2) hx hb dX0_writeRegister_21 (by decide) ?_
  refine lv_iload_n hx hb dX0_writeRegister_2 rfl (lv_at hl 0 rfl) ?_
  refine lv_iconst (v := 3) hx hb dX0_writeRegister_3 (by decide) ?_
  refine lv_icmp_ge (tgt := 24) hx hb dX0_writeRegister_4 (by decide) (fun q => absurd q (by decide)) (fun _ => ?_)
  refine lv_aload_n hx hb dX0_writeRegister_7 rfl (lv_at hl 1 rfl) ?_
  refine x_get (v := .ref (g 1)) hF hK hP 0 rfl 0 (by decide) q57 rfl rfl dX0_writeRegister_8 ?_
  refine lv_iload_n hx hb dX0_writeRegister_11 rfl (lv_at hl 2 rfl) ?_
  refine lv_iconst (v := 3) hx hb dX0_writeRegister_12 (by decide) ?_
  refine lv_imul hx hb dX0_writeRegister_13 ?_
  refine tx (y := nI (ri * 3)) (pk_mul _ _) ?_
  refine lv_iload_n hx hb dX0_writeRegister_14 rfl (lv_at hl 0 rfl) ?_
  refine lv_iadd hx hb dX0_writeRegister_15 ?_
  refine tx (y := nI (ri * 3 + 1)) (nI_add _ _) ?_
  refine lv_iload_n hx hb dX0_writeRegister_16 rfl (lv_at hl 3 rfl) ?_
  refine n_iast (f' := upd (upd (xs0 u) (ri * 3 + 0) x) (ri * 3 + 1) x) (ws' := xw g k (xu0 u (upd (upd (xs0 u) (ri * 3 + 0) x) (ri * 3 + 1) x))) hx hb hK hP hD hS 1 0 rfl rfl (ri * 3 + 1) (rfl) (by omega) (by decide) (rfl) rfl dX0_writeRegister_17 (fun H locs hP hD hS => ?_)
  refine lv_iinc (v := 2) (lv' := [(3, .int 2), (0, .ref (g 0)), (1, .int (nI ri)), (2, .int x)]) (k := 0) hx hb dX0_writeRegister_18 hl rfl (by decide) (by decide) rfl (fun ls hl => ?_)
  refine lv_goto (tgt := 2) hx hb dX0_writeRegister_21 (by decide) ?_
  refine lv_iload_n hx hb dX0_writeRegister_2 rfl (lv_at hl 0 rfl) ?_
  refine lv_iconst (v := 3) hx hb dX0_writeRegister_3 (by decide) ?_
  refine lv_icmp_ge (tgt := 24) hx hb dX0_writeRegister_4 (by decide) (fun q => absurd q (by decide)) (fun _ => ?_)
  refine lv_aload_n hx hb dX0_writeRegister_7 rfl (lv_at hl 1 rfl) ?_
  refine x_get (v := .ref (g 1)) hF hK hP 0 rfl 0 (by decide) q57 rfl rfl dX0_writeRegister_8 ?_
  refine lv_iload_n hx hb dX0_writeRegister_11 rfl (lv_at hl 2 rfl) ?_
  refine lv_iconst (v := 3) hx hb dX0_writeRegister_12 (by decide) ?_
  refine lv_imul hx hb dX0_writeRegister_13 ?_
  refine tx (y := nI (ri * 3)) (pk_mul _ _) ?_
  refine lv_iload_n hx hb dX0_writeRegister_14 rfl (lv_at hl 0 rfl) ?_
  refine lv_iadd hx hb dX0_writeRegister_15 ?_
  refine tx (y := nI (ri * 3 + 2)) (nI_add _ _) ?_
  refine lv_iload_n hx hb dX0_writeRegister_16 rfl (lv_at hl 3 rfl) ?_
  refine n_iast (f' := upd (upd (upd (xs0 u) (ri * 3 + 0) x) (ri * 3 + 1) x) (ri * 3 + 2) x) (ws' := xw g k (xu0 u (upd (upd (upd (xs0 u) (ri * 3 + 0) x) (ri * 3 + 1) x) (ri * 3 + 2) x))) hx hb hK hP hD hS 1 0 rfl rfl (ri * 3 + 2) (rfl) (by omega) (by decide) (rfl) rfl dX0_writeRegister_17 (fun H locs hP hD hS => ?_)
  refine lv_iinc (v := 3) (lv' := [(3, .int 3), (0, .ref (g 0)), (1, .int (nI ri)), (2, .int x)]) (k := 0) hx hb dX0_writeRegister_18 hl rfl (by decide) (by decide) rfl (fun ls hl => ?_)
  refine lv_goto (tgt := 2) hx hb dX0_writeRegister_21 (by decide) ?_
  refine lv_iload_n hx hb dX0_writeRegister_2 rfl (lv_at hl 0 rfl) ?_
  refine lv_iconst (v := 3) hx hb dX0_writeRegister_3 (by decide) ?_
  refine lv_icmp_ge (tgt := 24) hx hb dX0_writeRegister_4 (by decide) (fun _ => ?_) (fun q => absurd (by decide) q)
  exact e_v (wf := xw g k) (u := xu0 u (upd (upd (upd (xs0 u) (ri * 3 + 0) x) (ri * 3 + 1) x) (ri * 3 + 2) x)) hx hb hr hlocks hK hP hD hS dX0_writeRegister_24 (rfl)

set_option maxHeartbeats 4000000 in
set_option maxRecDepth 100000 in
theorem kX0_writePlace (l : Launch) (D : va_G) (g k : Nat → Nat) (sz : Nat) (u : XS) (x : Int32) : Cv l yX0_writePlace cX0_writePlace 3 (rm_ 0) D (xt k) (xw g k) sz [.ref (g 0), .int x] u (fun u2 => u2 = xu1 u (p3 (xs1 u) x)) := by
  refine st_v (by decide) (Nat.le_of_ble_eq_true rfl) ?_
  intro p e s m below meth c A ls hx hb hr hlocks hF hA hK hP hD hS hl
  have hl : lv_has ls 3 [(0, .ref (g 0)), (1, .int x)] := hl
  refine lv_iconst (v := 0) hx hb dX0_writePlace_0 (by decide) ?_
  refine lv_istore_n (lv' := [(2, .int 0), (0, .ref (g 0)), (1, .int x)]) hx hb dX0_writePlace_1 rfl hl (by decide) rfl (fun ls hl => ?_)
  refine lv_iload_n hx hb dX0_writePlace_2 rfl (lv_at hl 0 rfl) ?_
  refine lv_iconst (v := 3) hx hb dX0_writePlace_3 (by decide) ?_
  refine lv_icmp_ge (tgt := 20) hx hb dX0_writePlace_4 (by decide) (fun q => absurd q (by decide)) (fun _ => ?_)
  refine lv_aload_n hx hb dX0_writePlace_7 rfl (lv_at hl 1 rfl) ?_
  refine x_get (v := .ref (g 2)) hF hK hP 0 rfl 1 (by decide) q58 rfl rfl dX0_writePlace_8 ?_
  refine lv_iload_n hx hb dX0_writePlace_11 rfl (lv_at hl 0 rfl) ?_
  refine lv_iload_n hx hb dX0_writePlace_12 rfl (lv_at hl 2 rfl) ?_
  refine n_iast (f' := upd (xs1 u) 0 x) (ws' := xw g k (xu1 u (upd (xs1 u) 0 x))) hx hb hK hP hD hS 2 1 rfl rfl 0 (rfl) (by omega) (by decide) (rfl) rfl dX0_writePlace_13 (fun H locs hP hD hS => ?_)
  refine lv_iinc (v := 1) (lv' := [(2, .int 1), (0, .ref (g 0)), (1, .int x)]) (k := 0) hx hb dX0_writePlace_14 hl rfl (by decide) (by decide) rfl (fun ls hl => ?_)
  refine lv_goto (tgt := 2) hx hb dX0_writePlace_17 (by decide) ?_
  refine lv_iload_n hx hb dX0_writePlace_2 rfl (lv_at hl 0 rfl) ?_
  refine lv_iconst (v := 3) hx hb dX0_writePlace_3 (by decide) ?_
  refine lv_icmp_ge (tgt := 20) hx hb dX0_writePlace_4 (by decide) (fun q => absurd q (by decide)) (fun _ => ?_)
  refine lv_aload_n hx hb dX0_writePlace_7 rfl (lv_at hl 1 rfl) ?_
  refine x_get (v := .ref (g 2)) hF hK hP 0 rfl 1 (by decide) q58 rfl rfl dX0_writePlace_8 ?_
  refine lv_iload_n hx hb dX0_writePlace_11 rfl (lv_at hl 0 rfl) ?_
  refine lv_iload_n hx hb dX0_writePlace_12 rfl (lv_at hl 2 rfl) ?_
  refine n_iast (f' := upd (upd (xs1 u) 0 x) 1 x) (ws' := xw g k (xu1 u (upd (upd (xs1 u) 0 x) 1 x))) hx hb hK hP hD hS 2 1 rfl rfl 1 (rfl) (by omega) (by decide) (rfl) rfl dX0_writePlace_13 (fun H locs hP hD hS => ?_)
  refine lv_iinc (v := 2) (lv' := [(2, .int 2), (0, .ref (g 0)), (1, .int x)]) (k := 0) hx hb dX0_writePlace_14 hl rfl (by decide) (by decide) rfl (fun ls hl => ?_)
  refine lv_goto (tgt := 2) hx hb dX0_writePlace_17 (by decide) ?_
  refine lv_iload_n hx hb dX0_writePlace_2 rfl (lv_at hl 0 rfl) ?_
  refine lv_iconst (v := 3) hx hb dX0_writePlace_3 (by decide) ?_
  refine lv_icmp_ge (tgt := 20) hx hb dX0_writePlace_4 (by decide) (fun q => absurd q (by decide)) (fun _ => ?_)
  refine lv_aload_n hx hb dX0_writePlace_7 rfl (lv_at hl 1 rfl) ?_
  refine x_get (v := .ref (g 2)) hF hK hP 0 rfl 1 (by decide) q58 rfl rfl dX0_writePlace_8 ?_
  refine lv_iload_n hx hb dX0_writePlace_11 rfl (lv_at hl 0 rfl) ?_
  refine lv_iload_n hx hb dX0_writePlace_12 rfl (lv_at hl 2 rfl) ?_
  refine n_iast (f' := upd (upd (upd (xs1 u) 0 x) 1 x) 2 x) (ws' := xw g k (xu1 u (upd (upd (upd (xs1 u) 0 x) 1 x) 2 x))) hx hb hK hP hD hS 2 1 rfl rfl 2 (rfl) (by omega) (by decide) (rfl) rfl dX0_writePlace_13 (fun H locs hP hD hS => ?_)
  refine lv_iinc (v := 3) (lv' := [(2, .int 3), (0, .ref (g 0)), (1, .int x)]) (k := 0) hx hb dX0_writePlace_14 hl rfl (by decide) (by decide) rfl (fun ls hl => ?_)
  refine lv_goto (tgt := 2) hx hb dX0_writePlace_17 (by decide) ?_
  refine lv_iload_n hx hb dX0_writePlace_2 rfl (lv_at hl 0 rfl) ?_
  refine lv_iconst (v := 3) hx hb dX0_writePlace_3 (by decide) ?_
  refine lv_icmp_ge (tgt := 20) hx hb dX0_writePlace_4 (by decide) (fun _ => ?_) (fun q => absurd (by decide) q)
  exact e_v (wf := xw g k) (u := xu1 u (upd (upd (upd (xs1 u) 0 x) 1 x) 2 x)) hx hb hr hlocks hK hP hD hS dX0_writePlace_20 (rfl)

set_option maxHeartbeats 4000000 in
set_option maxRecDepth 100000 in
theorem kX0_writeWord (l : Launch) (D : va_G) (g k : Nat → Nat) (sz : Nat) (u : XS) (wi vv : Nat) (hw : wi < 48) (hv : vv < 65536) : Cv l yX0_writeWord cX0_writeWord 4 (rm_ 2) D (xt k) (xw g k) sz [.ref (g 0), .int (nI wi), .int (nI vv)] u (fun u2 => u2 = xu7 (xu6 u (upd (xs6 u) wi (nI (enc vv (plc wi))))) (upd (xs7 u) wi 0)) := by
  refine st_v (by decide) (Nat.le_of_ble_eq_true rfl) ?_
  intro p e s m below meth c A ls hx hb hr hlocks hF hA hK hP hD hS hl
  have hl : lv_has ls 4 [(0, .ref (g 0)), (1, .int (nI wi)), (2, .int (nI vv))] := hl
  refine lv_iload_n hx hb dX0_writeWord_0 rfl (lv_at hl 1 rfl) ?_
  refine s_p (rest := []) hF (kX0_placesOf l wi (by omega)) q42 q43 q28 q44 hdX0_placesOf rfl rfl ⟨Nat.le_of_ble_eq_true rfl, Nat.le_of_ble_eq_true rfl⟩ rfl hl.1 rfl (Nat.le_of_ble_eq_true rfl) dX0_writeWord_1 ⟨Nat.zero_le _, Nat.zero_le _⟩ (fun r1 hr1 => ?_)
  refine tx (y := nI (plc wi)) (hr1) ?_
  refine lv_istore_n (lv' := [(3, .int (nI (plc wi))), (0, .ref (g 0)), (1, .int (nI wi)), (2, .int (nI vv))]) hx hb dX0_writeWord_4 rfl hl (by decide) rfl (fun ls hl => ?_)
  refine lv_aload_n hx hb dX0_writeWord_5 rfl (lv_at hl 1 rfl) ?_
  refine x_get (v := .ref (g 5)) hF hK hP 0 rfl 6 (by decide) q63 rfl rfl dX0_writeWord_6 ?_
  refine lv_iload_n hx hb dX0_writeWord_9 rfl (lv_at hl 2 rfl) ?_
  refine lv_iload_n hx hb dX0_writeWord_10 rfl (lv_at hl 3 rfl) ?_
  refine lv_iload_n hx hb dX0_writeWord_11 rfl (lv_at hl 0 rfl) ?_
  refine s_p (rest := [.int (nI wi), .ref (g 5)]) hF (kX0_encode l vv (plc wi) (by omega) (plc_2 _)) q45 q46 q28 q47 hdX0_encode rfl rfl ⟨Nat.le_of_ble_eq_true rfl, Nat.le_of_ble_eq_true rfl⟩ rfl hl.1 rfl (Nat.le_of_ble_eq_true rfl) dX0_writeWord_12 ⟨Nat.zero_le _, Nat.zero_le _⟩ (fun r2 hr2 => ?_)
  refine tx (y := nI (enc vv (plc wi))) (hr2) ?_
  refine n_iast (f' := upd (xs6 u) wi (nI (enc vv (plc wi)))) (ws' := xw g k (xu6 u (upd (xs6 u) wi (nI (enc vv (plc wi)))))) hx hb hK hP hD hS 5 4 rfl rfl wi (rfl) (by omega) (by decide) (rfl) rfl dX0_writeWord_15 (fun H locs hP hD hS => ?_)
  refine lv_aload_n hx hb dX0_writeWord_16 rfl (lv_at hl 1 rfl) ?_
  refine x_get (v := .ref (g 6)) hF hK hP 0 rfl 7 (by decide) q64 rfl rfl dX0_writeWord_17 ?_
  refine lv_iload_n hx hb dX0_writeWord_20 rfl (lv_at hl 2 rfl) ?_
  refine lv_iconst (v := 0) hx hb dX0_writeWord_21 (by decide) ?_
  refine n_zast (f' := upd (xs7 u) wi 0) (ws' := xw g k (xu7 (xu6 u (upd (xs6 u) wi (nI (enc vv (plc wi))))) (upd (xs7 u) wi 0))) hx hb hK hP hD hS 6 5 rfl rfl wi (rfl) (by omega) (by decide) (rfl) rfl dX0_writeWord_22 (fun H locs hP hD hS => ?_)
  exact e_v (wf := xw g k) (u := xu7 (xu6 u (upd (xs6 u) wi (nI (enc vv (plc wi))))) (upd (xs7 u) wi 0)) hx hb hr hlocks hK hP hD hS dX0_writeWord_23 (rfl)

set_option maxHeartbeats 4000000 in
set_option maxRecDepth 100000 in
theorem kX0_readWord (l : Launch) (D : va_G) (g k : Nat → Nat) (sz : Nat) (S : MS) (u : XS) (hR : RX S u) (hG : RG S) (wi : Nat) (hw : wi < 48) : Ci l yX0_readWord cX0_readWord 4 .int (rm_ 2) D (xt k) (xw g k) sz [.ref (g 0), .int (nI wi)] u (fun r u2 => r = nI (wd S wi) ∧ u2 = u) := by
  refine st_i (by decide) (Nat.le_of_ble_eq_true rfl) ?_
  intro p e s m below meth c A ls hx hb hr hlocks hF hA hK hP hD hS hl
  have hl : lv_has ls 4 [(0, .ref (g 0)), (1, .int (nI wi))] := hl
  obtain ⟨cd, hcd, hcw, hcor⟩ := hR.cword hw
  refine lv_iload_n hx hb dX0_readWord_0 rfl (lv_at hl 1 rfl) ?_
  refine s_p (rest := []) hF (kX0_placesOf l wi (by omega)) q42 q43 q28 q44 hdX0_placesOf rfl rfl ⟨Nat.le_of_ble_eq_true rfl, Nat.le_of_ble_eq_true rfl⟩ rfl hl.1 rfl (Nat.le_of_ble_eq_true rfl) dX0_readWord_1 ⟨Nat.zero_le _, Nat.zero_le _⟩ (fun r1 hr1 => ?_)
  refine tx (y := nI (plc wi)) (hr1) ?_
  refine lv_istore_n (lv' := [(2, .int (nI (plc wi))), (0, .ref (g 0)), (1, .int (nI wi))]) hx hb dX0_readWord_4 rfl hl (by decide) rfl (fun ls hl => ?_)
  refine lv_aload_n hx hb dX0_readWord_5 rfl (lv_at hl 1 rfl) ?_
  refine x_get (v := .ref (g 5)) hF hK hP 0 rfl 6 (by decide) q63 rfl rfl dX0_readWord_6 ?_
  refine lv_iload_n hx hb dX0_readWord_9 rfl (lv_at hl 2 rfl) ?_
  refine n_iald (v := nI cd) hx hb hK hP 5 4 rfl rfl wi (rfl) (by omega) (by decide) (hcw) dX0_readWord_10 ?_
  refine lv_iload_n hx hb dX0_readWord_11 rfl (lv_at hl 0 rfl) ?_
  refine s_p (rest := []) hF (kX0_correct l cd (plc wi) (by omega) (plc_2 _)) q150 q151 q28 q152 hdX0_correct rfl rfl ⟨Nat.le_of_ble_eq_true rfl, Nat.le_of_ble_eq_true rfl⟩ rfl hl.1 rfl (Nat.le_of_ble_eq_true rfl) dX0_readWord_12 ⟨Nat.zero_le _, Nat.zero_le _⟩ (fun r2 hr2 => ?_)
  refine tx (y := nI (enc (wd S wi) (plc wi))) (hr2.trans (by rw [hcor])) ?_
  refine lv_istore_n (lv' := [(3, .int (nI (enc (wd S wi) (plc wi)))), (2, .int (nI (plc wi))), (0, .ref (g 0)), (1, .int (nI wi))]) hx hb dX0_readWord_15 rfl hl (by decide) rfl (fun ls hl => ?_)
  refine lv_iload_n hx hb dX0_readWord_16 rfl (lv_at hl 0 rfl) ?_
  refine lv_iload_n hx hb dX0_readWord_17 rfl (lv_at hl 1 rfl) ?_
  refine s_p (rest := []) hF (kX0_decode l (enc (wd S wi) (plc wi)) (plc wi) (enc_31 _ _) (plc_2 _)) q157 q158 q28 q159 hdX0_decode rfl rfl ⟨Nat.le_of_ble_eq_true rfl, Nat.le_of_ble_eq_true rfl⟩ rfl hl.1 rfl (Nat.le_of_ble_eq_true rfl) dX0_readWord_18 ⟨Nat.zero_le _, Nat.zero_le _⟩ (fun r3 hr3 => ?_)
  refine tx (y := nI (wd S wi)) (hr3.trans (by rw [wd_read hG hw])) ?_
  exact e_i (wf := xw g k) (u := u) hx hb hr hlocks hK hP hD hS dX0_readWord_21 (⟨rfl, rfl⟩)

set_option maxHeartbeats 4000000 in
set_option maxRecDepth 100000 in
theorem kX0_repair (l : Launch) (D : va_G) (g k : Nat → Nat) (sz : Nat) (S : MS) (u : XS) (hR : RX S u) (wi : Nat) (hw : wi < 48) : Cv l yX0_repair cX0_repair 3 (rm_ 2) D (xt k) (xw g k) sz [.ref (g 0), .int (nI wi)] u (fun u2 => RX (unsp S wi) u2) := by
  refine st_v (by decide) (Nat.le_of_ble_eq_true rfl) ?_
  intro p e s m below meth c A ls hx hb hr hlocks hF hA hK hP hD hS hl
  have hl : lv_has ls 3 [(0, .ref (g 0)), (1, .int (nI wi))] := hl
  obtain ⟨cd, hcd, hcw, hcor⟩ := hR.cword hw
  refine lv_iload_n hx hb dX0_repair_0 rfl (lv_at hl 1 rfl) ?_
  refine s_p (rest := []) hF (kX0_placesOf l wi (by omega)) q42 q43 q28 q44 hdX0_placesOf rfl rfl ⟨Nat.le_of_ble_eq_true rfl, Nat.le_of_ble_eq_true rfl⟩ rfl hl.1 rfl (Nat.le_of_ble_eq_true rfl) dX0_repair_1 ⟨Nat.zero_le _, Nat.zero_le _⟩ (fun r1 hr1 => ?_)
  refine tx (y := nI (plc wi)) (hr1) ?_
  refine lv_istore_n (lv' := [(2, .int (nI (plc wi))), (0, .ref (g 0)), (1, .int (nI wi))]) hx hb dX0_repair_4 rfl hl (by decide) rfl (fun ls hl => ?_)
  refine lv_aload_n hx hb dX0_repair_5 rfl (lv_at hl 1 rfl) ?_
  refine x_get (v := .ref (g 5)) hF hK hP 0 rfl 6 (by decide) q63 rfl rfl dX0_repair_6 ?_
  refine lv_iload_n hx hb dX0_repair_9 rfl (lv_at hl 2 rfl) ?_
  refine lv_aload_n hx hb dX0_repair_10 rfl (lv_at hl 1 rfl) ?_
  refine x_get (v := .ref (g 5)) hF hK hP 0 rfl 6 (by decide) q63 rfl rfl dX0_repair_11 ?_
  refine lv_iload_n hx hb dX0_repair_14 rfl (lv_at hl 2 rfl) ?_
  refine n_iald (v := nI cd) hx hb hK hP 5 4 rfl rfl wi (rfl) (by omega) (by decide) (hcw) dX0_repair_15 ?_
  refine lv_iload_n hx hb dX0_repair_16 rfl (lv_at hl 0 rfl) ?_
  refine s_p (rest := [.int (nI wi), .ref (g 5)]) hF (kX0_correct l cd (plc wi) (by omega) (plc_2 _)) q150 q151 q28 q152 hdX0_correct rfl rfl ⟨Nat.le_of_ble_eq_true rfl, Nat.le_of_ble_eq_true rfl⟩ rfl hl.1 rfl (Nat.le_of_ble_eq_true rfl) dX0_repair_17 ⟨Nat.zero_le _, Nat.zero_le _⟩ (fun r2 hr2 => ?_)
  refine tx (y := nI (enc (wd S wi) (plc wi))) (hr2.trans (by rw [hcor])) ?_
  refine n_iast (f' := upd (xs6 u) wi (nI (enc (wd S wi) (plc wi)))) (ws' := xw g k (xu6 u (upd (xs6 u) wi (nI (enc (wd S wi) (plc wi)))))) hx hb hK hP hD hS 5 4 rfl rfl wi (rfl) (by omega) (by decide) (rfl) rfl dX0_repair_20 (fun H locs hP hD hS => ?_)
  refine lv_aload_n hx hb dX0_repair_21 rfl (lv_at hl 1 rfl) ?_
  refine x_get (v := .ref (g 6)) hF hK hP 0 rfl 7 (by decide) q64 rfl rfl dX0_repair_22 ?_
  refine lv_iload_n hx hb dX0_repair_25 rfl (lv_at hl 2 rfl) ?_
  refine lv_iconst (v := 0) hx hb dX0_repair_26 (by decide) ?_
  refine n_zast (f' := upd (xs7 u) wi 0) (ws' := xw g k (xu7 (xu6 u (upd (xs6 u) wi (nI (enc (wd S wi) (plc wi))))) (upd (xs7 u) wi 0))) hx hb hK hP hD hS 6 5 rfl rfl wi (rfl) (by omega) (by decide) (rfl) rfl dX0_repair_27 (fun H locs hP hD hS => ?_)
  exact e_v (wf := xw g k) (u := xu7 (xu6 u (upd (xs6 u) wi (nI (enc (wd S wi) (plc wi))))) (upd (xs7 u) wi 0)) hx hb hr hlocks hK hP hD hS dX0_repair_28 (hR.fix hw)

set_option maxHeartbeats 4000000 in
set_option maxRecDepth 100000 in
theorem kX0_readAndRepair (l : Launch) (D : va_G) (g k : Nat → Nat) (sz : Nat) (S : MS) (u : XS) (hR : RX S u) (hG : RG S) (wi : Nat) (hw : wi < 48) : Ci l yX0_readAndRepair cX0_readAndRepair 2 .int (rm_ 3) D (xt k) (xw g k) sz [.ref (g 0), .int (nI wi)] u (fun r u2 => r = nI (wd S wi) ∧ RX (unsp S wi) u2) := by
  refine st_i (by decide) (Nat.le_of_ble_eq_true rfl) ?_
  intro p e s m below meth c A ls hx hb hr hlocks hF hA hK hP hD hS hl
  have hl : lv_has ls 2 [(0, .ref (g 0)), (1, .int (nI wi))] := hl
  refine lv_aload_n hx hb dX0_readAndRepair_0 rfl (lv_at hl 0 rfl) ?_
  refine lv_iload_n hx hb dX0_readAndRepair_1 rfl (lv_at hl 1 rfl) ?_
  refine c_v (wf := xw g k) (As := [.int (nI wi)]) (rest := []) hF hA hK hP hD hS (kX0_repair l D g k _ S u hR wi (by omega)) q146 q148 qs8 q28 q149 hdX0_repair rfl rfl ⟨Nat.le_of_ble_eq_true rfl, Nat.le_of_ble_eq_true rfl⟩ rfl rfl rfl hl.1 rfl (Nat.le_of_ble_eq_true rfl) dX0_readAndRepair_2 ⟨Nat.zero_le _, Nat.zero_le _⟩ (fun u1 H locs hu1 hP hD hS => ?_)
  refine lv_aload_n hx hb dX0_readAndRepair_5 rfl (lv_at hl 0 rfl) ?_
  refine lv_iload_n hx hb dX0_readAndRepair_6 rfl (lv_at hl 1 rfl) ?_
  refine c_i (wf := xw g k) (As := [.int (nI wi)]) (rest := []) hF hA hK hP hD hS (kX0_readWord l D g k _ (unsp S wi) u1 hu1 (hG.uns wi) wi (by omega)) q153 q155 qs9 q28 q156 hdX0_readWord rfl rfl ⟨Nat.le_of_ble_eq_true rfl, Nat.le_of_ble_eq_true rfl⟩ rfl rfl rfl hl.1 rfl (Nat.le_of_ble_eq_true rfl) dX0_readAndRepair_7 ⟨Nat.zero_le _, Nat.zero_le _⟩ (fun r2 u3 H locs hr2 hP hD hS => ?_)
  rw [hr2.2] at hP hD
  refine tx (y := nI (wd (unsp S wi) wi)) (hr2.1) ?_
  exact e_i (wf := xw g k) (u := u1) hx hb hr hlocks hK hP hD hS dX0_readAndRepair_10 (⟨rfl, hu1⟩)

set_option maxHeartbeats 4000000 in
set_option maxRecDepth 100000 in
theorem kX0_voteAll (l : Launch) (D : va_G) (g k : Nat → Nat) (sz : Nat) (S : MS) (u : XS) (hR : RX S u) (hG : RG S) : Cv l yX0_voteAll cX0_voteAll 3 (rm_ 2) D (xt k) (xw g k) sz [.ref (g 0)] u (fun u2 => RX (mu11 S (z5 (ms11 S))) u2) := by
  refine st_v (by decide) (Nat.le_of_ble_eq_true rfl) ?_
  intro p e s m below meth c A ls hx hb hr hlocks hF hA hK hP hD hS hl
  have hl : lv_has ls 3 [(0, .ref (g 0))] := hl
  refine lv_iconst (v := 0) hx hb dX0_voteAll_0 (by decide) ?_
  refine lv_istore_n (lv' := [(1, .int 0), (0, .ref (g 0))]) hx hb dX0_voteAll_1 rfl hl (by decide) rfl (fun ls hl => ?_)
  refine lv_iload_n hx hb dX0_voteAll_2 rfl (lv_at hl 0 rfl) ?_
  refine lv_iconst (v := 4) hx hb dX0_voteAll_3 (by decide) ?_
  refine lv_icmp_ge (tgt := 32) hx hb dX0_voteAll_4 (by decide) (fun q => absurd q (by decide)) (fun _ => ?_)
  refine lv_aload_n hx hb dX0_voteAll_7 rfl (lv_at hl 1 rfl) ?_
  refine lv_iload_n hx hb dX0_voteAll_8 rfl (lv_at hl 0 rfl) ?_
  refine c_i (wf := xw g k) (As := [.int 0]) (rest := []) hF hA hK hP hD hS (kX0_voteRegister l D g k _ S u hR 0 (by omega)) q123 q125 qs3 q28 q126 hdX0_voteRegister rfl rfl ⟨Nat.le_of_ble_eq_true rfl, Nat.le_of_ble_eq_true rfl⟩ rfl rfl rfl hl.1 rfl (Nat.le_of_ble_eq_true rfl) dX0_voteAll_9 ⟨Nat.zero_le _, Nat.zero_le _⟩ (fun r1 u2 H locs hr1 hP hD hS => ?_)
  rw [hr1.2] at hP hD
  refine tx (y := nI (ms0 S 0)) (hr1.1) ?_
  refine lv_istore_n (lv' := [(2, .int (nI (ms0 S 0))), (1, .int 0), (0, .ref (g 0))]) hx hb dX0_voteAll_12 rfl hl (by decide) rfl (fun ls hl => ?_)
  refine lv_aload_n hx hb dX0_voteAll_13 rfl (lv_at hl 2 rfl) ?_
  refine lv_iload_n hx hb dX0_voteAll_14 rfl (lv_at hl 1 rfl) ?_
  refine lv_iload_n hx hb dX0_voteAll_15 rfl (lv_at hl 0 rfl) ?_
  refine c_v (wf := xw g k) (As := [.int 0, .int (nI (ms0 S 0))]) (rest := []) hF hA hK hP hD hS (kX0_writeRegister l D g k _ u 0 (by omega) (nI (ms0 S 0))) q130 q132 qs4 q28 q133 hdX0_writeRegister rfl rfl ⟨Nat.le_of_ble_eq_true rfl, Nat.le_of_ble_eq_true rfl⟩ rfl rfl rfl hl.1 rfl (Nat.le_of_ble_eq_true rfl) dX0_voteAll_16 ⟨Nat.zero_le _, Nat.zero_le _⟩ (fun u3 H locs hu3 hP hD hS => ?_)
  rw [hu3] at hP hD
  refine lv_aload_n hx hb dX0_voteAll_19 rfl (lv_at hl 2 rfl) ?_
  refine x_get (v := .ref (g 3)) hF hK hP 0 rfl 2 (by decide) q59 rfl rfl dX0_voteAll_20 ?_
  refine lv_iload_n hx hb dX0_voteAll_23 rfl (lv_at hl 1 rfl) ?_
  refine lv_iconst (v := 0) hx hb dX0_voteAll_24 (by decide) ?_
  refine n_bast (f' := upd (xs2 u) 0 0) (ws' := xw g k (xu2 (xu0 u (w3 (xs0 u) 0 (nI (ms0 S 0)))) (upd (xs2 u) 0 0))) hx hb hK hP hD hS 3 2 rfl rfl 0 (rfl) (by omega) (by decide) (rfl) rfl dX0_voteAll_25 (fun H locs hP hD hS => ?_)
  have hR1 : RX (mu11 S (va_up (ms11 S) 0 0)) (xu2 (xu0 u (w3 (xs0 u) 0 (nI (ms0 S 0)))) (upd (xs2 u) 0 0)) := hR.regv (r := 0) (by decide) (hG.1 0 (by decide))
  have hP : va_P D vwCl (xw g k (xu2 (xu0 u (w3 (xs0 u) 0 (nI (ms0 S 0)))) (upd (xs2 u) 0 0))) _ := hP
  have hD : va_D A (xw g k (xu2 (xu0 u (w3 (xs0 u) 0 (nI (ms0 S 0)))) (upd (xs2 u) 0 0))) := hD
  generalize xu2 (xu0 u (w3 (xs0 u) 0 (nI (ms0 S 0)))) (upd (xs2 u) 0 0) = v1 at hP hD hR1
  refine lv_iinc (v := 1) (lv' := [(1, .int 1), (2, .int (nI (ms0 S 0))), (0, .ref (g 0))]) (k := 1) hx hb dX0_voteAll_26 hl rfl (by decide) (by decide) rfl (fun ls hl => ?_)
  refine lv_goto (tgt := 2) hx hb dX0_voteAll_29 (by decide) ?_
  refine lv_iload_n hx hb dX0_voteAll_2 rfl (lv_at hl 0 rfl) ?_
  refine lv_iconst (v := 4) hx hb dX0_voteAll_3 (by decide) ?_
  refine lv_icmp_ge (tgt := 32) hx hb dX0_voteAll_4 (by decide) (fun q => absurd q (by decide)) (fun _ => ?_)
  refine lv_aload_n hx hb dX0_voteAll_7 rfl (lv_at hl 2 rfl) ?_
  refine lv_iload_n hx hb dX0_voteAll_8 rfl (lv_at hl 0 rfl) ?_
  refine c_i (wf := xw g k) (As := [.int 1]) (rest := []) hF hA hK hP hD hS (kX0_voteRegister l D g k _ (mu11 S (va_up (ms11 S) 0 0)) v1 hR1 1 (by omega)) q123 q125 qs3 q28 q126 hdX0_voteRegister rfl rfl ⟨Nat.le_of_ble_eq_true rfl, Nat.le_of_ble_eq_true rfl⟩ rfl rfl rfl hl.1 rfl (Nat.le_of_ble_eq_true rfl) dX0_voteAll_9 ⟨Nat.zero_le _, Nat.zero_le _⟩ (fun r4 u5 H locs hr4 hP hD hS => ?_)
  rw [hr4.2] at hP hD
  refine tx (y := nI (ms0 (mu11 S (va_up (ms11 S) 0 0)) 1)) (hr4.1) ?_
  refine lv_istore_n (lv' := [(2, .int (nI (ms0 (mu11 S (va_up (ms11 S) 0 0)) 1))), (1, .int 1), (0, .ref (g 0))]) hx hb dX0_voteAll_12 rfl hl (by decide) rfl (fun ls hl => ?_)
  refine lv_aload_n hx hb dX0_voteAll_13 rfl (lv_at hl 2 rfl) ?_
  refine lv_iload_n hx hb dX0_voteAll_14 rfl (lv_at hl 1 rfl) ?_
  refine lv_iload_n hx hb dX0_voteAll_15 rfl (lv_at hl 0 rfl) ?_
  refine c_v (wf := xw g k) (As := [.int 1, .int (nI (ms0 (mu11 S (va_up (ms11 S) 0 0)) 1))]) (rest := []) hF hA hK hP hD hS (kX0_writeRegister l D g k _ v1 1 (by omega) (nI (ms0 (mu11 S (va_up (ms11 S) 0 0)) 1))) q130 q132 qs4 q28 q133 hdX0_writeRegister rfl rfl ⟨Nat.le_of_ble_eq_true rfl, Nat.le_of_ble_eq_true rfl⟩ rfl rfl rfl hl.1 rfl (Nat.le_of_ble_eq_true rfl) dX0_voteAll_16 ⟨Nat.zero_le _, Nat.zero_le _⟩ (fun u6 H locs hu6 hP hD hS => ?_)
  rw [hu6] at hP hD
  refine lv_aload_n hx hb dX0_voteAll_19 rfl (lv_at hl 2 rfl) ?_
  refine x_get (v := .ref (g 3)) hF hK hP 0 rfl 2 (by decide) q59 rfl rfl dX0_voteAll_20 ?_
  refine lv_iload_n hx hb dX0_voteAll_23 rfl (lv_at hl 1 rfl) ?_
  refine lv_iconst (v := 0) hx hb dX0_voteAll_24 (by decide) ?_
  refine n_bast (f' := upd (xs2 v1) 1 0) (ws' := xw g k (xu2 (xu0 v1 (w3 (xs0 v1) 1 (nI (ms0 (mu11 S (va_up (ms11 S) 0 0)) 1)))) (upd (xs2 v1) 1 0))) hx hb hK hP hD hS 3 2 rfl rfl 1 (rfl) (by omega) (by decide) (rfl) rfl dX0_voteAll_25 (fun H locs hP hD hS => ?_)
  have hR2 : RX (mu11 (mu11 S (va_up (ms11 S) 0 0)) (va_up (ms11 (mu11 S (va_up (ms11 S) 0 0))) 1 0)) (xu2 (xu0 v1 (w3 (xs0 v1) 1 (nI (ms0 (mu11 S (va_up (ms11 S) 0 0)) 1)))) (upd (xs2 v1) 1 0)) := hR1.regv (r := 1) (by decide) (hG.1 1 (by decide))
  have hP : va_P D vwCl (xw g k (xu2 (xu0 v1 (w3 (xs0 v1) 1 (nI (ms0 (mu11 S (va_up (ms11 S) 0 0)) 1)))) (upd (xs2 v1) 1 0))) _ := hP
  have hD : va_D A (xw g k (xu2 (xu0 v1 (w3 (xs0 v1) 1 (nI (ms0 (mu11 S (va_up (ms11 S) 0 0)) 1)))) (upd (xs2 v1) 1 0))) := hD
  generalize xu2 (xu0 v1 (w3 (xs0 v1) 1 (nI (ms0 (mu11 S (va_up (ms11 S) 0 0)) 1)))) (upd (xs2 v1) 1 0) = v2 at hP hD hR2
  have hR2 : RX (mu11 S (va_up (va_up (ms11 S) 0 0) 1 0)) v2 := hR2
  refine lv_iinc (v := 2) (lv' := [(1, .int 2), (2, .int (nI (ms0 (mu11 S (va_up (ms11 S) 0 0)) 1))), (0, .ref (g 0))]) (k := 1) hx hb dX0_voteAll_26 hl rfl (by decide) (by decide) rfl (fun ls hl => ?_)
  refine lv_goto (tgt := 2) hx hb dX0_voteAll_29 (by decide) ?_
  refine lv_iload_n hx hb dX0_voteAll_2 rfl (lv_at hl 0 rfl) ?_
  refine lv_iconst (v := 4) hx hb dX0_voteAll_3 (by decide) ?_
  refine lv_icmp_ge (tgt := 32) hx hb dX0_voteAll_4 (by decide) (fun q => absurd q (by decide)) (fun _ => ?_)
  refine lv_aload_n hx hb dX0_voteAll_7 rfl (lv_at hl 2 rfl) ?_
  refine lv_iload_n hx hb dX0_voteAll_8 rfl (lv_at hl 0 rfl) ?_
  refine c_i (wf := xw g k) (As := [.int 2]) (rest := []) hF hA hK hP hD hS (kX0_voteRegister l D g k _ (mu11 S (va_up (va_up (ms11 S) 0 0) 1 0)) v2 hR2 2 (by omega)) q123 q125 qs3 q28 q126 hdX0_voteRegister rfl rfl ⟨Nat.le_of_ble_eq_true rfl, Nat.le_of_ble_eq_true rfl⟩ rfl rfl rfl hl.1 rfl (Nat.le_of_ble_eq_true rfl) dX0_voteAll_9 ⟨Nat.zero_le _, Nat.zero_le _⟩ (fun r7 u8 H locs hr7 hP hD hS => ?_)
  rw [hr7.2] at hP hD
  refine tx (y := nI (ms0 (mu11 S (va_up (va_up (ms11 S) 0 0) 1 0)) 2)) (hr7.1) ?_
  refine lv_istore_n (lv' := [(2, .int (nI (ms0 (mu11 S (va_up (va_up (ms11 S) 0 0) 1 0)) 2))), (1, .int 2), (0, .ref (g 0))]) hx hb dX0_voteAll_12 rfl hl (by decide) rfl (fun ls hl => ?_)
  refine lv_aload_n hx hb dX0_voteAll_13 rfl (lv_at hl 2 rfl) ?_
  refine lv_iload_n hx hb dX0_voteAll_14 rfl (lv_at hl 1 rfl) ?_
  refine lv_iload_n hx hb dX0_voteAll_15 rfl (lv_at hl 0 rfl) ?_
  refine c_v (wf := xw g k) (As := [.int 2, .int (nI (ms0 (mu11 S (va_up (va_up (ms11 S) 0 0) 1 0)) 2))]) (rest := []) hF hA hK hP hD hS (kX0_writeRegister l D g k _ v2 2 (by omega) (nI (ms0 (mu11 S (va_up (va_up (ms11 S) 0 0) 1 0)) 2))) q130 q132 qs4 q28 q133 hdX0_writeRegister rfl rfl ⟨Nat.le_of_ble_eq_true rfl, Nat.le_of_ble_eq_true rfl⟩ rfl rfl rfl hl.1 rfl (Nat.le_of_ble_eq_true rfl) dX0_voteAll_16 ⟨Nat.zero_le _, Nat.zero_le _⟩ (fun u9 H locs hu9 hP hD hS => ?_)
  rw [hu9] at hP hD
  refine lv_aload_n hx hb dX0_voteAll_19 rfl (lv_at hl 2 rfl) ?_
  refine x_get (v := .ref (g 3)) hF hK hP 0 rfl 2 (by decide) q59 rfl rfl dX0_voteAll_20 ?_
  refine lv_iload_n hx hb dX0_voteAll_23 rfl (lv_at hl 1 rfl) ?_
  refine lv_iconst (v := 0) hx hb dX0_voteAll_24 (by decide) ?_
  refine n_bast (f' := upd (xs2 v2) 2 0) (ws' := xw g k (xu2 (xu0 v2 (w3 (xs0 v2) 2 (nI (ms0 (mu11 S (va_up (va_up (ms11 S) 0 0) 1 0)) 2)))) (upd (xs2 v2) 2 0))) hx hb hK hP hD hS 3 2 rfl rfl 2 (rfl) (by omega) (by decide) (rfl) rfl dX0_voteAll_25 (fun H locs hP hD hS => ?_)
  have hR3 : RX (mu11 (mu11 S (va_up (va_up (ms11 S) 0 0) 1 0)) (va_up (ms11 (mu11 S (va_up (va_up (ms11 S) 0 0) 1 0))) 2 0)) (xu2 (xu0 v2 (w3 (xs0 v2) 2 (nI (ms0 (mu11 S (va_up (va_up (ms11 S) 0 0) 1 0)) 2)))) (upd (xs2 v2) 2 0)) := hR2.regv (r := 2) (by decide) (hG.1 2 (by decide))
  have hP : va_P D vwCl (xw g k (xu2 (xu0 v2 (w3 (xs0 v2) 2 (nI (ms0 (mu11 S (va_up (va_up (ms11 S) 0 0) 1 0)) 2)))) (upd (xs2 v2) 2 0))) _ := hP
  have hD : va_D A (xw g k (xu2 (xu0 v2 (w3 (xs0 v2) 2 (nI (ms0 (mu11 S (va_up (va_up (ms11 S) 0 0) 1 0)) 2)))) (upd (xs2 v2) 2 0))) := hD
  generalize xu2 (xu0 v2 (w3 (xs0 v2) 2 (nI (ms0 (mu11 S (va_up (va_up (ms11 S) 0 0) 1 0)) 2)))) (upd (xs2 v2) 2 0) = v3 at hP hD hR3
  have hR3 : RX (mu11 S (va_up (va_up (va_up (ms11 S) 0 0) 1 0) 2 0)) v3 := hR3
  refine lv_iinc (v := 3) (lv' := [(1, .int 3), (2, .int (nI (ms0 (mu11 S (va_up (va_up (ms11 S) 0 0) 1 0)) 2))), (0, .ref (g 0))]) (k := 1) hx hb dX0_voteAll_26 hl rfl (by decide) (by decide) rfl (fun ls hl => ?_)
  refine lv_goto (tgt := 2) hx hb dX0_voteAll_29 (by decide) ?_
  refine lv_iload_n hx hb dX0_voteAll_2 rfl (lv_at hl 0 rfl) ?_
  refine lv_iconst (v := 4) hx hb dX0_voteAll_3 (by decide) ?_
  refine lv_icmp_ge (tgt := 32) hx hb dX0_voteAll_4 (by decide) (fun q => absurd q (by decide)) (fun _ => ?_)
  refine lv_aload_n hx hb dX0_voteAll_7 rfl (lv_at hl 2 rfl) ?_
  refine lv_iload_n hx hb dX0_voteAll_8 rfl (lv_at hl 0 rfl) ?_
  refine c_i (wf := xw g k) (As := [.int 3]) (rest := []) hF hA hK hP hD hS (kX0_voteRegister l D g k _ (mu11 S (va_up (va_up (va_up (ms11 S) 0 0) 1 0) 2 0)) v3 hR3 3 (by omega)) q123 q125 qs3 q28 q126 hdX0_voteRegister rfl rfl ⟨Nat.le_of_ble_eq_true rfl, Nat.le_of_ble_eq_true rfl⟩ rfl rfl rfl hl.1 rfl (Nat.le_of_ble_eq_true rfl) dX0_voteAll_9 ⟨Nat.zero_le _, Nat.zero_le _⟩ (fun r10 u11 H locs hr10 hP hD hS => ?_)
  rw [hr10.2] at hP hD
  refine tx (y := nI (ms0 (mu11 S (va_up (va_up (va_up (ms11 S) 0 0) 1 0) 2 0)) 3)) (hr10.1) ?_
  refine lv_istore_n (lv' := [(2, .int (nI (ms0 (mu11 S (va_up (va_up (va_up (ms11 S) 0 0) 1 0) 2 0)) 3))), (1, .int 3), (0, .ref (g 0))]) hx hb dX0_voteAll_12 rfl hl (by decide) rfl (fun ls hl => ?_)
  refine lv_aload_n hx hb dX0_voteAll_13 rfl (lv_at hl 2 rfl) ?_
  refine lv_iload_n hx hb dX0_voteAll_14 rfl (lv_at hl 1 rfl) ?_
  refine lv_iload_n hx hb dX0_voteAll_15 rfl (lv_at hl 0 rfl) ?_
  refine c_v (wf := xw g k) (As := [.int 3, .int (nI (ms0 (mu11 S (va_up (va_up (va_up (ms11 S) 0 0) 1 0) 2 0)) 3))]) (rest := []) hF hA hK hP hD hS (kX0_writeRegister l D g k _ v3 3 (by omega) (nI (ms0 (mu11 S (va_up (va_up (va_up (ms11 S) 0 0) 1 0) 2 0)) 3))) q130 q132 qs4 q28 q133 hdX0_writeRegister rfl rfl ⟨Nat.le_of_ble_eq_true rfl, Nat.le_of_ble_eq_true rfl⟩ rfl rfl rfl hl.1 rfl (Nat.le_of_ble_eq_true rfl) dX0_voteAll_16 ⟨Nat.zero_le _, Nat.zero_le _⟩ (fun u12 H locs hu12 hP hD hS => ?_)
  rw [hu12] at hP hD
  refine lv_aload_n hx hb dX0_voteAll_19 rfl (lv_at hl 2 rfl) ?_
  refine x_get (v := .ref (g 3)) hF hK hP 0 rfl 2 (by decide) q59 rfl rfl dX0_voteAll_20 ?_
  refine lv_iload_n hx hb dX0_voteAll_23 rfl (lv_at hl 1 rfl) ?_
  refine lv_iconst (v := 0) hx hb dX0_voteAll_24 (by decide) ?_
  refine n_bast (f' := upd (xs2 v3) 3 0) (ws' := xw g k (xu2 (xu0 v3 (w3 (xs0 v3) 3 (nI (ms0 (mu11 S (va_up (va_up (va_up (ms11 S) 0 0) 1 0) 2 0)) 3)))) (upd (xs2 v3) 3 0))) hx hb hK hP hD hS 3 2 rfl rfl 3 (rfl) (by omega) (by decide) (rfl) rfl dX0_voteAll_25 (fun H locs hP hD hS => ?_)
  have hR4 : RX (mu11 (mu11 S (va_up (va_up (va_up (ms11 S) 0 0) 1 0) 2 0)) (va_up (ms11 (mu11 S (va_up (va_up (va_up (ms11 S) 0 0) 1 0) 2 0))) 3 0)) (xu2 (xu0 v3 (w3 (xs0 v3) 3 (nI (ms0 (mu11 S (va_up (va_up (va_up (ms11 S) 0 0) 1 0) 2 0)) 3)))) (upd (xs2 v3) 3 0)) := hR3.regv (r := 3) (by decide) (hG.1 3 (by decide))
  have hP : va_P D vwCl (xw g k (xu2 (xu0 v3 (w3 (xs0 v3) 3 (nI (ms0 (mu11 S (va_up (va_up (va_up (ms11 S) 0 0) 1 0) 2 0)) 3)))) (upd (xs2 v3) 3 0))) _ := hP
  have hD : va_D A (xw g k (xu2 (xu0 v3 (w3 (xs0 v3) 3 (nI (ms0 (mu11 S (va_up (va_up (va_up (ms11 S) 0 0) 1 0) 2 0)) 3)))) (upd (xs2 v3) 3 0))) := hD
  generalize xu2 (xu0 v3 (w3 (xs0 v3) 3 (nI (ms0 (mu11 S (va_up (va_up (va_up (ms11 S) 0 0) 1 0) 2 0)) 3)))) (upd (xs2 v3) 3 0) = v4 at hP hD hR4
  have hR4 : RX (mu11 S (va_up (va_up (va_up (va_up (ms11 S) 0 0) 1 0) 2 0) 3 0)) v4 := hR4
  refine lv_iinc (v := 4) (lv' := [(1, .int 4), (2, .int (nI (ms0 (mu11 S (va_up (va_up (va_up (ms11 S) 0 0) 1 0) 2 0)) 3))), (0, .ref (g 0))]) (k := 1) hx hb dX0_voteAll_26 hl rfl (by decide) (by decide) rfl (fun ls hl => ?_)
  refine lv_goto (tgt := 2) hx hb dX0_voteAll_29 (by decide) ?_
  refine lv_iload_n hx hb dX0_voteAll_2 rfl (lv_at hl 0 rfl) ?_
  refine lv_iconst (v := 4) hx hb dX0_voteAll_3 (by decide) ?_
  refine lv_icmp_ge (tgt := 32) hx hb dX0_voteAll_4 (by decide) (fun _ => ?_) (fun q => absurd (by decide) q)
  refine lv_aload_n hx hb dX0_voteAll_32 rfl (lv_at hl 2 rfl) ?_
  refine c_i (wf := xw g k) (As := []) (rest := []) hF hA hK hP hD hS (kX0_votePlace l D g k _ (mu11 S (va_up (va_up (va_up (va_up (ms11 S) 0 0) 1 0) 2 0) 3 0)) v4 hR4) q134 q136 qs5 q28 q137 hdX0_votePlace rfl rfl ⟨Nat.le_of_ble_eq_true rfl, Nat.le_of_ble_eq_true rfl⟩ rfl rfl rfl hl.1 rfl (Nat.le_of_ble_eq_true rfl) dX0_voteAll_33 ⟨Nat.zero_le _, Nat.zero_le _⟩ (fun r13 u14 H locs hr13 hP hD hS => ?_)
  rw [hr13.2] at hP hD
  refine tx (y := nI (ms5 (mu11 S (va_up (va_up (va_up (va_up (ms11 S) 0 0) 1 0) 2 0) 3 0)))) (hr13.1) ?_
  refine lv_istore_n (lv' := [(1, .int (nI (ms5 (mu11 S (va_up (va_up (va_up (va_up (ms11 S) 0 0) 1 0) 2 0) 3 0))))), (2, .int (nI (ms0 (mu11 S (va_up (va_up (va_up (ms11 S) 0 0) 1 0) 2 0)) 3))), (0, .ref (g 0))]) hx hb dX0_voteAll_36 rfl hl (by decide) rfl (fun ls hl => ?_)
  refine lv_aload_n hx hb dX0_voteAll_37 rfl (lv_at hl 2 rfl) ?_
  refine lv_iload_n hx hb dX0_voteAll_38 rfl (lv_at hl 0 rfl) ?_
  refine c_v (wf := xw g k) (As := [.int (nI (ms5 (mu11 S (va_up (va_up (va_up (va_up (ms11 S) 0 0) 1 0) 2 0) 3 0))))]) (rest := []) hF hA hK hP hD hS (kX0_writePlace l D g k _ v4 (nI (ms5 (mu11 S (va_up (va_up (va_up (va_up (ms11 S) 0 0) 1 0) 2 0) 3 0))))) q138 q140 qs6 q28 q141 hdX0_writePlace rfl rfl ⟨Nat.le_of_ble_eq_true rfl, Nat.le_of_ble_eq_true rfl⟩ rfl rfl rfl hl.1 rfl (Nat.le_of_ble_eq_true rfl) dX0_voteAll_39 ⟨Nat.zero_le _, Nat.zero_le _⟩ (fun u15 H locs hu15 hP hD hS => ?_)
  rw [hu15] at hP hD
  refine lv_aload_n hx hb dX0_voteAll_42 rfl (lv_at hl 2 rfl) ?_
  refine lv_iconst (v := 0) hx hb dX0_voteAll_43 (by decide) ?_
  refine x_put (v := .int 0) (ws' := xw g k (xu3 (xu1 v4 (p3 (xs1 v4) (nI (ms5 (mu11 S (va_up (va_up (va_up (va_up (ms11 S) 0 0) 1 0) 2 0) 3 0)))))) 0)) hF hK hP hD hS 0 rfl 3 (by decide) q60 rfl rfl rfl rfl (Nat.le_of_ble_eq_true rfl) rfl dX0_voteAll_44 (fun H locs hP hD hS => ?_)
  exact e_v (wf := xw g k) (u := xu3 (xu1 v4 (p3 (xs1 v4) (nI (ms5 (mu11 S (va_up (va_up (va_up (va_up (ms11 S) 0 0) 1 0) 2 0) 3 0)))))) 0) hx hb hr hlocks hK hP hD hS dX0_voteAll_47 (hR4.wplcc hG.2.2.2.1)

set_option maxHeartbeats 4000000 in
set_option maxRecDepth 100000 in
theorem kX0_workThrice (l : Launch) (D : va_G) (g k : Nat → Nat) (sz : Nat) (S : MS) (u : XS) (hR : RX S u) (hG : RG S) (op ri si nn : Nat) (hop : op = 1 ∨ op = 4 ∨ op = 5 ∨ op = 6 ∨ op = 7 ∨ op = 8 ∨ op = 9) (hr4 : ri < 4) (hs4 : si < 4) (h0r : ms11 S ri = 0) (h0s : ms11 S si = 0) : Ci l yX0_workThrice cX0_workThrice 7 .int (rm_ 3) D (xt k) (xw g k) sz [.ref (g 0), .int (nI op), .int (nI ri), .int (nI si), .int (nI nn)] u (fun r u2 => r = nI (wo op (ms0 S ri) (ms0 S si) nn) ∧ ∃ f, u2 = xu12 u f) := by
  refine st_i (by decide) (Nat.le_of_ble_eq_true rfl) ?_
  intro p e s m below meth c A ls hx hb hr hlocks hF hA hK hP hD hS hl
  have hl : lv_has ls 7 [(0, .ref (g 0)), (1, .int (nI op)), (2, .int (nI ri)), (3, .int (nI si)), (4, .int (nI nn))] := hl
  refine lv_iconst (v := 0) hx hb dX0_workThrice_0 (by decide) ?_
  refine lv_istore (lv' := [(5, .int 0), (0, .ref (g 0)), (1, .int (nI op)), (2, .int (nI ri)), (3, .int (nI si)), (4, .int (nI nn))]) hx hb dX0_workThrice_1 hl (by decide) rfl (fun ls hl => ?_)
  refine lv_iload hx hb dX0_workThrice_3 (lv_at hl 0 rfl) ?_
  refine lv_iconst (v := 3) hx hb dX0_workThrice_5 (by decide) ?_
  refine lv_icmp_ge (tgt := 62) hx hb dX0_workThrice_6 (by decide) (fun q => absurd q (by decide)) (fun _ => ?_)
  refine lv_iload_n hx hb dX0_workThrice_9 rfl (lv_at hl 2 rfl) ?_
  refine lv_aload_n hx hb dX0_workThrice_10 rfl (lv_at hl 1 rfl) ?_
  refine x_get (v := .ref (g 1)) hF hK hP 0 rfl 0 (by decide) q57 rfl rfl dX0_workThrice_11 ?_
  refine lv_iload_n hx hb dX0_workThrice_14 rfl (lv_at hl 3 rfl) ?_
  refine lv_iconst (v := 3) hx hb dX0_workThrice_15 (by decide) ?_
  refine lv_imul hx hb dX0_workThrice_16 ?_
  refine tx (y := nI (ri * 3)) (pk_mul _ _) ?_
  refine lv_iload hx hb dX0_workThrice_17 (lv_at hl 0 rfl) ?_
  refine lv_iadd hx hb dX0_workThrice_19 ?_
  refine tx (y := nI (ri * 3 + 0)) (nI_add _ _) ?_
  refine n_iald (v := nI (ms0 S ri)) hx hb hK hP 1 0 rfl rfl (ri * 3 + 0) (rfl) (by omega) (by decide) (hR.cp hr4 h0r 0 (by decide)) dX0_workThrice_20 ?_
  refine lv_aload_n hx hb dX0_workThrice_21 rfl (lv_at hl 1 rfl) ?_
  refine x_get (v := .ref (g 1)) hF hK hP 0 rfl 0 (by decide) q57 rfl rfl dX0_workThrice_22 ?_
  refine lv_iload_n hx hb dX0_workThrice_25 rfl (lv_at hl 4 rfl) ?_
  refine lv_iconst (v := 3) hx hb dX0_workThrice_26 (by decide) ?_
  refine lv_imul hx hb dX0_workThrice_27 ?_
  refine tx (y := nI (si * 3)) (pk_mul _ _) ?_
  refine lv_iload hx hb dX0_workThrice_28 (lv_at hl 0 rfl) ?_
  refine lv_iadd hx hb dX0_workThrice_30 ?_
  refine tx (y := nI (si * 3 + 0)) (nI_add _ _) ?_
  refine n_iald (v := nI (ms0 S si)) hx hb hK hP 1 0 rfl rfl (si * 3 + 0) (rfl) (by omega) (by decide) (hR.cp hs4 h0s 0 (by decide)) dX0_workThrice_31 ?_
  refine lv_iload hx hb dX0_workThrice_32 (lv_at hl 5 rfl) ?_
  refine s_p (rest := []) hF (kX0_workOut l op (ms0 S ri) (ms0 S si) nn hop (hG.1 _ hr4) (hG.1 _ hs4)) q168 q169 q28 q170 hdX0_workOut rfl rfl ⟨Nat.le_of_ble_eq_true rfl, Nat.le_of_ble_eq_true rfl⟩ rfl hl.1 rfl (Nat.le_of_ble_eq_true rfl) dX0_workThrice_34 ⟨Nat.zero_le _, Nat.zero_le _⟩ (fun r1 hr1 => ?_)
  refine tx (y := nI (wo op (ms0 S ri) (ms0 S si) nn)) (hr1) ?_
  refine lv_istore (lv' := [(6, .int (nI (wo op (ms0 S ri) (ms0 S si) nn))), (5, .int 0), (0, .ref (g 0)), (1, .int (nI op)), (2, .int (nI ri)), (3, .int (nI si)), (4, .int (nI nn))]) hx hb dX0_workThrice_37 hl (by decide) rfl (fun ls hl => ?_)
  refine lv_aload_n hx hb dX0_workThrice_39 rfl (lv_at hl 2 rfl) ?_
  refine x_get (v := .ref (g 8)) hF hK hP 0 rfl 12 (by decide) q69 rfl rfl dX0_workThrice_40 ?_
  refine lv_iload hx hb dX0_workThrice_43 (lv_at hl 1 rfl) ?_
  refine lv_iload hx hb dX0_workThrice_45 (lv_at hl 0 rfl) ?_
  refine lv_aload_n hx hb dX0_workThrice_47 rfl (lv_at hl 2 rfl) ?_
  refine x_get (v := .ref (g 4)) hF hK hP 0 rfl 4 (by decide) q61 rfl rfl dX0_workThrice_48 ?_
  refine lv_iload hx hb dX0_workThrice_51 (lv_at hl 1 rfl) ?_
  refine n_iald (v := (xs4 u) 0) hx hb hK hP 4 3 rfl rfl 0 (rfl) (by omega) (by decide) (rfl) dX0_workThrice_53 ?_
  refine lv_ixor hx hb dX0_workThrice_54 ?_
  refine n_iast (f' := upd (xs12 u) 0 ((nI (wo op (ms0 S ri) (ms0 S si) nn)) ^^^ ((xs4 u) 0))) (ws' := xw g k (xu12 u (upd (xs12 u) 0 ((nI (wo op (ms0 S ri) (ms0 S si) nn)) ^^^ ((xs4 u) 0))))) hx hb hK hP hD hS 8 7 rfl rfl 0 (rfl) (by omega) (by decide) (rfl) rfl dX0_workThrice_55 (fun H locs hP hD hS => ?_)
  refine lv_iinc (v := 1) (lv' := [(5, .int 1), (6, .int (nI (wo op (ms0 S ri) (ms0 S si) nn))), (0, .ref (g 0)), (1, .int (nI op)), (2, .int (nI ri)), (3, .int (nI si)), (4, .int (nI nn))]) (k := 1) hx hb dX0_workThrice_56 hl rfl (by decide) (by decide) rfl (fun ls hl => ?_)
  refine lv_goto (tgt := 3) hx hb dX0_workThrice_59 (by decide) ?_
  refine lv_iload hx hb dX0_workThrice_3 (lv_at hl 0 rfl) ?_
  refine lv_iconst (v := 3) hx hb dX0_workThrice_5 (by decide) ?_
  refine lv_icmp_ge (tgt := 62) hx hb dX0_workThrice_6 (by decide) (fun q => absurd q (by decide)) (fun _ => ?_)
  refine lv_iload_n hx hb dX0_workThrice_9 rfl (lv_at hl 3 rfl) ?_
  refine lv_aload_n hx hb dX0_workThrice_10 rfl (lv_at hl 2 rfl) ?_
  refine x_get (v := .ref (g 1)) hF hK hP 0 rfl 0 (by decide) q57 rfl rfl dX0_workThrice_11 ?_
  refine lv_iload_n hx hb dX0_workThrice_14 rfl (lv_at hl 4 rfl) ?_
  refine lv_iconst (v := 3) hx hb dX0_workThrice_15 (by decide) ?_
  refine lv_imul hx hb dX0_workThrice_16 ?_
  refine tx (y := nI (ri * 3)) (pk_mul _ _) ?_
  refine lv_iload hx hb dX0_workThrice_17 (lv_at hl 0 rfl) ?_
  refine lv_iadd hx hb dX0_workThrice_19 ?_
  refine tx (y := nI (ri * 3 + 1)) (nI_add _ _) ?_
  refine n_iald (v := nI (ms0 S ri)) hx hb hK hP 1 0 rfl rfl (ri * 3 + 1) (rfl) (by omega) (by decide) (hR.cp hr4 h0r 1 (by decide)) dX0_workThrice_20 ?_
  refine lv_aload_n hx hb dX0_workThrice_21 rfl (lv_at hl 2 rfl) ?_
  refine x_get (v := .ref (g 1)) hF hK hP 0 rfl 0 (by decide) q57 rfl rfl dX0_workThrice_22 ?_
  refine lv_iload_n hx hb dX0_workThrice_25 rfl (lv_at hl 5 rfl) ?_
  refine lv_iconst (v := 3) hx hb dX0_workThrice_26 (by decide) ?_
  refine lv_imul hx hb dX0_workThrice_27 ?_
  refine tx (y := nI (si * 3)) (pk_mul _ _) ?_
  refine lv_iload hx hb dX0_workThrice_28 (lv_at hl 0 rfl) ?_
  refine lv_iadd hx hb dX0_workThrice_30 ?_
  refine tx (y := nI (si * 3 + 1)) (nI_add _ _) ?_
  refine n_iald (v := nI (ms0 S si)) hx hb hK hP 1 0 rfl rfl (si * 3 + 1) (rfl) (by omega) (by decide) (hR.cp hs4 h0s 1 (by decide)) dX0_workThrice_31 ?_
  refine lv_iload hx hb dX0_workThrice_32 (lv_at hl 6 rfl) ?_
  refine s_p (rest := []) hF (kX0_workOut l op (ms0 S ri) (ms0 S si) nn hop (hG.1 _ hr4) (hG.1 _ hs4)) q168 q169 q28 q170 hdX0_workOut rfl rfl ⟨Nat.le_of_ble_eq_true rfl, Nat.le_of_ble_eq_true rfl⟩ rfl hl.1 rfl (Nat.le_of_ble_eq_true rfl) dX0_workThrice_34 ⟨Nat.zero_le _, Nat.zero_le _⟩ (fun r2 hr2 => ?_)
  refine tx (y := nI (wo op (ms0 S ri) (ms0 S si) nn)) (hr2) ?_
  refine lv_istore (lv' := [(6, .int (nI (wo op (ms0 S ri) (ms0 S si) nn))), (5, .int 1), (0, .ref (g 0)), (1, .int (nI op)), (2, .int (nI ri)), (3, .int (nI si)), (4, .int (nI nn))]) hx hb dX0_workThrice_37 hl (by decide) rfl (fun ls hl => ?_)
  refine lv_aload_n hx hb dX0_workThrice_39 rfl (lv_at hl 2 rfl) ?_
  refine x_get (v := .ref (g 8)) hF hK hP 0 rfl 12 (by decide) q69 rfl rfl dX0_workThrice_40 ?_
  refine lv_iload hx hb dX0_workThrice_43 (lv_at hl 1 rfl) ?_
  refine lv_iload hx hb dX0_workThrice_45 (lv_at hl 0 rfl) ?_
  refine lv_aload_n hx hb dX0_workThrice_47 rfl (lv_at hl 2 rfl) ?_
  refine x_get (v := .ref (g 4)) hF hK hP 0 rfl 4 (by decide) q61 rfl rfl dX0_workThrice_48 ?_
  refine lv_iload hx hb dX0_workThrice_51 (lv_at hl 1 rfl) ?_
  refine n_iald (v := (xs4 u) 1) hx hb hK hP 4 3 rfl rfl 1 (rfl) (by omega) (by decide) (rfl) dX0_workThrice_53 ?_
  refine lv_ixor hx hb dX0_workThrice_54 ?_
  refine n_iast (f' := upd (upd (xs12 u) 0 ((nI (wo op (ms0 S ri) (ms0 S si) nn)) ^^^ ((xs4 u) 0))) 1 ((nI (wo op (ms0 S ri) (ms0 S si) nn)) ^^^ ((xs4 u) 1))) (ws' := xw g k (xu12 u (upd (upd (xs12 u) 0 ((nI (wo op (ms0 S ri) (ms0 S si) nn)) ^^^ ((xs4 u) 0))) 1 ((nI (wo op (ms0 S ri) (ms0 S si) nn)) ^^^ ((xs4 u) 1))))) hx hb hK hP hD hS 8 7 rfl rfl 1 (rfl) (by omega) (by decide) (rfl) rfl dX0_workThrice_55 (fun H locs hP hD hS => ?_)
  refine lv_iinc (v := 2) (lv' := [(5, .int 2), (6, .int (nI (wo op (ms0 S ri) (ms0 S si) nn))), (0, .ref (g 0)), (1, .int (nI op)), (2, .int (nI ri)), (3, .int (nI si)), (4, .int (nI nn))]) (k := 1) hx hb dX0_workThrice_56 hl rfl (by decide) (by decide) rfl (fun ls hl => ?_)
  refine lv_goto (tgt := 3) hx hb dX0_workThrice_59 (by decide) ?_
  refine lv_iload hx hb dX0_workThrice_3 (lv_at hl 0 rfl) ?_
  refine lv_iconst (v := 3) hx hb dX0_workThrice_5 (by decide) ?_
  refine lv_icmp_ge (tgt := 62) hx hb dX0_workThrice_6 (by decide) (fun q => absurd q (by decide)) (fun _ => ?_)
  refine lv_iload_n hx hb dX0_workThrice_9 rfl (lv_at hl 3 rfl) ?_
  refine lv_aload_n hx hb dX0_workThrice_10 rfl (lv_at hl 2 rfl) ?_
  refine x_get (v := .ref (g 1)) hF hK hP 0 rfl 0 (by decide) q57 rfl rfl dX0_workThrice_11 ?_
  refine lv_iload_n hx hb dX0_workThrice_14 rfl (lv_at hl 4 rfl) ?_
  refine lv_iconst (v := 3) hx hb dX0_workThrice_15 (by decide) ?_
  refine lv_imul hx hb dX0_workThrice_16 ?_
  refine tx (y := nI (ri * 3)) (pk_mul _ _) ?_
  refine lv_iload hx hb dX0_workThrice_17 (lv_at hl 0 rfl) ?_
  refine lv_iadd hx hb dX0_workThrice_19 ?_
  refine tx (y := nI (ri * 3 + 2)) (nI_add _ _) ?_
  refine n_iald (v := nI (ms0 S ri)) hx hb hK hP 1 0 rfl rfl (ri * 3 + 2) (rfl) (by omega) (by decide) (hR.cp hr4 h0r 2 (by decide)) dX0_workThrice_20 ?_
  refine lv_aload_n hx hb dX0_workThrice_21 rfl (lv_at hl 2 rfl) ?_
  refine x_get (v := .ref (g 1)) hF hK hP 0 rfl 0 (by decide) q57 rfl rfl dX0_workThrice_22 ?_
  refine lv_iload_n hx hb dX0_workThrice_25 rfl (lv_at hl 5 rfl) ?_
  refine lv_iconst (v := 3) hx hb dX0_workThrice_26 (by decide) ?_
  refine lv_imul hx hb dX0_workThrice_27 ?_
  refine tx (y := nI (si * 3)) (pk_mul _ _) ?_
  refine lv_iload hx hb dX0_workThrice_28 (lv_at hl 0 rfl) ?_
  refine lv_iadd hx hb dX0_workThrice_30 ?_
  refine tx (y := nI (si * 3 + 2)) (nI_add _ _) ?_
  refine n_iald (v := nI (ms0 S si)) hx hb hK hP 1 0 rfl rfl (si * 3 + 2) (rfl) (by omega) (by decide) (hR.cp hs4 h0s 2 (by decide)) dX0_workThrice_31 ?_
  refine lv_iload hx hb dX0_workThrice_32 (lv_at hl 6 rfl) ?_
  refine s_p (rest := []) hF (kX0_workOut l op (ms0 S ri) (ms0 S si) nn hop (hG.1 _ hr4) (hG.1 _ hs4)) q168 q169 q28 q170 hdX0_workOut rfl rfl ⟨Nat.le_of_ble_eq_true rfl, Nat.le_of_ble_eq_true rfl⟩ rfl hl.1 rfl (Nat.le_of_ble_eq_true rfl) dX0_workThrice_34 ⟨Nat.zero_le _, Nat.zero_le _⟩ (fun r3 hr3 => ?_)
  refine tx (y := nI (wo op (ms0 S ri) (ms0 S si) nn)) (hr3) ?_
  refine lv_istore (lv' := [(6, .int (nI (wo op (ms0 S ri) (ms0 S si) nn))), (5, .int 2), (0, .ref (g 0)), (1, .int (nI op)), (2, .int (nI ri)), (3, .int (nI si)), (4, .int (nI nn))]) hx hb dX0_workThrice_37 hl (by decide) rfl (fun ls hl => ?_)
  refine lv_aload_n hx hb dX0_workThrice_39 rfl (lv_at hl 2 rfl) ?_
  refine x_get (v := .ref (g 8)) hF hK hP 0 rfl 12 (by decide) q69 rfl rfl dX0_workThrice_40 ?_
  refine lv_iload hx hb dX0_workThrice_43 (lv_at hl 1 rfl) ?_
  refine lv_iload hx hb dX0_workThrice_45 (lv_at hl 0 rfl) ?_
  refine lv_aload_n hx hb dX0_workThrice_47 rfl (lv_at hl 2 rfl) ?_
  refine x_get (v := .ref (g 4)) hF hK hP 0 rfl 4 (by decide) q61 rfl rfl dX0_workThrice_48 ?_
  refine lv_iload hx hb dX0_workThrice_51 (lv_at hl 1 rfl) ?_
  refine n_iald (v := (xs4 u) 2) hx hb hK hP 4 3 rfl rfl 2 (rfl) (by omega) (by decide) (rfl) dX0_workThrice_53 ?_
  refine lv_ixor hx hb dX0_workThrice_54 ?_
  refine n_iast (f' := upd (upd (upd (xs12 u) 0 ((nI (wo op (ms0 S ri) (ms0 S si) nn)) ^^^ ((xs4 u) 0))) 1 ((nI (wo op (ms0 S ri) (ms0 S si) nn)) ^^^ ((xs4 u) 1))) 2 ((nI (wo op (ms0 S ri) (ms0 S si) nn)) ^^^ ((xs4 u) 2))) (ws' := xw g k (xu12 u (upd (upd (upd (xs12 u) 0 ((nI (wo op (ms0 S ri) (ms0 S si) nn)) ^^^ ((xs4 u) 0))) 1 ((nI (wo op (ms0 S ri) (ms0 S si) nn)) ^^^ ((xs4 u) 1))) 2 ((nI (wo op (ms0 S ri) (ms0 S si) nn)) ^^^ ((xs4 u) 2))))) hx hb hK hP hD hS 8 7 rfl rfl 2 (rfl) (by omega) (by decide) (rfl) rfl dX0_workThrice_55 (fun H locs hP hD hS => ?_)
  refine lv_iinc (v := 3) (lv' := [(5, .int 3), (6, .int (nI (wo op (ms0 S ri) (ms0 S si) nn))), (0, .ref (g 0)), (1, .int (nI op)), (2, .int (nI ri)), (3, .int (nI si)), (4, .int (nI nn))]) (k := 1) hx hb dX0_workThrice_56 hl rfl (by decide) (by decide) rfl (fun ls hl => ?_)
  refine lv_goto (tgt := 3) hx hb dX0_workThrice_59 (by decide) ?_
  refine lv_iload hx hb dX0_workThrice_3 (lv_at hl 0 rfl) ?_
  refine lv_iconst (v := 3) hx hb dX0_workThrice_5 (by decide) ?_
  refine lv_icmp_ge (tgt := 62) hx hb dX0_workThrice_6 (by decide) (fun _ => ?_) (fun q => absurd (by decide) q)
  refine lv_aload_n hx hb dX0_workThrice_62 rfl (lv_at hl 2 rfl) ?_
  refine x_get (v := .ref (g 8)) hF hK hP 0 rfl 12 (by decide) q69 rfl rfl dX0_workThrice_63 ?_
  refine lv_iconst (v := 0) hx hb dX0_workThrice_66 (by decide) ?_
  refine n_iald (v := nI (wo op (ms0 S ri) (ms0 S si) nn) ^^^ xs4 u 0) hx hb hK hP 8 7 rfl rfl 0 (rfl) (by omega) (by decide) (rfl) dX0_workThrice_67 ?_
  refine lv_aload_n hx hb dX0_workThrice_68 rfl (lv_at hl 2 rfl) ?_
  refine x_get (v := .ref (g 8)) hF hK hP 0 rfl 12 (by decide) q69 rfl rfl dX0_workThrice_69 ?_
  refine lv_iconst (v := 1) hx hb dX0_workThrice_72 (by decide) ?_
  refine n_iald (v := nI (wo op (ms0 S ri) (ms0 S si) nn) ^^^ xs4 u 1) hx hb hK hP 8 7 rfl rfl 1 (rfl) (by omega) (by decide) (rfl) dX0_workThrice_73 ?_
  refine lv_aload_n hx hb dX0_workThrice_74 rfl (lv_at hl 2 rfl) ?_
  refine x_get (v := .ref (g 8)) hF hK hP 0 rfl 12 (by decide) q69 rfl rfl dX0_workThrice_75 ?_
  refine lv_iconst (v := 2) hx hb dX0_workThrice_78 (by decide) ?_
  refine n_iald (v := nI (wo op (ms0 S ri) (ms0 S si) nn) ^^^ xs4 u 2) hx hb hK hP 8 7 rfl rfl 2 (rfl) (by omega) (by decide) (rfl) dX0_workThrice_79 ?_
  refine s_p (rest := []) hF (kX0_vote l (nI (wo op (ms0 S ri) (ms0 S si) nn) ^^^ xs4 u 0) (nI (wo op (ms0 S ri) (ms0 S si) nn) ^^^ xs4 u 1) (nI (wo op (ms0 S ri) (ms0 S si) nn) ^^^ xs4 u 2)) q127 q128 q28 q129 hdX0_vote rfl rfl ⟨Nat.le_of_ble_eq_true rfl, Nat.le_of_ble_eq_true rfl⟩ rfl hl.1 rfl (Nat.le_of_ble_eq_true rfl) dX0_workThrice_80 ⟨Nat.zero_le _, Nat.zero_le _⟩ (fun r4 hr4 => ?_)
  refine tx (y := vt (nI (wo op (ms0 S ri) (ms0 S si) nn) ^^^ xs4 u 0) (nI (wo op (ms0 S ri) (ms0 S si) nn) ^^^ xs4 u 1) (nI (wo op (ms0 S ri) (ms0 S si) nn) ^^^ xs4 u 2)) (hr4) ?_
  exact e_i (wf := xw g k) (u := xu12 u (upd (upd (upd (xs12 u) 0 ((nI (wo op (ms0 S ri) (ms0 S si) nn)) ^^^ ((xs4 u) 0))) 1 ((nI (wo op (ms0 S ri) (ms0 S si) nn)) ^^^ ((xs4 u) 1))) 2 ((nI (wo op (ms0 S ri) (ms0 S si) nn)) ^^^ ((xs4 u) 2)))) hx hb hr hlocks hK hP hD hS dX0_workThrice_83 (⟨hR.work _, _, rfl⟩)

set_option maxHeartbeats 4000000 in
set_option maxRecDepth 100000 in
theorem kX0_passThrice (l : Launch) (D : va_G) (g k : Nat → Nat) (sz : Nat) (S : MS) (u : XS) (hR : RX S u) (vv : Nat) : Ci l yX0_passThrice cX0_passThrice 3 .int (rm_ 1) D (xt k) (xw g k) sz [.ref (g 0), .int (nI vv)] u (fun r u2 => r = nI vv ∧ ∃ f, u2 = xu12 u f) := by
  refine st_i (by decide) (Nat.le_of_ble_eq_true rfl) ?_
  intro p e s m below meth c A ls hx hb hr hlocks hF hA hK hP hD hS hl
  have hl : lv_has ls 3 [(0, .ref (g 0)), (1, .int (nI vv))] := hl
  refine lv_iconst (v := 0) hx hb dX0_passThrice_0 (by decide) ?_
  refine lv_istore_n (lv' := [(2, .int 0), (0, .ref (g 0)), (1, .int (nI vv))]) hx hb dX0_passThrice_1 rfl hl (by decide) rfl (fun ls hl => ?_)
  refine lv_iload_n hx hb dX0_passThrice_2 rfl (lv_at hl 0 rfl) ?_
  refine lv_iconst (v := 3) hx hb dX0_passThrice_3 (by decide) ?_
  refine lv_icmp_ge (tgt := 27) hx hb dX0_passThrice_4 (by decide) (fun q => absurd q (by decide)) (fun _ => ?_)
  refine lv_aload_n hx hb dX0_passThrice_7 rfl (lv_at hl 1 rfl) ?_
  refine x_get (v := .ref (g 8)) hF hK hP 0 rfl 12 (by decide) q69 rfl rfl dX0_passThrice_8 ?_
  refine lv_iload_n hx hb dX0_passThrice_11 rfl (lv_at hl 0 rfl) ?_
  refine lv_iload_n hx hb dX0_passThrice_12 rfl (lv_at hl 2 rfl) ?_
  refine lv_aload_n hx hb dX0_passThrice_13 rfl (lv_at hl 1 rfl) ?_
  refine x_get (v := .ref (g 4)) hF hK hP 0 rfl 4 (by decide) q61 rfl rfl dX0_passThrice_14 ?_
  refine lv_iload_n hx hb dX0_passThrice_17 rfl (lv_at hl 0 rfl) ?_
  refine n_iald (v := (xs4 u) 0) hx hb hK hP 4 3 rfl rfl 0 (rfl) (by omega) (by decide) (rfl) dX0_passThrice_18 ?_
  refine lv_ixor hx hb dX0_passThrice_19 ?_
  refine n_iast (f' := upd (xs12 u) 0 ((nI vv) ^^^ ((xs4 u) 0))) (ws' := xw g k (xu12 u (upd (xs12 u) 0 ((nI vv) ^^^ ((xs4 u) 0))))) hx hb hK hP hD hS 8 7 rfl rfl 0 (rfl) (by omega) (by decide) (rfl) rfl dX0_passThrice_20 (fun H locs hP hD hS => ?_)
  refine lv_iinc (v := 1) (lv' := [(2, .int 1), (0, .ref (g 0)), (1, .int (nI vv))]) (k := 0) hx hb dX0_passThrice_21 hl rfl (by decide) (by decide) rfl (fun ls hl => ?_)
  refine lv_goto (tgt := 2) hx hb dX0_passThrice_24 (by decide) ?_
  refine lv_iload_n hx hb dX0_passThrice_2 rfl (lv_at hl 0 rfl) ?_
  refine lv_iconst (v := 3) hx hb dX0_passThrice_3 (by decide) ?_
  refine lv_icmp_ge (tgt := 27) hx hb dX0_passThrice_4 (by decide) (fun q => absurd q (by decide)) (fun _ => ?_)
  refine lv_aload_n hx hb dX0_passThrice_7 rfl (lv_at hl 1 rfl) ?_
  refine x_get (v := .ref (g 8)) hF hK hP 0 rfl 12 (by decide) q69 rfl rfl dX0_passThrice_8 ?_
  refine lv_iload_n hx hb dX0_passThrice_11 rfl (lv_at hl 0 rfl) ?_
  refine lv_iload_n hx hb dX0_passThrice_12 rfl (lv_at hl 2 rfl) ?_
  refine lv_aload_n hx hb dX0_passThrice_13 rfl (lv_at hl 1 rfl) ?_
  refine x_get (v := .ref (g 4)) hF hK hP 0 rfl 4 (by decide) q61 rfl rfl dX0_passThrice_14 ?_
  refine lv_iload_n hx hb dX0_passThrice_17 rfl (lv_at hl 0 rfl) ?_
  refine n_iald (v := (xs4 u) 1) hx hb hK hP 4 3 rfl rfl 1 (rfl) (by omega) (by decide) (rfl) dX0_passThrice_18 ?_
  refine lv_ixor hx hb dX0_passThrice_19 ?_
  refine n_iast (f' := upd (upd (xs12 u) 0 ((nI vv) ^^^ ((xs4 u) 0))) 1 ((nI vv) ^^^ ((xs4 u) 1))) (ws' := xw g k (xu12 u (upd (upd (xs12 u) 0 ((nI vv) ^^^ ((xs4 u) 0))) 1 ((nI vv) ^^^ ((xs4 u) 1))))) hx hb hK hP hD hS 8 7 rfl rfl 1 (rfl) (by omega) (by decide) (rfl) rfl dX0_passThrice_20 (fun H locs hP hD hS => ?_)
  refine lv_iinc (v := 2) (lv' := [(2, .int 2), (0, .ref (g 0)), (1, .int (nI vv))]) (k := 0) hx hb dX0_passThrice_21 hl rfl (by decide) (by decide) rfl (fun ls hl => ?_)
  refine lv_goto (tgt := 2) hx hb dX0_passThrice_24 (by decide) ?_
  refine lv_iload_n hx hb dX0_passThrice_2 rfl (lv_at hl 0 rfl) ?_
  refine lv_iconst (v := 3) hx hb dX0_passThrice_3 (by decide) ?_
  refine lv_icmp_ge (tgt := 27) hx hb dX0_passThrice_4 (by decide) (fun q => absurd q (by decide)) (fun _ => ?_)
  refine lv_aload_n hx hb dX0_passThrice_7 rfl (lv_at hl 1 rfl) ?_
  refine x_get (v := .ref (g 8)) hF hK hP 0 rfl 12 (by decide) q69 rfl rfl dX0_passThrice_8 ?_
  refine lv_iload_n hx hb dX0_passThrice_11 rfl (lv_at hl 0 rfl) ?_
  refine lv_iload_n hx hb dX0_passThrice_12 rfl (lv_at hl 2 rfl) ?_
  refine lv_aload_n hx hb dX0_passThrice_13 rfl (lv_at hl 1 rfl) ?_
  refine x_get (v := .ref (g 4)) hF hK hP 0 rfl 4 (by decide) q61 rfl rfl dX0_passThrice_14 ?_
  refine lv_iload_n hx hb dX0_passThrice_17 rfl (lv_at hl 0 rfl) ?_
  refine n_iald (v := (xs4 u) 2) hx hb hK hP 4 3 rfl rfl 2 (rfl) (by omega) (by decide) (rfl) dX0_passThrice_18 ?_
  refine lv_ixor hx hb dX0_passThrice_19 ?_
  refine n_iast (f' := upd (upd (upd (xs12 u) 0 ((nI vv) ^^^ ((xs4 u) 0))) 1 ((nI vv) ^^^ ((xs4 u) 1))) 2 ((nI vv) ^^^ ((xs4 u) 2))) (ws' := xw g k (xu12 u (upd (upd (upd (xs12 u) 0 ((nI vv) ^^^ ((xs4 u) 0))) 1 ((nI vv) ^^^ ((xs4 u) 1))) 2 ((nI vv) ^^^ ((xs4 u) 2))))) hx hb hK hP hD hS 8 7 rfl rfl 2 (rfl) (by omega) (by decide) (rfl) rfl dX0_passThrice_20 (fun H locs hP hD hS => ?_)
  refine lv_iinc (v := 3) (lv' := [(2, .int 3), (0, .ref (g 0)), (1, .int (nI vv))]) (k := 0) hx hb dX0_passThrice_21 hl rfl (by decide) (by decide) rfl (fun ls hl => ?_)
  refine lv_goto (tgt := 2) hx hb dX0_passThrice_24 (by decide) ?_
  refine lv_iload_n hx hb dX0_passThrice_2 rfl (lv_at hl 0 rfl) ?_
  refine lv_iconst (v := 3) hx hb dX0_passThrice_3 (by decide) ?_
  refine lv_icmp_ge (tgt := 27) hx hb dX0_passThrice_4 (by decide) (fun _ => ?_) (fun q => absurd (by decide) q)
  refine lv_aload_n hx hb dX0_passThrice_27 rfl (lv_at hl 1 rfl) ?_
  refine x_get (v := .ref (g 8)) hF hK hP 0 rfl 12 (by decide) q69 rfl rfl dX0_passThrice_28 ?_
  refine lv_iconst (v := 0) hx hb dX0_passThrice_31 (by decide) ?_
  refine n_iald (v := nI vv ^^^ xs4 u 0) hx hb hK hP 8 7 rfl rfl 0 (rfl) (by omega) (by decide) (rfl) dX0_passThrice_32 ?_
  refine lv_aload_n hx hb dX0_passThrice_33 rfl (lv_at hl 1 rfl) ?_
  refine x_get (v := .ref (g 8)) hF hK hP 0 rfl 12 (by decide) q69 rfl rfl dX0_passThrice_34 ?_
  refine lv_iconst (v := 1) hx hb dX0_passThrice_37 (by decide) ?_
  refine n_iald (v := nI vv ^^^ xs4 u 1) hx hb hK hP 8 7 rfl rfl 1 (rfl) (by omega) (by decide) (rfl) dX0_passThrice_38 ?_
  refine lv_aload_n hx hb dX0_passThrice_39 rfl (lv_at hl 1 rfl) ?_
  refine x_get (v := .ref (g 8)) hF hK hP 0 rfl 12 (by decide) q69 rfl rfl dX0_passThrice_40 ?_
  refine lv_iconst (v := 2) hx hb dX0_passThrice_43 (by decide) ?_
  refine n_iald (v := nI vv ^^^ xs4 u 2) hx hb hK hP 8 7 rfl rfl 2 (rfl) (by omega) (by decide) (rfl) dX0_passThrice_44 ?_
  refine s_p (rest := []) hF (kX0_vote l (nI vv ^^^ xs4 u 0) (nI vv ^^^ xs4 u 1) (nI vv ^^^ xs4 u 2)) q127 q128 q28 q129 hdX0_vote rfl rfl ⟨Nat.le_of_ble_eq_true rfl, Nat.le_of_ble_eq_true rfl⟩ rfl hl.1 rfl (Nat.le_of_ble_eq_true rfl) dX0_passThrice_45 ⟨Nat.zero_le _, Nat.zero_le _⟩ (fun r1 hr1 => ?_)
  refine tx (y := vt (nI vv ^^^ xs4 u 0) (nI vv ^^^ xs4 u 1) (nI vv ^^^ xs4 u 2)) (hr1) ?_
  exact e_i (wf := xw g k) (u := xu12 u (upd (upd (upd (xs12 u) 0 ((nI vv) ^^^ ((xs4 u) 0))) 1 ((nI vv) ^^^ ((xs4 u) 1))) 2 ((nI vv) ^^^ ((xs4 u) 2)))) hx hb hr hlocks hK hP hD hS dX0_passThrice_48 (⟨hR.work _, _, rfl⟩)
end
section
/-! SHIELDEDMACHINE: one step -/
set_option maxHeartbeats 4000000 in
set_option maxRecDepth 100000 in
theorem kX0_stepWithCells (l : Launch) (D : va_G) (g k : Nat → Nat) (sz : Nat) (S : MS) (u : XS) (hR : RX S u) (hG : RG S) (op ri nn at_ on : Nat) (hop : op = 0 ∨ op = 1 ∨ op = 2 ∨ op = 3 ∨ op = 12 ∨ op = 13) (hr4 : ri < 4) (hn : nn < 256) (h0 : ∀ j, j < 4 → ms11 S j = 0) : Ci l yX0_stepWithCells cX0_stepWithCells 10 .int (rm_ 4) D (xt k) (xw g k) sz [.ref (g 0), .int (nI op), .int (nI ri), .int (nI nn), .int (nI at_), .int (nI on)] u (fun r u2 => r = nI (swR op at_ on) ∧ RX (swS S op ri nn) u2) := by
  refine st_i (by decide) (Nat.le_of_ble_eq_true rfl) ?_
  intro p e s m below meth c A ls hx hb hr hlocks hF hA hK hP hD hS hl
  have hl : lv_has ls 10 [(0, .ref (g 0)), (1, .int (nI op)), (2, .int (nI ri)), (3, .int (nI nn)), (4, .int (nI at_)), (5, .int (nI on))] := hl
  rcases hop with rfl | rfl | rfl | rfl | rfl | rfl
  · have hl : lv_has ls 10 [(0, .ref (g 0)), (1, .int 0), (2, .int (nI ri)), (3, .int (nI nn)), (4, .int (nI at_)), (5, .int (nI on))] := hl
    refine lv_iload_n hx hb dX0_stepWithCells_0 rfl (lv_at hl 1 rfl) ?_
    refine lv_if_ne (tgt := 12) hx hb dX0_stepWithCells_1 (by decide) (fun q => absurd (by decide) q) (fun _ => ?_)
    refine lv_aload_n hx hb dX0_stepWithCells_4 rfl (lv_at hl 0 rfl) ?_
    refine lv_iconst (v := 1) hx hb dX0_stepWithCells_5 (by decide) ?_
    refine x_put (v := .int 1) (ws' := xw g k (xu9 u 1)) hF hK hP hD hS 0 rfl 9 (by decide) q66 rfl rfl rfl rfl (Nat.le_of_ble_eq_true rfl) rfl dX0_stepWithCells_6 (fun H locs hP hD hS => ?_)
    refine lv_iload hx hb dX0_stepWithCells_9 (lv_at hl 4 rfl) ?_
    exact e_i (wf := xw g k) (u := xu9 u 1) hx hb hr hlocks hK hP hD hS dX0_stepWithCells_11 (⟨rfl, hR.stop 1⟩)
  · have hl : lv_has ls 10 [(0, .ref (g 0)), (1, .int 1), (2, .int (nI ri)), (3, .int (nI nn)), (4, .int (nI at_)), (5, .int (nI on))] := hl
    refine lv_iload_n hx hb dX0_stepWithCells_0 rfl (lv_at hl 1 rfl) ?_
    refine lv_if_ne (tgt := 12) hx hb dX0_stepWithCells_1 (by decide) (fun _ => ?_) (fun q => absurd q (by decide))
    refine lv_iload_n hx hb dX0_stepWithCells_12 rfl (lv_at hl 3 rfl) ?_
    refine lv_iconst (v := 3) hx hb dX0_stepWithCells_13 (by decide) ?_
    refine lv_iand hx hb dX0_stepWithCells_14 ?_
    refine tx (y := nI (nn % 4)) (nI_and3 _) ?_
    refine lv_istore (lv' := [(6, .int (nI (nn % 4))), (0, .ref (g 0)), (1, .int 1), (2, .int (nI ri)), (3, .int (nI nn)), (4, .int (nI at_)), (5, .int (nI on))]) hx hb dX0_stepWithCells_15 hl (by decide) rfl (fun ls hl => ?_)
    refine lv_iload_n hx hb dX0_stepWithCells_17 rfl (lv_at hl 2 rfl) ?_
    refine lv_bipush (v := 12) hx hb dX0_stepWithCells_18 (by decide) ?_
    refine lv_icmp_eq (tgt := 29) hx hb dX0_stepWithCells_20 (by decide) (fun q => absurd q (by decide)) (fun _ => ?_)
    refine lv_iload_n hx hb dX0_stepWithCells_23 rfl (lv_at hl 2 rfl) ?_
    refine lv_bipush (v := 13) hx hb dX0_stepWithCells_24 (by decide) ?_
    refine lv_icmp_ne (tgt := 41) hx hb dX0_stepWithCells_26 (by decide) (fun _ => ?_) (fun q => absurd q (by decide))
    refine lv_iload_n hx hb dX0_stepWithCells_41 rfl (lv_at hl 4 rfl) ?_
    refine lv_bipush (v := 15) hx hb dX0_stepWithCells_42 (by decide) ?_
    refine lv_iand hx hb dX0_stepWithCells_44 ?_
    refine tx (y := nI (nn % 16)) (nI_and15 _) ?_
    refine lv_istore (lv' := [(7, .int (nI (nn % 16))), (6, .int (nI (nn % 4))), (0, .ref (g 0)), (1, .int 1), (2, .int (nI ri)), (3, .int (nI nn)), (4, .int (nI at_)), (5, .int (nI on))]) hx hb dX0_stepWithCells_45 hl (by decide) rfl (fun ls hl => ?_)
    refine lv_iload_n hx hb dX0_stepWithCells_47 rfl (lv_at hl 3 rfl) ?_
    refine lv_iconst (v := 1) hx hb dX0_stepWithCells_48 (by decide) ?_
    refine lv_icmp_ne (tgt := 73) hx hb dX0_stepWithCells_49 (by decide) (fun q => absurd (by decide) q) (fun _ => ?_)
    refine lv_aload_n hx hb dX0_stepWithCells_52 rfl (lv_at hl 2 rfl) ?_
    refine lv_iconst (v := 1) hx hb dX0_stepWithCells_53 (by decide) ?_
    refine lv_iload_n hx hb dX0_stepWithCells_54 rfl (lv_at hl 4 rfl) ?_
    refine lv_iload hx hb dX0_stepWithCells_55 (lv_at hl 1 rfl) ?_
    refine lv_iload_n hx hb dX0_stepWithCells_57 rfl (lv_at hl 5 rfl) ?_
    refine c_i (wf := xw g k) (As := [.int 1, .int (nI ri), .int (nI (nn % 4)), .int (nI nn)]) (rest := []) hF hA hK hP hD hS (kX0_workThrice l D g k _ S u hR hG 1 ri (nn % 4) nn (Or.inl rfl) hr4 (by omega) (h0 _ hr4) (h0 _ (by omega))) q164 q166 qs11 q28 q167 hdX0_workThrice rfl rfl ⟨Nat.le_of_ble_eq_true rfl, Nat.le_of_ble_eq_true rfl⟩ rfl rfl rfl hl.1 rfl (Nat.le_of_ble_eq_true rfl) dX0_stepWithCells_58 ⟨Nat.zero_le _, Nat.zero_le _⟩ (fun r1 u2 H locs hr1 hP hD hS => ?_)
    obtain ⟨e2, f2, g2⟩ := hr1
    rw [g2] at hP hD
    refine tx (y := nI (wo 1 (ms0 S ri) (ms0 S (nn % 4)) nn)) (e2) ?_
    refine lv_istore (lv' := [(8, .int (nI (wo 1 (ms0 S ri) (ms0 S (nn % 4)) nn))), (7, .int (nI (nn % 16))), (6, .int (nI (nn % 4))), (0, .ref (g 0)), (1, .int 1), (2, .int (nI ri)), (3, .int (nI nn)), (4, .int (nI at_)), (5, .int (nI on))]) hx hb dX0_stepWithCells_61 hl (by decide) rfl (fun ls hl => ?_)
    refine lv_aload_n hx hb dX0_stepWithCells_63 rfl (lv_at hl 3 rfl) ?_
    refine lv_iload_n hx hb dX0_stepWithCells_64 rfl (lv_at hl 5 rfl) ?_
    refine lv_iload hx hb dX0_stepWithCells_65 (lv_at hl 0 rfl) ?_
    refine c_v (wf := xw g k) (As := [.int (nI ri), .int (nI (wo 1 (ms0 S ri) (ms0 S (nn % 4)) nn))]) (rest := []) hF hA hK hP hD hS (kX0_writeRegister l D g k _ (xu12 u f2) ri (by omega) (nI (wo 1 (ms0 S ri) (ms0 S (nn % 4)) nn))) q130 q132 qs4 q28 q133 hdX0_writeRegister rfl rfl ⟨Nat.le_of_ble_eq_true rfl, Nat.le_of_ble_eq_true rfl⟩ rfl rfl rfl hl.1 rfl (Nat.le_of_ble_eq_true rfl) dX0_stepWithCells_67 ⟨Nat.zero_le _, Nat.zero_le _⟩ (fun u3 H locs hu3 hP hD hS => ?_)
    rw [hu3] at hP hD
    refine lv_goto (tgt := 139) hx hb dX0_stepWithCells_70 (by decide) ?_
    refine lv_iload hx hb dX0_stepWithCells_139 (lv_at hl 8 rfl) ?_
    exact e_i (wf := xw g k) (u := xu12 (xu0 u (w3 (xs0 u) ri (nI (wo 1 (ms0 S ri) (ms0 S (nn % 4)) nn)))) f2) hx hb hr hlocks hK hP hD hS dX0_stepWithCells_141 (⟨rfl, hR.reg (r := ri) (v := nn) hn⟩)
  · have hl : lv_has ls 10 [(0, .ref (g 0)), (1, .int 2), (2, .int (nI ri)), (3, .int (nI nn)), (4, .int (nI at_)), (5, .int (nI on))] := hl
    refine lv_iload_n hx hb dX0_stepWithCells_0 rfl (lv_at hl 1 rfl) ?_
    refine lv_if_ne (tgt := 12) hx hb dX0_stepWithCells_1 (by decide) (fun _ => ?_) (fun q => absurd q (by decide))
    refine lv_iload_n hx hb dX0_stepWithCells_12 rfl (lv_at hl 3 rfl) ?_
    refine lv_iconst (v := 3) hx hb dX0_stepWithCells_13 (by decide) ?_
    refine lv_iand hx hb dX0_stepWithCells_14 ?_
    refine tx (y := nI (nn % 4)) (nI_and3 _) ?_
    refine lv_istore (lv' := [(6, .int (nI (nn % 4))), (0, .ref (g 0)), (1, .int 2), (2, .int (nI ri)), (3, .int (nI nn)), (4, .int (nI at_)), (5, .int (nI on))]) hx hb dX0_stepWithCells_15 hl (by decide) rfl (fun ls hl => ?_)
    refine lv_iload_n hx hb dX0_stepWithCells_17 rfl (lv_at hl 2 rfl) ?_
    refine lv_bipush (v := 12) hx hb dX0_stepWithCells_18 (by decide) ?_
    refine lv_icmp_eq (tgt := 29) hx hb dX0_stepWithCells_20 (by decide) (fun q => absurd q (by decide)) (fun _ => ?_)
    refine lv_iload_n hx hb dX0_stepWithCells_23 rfl (lv_at hl 2 rfl) ?_
    refine lv_bipush (v := 13) hx hb dX0_stepWithCells_24 (by decide) ?_
    refine lv_icmp_ne (tgt := 41) hx hb dX0_stepWithCells_26 (by decide) (fun _ => ?_) (fun q => absurd q (by decide))
    refine lv_iload_n hx hb dX0_stepWithCells_41 rfl (lv_at hl 4 rfl) ?_
    refine lv_bipush (v := 15) hx hb dX0_stepWithCells_42 (by decide) ?_
    refine lv_iand hx hb dX0_stepWithCells_44 ?_
    refine tx (y := nI (nn % 16)) (nI_and15 _) ?_
    refine lv_istore (lv' := [(7, .int (nI (nn % 16))), (6, .int (nI (nn % 4))), (0, .ref (g 0)), (1, .int 2), (2, .int (nI ri)), (3, .int (nI nn)), (4, .int (nI at_)), (5, .int (nI on))]) hx hb dX0_stepWithCells_45 hl (by decide) rfl (fun ls hl => ?_)
    refine lv_iload_n hx hb dX0_stepWithCells_47 rfl (lv_at hl 3 rfl) ?_
    refine lv_iconst (v := 1) hx hb dX0_stepWithCells_48 (by decide) ?_
    refine lv_icmp_ne (tgt := 73) hx hb dX0_stepWithCells_49 (by decide) (fun _ => ?_) (fun q => absurd q (by decide))
    refine lv_iload_n hx hb dX0_stepWithCells_73 rfl (lv_at hl 3 rfl) ?_
    refine lv_iconst (v := 2) hx hb dX0_stepWithCells_74 (by decide) ?_
    refine lv_icmp_eq (tgt := 84) hx hb dX0_stepWithCells_75 (by decide) (fun _ => ?_) (fun q => absurd (by decide) q)
    refine lv_aload_n hx hb dX0_stepWithCells_84 rfl (lv_at hl 2 rfl) ?_
    refine lv_bipush (v := 32) hx hb dX0_stepWithCells_85 (by decide) ?_
    refine lv_iload hx hb dX0_stepWithCells_87 (lv_at hl 0 rfl) ?_
    refine lv_iadd hx hb dX0_stepWithCells_89 ?_
    refine tx (y := nI (32 + (nn % 16))) (nI_add _ _) ?_
    refine c_i (wf := xw g k) (As := [.int (nI (32 + (nn % 16)))]) (rest := []) hF hA hK hP hD hS (kX0_readAndRepair l D g k _ S u hR hG (32 + (nn % 16)) (by omega)) q142 q144 qs7 q28 q145 hdX0_readAndRepair rfl rfl ⟨Nat.le_of_ble_eq_true rfl, Nat.le_of_ble_eq_true rfl⟩ rfl rfl rfl hl.1 rfl (Nat.le_of_ble_eq_true rfl) dX0_stepWithCells_90 ⟨Nat.zero_le _, Nat.zero_le _⟩ (fun r4 u5 H locs hr4 hP hD hS => ?_)
    refine tx (y := nI (wd S (32 + (nn % 16)))) (hr4.1) ?_
    refine tx (y := nI (ms1 S (nn % 16))) (by rw [wd_cell]) ?_
    refine lv_istore (lv' := [(8, .int (nI (ms1 S (nn % 16)))), (7, .int (nI (nn % 16))), (6, .int (nI (nn % 4))), (0, .ref (g 0)), (1, .int 2), (2, .int (nI ri)), (3, .int (nI nn)), (4, .int (nI at_)), (5, .int (nI on))]) hx hb dX0_stepWithCells_93 hl (by decide) rfl (fun ls hl => ?_)
    refine lv_aload_n hx hb dX0_stepWithCells_95 rfl (lv_at hl 3 rfl) ?_
    refine lv_iload hx hb dX0_stepWithCells_96 (lv_at hl 0 rfl) ?_
    refine c_i (wf := xw g k) (As := [.int (nI (ms1 S (nn % 16)))]) (rest := []) hF hA hK hP hD hS (kX0_passThrice l D g k _ (unsp S (32 + (nn % 16))) u5 hr4.2 (ms1 S (nn % 16))) q174 q176 qs12 q28 q177 hdX0_passThrice rfl rfl ⟨Nat.le_of_ble_eq_true rfl, Nat.le_of_ble_eq_true rfl⟩ rfl rfl rfl hl.1 rfl (Nat.le_of_ble_eq_true rfl) dX0_stepWithCells_98 ⟨Nat.zero_le _, Nat.zero_le _⟩ (fun r6 u7 H locs hr6 hP hD hS => ?_)
    obtain ⟨e7, f7, g7⟩ := hr6
    rw [g7] at hP hD
    refine tx (y := nI (ms1 S (nn % 16))) (e7) ?_
    refine lv_istore (lv' := [(9, .int (nI (ms1 S (nn % 16)))), (8, .int (nI (ms1 S (nn % 16)))), (7, .int (nI (nn % 16))), (6, .int (nI (nn % 4))), (0, .ref (g 0)), (1, .int 2), (2, .int (nI ri)), (3, .int (nI nn)), (4, .int (nI at_)), (5, .int (nI on))]) hx hb dX0_stepWithCells_101 hl (by decide) rfl (fun ls hl => ?_)
    refine lv_aload_n hx hb dX0_stepWithCells_103 rfl (lv_at hl 4 rfl) ?_
    refine lv_iload_n hx hb dX0_stepWithCells_104 rfl (lv_at hl 6 rfl) ?_
    refine lv_iload hx hb dX0_stepWithCells_105 (lv_at hl 0 rfl) ?_
    refine c_v (wf := xw g k) (As := [.int (nI ri), .int (nI (ms1 S (nn % 16)))]) (rest := []) hF hA hK hP hD hS (kX0_writeRegister l D g k _ (xu12 u5 f7) ri (by omega) (nI (ms1 S (nn % 16)))) q130 q132 qs4 q28 q133 hdX0_writeRegister rfl rfl ⟨Nat.le_of_ble_eq_true rfl, Nat.le_of_ble_eq_true rfl⟩ rfl rfl rfl hl.1 rfl (Nat.le_of_ble_eq_true rfl) dX0_stepWithCells_107 ⟨Nat.zero_le _, Nat.zero_le _⟩ (fun u8 H locs hu8 hP hD hS => ?_)
    rw [hu8] at hP hD
    refine lv_goto (tgt := 139) hx hb dX0_stepWithCells_110 (by decide) ?_
    refine lv_iload hx hb dX0_stepWithCells_139 (lv_at hl 9 rfl) ?_
    exact e_i (wf := xw g k) (u := xu12 (xu0 u5 (w3 (xs0 u5) ri (nI (ms1 S (nn % 16))))) f7) hx hb hr hlocks hK hP hD hS dX0_stepWithCells_141 (⟨rfl, hr4.2.reg (r := ri) (v := ms1 S (nn % 16)) (hG.2.1 _ (by omega))⟩)
  · have hl : lv_has ls 10 [(0, .ref (g 0)), (1, .int 3), (2, .int (nI ri)), (3, .int (nI nn)), (4, .int (nI at_)), (5, .int (nI on))] := hl
    refine lv_iload_n hx hb dX0_stepWithCells_0 rfl (lv_at hl 1 rfl) ?_
    refine lv_if_ne (tgt := 12) hx hb dX0_stepWithCells_1 (by decide) (fun _ => ?_) (fun q => absurd q (by decide))
    refine lv_iload_n hx hb dX0_stepWithCells_12 rfl (lv_at hl 3 rfl) ?_
    refine lv_iconst (v := 3) hx hb dX0_stepWithCells_13 (by decide) ?_
    refine lv_iand hx hb dX0_stepWithCells_14 ?_
    refine tx (y := nI (nn % 4)) (nI_and3 _) ?_
    refine lv_istore (lv' := [(6, .int (nI (nn % 4))), (0, .ref (g 0)), (1, .int 3), (2, .int (nI ri)), (3, .int (nI nn)), (4, .int (nI at_)), (5, .int (nI on))]) hx hb dX0_stepWithCells_15 hl (by decide) rfl (fun ls hl => ?_)
    refine lv_iload_n hx hb dX0_stepWithCells_17 rfl (lv_at hl 2 rfl) ?_
    refine lv_bipush (v := 12) hx hb dX0_stepWithCells_18 (by decide) ?_
    refine lv_icmp_eq (tgt := 29) hx hb dX0_stepWithCells_20 (by decide) (fun q => absurd q (by decide)) (fun _ => ?_)
    refine lv_iload_n hx hb dX0_stepWithCells_23 rfl (lv_at hl 2 rfl) ?_
    refine lv_bipush (v := 13) hx hb dX0_stepWithCells_24 (by decide) ?_
    refine lv_icmp_ne (tgt := 41) hx hb dX0_stepWithCells_26 (by decide) (fun _ => ?_) (fun q => absurd q (by decide))
    refine lv_iload_n hx hb dX0_stepWithCells_41 rfl (lv_at hl 4 rfl) ?_
    refine lv_bipush (v := 15) hx hb dX0_stepWithCells_42 (by decide) ?_
    refine lv_iand hx hb dX0_stepWithCells_44 ?_
    refine tx (y := nI (nn % 16)) (nI_and15 _) ?_
    refine lv_istore (lv' := [(7, .int (nI (nn % 16))), (6, .int (nI (nn % 4))), (0, .ref (g 0)), (1, .int 3), (2, .int (nI ri)), (3, .int (nI nn)), (4, .int (nI at_)), (5, .int (nI on))]) hx hb dX0_stepWithCells_45 hl (by decide) rfl (fun ls hl => ?_)
    refine lv_iload_n hx hb dX0_stepWithCells_47 rfl (lv_at hl 3 rfl) ?_
    refine lv_iconst (v := 1) hx hb dX0_stepWithCells_48 (by decide) ?_
    refine lv_icmp_ne (tgt := 73) hx hb dX0_stepWithCells_49 (by decide) (fun _ => ?_) (fun q => absurd q (by decide))
    refine lv_iload_n hx hb dX0_stepWithCells_73 rfl (lv_at hl 3 rfl) ?_
    refine lv_iconst (v := 2) hx hb dX0_stepWithCells_74 (by decide) ?_
    refine lv_icmp_eq (tgt := 84) hx hb dX0_stepWithCells_75 (by decide) (fun q => absurd q (by decide)) (fun _ => ?_)
    refine lv_iload_n hx hb dX0_stepWithCells_78 rfl (lv_at hl 3 rfl) ?_
    refine lv_bipush (v := 12) hx hb dX0_stepWithCells_79 (by decide) ?_
    refine lv_icmp_ne (tgt := 113) hx hb dX0_stepWithCells_81 (by decide) (fun _ => ?_) (fun q => absurd q (by decide))
    refine lv_aload_n hx hb dX0_stepWithCells_113 rfl (lv_at hl 2 rfl) ?_
    refine lv_iload_n hx hb dX0_stepWithCells_114 rfl (lv_at hl 4 rfl) ?_
    refine c_i (wf := xw g k) (As := [.int (nI ri)]) (rest := []) hF hA hK hP hD hS (kX0_voteRegister l D g k _ S u hR ri (by omega)) q123 q125 qs3 q28 q126 hdX0_voteRegister rfl rfl ⟨Nat.le_of_ble_eq_true rfl, Nat.le_of_ble_eq_true rfl⟩ rfl rfl rfl hl.1 rfl (Nat.le_of_ble_eq_true rfl) dX0_stepWithCells_115 ⟨Nat.zero_le _, Nat.zero_le _⟩ (fun r9 u10 H locs hr9 hP hD hS => ?_)
    rw [hr9.2] at hP hD
    refine tx (y := nI (ms0 S ri)) (hr9.1) ?_
    refine lv_istore (lv' := [(8, .int (nI (ms0 S ri))), (7, .int (nI (nn % 16))), (6, .int (nI (nn % 4))), (0, .ref (g 0)), (1, .int 3), (2, .int (nI ri)), (3, .int (nI nn)), (4, .int (nI at_)), (5, .int (nI on))]) hx hb dX0_stepWithCells_118 hl (by decide) rfl (fun ls hl => ?_)
    refine lv_aload_n hx hb dX0_stepWithCells_120 rfl (lv_at hl 3 rfl) ?_
    refine lv_iload hx hb dX0_stepWithCells_121 (lv_at hl 0 rfl) ?_
    refine c_i (wf := xw g k) (As := [.int (nI (ms0 S ri))]) (rest := []) hF hA hK hP hD hS (kX0_passThrice l D g k _ S u hR (ms0 S ri)) q174 q176 qs12 q28 q177 hdX0_passThrice rfl rfl ⟨Nat.le_of_ble_eq_true rfl, Nat.le_of_ble_eq_true rfl⟩ rfl rfl rfl hl.1 rfl (Nat.le_of_ble_eq_true rfl) dX0_stepWithCells_123 ⟨Nat.zero_le _, Nat.zero_le _⟩ (fun r11 u12 H locs hr11 hP hD hS => ?_)
    obtain ⟨e12, f12, g12⟩ := hr11
    rw [g12] at hP hD
    refine tx (y := nI (ms0 S ri)) (e12) ?_
    refine lv_istore (lv' := [(9, .int (nI (ms0 S ri))), (8, .int (nI (ms0 S ri))), (7, .int (nI (nn % 16))), (6, .int (nI (nn % 4))), (0, .ref (g 0)), (1, .int 3), (2, .int (nI ri)), (3, .int (nI nn)), (4, .int (nI at_)), (5, .int (nI on))]) hx hb dX0_stepWithCells_126 hl (by decide) rfl (fun ls hl => ?_)
    refine lv_aload_n hx hb dX0_stepWithCells_128 rfl (lv_at hl 4 rfl) ?_
    refine lv_bipush (v := 32) hx hb dX0_stepWithCells_129 (by decide) ?_
    refine lv_iload hx hb dX0_stepWithCells_131 (lv_at hl 2 rfl) ?_
    refine lv_iadd hx hb dX0_stepWithCells_133 ?_
    refine tx (y := nI (32 + (nn % 16))) (nI_add _ _) ?_
    refine lv_iload hx hb dX0_stepWithCells_134 (lv_at hl 0 rfl) ?_
    refine c_v (wf := xw g k) (As := [.int (nI (32 + (nn % 16))), .int (nI (ms0 S ri))]) (rest := []) hF hA hK hP hD hS (kX0_writeWord l D g k _ (xu12 u f12) (32 + (nn % 16)) (ms0 S ri) (by omega) (by have := hG.1 ri hr4; omega)) q38 q40 qs0 q28 q41 hdX0_writeWord rfl rfl ⟨Nat.le_of_ble_eq_true rfl, Nat.le_of_ble_eq_true rfl⟩ rfl rfl rfl hl.1 rfl (Nat.le_of_ble_eq_true rfl) dX0_stepWithCells_136 ⟨Nat.zero_le _, Nat.zero_le _⟩ (fun u13 H locs hu13 hP hD hS => ?_)
    rw [hu13] at hP hD
    refine lv_iload hx hb dX0_stepWithCells_139 (lv_at hl 9 rfl) ?_
    exact e_i (wf := xw g k) (u := xu12 (xu7 (xu6 u (upd (xs6 u) (32 + (nn % 16)) (nI (enc (ms0 S ri) (plc (32 + (nn % 16))))))) (upd (xs7 u) (32 + (nn % 16)) 0)) f12) hx hb hr hlocks hK hP hD hS dX0_stepWithCells_141 (⟨rfl, hR.cell (q := nn % 16) (v := ms0 S ri) (by omega)⟩)
  · have hl : lv_has ls 10 [(0, .ref (g 0)), (1, .int 12), (2, .int (nI ri)), (3, .int (nI nn)), (4, .int (nI at_)), (5, .int (nI on))] := hl
    refine lv_iload_n hx hb dX0_stepWithCells_0 rfl (lv_at hl 1 rfl) ?_
    refine lv_if_ne (tgt := 12) hx hb dX0_stepWithCells_1 (by decide) (fun _ => ?_) (fun q => absurd q (by decide))
    refine lv_iload_n hx hb dX0_stepWithCells_12 rfl (lv_at hl 3 rfl) ?_
    refine lv_iconst (v := 3) hx hb dX0_stepWithCells_13 (by decide) ?_
    refine lv_iand hx hb dX0_stepWithCells_14 ?_
    refine tx (y := nI (nn % 4)) (nI_and3 _) ?_
    refine lv_istore (lv' := [(6, .int (nI (nn % 4))), (0, .ref (g 0)), (1, .int 12), (2, .int (nI ri)), (3, .int (nI nn)), (4, .int (nI at_)), (5, .int (nI on))]) hx hb dX0_stepWithCells_15 hl (by decide) rfl (fun ls hl => ?_)
    refine lv_iload_n hx hb dX0_stepWithCells_17 rfl (lv_at hl 2 rfl) ?_
    refine lv_bipush (v := 12) hx hb dX0_stepWithCells_18 (by decide) ?_
    refine lv_icmp_eq (tgt := 29) hx hb dX0_stepWithCells_20 (by decide) (fun _ => ?_) (fun q => absurd (by decide) q)
    refine lv_aload_n hx hb dX0_stepWithCells_29 rfl (lv_at hl 1 rfl) ?_
    refine lv_iload hx hb dX0_stepWithCells_30 (lv_at hl 0 rfl) ?_
    refine c_i (wf := xw g k) (As := [.int (nI (nn % 4))]) (rest := []) hF hA hK hP hD hS (kX0_voteRegister l D g k _ S u hR (nn % 4) (by omega)) q123 q125 qs3 q28 q126 hdX0_voteRegister rfl rfl ⟨Nat.le_of_ble_eq_true rfl, Nat.le_of_ble_eq_true rfl⟩ rfl rfl rfl hl.1 rfl (Nat.le_of_ble_eq_true rfl) dX0_stepWithCells_32 ⟨Nat.zero_le _, Nat.zero_le _⟩ (fun r14 u15 H locs hr14 hP hD hS => ?_)
    rw [hr14.2] at hP hD
    refine tx (y := nI (ms0 S (nn % 4))) (hr14.1) ?_
    refine lv_bipush (v := 15) hx hb dX0_stepWithCells_35 (by decide) ?_
    refine lv_iand hx hb dX0_stepWithCells_37 ?_
    refine tx (y := nI (ms0 S (nn % 4) % 16)) (nI_and15 _) ?_
    refine lv_goto (tgt := 45) hx hb dX0_stepWithCells_38 (by decide) ?_
    refine lv_istore (lv' := [(7, .int (nI (ms0 S (nn % 4) % 16))), (6, .int (nI (nn % 4))), (0, .ref (g 0)), (1, .int 12), (2, .int (nI ri)), (3, .int (nI nn)), (4, .int (nI at_)), (5, .int (nI on))]) hx hb dX0_stepWithCells_45 hl (by decide) rfl (fun ls hl => ?_)
    refine lv_iload_n hx hb dX0_stepWithCells_47 rfl (lv_at hl 3 rfl) ?_
    refine lv_iconst (v := 1) hx hb dX0_stepWithCells_48 (by decide) ?_
    refine lv_icmp_ne (tgt := 73) hx hb dX0_stepWithCells_49 (by decide) (fun _ => ?_) (fun q => absurd q (by decide))
    refine lv_iload_n hx hb dX0_stepWithCells_73 rfl (lv_at hl 3 rfl) ?_
    refine lv_iconst (v := 2) hx hb dX0_stepWithCells_74 (by decide) ?_
    refine lv_icmp_eq (tgt := 84) hx hb dX0_stepWithCells_75 (by decide) (fun q => absurd q (by decide)) (fun _ => ?_)
    refine lv_iload_n hx hb dX0_stepWithCells_78 rfl (lv_at hl 3 rfl) ?_
    refine lv_bipush (v := 12) hx hb dX0_stepWithCells_79 (by decide) ?_
    refine lv_icmp_ne (tgt := 113) hx hb dX0_stepWithCells_81 (by decide) (fun q => absurd (by decide) q) (fun _ => ?_)
    refine lv_aload_n hx hb dX0_stepWithCells_84 rfl (lv_at hl 2 rfl) ?_
    refine lv_bipush (v := 32) hx hb dX0_stepWithCells_85 (by decide) ?_
    refine lv_iload hx hb dX0_stepWithCells_87 (lv_at hl 0 rfl) ?_
    refine lv_iadd hx hb dX0_stepWithCells_89 ?_
    refine tx (y := nI (32 + (ms0 S (nn % 4) % 16))) (nI_add _ _) ?_
    refine c_i (wf := xw g k) (As := [.int (nI (32 + (ms0 S (nn % 4) % 16)))]) (rest := []) hF hA hK hP hD hS (kX0_readAndRepair l D g k _ S u hR hG (32 + (ms0 S (nn % 4) % 16)) (by omega)) q142 q144 qs7 q28 q145 hdX0_readAndRepair rfl rfl ⟨Nat.le_of_ble_eq_true rfl, Nat.le_of_ble_eq_true rfl⟩ rfl rfl rfl hl.1 rfl (Nat.le_of_ble_eq_true rfl) dX0_stepWithCells_90 ⟨Nat.zero_le _, Nat.zero_le _⟩ (fun r16 u17 H locs hr16 hP hD hS => ?_)
    refine tx (y := nI (wd S (32 + (ms0 S (nn % 4) % 16)))) (hr16.1) ?_
    refine tx (y := nI (ms1 S (ms0 S (nn % 4) % 16))) (by rw [wd_cell]) ?_
    refine lv_istore (lv' := [(8, .int (nI (ms1 S (ms0 S (nn % 4) % 16)))), (7, .int (nI (ms0 S (nn % 4) % 16))), (6, .int (nI (nn % 4))), (0, .ref (g 0)), (1, .int 12), (2, .int (nI ri)), (3, .int (nI nn)), (4, .int (nI at_)), (5, .int (nI on))]) hx hb dX0_stepWithCells_93 hl (by decide) rfl (fun ls hl => ?_)
    refine lv_aload_n hx hb dX0_stepWithCells_95 rfl (lv_at hl 3 rfl) ?_
    refine lv_iload hx hb dX0_stepWithCells_96 (lv_at hl 0 rfl) ?_
    refine c_i (wf := xw g k) (As := [.int (nI (ms1 S (ms0 S (nn % 4) % 16)))]) (rest := []) hF hA hK hP hD hS (kX0_passThrice l D g k _ (unsp S (32 + (ms0 S (nn % 4) % 16))) u17 hr16.2 (ms1 S (ms0 S (nn % 4) % 16))) q174 q176 qs12 q28 q177 hdX0_passThrice rfl rfl ⟨Nat.le_of_ble_eq_true rfl, Nat.le_of_ble_eq_true rfl⟩ rfl rfl rfl hl.1 rfl (Nat.le_of_ble_eq_true rfl) dX0_stepWithCells_98 ⟨Nat.zero_le _, Nat.zero_le _⟩ (fun r18 u19 H locs hr18 hP hD hS => ?_)
    obtain ⟨e19, f19, g19⟩ := hr18
    rw [g19] at hP hD
    refine tx (y := nI (ms1 S (ms0 S (nn % 4) % 16))) (e19) ?_
    refine lv_istore (lv' := [(9, .int (nI (ms1 S (ms0 S (nn % 4) % 16)))), (8, .int (nI (ms1 S (ms0 S (nn % 4) % 16)))), (7, .int (nI (ms0 S (nn % 4) % 16))), (6, .int (nI (nn % 4))), (0, .ref (g 0)), (1, .int 12), (2, .int (nI ri)), (3, .int (nI nn)), (4, .int (nI at_)), (5, .int (nI on))]) hx hb dX0_stepWithCells_101 hl (by decide) rfl (fun ls hl => ?_)
    refine lv_aload_n hx hb dX0_stepWithCells_103 rfl (lv_at hl 4 rfl) ?_
    refine lv_iload_n hx hb dX0_stepWithCells_104 rfl (lv_at hl 6 rfl) ?_
    refine lv_iload hx hb dX0_stepWithCells_105 (lv_at hl 0 rfl) ?_
    refine c_v (wf := xw g k) (As := [.int (nI ri), .int (nI (ms1 S (ms0 S (nn % 4) % 16)))]) (rest := []) hF hA hK hP hD hS (kX0_writeRegister l D g k _ (xu12 u17 f19) ri (by omega) (nI (ms1 S (ms0 S (nn % 4) % 16)))) q130 q132 qs4 q28 q133 hdX0_writeRegister rfl rfl ⟨Nat.le_of_ble_eq_true rfl, Nat.le_of_ble_eq_true rfl⟩ rfl rfl rfl hl.1 rfl (Nat.le_of_ble_eq_true rfl) dX0_stepWithCells_107 ⟨Nat.zero_le _, Nat.zero_le _⟩ (fun u20 H locs hu20 hP hD hS => ?_)
    rw [hu20] at hP hD
    refine lv_goto (tgt := 139) hx hb dX0_stepWithCells_110 (by decide) ?_
    refine lv_iload hx hb dX0_stepWithCells_139 (lv_at hl 9 rfl) ?_
    exact e_i (wf := xw g k) (u := xu12 (xu0 u17 (w3 (xs0 u17) ri (nI (ms1 S (ms0 S (nn % 4) % 16))))) f19) hx hb hr hlocks hK hP hD hS dX0_stepWithCells_141 (⟨rfl, hr16.2.reg (r := ri) (v := ms1 S (ms0 S (nn % 4) % 16)) (hG.2.1 _ (by omega))⟩)
  · have hl : lv_has ls 10 [(0, .ref (g 0)), (1, .int 13), (2, .int (nI ri)), (3, .int (nI nn)), (4, .int (nI at_)), (5, .int (nI on))] := hl
    refine lv_iload_n hx hb dX0_stepWithCells_0 rfl (lv_at hl 1 rfl) ?_
    refine lv_if_ne (tgt := 12) hx hb dX0_stepWithCells_1 (by decide) (fun _ => ?_) (fun q => absurd q (by decide))
    refine lv_iload_n hx hb dX0_stepWithCells_12 rfl (lv_at hl 3 rfl) ?_
    refine lv_iconst (v := 3) hx hb dX0_stepWithCells_13 (by decide) ?_
    refine lv_iand hx hb dX0_stepWithCells_14 ?_
    refine tx (y := nI (nn % 4)) (nI_and3 _) ?_
    refine lv_istore (lv' := [(6, .int (nI (nn % 4))), (0, .ref (g 0)), (1, .int 13), (2, .int (nI ri)), (3, .int (nI nn)), (4, .int (nI at_)), (5, .int (nI on))]) hx hb dX0_stepWithCells_15 hl (by decide) rfl (fun ls hl => ?_)
    refine lv_iload_n hx hb dX0_stepWithCells_17 rfl (lv_at hl 2 rfl) ?_
    refine lv_bipush (v := 12) hx hb dX0_stepWithCells_18 (by decide) ?_
    refine lv_icmp_eq (tgt := 29) hx hb dX0_stepWithCells_20 (by decide) (fun q => absurd q (by decide)) (fun _ => ?_)
    refine lv_iload_n hx hb dX0_stepWithCells_23 rfl (lv_at hl 2 rfl) ?_
    refine lv_bipush (v := 13) hx hb dX0_stepWithCells_24 (by decide) ?_
    refine lv_icmp_ne (tgt := 41) hx hb dX0_stepWithCells_26 (by decide) (fun q => absurd (by decide) q) (fun _ => ?_)
    refine lv_aload_n hx hb dX0_stepWithCells_29 rfl (lv_at hl 1 rfl) ?_
    refine lv_iload hx hb dX0_stepWithCells_30 (lv_at hl 0 rfl) ?_
    refine c_i (wf := xw g k) (As := [.int (nI (nn % 4))]) (rest := []) hF hA hK hP hD hS (kX0_voteRegister l D g k _ S u hR (nn % 4) (by omega)) q123 q125 qs3 q28 q126 hdX0_voteRegister rfl rfl ⟨Nat.le_of_ble_eq_true rfl, Nat.le_of_ble_eq_true rfl⟩ rfl rfl rfl hl.1 rfl (Nat.le_of_ble_eq_true rfl) dX0_stepWithCells_32 ⟨Nat.zero_le _, Nat.zero_le _⟩ (fun r21 u22 H locs hr21 hP hD hS => ?_)
    rw [hr21.2] at hP hD
    refine tx (y := nI (ms0 S (nn % 4))) (hr21.1) ?_
    refine lv_bipush (v := 15) hx hb dX0_stepWithCells_35 (by decide) ?_
    refine lv_iand hx hb dX0_stepWithCells_37 ?_
    refine tx (y := nI (ms0 S (nn % 4) % 16)) (nI_and15 _) ?_
    refine lv_goto (tgt := 45) hx hb dX0_stepWithCells_38 (by decide) ?_
    refine lv_istore (lv' := [(7, .int (nI (ms0 S (nn % 4) % 16))), (6, .int (nI (nn % 4))), (0, .ref (g 0)), (1, .int 13), (2, .int (nI ri)), (3, .int (nI nn)), (4, .int (nI at_)), (5, .int (nI on))]) hx hb dX0_stepWithCells_45 hl (by decide) rfl (fun ls hl => ?_)
    refine lv_iload_n hx hb dX0_stepWithCells_47 rfl (lv_at hl 3 rfl) ?_
    refine lv_iconst (v := 1) hx hb dX0_stepWithCells_48 (by decide) ?_
    refine lv_icmp_ne (tgt := 73) hx hb dX0_stepWithCells_49 (by decide) (fun _ => ?_) (fun q => absurd q (by decide))
    refine lv_iload_n hx hb dX0_stepWithCells_73 rfl (lv_at hl 3 rfl) ?_
    refine lv_iconst (v := 2) hx hb dX0_stepWithCells_74 (by decide) ?_
    refine lv_icmp_eq (tgt := 84) hx hb dX0_stepWithCells_75 (by decide) (fun q => absurd q (by decide)) (fun _ => ?_)
    refine lv_iload_n hx hb dX0_stepWithCells_78 rfl (lv_at hl 3 rfl) ?_
    refine lv_bipush (v := 12) hx hb dX0_stepWithCells_79 (by decide) ?_
    refine lv_icmp_ne (tgt := 113) hx hb dX0_stepWithCells_81 (by decide) (fun _ => ?_) (fun q => absurd q (by decide))
    refine lv_aload_n hx hb dX0_stepWithCells_113 rfl (lv_at hl 2 rfl) ?_
    refine lv_iload_n hx hb dX0_stepWithCells_114 rfl (lv_at hl 4 rfl) ?_
    refine c_i (wf := xw g k) (As := [.int (nI ri)]) (rest := []) hF hA hK hP hD hS (kX0_voteRegister l D g k _ S u hR ri (by omega)) q123 q125 qs3 q28 q126 hdX0_voteRegister rfl rfl ⟨Nat.le_of_ble_eq_true rfl, Nat.le_of_ble_eq_true rfl⟩ rfl rfl rfl hl.1 rfl (Nat.le_of_ble_eq_true rfl) dX0_stepWithCells_115 ⟨Nat.zero_le _, Nat.zero_le _⟩ (fun r23 u24 H locs hr23 hP hD hS => ?_)
    rw [hr23.2] at hP hD
    refine tx (y := nI (ms0 S ri)) (hr23.1) ?_
    refine lv_istore (lv' := [(8, .int (nI (ms0 S ri))), (7, .int (nI (ms0 S (nn % 4) % 16))), (6, .int (nI (nn % 4))), (0, .ref (g 0)), (1, .int 13), (2, .int (nI ri)), (3, .int (nI nn)), (4, .int (nI at_)), (5, .int (nI on))]) hx hb dX0_stepWithCells_118 hl (by decide) rfl (fun ls hl => ?_)
    refine lv_aload_n hx hb dX0_stepWithCells_120 rfl (lv_at hl 3 rfl) ?_
    refine lv_iload hx hb dX0_stepWithCells_121 (lv_at hl 0 rfl) ?_
    refine c_i (wf := xw g k) (As := [.int (nI (ms0 S ri))]) (rest := []) hF hA hK hP hD hS (kX0_passThrice l D g k _ S u hR (ms0 S ri)) q174 q176 qs12 q28 q177 hdX0_passThrice rfl rfl ⟨Nat.le_of_ble_eq_true rfl, Nat.le_of_ble_eq_true rfl⟩ rfl rfl rfl hl.1 rfl (Nat.le_of_ble_eq_true rfl) dX0_stepWithCells_123 ⟨Nat.zero_le _, Nat.zero_le _⟩ (fun r25 u26 H locs hr25 hP hD hS => ?_)
    obtain ⟨e26, f26, g26⟩ := hr25
    rw [g26] at hP hD
    refine tx (y := nI (ms0 S ri)) (e26) ?_
    refine lv_istore (lv' := [(9, .int (nI (ms0 S ri))), (8, .int (nI (ms0 S ri))), (7, .int (nI (ms0 S (nn % 4) % 16))), (6, .int (nI (nn % 4))), (0, .ref (g 0)), (1, .int 13), (2, .int (nI ri)), (3, .int (nI nn)), (4, .int (nI at_)), (5, .int (nI on))]) hx hb dX0_stepWithCells_126 hl (by decide) rfl (fun ls hl => ?_)
    refine lv_aload_n hx hb dX0_stepWithCells_128 rfl (lv_at hl 4 rfl) ?_
    refine lv_bipush (v := 32) hx hb dX0_stepWithCells_129 (by decide) ?_
    refine lv_iload hx hb dX0_stepWithCells_131 (lv_at hl 2 rfl) ?_
    refine lv_iadd hx hb dX0_stepWithCells_133 ?_
    refine tx (y := nI (32 + (ms0 S (nn % 4) % 16))) (nI_add _ _) ?_
    refine lv_iload hx hb dX0_stepWithCells_134 (lv_at hl 0 rfl) ?_
    refine c_v (wf := xw g k) (As := [.int (nI (32 + (ms0 S (nn % 4) % 16))), .int (nI (ms0 S ri))]) (rest := []) hF hA hK hP hD hS (kX0_writeWord l D g k _ (xu12 u f26) (32 + (ms0 S (nn % 4) % 16)) (ms0 S ri) (by omega) (by have := hG.1 ri hr4; omega)) q38 q40 qs0 q28 q41 hdX0_writeWord rfl rfl ⟨Nat.le_of_ble_eq_true rfl, Nat.le_of_ble_eq_true rfl⟩ rfl rfl rfl hl.1 rfl (Nat.le_of_ble_eq_true rfl) dX0_stepWithCells_136 ⟨Nat.zero_le _, Nat.zero_le _⟩ (fun u27 H locs hu27 hP hD hS => ?_)
    rw [hu27] at hP hD
    refine lv_iload hx hb dX0_stepWithCells_139 (lv_at hl 9 rfl) ?_
    exact e_i (wf := xw g k) (u := xu12 (xu7 (xu6 u (upd (xs6 u) (32 + (ms0 S (nn % 4) % 16)) (nI (enc (ms0 S ri) (plc (32 + (ms0 S (nn % 4) % 16))))))) (upd (xs7 u) (32 + (ms0 S (nn % 4) % 16)) 0)) f26) hx hb hr hlocks hK hP hD hS dX0_stepWithCells_141 (⟨rfl, hR.cell (q := ms0 S (nn % 4) % 16) (v := ms0 S ri) (by omega)⟩)

set_option maxHeartbeats 4000000 in
set_option maxRecDepth 100000 in
theorem kX0_stepOn (l : Launch) (D : va_G) (g k : Nat → Nat) (sz : Nat) (S : MS) (u : XS) (hR : RX S u) (hG : RG S) (op ri nn at_ on : Nat) (hop : op = 9 ∨ op = 10 ∨ op = 11) (hr4 : ri < 4) (hn : nn < 256) (h0 : ∀ j, j < 4 → ms11 S j = 0) : Ci l yX0_stepOn cX0_stepOn 7 .int (rm_ 4) D (xt k) (xw g k) sz [.ref (g 0), .int (nI op), .int (nI ri), .int (nI nn), .int (nI at_), .int (nI on)] u (fun r u2 => r = nI (soR S op ri nn at_ on) ∧ RX (soS S op ri) u2) := by
  refine st_i (by decide) (Nat.le_of_ble_eq_true rfl) ?_
  intro p e s m below meth c A ls hx hb hr hlocks hF hA hK hP hD hS hl
  have hl : lv_has ls 7 [(0, .ref (g 0)), (1, .int (nI op)), (2, .int (nI ri)), (3, .int (nI nn)), (4, .int (nI at_)), (5, .int (nI on))] := hl
  have hgr := hG.1 ri hr4
  have hg6 := hG.2.2.2.2.1
  rcases hop with rfl | rfl | rfl
  · have hl : lv_has ls 7 [(0, .ref (g 0)), (1, .int 9), (2, .int (nI ri)), (3, .int (nI nn)), (4, .int (nI at_)), (5, .int (nI on))] := hl
    refine lv_iload_n hx hb dX0_stepOn_0 rfl (lv_at hl 1 rfl) ?_
    refine lv_bipush (v := 9) hx hb dX0_stepOn_1 (by decide) ?_
    refine lv_icmp_ne (tgt := 19) hx hb dX0_stepOn_3 (by decide) (fun q => absurd (by decide) q) (fun _ => ?_)
    refine lv_aload_n hx hb dX0_stepOn_6 rfl (lv_at hl 0 rfl) ?_
    refine lv_bipush (v := 9) hx hb dX0_stepOn_7 (by decide) ?_
    refine lv_iload_n hx hb dX0_stepOn_9 rfl (lv_at hl 2 rfl) ?_
    refine lv_iload_n hx hb dX0_stepOn_10 rfl (lv_at hl 2 rfl) ?_
    refine lv_iload_n hx hb dX0_stepOn_11 rfl (lv_at hl 3 rfl) ?_
    refine c_i (wf := xw g k) (As := [.int 9, .int (nI ri), .int (nI ri), .int (nI nn)]) (rest := []) hF hA hK hP hD hS (kX0_workThrice l D g k _ S u hR hG 9 ri ri nn (by omega) hr4 hr4 (h0 _ hr4) (h0 _ hr4)) q164 q166 qs11 q28 q167 hdX0_workThrice rfl rfl ⟨Nat.le_of_ble_eq_true rfl, Nat.le_of_ble_eq_true rfl⟩ rfl rfl rfl hl.1 rfl (Nat.le_of_ble_eq_true rfl) dX0_stepOn_12 ⟨Nat.zero_le _, Nat.zero_le _⟩ (fun r1 u2 H locs hr1 hP hD hS => ?_)
    obtain ⟨e2, f2, g2⟩ := hr1
    rw [g2] at hP hD
    refine tx (y := nI (wo 9 (ms0 S ri) (ms0 S ri) nn)) (e2) ?_
    refine lv_bipush (v := 31) hx hb dX0_stepOn_15 (by decide) ?_
    refine lv_iand hx hb dX0_stepOn_17 ?_
    refine tx (y := nI (wo 9 (ms0 S ri) (ms0 S ri) nn % 32)) (nI_and31 _) ?_
    exact e_i (wf := xw g k) (u := xu12 u f2) hx hb hr hlocks hK hP hD hS dX0_stepOn_18 (⟨by show nI (nn % 32 % 32) = nI (nn % 32); rw [Nat.mod_mod], hR⟩)
  · have hl : lv_has ls 7 [(0, .ref (g 0)), (1, .int 10), (2, .int (nI ri)), (3, .int (nI nn)), (4, .int (nI at_)), (5, .int (nI on))] := hl
    refine lv_iload_n hx hb dX0_stepOn_0 rfl (lv_at hl 1 rfl) ?_
    refine lv_bipush (v := 9) hx hb dX0_stepOn_1 (by decide) ?_
    refine lv_icmp_ne (tgt := 19) hx hb dX0_stepOn_3 (by decide) (fun _ => ?_) (fun q => absurd q (by decide))
    refine lv_aload_n hx hb dX0_stepOn_19 rfl (lv_at hl 0 rfl) ?_
    refine lv_iload_n hx hb dX0_stepOn_20 rfl (lv_at hl 2 rfl) ?_
    refine c_i (wf := xw g k) (As := [.int (nI ri)]) (rest := []) hF hA hK hP hD hS (kX0_voteRegister l D g k _ S u hR ri (by omega)) q123 q125 qs3 q28 q126 hdX0_voteRegister rfl rfl ⟨Nat.le_of_ble_eq_true rfl, Nat.le_of_ble_eq_true rfl⟩ rfl rfl rfl hl.1 rfl (Nat.le_of_ble_eq_true rfl) dX0_stepOn_21 ⟨Nat.zero_le _, Nat.zero_le _⟩ (fun r3 u4 H locs hr3 hP hD hS => ?_)
    rw [hr3.2] at hP hD
    refine tx (y := nI (ms0 S ri)) (hr3.1) ?_
    refine lv_istore (lv' := [(6, .int (nI (ms0 S ri))), (0, .ref (g 0)), (1, .int 10), (2, .int (nI ri)), (3, .int (nI nn)), (4, .int (nI at_)), (5, .int (nI on))]) hx hb dX0_stepOn_24 hl (by decide) rfl (fun ls hl => ?_)
    refine lv_iload_n hx hb dX0_stepOn_26 rfl (lv_at hl 2 rfl) ?_
    refine lv_bipush (v := 10) hx hb dX0_stepOn_27 (by decide) ?_
    refine lv_icmp_ne (tgt := 54) hx hb dX0_stepOn_29 (by decide) (fun q => absurd (by decide) q) (fun _ => ?_)
    refine lv_iload hx hb dX0_stepOn_32 (lv_at hl 0 rfl) ?_
    refine lv_if_ne (tgt := 51) hx hb dX0_stepOn_34 (by decide) (fun c_34 => ?_) (fun c_34 => ?_)
    · refine lv_iload hx hb dX0_stepOn_51 (lv_at hl 6 rfl) ?_
      exact e_i (wf := xw g k) (u := u) hx hb hr hlocks hK hP hD hS dX0_stepOn_53 (⟨by show nI on = nI (if ms0 S ri = 0 then nn % 32 else on); rw [if_neg (fun q => c_34 (by rw [q]; rfl))], hR⟩)
    · refine lv_aload_n hx hb dX0_stepOn_37 rfl (lv_at hl 1 rfl) ?_
      refine lv_iload_n hx hb dX0_stepOn_38 rfl (lv_at hl 4 rfl) ?_
      refine lv_bipush (v := 31) hx hb dX0_stepOn_39 (by decide) ?_
      refine lv_iand hx hb dX0_stepOn_41 ?_
      refine tx (y := nI (nn % 32)) (nI_and31 _) ?_
      refine c_i (wf := xw g k) (As := [.int (nI (nn % 32))]) (rest := []) hF hA hK hP hD hS (kX0_passThrice l D g k _ S u hR (nn % 32)) q174 q176 qs12 q28 q177 hdX0_passThrice rfl rfl ⟨Nat.le_of_ble_eq_true rfl, Nat.le_of_ble_eq_true rfl⟩ rfl rfl rfl hl.1 rfl (Nat.le_of_ble_eq_true rfl) dX0_stepOn_42 ⟨Nat.zero_le _, Nat.zero_le _⟩ (fun r5 u6 H locs hr5 hP hD hS => ?_)
      obtain ⟨e6, f6, g6⟩ := hr5
      rw [g6] at hP hD
      refine tx (y := nI (nn % 32)) (e6) ?_
      refine lv_bipush (v := 31) hx hb dX0_stepOn_45 (by decide) ?_
      refine lv_iand hx hb dX0_stepOn_47 ?_
      refine tx (y := nI (nn % 32 % 32)) (nI_and31 _) ?_
      refine lv_goto (tgt := 53) hx hb dX0_stepOn_48 (by decide) ?_
      exact e_i (wf := xw g k) (u := xu12 u f6) hx hb hr hlocks hK hP hD hS dX0_stepOn_53 (⟨by show nI (nn % 32 % 32) = nI (if ms0 S ri = 0 then nn % 32 else on); rw [if_pos (eq_of (c_34.trans nI_0.symm) (by omega) (by decide)), Nat.mod_mod], hR⟩)
  · have hl : lv_has ls 7 [(0, .ref (g 0)), (1, .int 11), (2, .int (nI ri)), (3, .int (nI nn)), (4, .int (nI at_)), (5, .int (nI on))] := hl
    refine lv_iload_n hx hb dX0_stepOn_0 rfl (lv_at hl 1 rfl) ?_
    refine lv_bipush (v := 9) hx hb dX0_stepOn_1 (by decide) ?_
    refine lv_icmp_ne (tgt := 19) hx hb dX0_stepOn_3 (by decide) (fun _ => ?_) (fun q => absurd q (by decide))
    refine lv_aload_n hx hb dX0_stepOn_19 rfl (lv_at hl 0 rfl) ?_
    refine lv_iload_n hx hb dX0_stepOn_20 rfl (lv_at hl 2 rfl) ?_
    refine c_i (wf := xw g k) (As := [.int (nI ri)]) (rest := []) hF hA hK hP hD hS (kX0_voteRegister l D g k _ S u hR ri (by omega)) q123 q125 qs3 q28 q126 hdX0_voteRegister rfl rfl ⟨Nat.le_of_ble_eq_true rfl, Nat.le_of_ble_eq_true rfl⟩ rfl rfl rfl hl.1 rfl (Nat.le_of_ble_eq_true rfl) dX0_stepOn_21 ⟨Nat.zero_le _, Nat.zero_le _⟩ (fun r7 u8 H locs hr7 hP hD hS => ?_)
    rw [hr7.2] at hP hD
    refine tx (y := nI (ms0 S ri)) (hr7.1) ?_
    refine lv_istore (lv' := [(6, .int (nI (ms0 S ri))), (0, .ref (g 0)), (1, .int 11), (2, .int (nI ri)), (3, .int (nI nn)), (4, .int (nI at_)), (5, .int (nI on))]) hx hb dX0_stepOn_24 hl (by decide) rfl (fun ls hl => ?_)
    refine lv_iload_n hx hb dX0_stepOn_26 rfl (lv_at hl 2 rfl) ?_
    refine lv_bipush (v := 10) hx hb dX0_stepOn_27 (by decide) ?_
    refine lv_icmp_ne (tgt := 54) hx hb dX0_stepOn_29 (by decide) (fun _ => ?_) (fun q => absurd q (by decide))
    refine lv_aload_n hx hb dX0_stepOn_54 rfl (lv_at hl 1 rfl) ?_
    refine x_get (v := .int (xs10 u)) hF hK hP 0 rfl 10 (by decide) q67 rfl rfl dX0_stepOn_55 ?_
    refine tx (y := nI (ms6 S)) (hR.oc) ?_
    refine lv_bipush (v := 16) hx hb dX0_stepOn_58 (by decide) ?_
    refine lv_icmp_lt (tgt := 71) hx hb dX0_stepOn_60 (by decide) (fun c_60 => ?_) (fun c_60 => ?_)
    · have h16 : ms6 S < 16 := lt_of (b := 16) c_60
      refine lv_aload_n hx hb dX0_stepOn_71 rfl (lv_at hl 1 rfl) ?_
      refine x_get (v := .ref (g 7)) hF hK hP 0 rfl 11 (by decide) q68 rfl rfl dX0_stepOn_72 ?_
      refine lv_aload_n hx hb dX0_stepOn_75 rfl (lv_at hl 1 rfl) ?_
      refine x_get (v := .int (xs10 u)) hF hK hP 0 rfl 10 (by decide) q67 rfl rfl dX0_stepOn_76 ?_
      refine tx (y := nI (ms6 S)) (hR.oc) ?_
      refine lv_aload_n hx hb dX0_stepOn_79 rfl (lv_at hl 1 rfl) ?_
      refine lv_iload hx hb dX0_stepOn_80 (lv_at hl 0 rfl) ?_
      refine c_i (wf := xw g k) (As := [.int (nI (ms0 S ri))]) (rest := [.int (nI (ms6 S)), .ref (g 7)]) hF hA hK hP hD hS (kX0_passThrice l D g k _ S u hR (ms0 S ri)) q174 q176 qs12 q28 q177 hdX0_passThrice rfl rfl ⟨Nat.le_of_ble_eq_true rfl, Nat.le_of_ble_eq_true rfl⟩ rfl rfl rfl hl.1 rfl (Nat.le_of_ble_eq_true rfl) dX0_stepOn_82 ⟨Nat.zero_le _, Nat.zero_le _⟩ (fun r9 u10 H locs hr9 hP hD hS => ?_)
      obtain ⟨e10, f10, g10⟩ := hr9
      rw [g10] at hP hD
      refine tx (y := nI (ms0 S ri)) (e10) ?_
      refine lv_i2b (v := (nI (ms0 S ri)).toInt8.toInt32) hx hb dX0_stepOn_85 (rfl) ?_
      refine n_bast (f' := upd (xs11 u) (ms6 S) ((nI (ms0 S ri)).toInt8.toInt32)) (ws' := xw g k (xu12 (xu11 u (upd (xs11 u) (ms6 S) ((nI (ms0 S ri)).toInt8.toInt32))) f10)) hx hb hK hP hD hS 7 6 rfl rfl (ms6 S) (rfl) (by omega) (by decide) (by rw [pk_vb]) rfl dX0_stepOn_86 (fun H locs hP hD hS => ?_)
      refine lv_aload_n hx hb dX0_stepOn_87 rfl (lv_at hl 1 rfl) ?_
      refine lv_dup hx hb dX0_stepOn_88 rfl ?_
      refine x_get (v := .int (xs10 u)) hF hK hP 0 rfl 10 (by decide) q67 rfl rfl dX0_stepOn_89 ?_
      refine tx (y := nI (ms6 S)) (hR.oc) ?_
      refine lv_iconst (v := 1) hx hb dX0_stepOn_92 (by decide) ?_
      refine lv_iadd hx hb dX0_stepOn_93 ?_
      refine tx (y := nI (ms6 S + 1)) (nI_add _ _) ?_
      refine x_put (v := .int (nI (ms6 S + 1))) (ws' := xw g k (xu12 (xu11 (xu10 u (nI (ms6 S + 1))) (upd (xs11 u) (ms6 S) ((nI (ms0 S ri)).toInt8.toInt32))) f10)) hF hK hP hD hS 0 rfl 10 (by decide) q67 rfl rfl rfl rfl (Nat.le_of_ble_eq_true rfl) rfl dX0_stepOn_94 (fun H locs hP hD hS => ?_)
      refine lv_iload hx hb dX0_stepOn_97 (lv_at hl 6 rfl) ?_
      exact e_i (wf := xw g k) (u := xu12 (xu11 (xu10 u (nI (ms6 S + 1))) (upd (xs11 u) (ms6 S) ((nI (ms0 S ri)).toInt8.toInt32))) f10) hx hb hr hlocks hK hP hD hS dX0_stepOn_99 (⟨by show nI on = nI (if ms6 S = 16 then at_ else on); rw [if_neg (by omega)], by show RX (outS S (ms0 S ri)) _; unfold outS; rw [if_neg (by omega)]; exact hR.out rfl⟩)
    · have h16 : ms6 S = 16 := by have := nlt_of (b := 16) c_60; have := hG.2.2.2.2.1; omega
      refine lv_aload_n hx hb dX0_stepOn_63 rfl (lv_at hl 1 rfl) ?_
      refine lv_iconst (v := 1) hx hb dX0_stepOn_64 (by decide) ?_
      refine x_put (v := .int 1) (ws' := xw g k (xu9 u 1)) hF hK hP hD hS 0 rfl 9 (by decide) q66 rfl rfl rfl rfl (Nat.le_of_ble_eq_true rfl) rfl dX0_stepOn_65 (fun H locs hP hD hS => ?_)
      refine lv_iload hx hb dX0_stepOn_68 (lv_at hl 5 rfl) ?_
      exact e_i (wf := xw g k) (u := xu9 u 1) hx hb hr hlocks hK hP hD hS dX0_stepOn_70 (⟨by show nI at_ = nI (if ms6 S = 16 then at_ else on); rw [if_pos h16], by show RX (outS S (ms0 S ri)) _; unfold outS; rw [if_pos h16]; exact hR.stop 1⟩)

set_option maxHeartbeats 4000000 in
set_option maxRecDepth 100000 in
theorem kX0_step (l : Launch) (D : va_G) (g k : Nat → Nat) (sz : Nat) (S : MS) (u : XS) (hR : RX S u) (hG : RG S) (h8 : ms8 S = 0) : Cv l yX0_step cX0_step 8 (rm_ 5) D (xt k) (xw g k) sz [.ref (g 0)] u (fun u2 => RX (onceS S) u2) := by
  refine st_v (by decide) (Nat.le_of_ble_eq_true rfl) ?_
  intro p e s m below meth c A ls hx hb hr hlocks hF hA hK hP hD hS hl
  have hl : lv_has ls 8 [(0, .ref (g 0))] := hl
  have hg := hG
  unfold RG at hg
  have hg2 := hG.2.2.1 (ms5 S) hg.2.2.2.1
  obtain ⟨hw1, hw2, hw3, hw4⟩ := wd_op hG (ms5 S) hg.2.2.2.1
  refine lv_aload_n hx hb dX0_step_0 rfl (lv_at hl 0 rfl) ?_
  refine c_v (wf := xw g k) (As := []) (rest := []) hF hA hK hP hD hS (kX0_voteAll l D g k _ S u hR hG) q119 q121 qs2 q28 q122 hdX0_voteAll rfl rfl ⟨Nat.le_of_ble_eq_true rfl, Nat.le_of_ble_eq_true rfl⟩ rfl rfl rfl hl.1 rfl (Nat.le_of_ble_eq_true rfl) dX0_step_1 ⟨Nat.zero_le _, Nat.zero_le _⟩ (fun u1 H locs hu1 hP hD hS => ?_)
  refine lv_aload_n hx hb dX0_step_4 rfl (lv_at hl 0 rfl) ?_
  refine c_i (wf := xw g k) (As := []) (rest := []) hF hA hK hP hD hS (kX0_votePlace l D g k _ (mu11 S (z5 (ms11 S))) u1 hu1) q134 q136 qs5 q28 q137 hdX0_votePlace rfl rfl ⟨Nat.le_of_ble_eq_true rfl, Nat.le_of_ble_eq_true rfl⟩ rfl rfl rfl hl.1 rfl (Nat.le_of_ble_eq_true rfl) dX0_step_5 ⟨Nat.zero_le _, Nat.zero_le _⟩ (fun r2 u3 H locs hr2 hP hD hS => ?_)
  rw [hr2.2] at hP hD
  refine tx (y := nI (ms5 (mu11 S (z5 (ms11 S))))) (hr2.1) ?_
  refine tx (y := nI (ms5 S)) (rfl) ?_
  refine lv_istore_n (lv' := [(1, .int (nI (ms5 S))), (0, .ref (g 0))]) hx hb dX0_step_8 rfl hl (by decide) rfl (fun ls hl => ?_)
  refine lv_aload_n hx hb dX0_step_9 rfl (lv_at hl 1 rfl) ?_
  refine lv_iload_n hx hb dX0_step_10 rfl (lv_at hl 0 rfl) ?_
  refine c_i (wf := xw g k) (As := [.int (nI (ms5 S))]) (rest := []) hF hA hK hP hD hS (kX0_readAndRepair l D g k _ (mu11 S (z5 (ms11 S))) u1 hu1 hG.z5_ (ms5 S) (by omega)) q142 q144 qs7 q28 q145 hdX0_readAndRepair rfl rfl ⟨Nat.le_of_ble_eq_true rfl, Nat.le_of_ble_eq_true rfl⟩ rfl rfl rfl hl.1 rfl (Nat.le_of_ble_eq_true rfl) dX0_step_11 ⟨Nat.zero_le _, Nat.zero_le _⟩ (fun r4 u5 H locs hr4 hP hD hS => ?_)
  refine tx (y := nI (wd (mu11 S (z5 (ms11 S))) (ms5 S))) (hr4.1) ?_
  have hR1 : RX (preS S) u5 := hr4.2
  refine lv_istore_n (lv' := [(2, .int (nI (wd (mu11 S (z5 (ms11 S))) (ms5 S)))), (1, .int (nI (ms5 S))), (0, .ref (g 0))]) hx hb dX0_step_14 rfl hl (by decide) rfl (fun ls hl => ?_)
  refine lv_iload_n hx hb dX0_step_15 rfl (lv_at hl 0 rfl) ?_
  refine lv_bipush (v := 15) hx hb dX0_step_16 (by decide) ?_
  refine lv_iand hx hb dX0_step_18 ?_
  refine tx (y := nI (ms2 S (ms5 S))) ((nI_and15 _).trans (by rw [show wd (mu11 S (z5 (ms11 S))) (ms5 S) % 16 = ms2 S (ms5 S) from hw1])) ?_
  refine lv_istore_n (lv' := [(3, .int (nI (ms2 S (ms5 S)))), (2, .int (nI (wd (mu11 S (z5 (ms11 S))) (ms5 S)))), (1, .int (nI (ms5 S))), (0, .ref (g 0))]) hx hb dX0_step_19 rfl hl (by decide) rfl (fun ls hl => ?_)
  refine lv_iload_n hx hb dX0_step_20 rfl (lv_at hl 1 rfl) ?_
  refine lv_iconst (v := 4) hx hb dX0_step_21 (by decide) ?_
  refine lv_ishr hx hb dX0_step_22 ?_
  refine tx (y := nI (wd S (ms5 S) / 2 ^ 4)) (nI_shr (p := 4) hw4 (by decide)) ?_
  refine lv_iconst (v := 3) hx hb dX0_step_23 (by decide) ?_
  refine lv_iand hx hb dX0_step_24 ?_
  refine tx (y := nI (ms3 S (ms5 S))) ((nI_and3 _).trans (by rw [hw2])) ?_
  refine lv_istore (lv' := [(4, .int (nI (ms3 S (ms5 S)))), (3, .int (nI (ms2 S (ms5 S)))), (2, .int (nI (wd (mu11 S (z5 (ms11 S))) (ms5 S)))), (1, .int (nI (ms5 S))), (0, .ref (g 0))]) hx hb dX0_step_25 hl (by decide) rfl (fun ls hl => ?_)
  refine lv_iload_n hx hb dX0_step_27 rfl (lv_at hl 2 rfl) ?_
  refine lv_bipush (v := 6) hx hb dX0_step_28 (by decide) ?_
  refine lv_ishr hx hb dX0_step_30 ?_
  refine tx (y := nI (wd S (ms5 S) / 2 ^ 6)) (nI_shr (p := 6) hw4 (by decide)) ?_
  refine lv_sipush (v := 255) hx hb dX0_step_31 (by decide) ?_
  refine lv_iand hx hb dX0_step_34 ?_
  refine tx (y := nI (ms4 S (ms5 S))) ((nI_and255 _).trans (by rw [hw3])) ?_
  refine lv_istore (lv' := [(5, .int (nI (ms4 S (ms5 S)))), (4, .int (nI (ms3 S (ms5 S)))), (3, .int (nI (ms2 S (ms5 S)))), (2, .int (nI (wd (mu11 S (z5 (ms11 S))) (ms5 S)))), (1, .int (nI (ms5 S))), (0, .ref (g 0))]) hx hb dX0_step_35 hl (by decide) rfl (fun ls hl => ?_)
  refine lv_iload_n hx hb dX0_step_37 rfl (lv_at hl 4 rfl) ?_
  refine lv_iconst (v := 1) hx hb dX0_step_38 (by decide) ?_
  refine lv_iadd hx hb dX0_step_39 ?_
  refine tx (y := nI (ms5 S + 1)) (nI_add _ _) ?_
  refine lv_bipush (v := 31) hx hb dX0_step_40 (by decide) ?_
  refine lv_iand hx hb dX0_step_42 ?_
  refine tx (y := nI ((ms5 S + 1) % 32)) (nI_and31 _) ?_
  refine lv_istore (lv' := [(6, .int (nI ((ms5 S + 1) % 32))), (5, .int (nI (ms4 S (ms5 S)))), (4, .int (nI (ms3 S (ms5 S)))), (3, .int (nI (ms2 S (ms5 S)))), (2, .int (nI (wd (mu11 S (z5 (ms11 S))) (ms5 S)))), (1, .int (nI (ms5 S))), (0, .ref (g 0))]) hx hb dX0_step_43 hl (by decide) rfl (fun ls hl => ?_)
  refine jn_w (wf := xw g k) (D := D) (A := A) (H0 := s.heap) (fun ls u8 => ∃ (S3 : MS) (on2 : Nat), lv_has ls 8 [(0, .ref (g 0)), (6, .int (nI on2))] ∧ RX S3 u8 ∧ on2 < 32 ∧ finS S3 on2 = onceS S) 119 [] ?_ ?_
  · intro ls u8 H locs hJ hP hD hS
    obtain ⟨S3, on2, hl, hJR, hon, hfin⟩ := hJ
    have hl : lv_has ls 8 [(0, .ref (g 0)), (6, .int (nI on2))] := hl
    refine lv_aload_n hx hb dX0_step_119 rfl (lv_at hl 0 rfl) ?_
    refine lv_iload hx hb dX0_step_120 (lv_at hl 1 rfl) ?_
    refine c_v (wf := xw g k) (As := [.int (nI on2)]) (rest := []) hF hA hK hP hD hS (kX0_writePlace l D g k _ u8 (nI on2)) q138 q140 qs6 q28 q141 hdX0_writePlace rfl rfl ⟨Nat.le_of_ble_eq_true rfl, Nat.le_of_ble_eq_true rfl⟩ rfl rfl rfl hl.1 rfl (Nat.le_of_ble_eq_true rfl) dX0_step_122 ⟨Nat.zero_le _, Nat.zero_le _⟩ (fun u6 H locs hu6 hP hD hS => ?_)
    rw [hu6] at hP hD
    refine lv_iconst (v := 0) hx hb dX0_step_125 (by decide) ?_
    refine lv_istore (lv' := [(7, .int 0), (0, .ref (g 0)), (6, .int (nI on2))]) hx hb dX0_step_126 hl (by decide) rfl (fun ls hl => ?_)
    refine lv_iload hx hb dX0_step_128 (lv_at hl 0 rfl) ?_
    refine lv_iconst (v := 3) hx hb dX0_step_130 (by decide) ?_
    refine lv_icmp_ge (tgt := 148) hx hb dX0_step_131 (by decide) (fun q => absurd q (by decide)) (fun _ => ?_)
    refine lv_aload_n hx hb dX0_step_134 rfl (lv_at hl 1 rfl) ?_
    refine x_get (v := .ref (g 4)) hF hK hP 0 rfl 4 (by decide) q61 rfl rfl dX0_step_135 ?_
    refine lv_iload hx hb dX0_step_138 (lv_at hl 0 rfl) ?_
    refine lv_iconst (v := 0) hx hb dX0_step_140 (by decide) ?_
    refine n_iast (f' := upd (xs4 u8) 0 0) (ws' := xw g k (xu4 (xu1 u8 (p3 (xs1 u8) (nI on2))) (upd (xs4 u8) 0 0))) hx hb hK hP hD hS 4 3 rfl rfl 0 (rfl) (by omega) (by decide) (rfl) rfl dX0_step_141 (fun H locs hP hD hS => ?_)
    refine lv_iinc (v := 1) (lv' := [(7, .int 1), (0, .ref (g 0)), (6, .int (nI on2))]) (k := 0) hx hb dX0_step_142 hl rfl (by decide) (by decide) rfl (fun ls hl => ?_)
    refine lv_goto (tgt := 128) hx hb dX0_step_145 (by decide) ?_
    refine lv_iload hx hb dX0_step_128 (lv_at hl 0 rfl) ?_
    refine lv_iconst (v := 3) hx hb dX0_step_130 (by decide) ?_
    refine lv_icmp_ge (tgt := 148) hx hb dX0_step_131 (by decide) (fun q => absurd q (by decide)) (fun _ => ?_)
    refine lv_aload_n hx hb dX0_step_134 rfl (lv_at hl 1 rfl) ?_
    refine x_get (v := .ref (g 4)) hF hK hP 0 rfl 4 (by decide) q61 rfl rfl dX0_step_135 ?_
    refine lv_iload hx hb dX0_step_138 (lv_at hl 0 rfl) ?_
    refine lv_iconst (v := 0) hx hb dX0_step_140 (by decide) ?_
    refine n_iast (f' := upd (upd (xs4 u8) 0 0) 1 0) (ws' := xw g k (xu4 (xu1 u8 (p3 (xs1 u8) (nI on2))) (upd (upd (xs4 u8) 0 0) 1 0))) hx hb hK hP hD hS 4 3 rfl rfl 1 (rfl) (by omega) (by decide) (rfl) rfl dX0_step_141 (fun H locs hP hD hS => ?_)
    refine lv_iinc (v := 2) (lv' := [(7, .int 2), (0, .ref (g 0)), (6, .int (nI on2))]) (k := 0) hx hb dX0_step_142 hl rfl (by decide) (by decide) rfl (fun ls hl => ?_)
    refine lv_goto (tgt := 128) hx hb dX0_step_145 (by decide) ?_
    refine lv_iload hx hb dX0_step_128 (lv_at hl 0 rfl) ?_
    refine lv_iconst (v := 3) hx hb dX0_step_130 (by decide) ?_
    refine lv_icmp_ge (tgt := 148) hx hb dX0_step_131 (by decide) (fun q => absurd q (by decide)) (fun _ => ?_)
    refine lv_aload_n hx hb dX0_step_134 rfl (lv_at hl 1 rfl) ?_
    refine x_get (v := .ref (g 4)) hF hK hP 0 rfl 4 (by decide) q61 rfl rfl dX0_step_135 ?_
    refine lv_iload hx hb dX0_step_138 (lv_at hl 0 rfl) ?_
    refine lv_iconst (v := 0) hx hb dX0_step_140 (by decide) ?_
    refine n_iast (f' := upd (upd (upd (xs4 u8) 0 0) 1 0) 2 0) (ws' := xw g k (xu4 (xu1 u8 (p3 (xs1 u8) (nI on2))) (upd (upd (upd (xs4 u8) 0 0) 1 0) 2 0))) hx hb hK hP hD hS 4 3 rfl rfl 2 (rfl) (by omega) (by decide) (rfl) rfl dX0_step_141 (fun H locs hP hD hS => ?_)
    refine lv_iinc (v := 3) (lv' := [(7, .int 3), (0, .ref (g 0)), (6, .int (nI on2))]) (k := 0) hx hb dX0_step_142 hl rfl (by decide) (by decide) rfl (fun ls hl => ?_)
    refine lv_goto (tgt := 128) hx hb dX0_step_145 (by decide) ?_
    refine lv_iload hx hb dX0_step_128 (lv_at hl 0 rfl) ?_
    refine lv_iconst (v := 3) hx hb dX0_step_130 (by decide) ?_
    refine lv_icmp_ge (tgt := 148) hx hb dX0_step_131 (by decide) (fun _ => ?_) (fun q => absurd (by decide) q)
    refine lv_aload_n hx hb dX0_step_148 rfl (lv_at hl 1 rfl) ?_
    refine lv_iconst (v := 0) hx hb dX0_step_149 (by decide) ?_
    refine x_put (v := .int 0) (ws' := xw g k (xu5 (xu4 (xu1 u8 (p3 (xs1 u8) (nI on2))) (upd (upd (upd (xs4 u8) 0 0) 1 0) 2 0)) 0)) hF hK hP hD hS 0 rfl 5 (by decide) q62 rfl rfl rfl rfl (Nat.le_of_ble_eq_true rfl) rfl dX0_step_150 (fun H locs hP hD hS => ?_)
    have hR4 : RX (mu11 (mu5 S3 on2) (va_up (ms11 S3) 5 0)) (xu5 (xu4 (xu1 u8 (p3 (xs1 u8) (nI on2))) (upd (upd (upd (xs4 u8) 0 0) 1 0) 2 0)) 0) := (RX.wplc hJR hon).wrkc
    have hP : va_P D vwCl (xw g k (xu5 (xu4 (xu1 u8 (p3 (xs1 u8) (nI on2))) (upd (upd (upd (xs4 u8) 0 0) 1 0) 2 0)) 0)) _ := hP
    have hD : va_D A (xw g k (xu5 (xu4 (xu1 u8 (p3 (xs1 u8) (nI on2))) (upd (upd (upd (xs4 u8) 0 0) 1 0) 2 0)) 0)) := hD
    generalize xu5 (xu4 (xu1 u8 (p3 (xs1 u8) (nI on2))) (upd (upd (upd (xs4 u8) 0 0) 1 0) 2 0)) 0 = u9 at hP hD hR4
    refine lv_aload_n hx hb dX0_step_153 rfl (lv_at hl 1 rfl) ?_
    refine lv_aload_n hx hb dX0_step_154 rfl (lv_at hl 1 rfl) ?_
    refine x_get (v := .int (xs8 u9)) hF hK hP 0 rfl 8 (by decide) q65 rfl rfl dX0_step_155 ?_
    refine tx (y := nI (ms9 S3 % 48)) (hR4.sd) ?_
    refine lv_bipush (v := 48) hx hb dX0_step_158 (by decide) ?_
    refine lv_irem hx hb dX0_step_160 (by decide) ?_
    refine tx (y := nI (ms9 S3 % 48)) (rem48 _) ?_
    refine c_v (wf := xw g k) (As := [.int (nI (ms9 S3 % 48))]) (rest := []) hF hA hK hP hD hS (kX0_repair l D g k _ (mu11 (mu5 S3 on2) (va_up (ms11 S3) 5 0)) u9 hR4 (ms9 S3 % 48) (by omega)) q146 q148 qs8 q28 q149 hdX0_repair rfl rfl ⟨Nat.le_of_ble_eq_true rfl, Nat.le_of_ble_eq_true rfl⟩ rfl rfl rfl hl.1 rfl (Nat.le_of_ble_eq_true rfl) dX0_step_161 ⟨Nat.zero_le _, Nat.zero_le _⟩ (fun u7 H locs hu7 hP hD hS => ?_)
    refine lv_aload_n hx hb dX0_step_164 rfl (lv_at hl 1 rfl) ?_
    refine lv_aload_n hx hb dX0_step_165 rfl (lv_at hl 1 rfl) ?_
    refine x_get (v := .int (xs8 u7)) hF hK hP 0 rfl 8 (by decide) q65 rfl rfl dX0_step_166 ?_
    refine tx (y := nI (ms9 S3 % 48)) (hu7.sd) ?_
    refine lv_iconst (v := 1) hx hb dX0_step_169 (by decide) ?_
    refine lv_iadd hx hb dX0_step_170 ?_
    refine tx (y := nI (ms9 S3 % 48 + 1)) (nI_add _ _) ?_
    refine lv_bipush (v := 48) hx hb dX0_step_171 (by decide) ?_
    refine lv_irem hx hb dX0_step_173 (by decide) ?_
    refine tx (y := nI ((ms9 S3 + 1) % 48)) (rem48s _) ?_
    refine x_put (v := .int (nI ((ms9 S3 + 1) % 48))) (ws' := xw g k (xu8 u7 (nI ((ms9 S3 + 1) % 48)))) hF hK hP hD hS 0 rfl 8 (by decide) q65 rfl rfl rfl rfl (Nat.le_of_ble_eq_true rfl) rfl dX0_step_174 (fun H locs hP hD hS => ?_)
    exact e_v (wf := xw g k) (u := xu8 u7 (nI ((ms9 S3 + 1) % 48))) hx hb hr hlocks hK hP hD hS dX0_step_177 (hfin ▸ RX.done hu7)
  · intro hj
    refine lv_iload_n hx hb dX0_step_45 rfl (lv_at hl 3 rfl) ?_
    refine lv_iconst (v := 3) hx hb dX0_step_46 (by decide) ?_
    refine lv_icmp_le (tgt := 56) hx hb dX0_step_47 (by decide) (fun c_47 => ?_) (fun c_47 => ?_)
    · have h3 : ms2 S (ms5 S) ≤ 3 := le_of (b := 3) c_47
      have hop : ms2 S (ms5 S) = 0 ∨ ms2 S (ms5 S) = 1 ∨ ms2 S (ms5 S) = 2 ∨ ms2 S (ms5 S) = 3 ∨ ms2 S (ms5 S) = 12 ∨ ms2 S (ms5 S) = 13 := by omega
      refine lv_aload_n hx hb dX0_step_56 rfl (lv_at hl 6 rfl) ?_
      refine lv_iload_n hx hb dX0_step_57 rfl (lv_at hl 3 rfl) ?_
      refine lv_iload hx hb dX0_step_58 (lv_at hl 2 rfl) ?_
      refine lv_iload hx hb dX0_step_60 (lv_at hl 1 rfl) ?_
      refine lv_iload_n hx hb dX0_step_62 rfl (lv_at hl 5 rfl) ?_
      refine lv_iload hx hb dX0_step_63 (lv_at hl 0 rfl) ?_
      refine c_i (wf := xw g k) (As := [.int (nI (ms2 S (ms5 S))), .int (nI (ms3 S (ms5 S))), .int (nI (ms4 S (ms5 S))), .int (nI (ms5 S)), .int (nI ((ms5 S + 1) % 32))]) (rest := []) hF hA hK hP hD hS (kX0_stepWithCells l D g k _ (preS S) u5 hR1 hG.pre (ms2 S (ms5 S)) (ms3 S (ms5 S)) (ms4 S (ms5 S)) (ms5 S) ((ms5 S + 1) % 32) hop (hg2.2.1) (hg2.2.2) (pre_h0 S)) q160 q162 qs10 q28 q163 hdX0_stepWithCells rfl rfl ⟨Nat.le_of_ble_eq_true rfl, Nat.le_of_ble_eq_true rfl⟩ rfl rfl rfl hl.1 rfl (Nat.le_of_ble_eq_true rfl) dX0_step_65 ⟨Nat.zero_le _, Nat.zero_le _⟩ (fun r8 u9 H locs hr8 hP hD hS => ?_)
      refine tx (y := nI (swR (ms2 S (ms5 S)) (ms5 S) ((ms5 S + 1) % 32))) (hr8.1) ?_
      refine lv_istore (lv' := [(6, .int (nI (swR (ms2 S (ms5 S)) (ms5 S) ((ms5 S + 1) % 32)))), (5, .int (nI (ms4 S (ms5 S)))), (4, .int (nI (ms3 S (ms5 S)))), (3, .int (nI (ms2 S (ms5 S)))), (2, .int (nI (wd (mu11 S (z5 (ms11 S))) (ms5 S)))), (1, .int (nI (ms5 S))), (0, .ref (g 0))]) hx hb dX0_step_68 hl (by decide) rfl (fun ls hl => ?_)
      refine lv_goto (tgt := 119) hx hb dX0_step_70 (by decide) ?_
      exact hj _ (u9) _ _ ⟨swS (preS S) (ms2 S (ms5 S)) (ms3 S (ms5 S)) (ms4 S (ms5 S)), swR (ms2 S (ms5 S)) (ms5 S) ((ms5 S + 1) % 32), lv_sub hl [6, 0] rfl, hr8.2, swR_lt hg.2.2.2.1 (by omega), once_sw h8 rfl rfl rfl hop⟩ hP hD hS
    · have h3 : 3 < ms2 S (ms5 S) := nle_of (b := 3) c_47
      refine lv_iload_n hx hb dX0_step_50 rfl (lv_at hl 3 rfl) ?_
      refine lv_bipush (v := 12) hx hb dX0_step_51 (by decide) ?_
      refine lv_icmp_lt (tgt := 73) hx hb dX0_step_53 (by decide) (fun c_53 => ?_) (fun c_53 => ?_)
      · have h12 : ms2 S (ms5 S) < 12 := lt_of (b := 12) c_53
        refine lv_iload_n hx hb dX0_step_73 rfl (lv_at hl 3 rfl) ?_
        refine lv_bipush (v := 8) hx hb dX0_step_74 (by decide) ?_
        refine lv_icmp_gt (tgt := 105) hx hb dX0_step_76 (by decide) (fun c_76 => ?_) (fun c_76 => ?_)
        · have h9 : 8 < ms2 S (ms5 S) := lt_of (a := 8) c_76
          have hop : ms2 S (ms5 S) = 9 ∨ ms2 S (ms5 S) = 10 ∨ ms2 S (ms5 S) = 11 := by omega
          refine lv_aload_n hx hb dX0_step_105 rfl (lv_at hl 6 rfl) ?_
          refine lv_iload_n hx hb dX0_step_106 rfl (lv_at hl 3 rfl) ?_
          refine lv_iload hx hb dX0_step_107 (lv_at hl 2 rfl) ?_
          refine lv_iload hx hb dX0_step_109 (lv_at hl 1 rfl) ?_
          refine lv_iload_n hx hb dX0_step_111 rfl (lv_at hl 5 rfl) ?_
          refine lv_iload hx hb dX0_step_112 (lv_at hl 0 rfl) ?_
          refine c_i (wf := xw g k) (As := [.int (nI (ms2 S (ms5 S))), .int (nI (ms3 S (ms5 S))), .int (nI (ms4 S (ms5 S))), .int (nI (ms5 S)), .int (nI ((ms5 S + 1) % 32))]) (rest := []) hF hA hK hP hD hS (kX0_stepOn l D g k _ (preS S) u5 hR1 hG.pre (ms2 S (ms5 S)) (ms3 S (ms5 S)) (ms4 S (ms5 S)) (ms5 S) ((ms5 S + 1) % 32) hop (hg2.2.1) (hg2.2.2) (pre_h0 S)) q178 q180 qs13 q28 q181 hdX0_stepOn rfl rfl ⟨Nat.le_of_ble_eq_true rfl, Nat.le_of_ble_eq_true rfl⟩ rfl rfl rfl hl.1 rfl (Nat.le_of_ble_eq_true rfl) dX0_step_114 ⟨Nat.zero_le _, Nat.zero_le _⟩ (fun r10 u11 H locs hr10 hP hD hS => ?_)
          refine tx (y := nI (soR (preS S) (ms2 S (ms5 S)) (ms3 S (ms5 S)) (ms4 S (ms5 S)) (ms5 S) ((ms5 S + 1) % 32))) (hr10.1) ?_
          refine lv_istore (lv' := [(6, .int (nI (soR (preS S) (ms2 S (ms5 S)) (ms3 S (ms5 S)) (ms4 S (ms5 S)) (ms5 S) ((ms5 S + 1) % 32)))), (5, .int (nI (ms4 S (ms5 S)))), (4, .int (nI (ms3 S (ms5 S)))), (3, .int (nI (ms2 S (ms5 S)))), (2, .int (nI (wd (mu11 S (z5 (ms11 S))) (ms5 S)))), (1, .int (nI (ms5 S))), (0, .ref (g 0))]) hx hb dX0_step_117 hl (by decide) rfl (fun ls hl => ?_)
          exact hj _ (u11) _ _ ⟨soS (preS S) (ms2 S (ms5 S)) (ms3 S (ms5 S)), soR (preS S) (ms2 S (ms5 S)) (ms3 S (ms5 S)) (ms4 S (ms5 S)) (ms5 S) ((ms5 S + 1) % 32), lv_sub hl [6, 0] rfl, hr10.2, soR_lt hG.pre hg.2.2.2.1 (by omega), once_so h8 rfl rfl rfl hop⟩ hP hD hS
        · have h9 : ms2 S (ms5 S) ≤ 8 := nlt_of (a := 8) c_76
          refine lv_aload_n hx hb dX0_step_79 rfl (lv_at hl 6 rfl) ?_
          refine lv_iload_n hx hb dX0_step_80 rfl (lv_at hl 3 rfl) ?_
          refine lv_iload hx hb dX0_step_81 (lv_at hl 2 rfl) ?_
          refine lv_iload hx hb dX0_step_83 (lv_at hl 1 rfl) ?_
          refine lv_iconst (v := 3) hx hb dX0_step_85 (by decide) ?_
          refine lv_iand hx hb dX0_step_86 ?_
          refine tx (y := nI (ms4 S (ms5 S) % 4)) (nI_and3 _) ?_
          refine lv_iload hx hb dX0_step_87 (lv_at hl 1 rfl) ?_
          refine c_i (wf := xw g k) (As := [.int (nI (ms2 S (ms5 S))), .int (nI (ms3 S (ms5 S))), .int (nI (ms4 S (ms5 S) % 4)), .int (nI (ms4 S (ms5 S)))]) (rest := []) hF hA hK hP hD hS (kX0_workThrice l D g k _ (preS S) u5 hR1 hG.pre (ms2 S (ms5 S)) (ms3 S (ms5 S)) (ms4 S (ms5 S) % 4) (ms4 S (ms5 S)) (by omega) hg2.2.1 (by omega) (pre_h0 S _ hg2.2.1) (pre_h0 S _ (by omega))) q164 q166 qs11 q28 q167 hdX0_workThrice rfl rfl ⟨Nat.le_of_ble_eq_true rfl, Nat.le_of_ble_eq_true rfl⟩ rfl rfl rfl hl.1 rfl (Nat.le_of_ble_eq_true rfl) dX0_step_89 ⟨Nat.zero_le _, Nat.zero_le _⟩ (fun r12 u13 H locs hr12 hP hD hS => ?_)
          obtain ⟨e13, f13, g13⟩ := hr12
          rw [g13] at hP hD
          refine tx (y := nI (wo (ms2 S (ms5 S)) (ms0 (preS S) (ms3 S (ms5 S))) (ms0 (preS S) (ms4 S (ms5 S) % 4)) (ms4 S (ms5 S)))) (e13) ?_
          refine lv_istore (lv' := [(7, .int (nI (wo (ms2 S (ms5 S)) (ms0 (preS S) (ms3 S (ms5 S))) (ms0 (preS S) (ms4 S (ms5 S) % 4)) (ms4 S (ms5 S))))), (6, .int (nI ((ms5 S + 1) % 32))), (5, .int (nI (ms4 S (ms5 S)))), (4, .int (nI (ms3 S (ms5 S)))), (3, .int (nI (ms2 S (ms5 S)))), (2, .int (nI (wd (mu11 S (z5 (ms11 S))) (ms5 S)))), (1, .int (nI (ms5 S))), (0, .ref (g 0))]) hx hb dX0_step_92 hl (by decide) rfl (fun ls hl => ?_)
          refine lv_aload_n hx hb dX0_step_94 rfl (lv_at hl 7 rfl) ?_
          refine lv_iload hx hb dX0_step_95 (lv_at hl 3 rfl) ?_
          refine lv_iload hx hb dX0_step_97 (lv_at hl 0 rfl) ?_
          refine c_v (wf := xw g k) (As := [.int (nI (ms3 S (ms5 S))), .int (nI (wo (ms2 S (ms5 S)) (ms0 (preS S) (ms3 S (ms5 S))) (ms0 (preS S) (ms4 S (ms5 S) % 4)) (ms4 S (ms5 S))))]) (rest := []) hF hA hK hP hD hS (kX0_writeRegister l D g k _ (xu12 u5 f13) (ms3 S (ms5 S)) (by omega) (nI (wo (ms2 S (ms5 S)) (ms0 (preS S) (ms3 S (ms5 S))) (ms0 (preS S) (ms4 S (ms5 S) % 4)) (ms4 S (ms5 S))))) q130 q132 qs4 q28 q133 hdX0_writeRegister rfl rfl ⟨Nat.le_of_ble_eq_true rfl, Nat.le_of_ble_eq_true rfl⟩ rfl rfl rfl hl.1 rfl (Nat.le_of_ble_eq_true rfl) dX0_step_99 ⟨Nat.zero_le _, Nat.zero_le _⟩ (fun u14 H locs hu14 hP hD hS => ?_)
          rw [hu14] at hP hD
          refine lv_goto (tgt := 119) hx hb dX0_step_102 (by decide) ?_
          exact hj _ (xu12 (xu0 u5 (w3 (xs0 u5) (ms3 S (ms5 S)) (nI (wo (ms2 S (ms5 S)) (ms0 (preS S) (ms3 S (ms5 S))) (ms0 (preS S) (ms4 S (ms5 S) % 4)) (ms4 S (ms5 S)))))) f13) _ _ ⟨setR (preS S) (ms3 S (ms5 S)) (wo (ms2 S (ms5 S)) (ms0 S (ms3 S (ms5 S))) (ms0 S (ms4 S (ms5 S) % 4)) (ms4 S (ms5 S))), (ms5 S + 1) % 32, lv_sub hl [7, 1] rfl, RX.reg hR1 (wo_lt (by omega) (hG.1 _ hg2.2.1) (hG.1 _ (by omega)) hg2.2.2), by omega, once_wk h8 rfl rfl rfl (by omega)⟩ hP hD hS
      · have h12 : 12 ≤ ms2 S (ms5 S) := nlt_of (b := 12) c_53
        have hop : ms2 S (ms5 S) = 0 ∨ ms2 S (ms5 S) = 1 ∨ ms2 S (ms5 S) = 2 ∨ ms2 S (ms5 S) = 3 ∨ ms2 S (ms5 S) = 12 ∨ ms2 S (ms5 S) = 13 := by omega
        refine lv_aload_n hx hb dX0_step_56 rfl (lv_at hl 6 rfl) ?_
        refine lv_iload_n hx hb dX0_step_57 rfl (lv_at hl 3 rfl) ?_
        refine lv_iload hx hb dX0_step_58 (lv_at hl 2 rfl) ?_
        refine lv_iload hx hb dX0_step_60 (lv_at hl 1 rfl) ?_
        refine lv_iload_n hx hb dX0_step_62 rfl (lv_at hl 5 rfl) ?_
        refine lv_iload hx hb dX0_step_63 (lv_at hl 0 rfl) ?_
        refine c_i (wf := xw g k) (As := [.int (nI (ms2 S (ms5 S))), .int (nI (ms3 S (ms5 S))), .int (nI (ms4 S (ms5 S))), .int (nI (ms5 S)), .int (nI ((ms5 S + 1) % 32))]) (rest := []) hF hA hK hP hD hS (kX0_stepWithCells l D g k _ (preS S) u5 hR1 hG.pre (ms2 S (ms5 S)) (ms3 S (ms5 S)) (ms4 S (ms5 S)) (ms5 S) ((ms5 S + 1) % 32) hop (hg2.2.1) (hg2.2.2) (pre_h0 S)) q160 q162 qs10 q28 q163 hdX0_stepWithCells rfl rfl ⟨Nat.le_of_ble_eq_true rfl, Nat.le_of_ble_eq_true rfl⟩ rfl rfl rfl hl.1 rfl (Nat.le_of_ble_eq_true rfl) dX0_step_65 ⟨Nat.zero_le _, Nat.zero_le _⟩ (fun r15 u16 H locs hr15 hP hD hS => ?_)
        refine tx (y := nI (swR (ms2 S (ms5 S)) (ms5 S) ((ms5 S + 1) % 32))) (hr15.1) ?_
        refine lv_istore (lv' := [(6, .int (nI (swR (ms2 S (ms5 S)) (ms5 S) ((ms5 S + 1) % 32)))), (5, .int (nI (ms4 S (ms5 S)))), (4, .int (nI (ms3 S (ms5 S)))), (3, .int (nI (ms2 S (ms5 S)))), (2, .int (nI (wd (mu11 S (z5 (ms11 S))) (ms5 S)))), (1, .int (nI (ms5 S))), (0, .ref (g 0))]) hx hb dX0_step_68 hl (by decide) rfl (fun ls hl => ?_)
        refine lv_goto (tgt := 119) hx hb dX0_step_70 (by decide) ?_
        exact hj _ (u16) _ _ ⟨swS (preS S) (ms2 S (ms5 S)) (ms3 S (ms5 S)) (ms4 S (ms5 S)), swR (ms2 S (ms5 S)) (ms5 S) ((ms5 S + 1) % 32), lv_sub hl [6, 0] rfl, hr15.2, swR_lt hg.2.2.2.1 (by omega), once_sw h8 rfl rfl rfl hop⟩ hP hD hS
end
section
/-! SHIELDEDMACHINE: what the outside calls -/
/-- hb, where hb names a hypothesis -/
abbrev hbt (h : Nat) : Nat := hb h
set_option maxHeartbeats 4000000 in
set_option maxRecDepth 100000 in
theorem kX0_set (l : Launch) (D : va_G) (g k : Nat → Nat) (sz : Nat) (S : MS) (u : XS) (hR : RX S u) (hG : RG S) (x1 x2 x3 x4 : Int32) : Ci l yX0_set cX0_set 5 .boolean (rm_ 3) D (xt k) (xw g k) sz [.ref (g 0), .int x1, .int x2, .int x3, .int x4] u (fun r u2 => r = nI (oSet S x1 x2 x3 x4).1 ∧ RX (oSet S x1 x2 x3 x4).2 u2) := by
  refine st_i (by decide) (Nat.le_of_ble_eq_true rfl) ?_
  intro p e s m below meth c A ls hx hb hr hlocks hF hA hK hP hD hS hl
  have hl : lv_has ls 5 [(0, .ref (g 0)), (1, .int x1), (2, .int x2), (3, .int x3), (4, .int x4)] := hl
  refine lv_iload_n hx hb dX0_set_0 rfl (lv_at hl 1 rfl) ?_
  refine lv_if_lt (tgt := 40) hx hb dX0_set_1 (by decide) (fun c_1 => ?_) (fun c_1 => ?_)
  · have g1 : iv x1 32 = 0 := iv_lt c_1
    refine lv_iconst (v := 0) hx hb dX0_set_40 (by decide) ?_
    have hz : oSet S x1 x2 x3 x4 = (0, S) := by
      unfold oSet
      repeat' split
      all_goals first | rfl | (exfalso; omega)
    exact e_z (wf := xw g k) (u := u) hx hb hr hlocks hK hP hD hS dX0_set_41 (rfl) (by rw [hz]; exact ⟨rfl, hR⟩)
  · refine lv_iload_n hx hb dX0_set_4 rfl (lv_at hl 1 rfl) ?_
    refine lv_bipush (v := 32) hx hb dX0_set_5 (by decide) ?_
    refine lv_icmp_ge (tgt := 40) hx hb dX0_set_7 (by decide) (fun c_7 => ?_) (fun c_7 => ?_)
    · have g1 : iv x1 32 = 0 := iv_ge c_1 c_7
      refine lv_iconst (v := 0) hx hb dX0_set_40 (by decide) ?_
      have hz : oSet S x1 x2 x3 x4 = (0, S) := by
        unfold oSet
        repeat' split
        all_goals first | rfl | (exfalso; omega)
      exact e_z (wf := xw g k) (u := u) hx hb hr hlocks hK hP hD hS dX0_set_41 (rfl) (by rw [hz]; exact ⟨rfl, hR⟩)
    · have g1 : iv x1 32 = 1 := iv_in c_1 c_7
      refine lv_iload_n hx hb dX0_set_10 rfl (lv_at hl 2 rfl) ?_
      refine lv_if_lt (tgt := 40) hx hb dX0_set_11 (by decide) (fun c_11 => ?_) (fun c_11 => ?_)
      · have g2 : iv x2 14 = 0 := iv_lt c_11
        refine lv_iconst (v := 0) hx hb dX0_set_40 (by decide) ?_
        have hz : oSet S x1 x2 x3 x4 = (0, S) := by
          unfold oSet
          repeat' split
          all_goals first | rfl | (exfalso; omega)
        exact e_z (wf := xw g k) (u := u) hx hb hr hlocks hK hP hD hS dX0_set_41 (rfl) (by rw [hz]; exact ⟨rfl, hR⟩)
      · refine lv_iload_n hx hb dX0_set_14 rfl (lv_at hl 2 rfl) ?_
        refine lv_bipush (v := 13) hx hb dX0_set_15 (by decide) ?_
        refine lv_icmp_gt (tgt := 40) hx hb dX0_set_17 (by decide) (fun c_17 => ?_) (fun c_17 => ?_)
        · have g2 : iv x2 14 = 0 := iv_gt (n := 13) c_11 c_17 (by decide)
          refine lv_iconst (v := 0) hx hb dX0_set_40 (by decide) ?_
          have hz : oSet S x1 x2 x3 x4 = (0, S) := by
            unfold oSet
            repeat' split
            all_goals first | rfl | (exfalso; omega)
          exact e_z (wf := xw g k) (u := u) hx hb hr hlocks hK hP hD hS dX0_set_41 (rfl) (by rw [hz]; exact ⟨rfl, hR⟩)
        · have g2 : iv x2 14 = 1 := iv_le (n := 13) c_11 c_17 (by decide)
          refine lv_iload_n hx hb dX0_set_20 rfl (lv_at hl 3 rfl) ?_
          refine s_p (rest := []) hF (kX0_isRegister l x3) q104 q105 q28 q106 hdX0_isRegister rfl rfl ⟨Nat.le_of_ble_eq_true rfl, Nat.le_of_ble_eq_true rfl⟩ rfl hl.1 rfl (Nat.le_of_ble_eq_true rfl) dX0_set_21 ⟨Nat.zero_le _, Nat.zero_le _⟩ (fun r1 hr1 => ?_)
          refine tx (y := nI (iv x3 4)) (hr1) ?_
          refine lv_if_eq (tgt := 40) hx hb dX0_set_24 (by decide) (fun c_24 => ?_) (fun c_24 => ?_)
          · have g3 := iv_c0 c_24
            refine lv_iconst (v := 0) hx hb dX0_set_40 (by decide) ?_
            have hz : oSet S x1 x2 x3 x4 = (0, S) := by
              unfold oSet
              repeat' split
              all_goals first | rfl | (exfalso; omega)
            exact e_z (wf := xw g k) (u := u) hx hb hr hlocks hK hP hD hS dX0_set_41 (rfl) (by rw [hz]; exact ⟨rfl, hR⟩)
          · have g3 := iv_c1 c_24
            refine lv_iload hx hb dX0_set_27 (lv_at hl 4 rfl) ?_
            refine lv_if_lt (tgt := 40) hx hb dX0_set_29 (by decide) (fun c_29 => ?_) (fun c_29 => ?_)
            · have g4 : iv x4 256 = 0 := iv_lt c_29
              refine lv_iconst (v := 0) hx hb dX0_set_40 (by decide) ?_
              have hz : oSet S x1 x2 x3 x4 = (0, S) := by
                unfold oSet
                repeat' split
                all_goals first | rfl | (exfalso; omega)
              exact e_z (wf := xw g k) (u := u) hx hb hr hlocks hK hP hD hS dX0_set_41 (rfl) (by rw [hz]; exact ⟨rfl, hR⟩)
            · refine lv_iload hx hb dX0_set_32 (lv_at hl 4 rfl) ?_
              refine lv_sipush (v := 255) hx hb dX0_set_34 (by decide) ?_
              refine lv_icmp_le (tgt := 42) hx hb dX0_set_37 (by decide) (fun c_37 => ?_) (fun c_37 => ?_)
              · have g4 : iv x4 256 = 1 := iv_nge (n := 255) c_29 c_37 (by decide)
                obtain ⟨j1, hj1, rfl⟩ := iv_of g1 (by decide)
                obtain ⟨j2, hj2, rfl⟩ := iv_of g2 (by decide)
                obtain ⟨j3, hj3, rfl⟩ := iv_of g3 (by decide)
                obtain ⟨j4, hj4, rfl⟩ := iv_of g4 (by decide)
                refine lv_aload_n hx hb dX0_set_42 rfl (lv_at hl 0 rfl) ?_
                refine lv_iload_n hx hb dX0_set_43 rfl (lv_at hl 1 rfl) ?_
                refine lv_iload_n hx hb dX0_set_44 rfl (lv_at hl 2 rfl) ?_
                refine lv_iload_n hx hb dX0_set_45 rfl (lv_at hl 3 rfl) ?_
                refine lv_iconst (v := 4) hx hb dX0_set_46 (by decide) ?_
                refine lv_ishl hx hb dX0_set_47 ?_
                refine tx (y := nI (j3 * 2 ^ 4)) (nI_shl (p := 4) (by decide) (by omega)) ?_
                refine lv_ior hx hb dX0_set_48 ?_
                refine tx (y := nI (j2 + 16 * j3)) (pk1 (by omega)) ?_
                refine lv_iload hx hb dX0_set_49 (lv_at hl 4 rfl) ?_
                refine lv_bipush (v := 6) hx hb dX0_set_51 (by decide) ?_
                refine lv_ishl hx hb dX0_set_53 ?_
                refine tx (y := nI (j4 * 2 ^ 6)) (nI_shl (p := 6) (by decide) (by omega)) ?_
                refine lv_ior hx hb dX0_set_54 ?_
                refine tx (y := nI (j2 + 16 * j3 + 64 * j4)) (pk2 (by omega)) ?_
                refine c_v (wf := xw g k) (As := [.int (nI j1), .int (nI (j2 + 16 * j3 + 64 * j4))]) (rest := []) hF hA hK hP hD hS (kX0_writeWord l D g k _ u j1 (j2 + 16 * j3 + 64 * j4) (by omega) (by omega)) q38 q40 qs0 q28 q41 hdX0_writeWord rfl rfl ⟨Nat.le_of_ble_eq_true rfl, Nat.le_of_ble_eq_true rfl⟩ rfl rfl rfl hl.1 rfl (Nat.le_of_ble_eq_true rfl) dX0_set_55 ⟨Nat.zero_le _, Nat.zero_le _⟩ (fun u2 H locs hu2 hP hD hS => ?_)
                rw [hu2] at hP hD
                refine lv_iconst (v := 1) hx hb dX0_set_58 (by decide) ?_
                have hz : oSet S (nI j1) (nI j2) (nI j3) (nI j4) = (1, setS S j1 j2 j3 j4) := by
                  unfold oSet
                  rw [if_pos ⟨g1, g2, g3, g4⟩, cl_n (by omega), cl_n (by omega), cl_n (by omega), cl_n (by omega)]
                exact e_z (wf := xw g k) (u := xu7 (xu6 u (upd (xs6 u) j1 (nI (enc (j2 + 16 * j3 + 64 * j4) (plc j1))))) (upd (xs7 u) j1 0)) hx hb hr hlocks hK hP hD hS dX0_set_59 (rfl) (by rw [hz]; exact ⟨rfl, hR.prog hj1⟩)
              · have g4 : iv x4 256 = 0 := iv_nle (n := 255) c_29 c_37 (by decide)
                refine lv_iconst (v := 0) hx hb dX0_set_40 (by decide) ?_
                have hz : oSet S x1 x2 x3 x4 = (0, S) := by
                  unfold oSet
                  repeat' split
                  all_goals first | rfl | (exfalso; omega)
                exact e_z (wf := xw g k) (u := u) hx hb hr hlocks hK hP hD hS dX0_set_41 (rfl) (by rw [hz]; exact ⟨rfl, hR⟩)

set_option maxHeartbeats 4000000 in
set_option maxRecDepth 100000 in
theorem kX0_setData (l : Launch) (D : va_G) (g k : Nat → Nat) (sz : Nat) (S : MS) (u : XS) (hR : RX S u) (hG : RG S) (x1 x2 : Int32) : Ci l yX0_setData cX0_setData 3 .boolean (rm_ 3) D (xt k) (xw g k) sz [.ref (g 0), .int x1, .int x2] u (fun r u2 => r = nI (oDat S x1 x2).1 ∧ RX (oDat S x1 x2).2 u2) := by
  refine st_i (by decide) (Nat.le_of_ble_eq_true rfl) ?_
  intro p e s m below meth c A ls hx hb hr hlocks hF hA hK hP hD hS hl
  have hl : lv_has ls 3 [(0, .ref (g 0)), (1, .int x1), (2, .int x2)] := hl
  refine lv_iload_n hx hb dX0_setData_0 rfl (lv_at hl 1 rfl) ?_
  refine lv_if_lt (tgt := 21) hx hb dX0_setData_1 (by decide) (fun c_1 => ?_) (fun c_1 => ?_)
  · have g1 : iv x1 16 = 0 := iv_lt c_1
    refine lv_iconst (v := 0) hx hb dX0_setData_21 (by decide) ?_
    have hz : oDat S x1 x2 = (0, S) := by
      unfold oDat
      repeat' split
      all_goals first | rfl | (exfalso; omega)
    exact e_z (wf := xw g k) (u := u) hx hb hr hlocks hK hP hD hS dX0_setData_22 (rfl) (by rw [hz]; exact ⟨rfl, hR⟩)
  · refine lv_iload_n hx hb dX0_setData_4 rfl (lv_at hl 1 rfl) ?_
    refine lv_bipush (v := 16) hx hb dX0_setData_5 (by decide) ?_
    refine lv_icmp_ge (tgt := 21) hx hb dX0_setData_7 (by decide) (fun c_7 => ?_) (fun c_7 => ?_)
    · have g1 : iv x1 16 = 0 := iv_ge c_1 c_7
      refine lv_iconst (v := 0) hx hb dX0_setData_21 (by decide) ?_
      have hz : oDat S x1 x2 = (0, S) := by
        unfold oDat
        repeat' split
        all_goals first | rfl | (exfalso; omega)
      exact e_z (wf := xw g k) (u := u) hx hb hr hlocks hK hP hD hS dX0_setData_22 (rfl) (by rw [hz]; exact ⟨rfl, hR⟩)
    · have g1 : iv x1 16 = 1 := iv_in c_1 c_7
      refine lv_iload_n hx hb dX0_setData_10 rfl (lv_at hl 2 rfl) ?_
      refine lv_if_lt (tgt := 21) hx hb dX0_setData_11 (by decide) (fun c_11 => ?_) (fun c_11 => ?_)
      · have g2 : iv x2 256 = 0 := iv_lt c_11
        refine lv_iconst (v := 0) hx hb dX0_setData_21 (by decide) ?_
        have hz : oDat S x1 x2 = (0, S) := by
          unfold oDat
          repeat' split
          all_goals first | rfl | (exfalso; omega)
        exact e_z (wf := xw g k) (u := u) hx hb hr hlocks hK hP hD hS dX0_setData_22 (rfl) (by rw [hz]; exact ⟨rfl, hR⟩)
      · refine lv_iload_n hx hb dX0_setData_14 rfl (lv_at hl 2 rfl) ?_
        refine lv_sipush (v := 255) hx hb dX0_setData_15 (by decide) ?_
        refine lv_icmp_le (tgt := 23) hx hb dX0_setData_18 (by decide) (fun c_18 => ?_) (fun c_18 => ?_)
        · have g2 : iv x2 256 = 1 := iv_nge (n := 255) c_11 c_18 (by decide)
          obtain ⟨j1, hj1, rfl⟩ := iv_of g1 (by decide)
          obtain ⟨j2, hj2, rfl⟩ := iv_of g2 (by decide)
          refine lv_aload_n hx hb dX0_setData_23 rfl (lv_at hl 0 rfl) ?_
          refine lv_bipush (v := 32) hx hb dX0_setData_24 (by decide) ?_
          refine lv_iload_n hx hb dX0_setData_26 rfl (lv_at hl 1 rfl) ?_
          refine lv_iadd hx hb dX0_setData_27 ?_
          refine tx (y := nI (32 + j1)) (nI_add _ _) ?_
          refine lv_iload_n hx hb dX0_setData_28 rfl (lv_at hl 2 rfl) ?_
          refine c_v (wf := xw g k) (As := [.int (nI (32 + j1)), .int (nI j2)]) (rest := []) hF hA hK hP hD hS (kX0_writeWord l D g k _ u (32 + j1) j2 (by omega) (by omega)) q38 q40 qs0 q28 q41 hdX0_writeWord rfl rfl ⟨Nat.le_of_ble_eq_true rfl, Nat.le_of_ble_eq_true rfl⟩ rfl rfl rfl hl.1 rfl (Nat.le_of_ble_eq_true rfl) dX0_setData_29 ⟨Nat.zero_le _, Nat.zero_le _⟩ (fun u1 H locs hu1 hP hD hS => ?_)
          rw [hu1] at hP hD
          refine lv_iconst (v := 1) hx hb dX0_setData_32 (by decide) ?_
          have hz : oDat S (nI j1) (nI j2) = (1, datS S j1 j2) := by
            unfold oDat
            rw [if_pos ⟨g1, g2⟩, cl_n (by omega), cl_n (by omega)]
          exact e_z (wf := xw g k) (u := xu7 (xu6 u (upd (xs6 u) (32 + j1) (nI (enc j2 (plc (32 + j1)))))) (upd (xs7 u) (32 + j1) 0)) hx hb hr hlocks hK hP hD hS dX0_setData_33 (rfl) (by rw [hz]; exact ⟨rfl, hR.cell hj1⟩)
        · have g2 : iv x2 256 = 0 := iv_nle (n := 255) c_11 c_18 (by decide)
          refine lv_iconst (v := 0) hx hb dX0_setData_21 (by decide) ?_
          have hz : oDat S x1 x2 = (0, S) := by
            unfold oDat
            repeat' split
            all_goals first | rfl | (exfalso; omega)
          exact e_z (wf := xw g k) (u := u) hx hb hr hlocks hK hP hD hS dX0_setData_22 (rfl) (by rw [hz]; exact ⟨rfl, hR⟩)

set_option maxHeartbeats 4000000 in
set_option maxRecDepth 100000 in
theorem kX0_run (l : Launch) (D : va_G) (g k : Nat → Nat) (sz : Nat) (S : MS) (u : XS) (hR : RX S u) (hG : RG S) (x1 : Int32) : Ci l yX0_run cX0_run 4 .int (rm_ 6) D (xt k) (xw g k) sz [.ref (g 0), .int x1] u (fun r u2 => r = (oRun S x1).1 ∧ RX (oRun S x1).2 u2) := by
  refine st_i (by decide) (Nat.le_of_ble_eq_true rfl) ?_
  intro p e s m below meth c A ls hx hb hr hlocks hF hA hK hP hD hS hl
  have hl : lv_has ls 4 [(0, .ref (g 0)), (1, .int x1)] := hl
  refine lv_iload_n hx hb dX0_run_0 rfl (lv_at hl 1 rfl) ?_
  refine lv_if_lt (tgt := 10) hx hb dX0_run_1 (by decide) (fun c_1 => ?_) (fun c_1 => ?_)
  · have g1 : iv x1 101 = 0 := iv_lt c_1
    refine lv_iconst (v := (-1)) hx hb dX0_run_10 (by decide) ?_
    have hz : oRun S x1 = (-1, S) := by
      unfold oRun
      repeat' split
      all_goals first | rfl | (exfalso; omega)
    exact e_i (wf := xw g k) (u := u) hx hb hr hlocks hK hP hD hS dX0_run_11 (by rw [hz]; exact ⟨rfl, hR⟩)
  · refine lv_iload_n hx hb dX0_run_4 rfl (lv_at hl 1 rfl) ?_
    refine lv_bipush (v := 100) hx hb dX0_run_5 (by decide) ?_
    refine lv_icmp_le (tgt := 12) hx hb dX0_run_7 (by decide) (fun c_7 => ?_) (fun c_7 => ?_)
    · have g1 : iv x1 101 = 1 := iv_nge (n := 100) c_1 c_7 (by decide)
      obtain ⟨j1, hj1, rfl⟩ := iv_of g1 (by decide)
      refine lv_iconst (v := 0) hx hb dX0_run_12 (by decide) ?_
      refine lv_istore_n (lv' := [(2, .int 0), (0, .ref (g 0)), (1, .int (nI j1))]) hx hb dX0_run_13 rfl hl (by decide) rfl (fun ls hl => ?_)
      refine lv_iconst (v := 0) hx hb dX0_run_14 (by decide) ?_
      refine lv_istore_n (lv' := [(3, .int 0), (2, .int 0), (0, .ref (g 0)), (1, .int (nI j1))]) hx hb dX0_run_15 rfl hl (by decide) rfl (fun ls hl => ?_)
      refine lp_w (wf := xw g k) (fun i ls v => lv_has ls 4 [(0, .ref (g 0)), (1, .int (nI j1)), (2, .int (nI i)), (3, .int (nI i))] ∧ ∃ S2, RX S2 v ∧ RG S2 ∧ runS j1 S = (i + (runS (j1 - i) S2).1, (runS (j1 - i) S2).2)) j1 ?_ 0 ls _ _ _ (Nat.zero_le _) ⟨lv_sub hl [2, 3, 1, 0] rfl, ⟨S, hR, hG, by rw [Nat.zero_add, Nat.sub_zero]⟩⟩ hP hD hS
      intro i ls v H locs hi hI hP hD hS ih
      obtain ⟨hl, ⟨S2, hR2, hG2, hS2⟩⟩ := hI
      have hl : lv_has ls 4 [(0, .ref (g 0)), (1, .int (nI j1)), (2, .int (nI i)), (3, .int (nI i))] := hl
      refine lv_iload_n hx hb dX0_run_16 rfl (lv_at hl 3 rfl) ?_
      refine lv_iload_n hx hb dX0_run_17 rfl (lv_at hl 1 rfl) ?_
      refine lv_icmp_ge (tgt := 41) hx hb dX0_run_18 (by decide) (fun c_18 => ?_) (fun c_18 => ?_)
      · have hin : i = j1 := by have := le_of c_18; omega
        refine lv_iload_n hx hb dX0_run_41 rfl (lv_at hl 2 rfl) ?_
        have hz : oRun S (nI j1) = (nI i, S2) := by
          unfold oRun
          rw [if_pos g1, cl_n (by omega), run_end1 hin hS2]
        exact e_i (wf := xw g k) (u := v) hx hb hr hlocks hK hP hD hS dX0_run_42 (by rw [hz]; exact ⟨rfl, hR2⟩)
      · have hlt : i < j1 := nle_of c_18
        refine lv_aload_n hx hb dX0_run_21 rfl (lv_at hl 0 rfl) ?_
        refine x_get (v := .int (xs9 v)) hF hK hP 0 rfl 9 (by decide) q66 rfl rfl dX0_run_22 ?_
        refine tx (y := nI (ms8 S2)) (hR2.st) ?_
        refine lv_if_ne (tgt := 41) hx hb dX0_run_25 (by decide) (fun c_25 => ?_) (fun c_25 => ?_)
        · have h8 : ¬ ms8 S2 = 0 := fun q => c_25 (by rw [q]; rfl)
          refine lv_iload_n hx hb dX0_run_41 rfl (lv_at hl 2 rfl) ?_
          have hz : oRun S (nI j1) = (nI i, S2) := by
            unfold oRun
            rw [if_pos g1, cl_n (by omega), run_end2 h8 hS2]
          exact e_i (wf := xw g k) (u := v) hx hb hr hlocks hK hP hD hS dX0_run_42 (by rw [hz]; exact ⟨rfl, hR2⟩)
        · have h8 : ms8 S2 = 0 := eq_of (c_25.trans nI_0.symm) (by have := hG2.2.2.2.2.2.2.1; omega) (by decide)
          refine lv_aload_n hx hb dX0_run_28 rfl (lv_at hl 0 rfl) ?_
          refine c_v (wf := xw g k) (As := []) (rest := []) hF hA hK hP hD hS (kX0_step l D g k _ S2 v hR2 hG2 h8) q115 q117 qs1 q28 q118 hdX0_step rfl rfl ⟨Nat.le_of_ble_eq_true rfl, Nat.le_of_ble_eq_true rfl⟩ rfl rfl rfl hl.1 rfl (Nat.le_of_ble_eq_true rfl) dX0_run_29 ⟨Nat.zero_le _, Nat.zero_le _⟩ (fun u1 H locs hu1 hP hD hS => ?_)
          refine lv_iinc (v := nI (i + 1)) (lv' := [(2, .int (nI (i + 1))), (0, .ref (g 0)), (1, .int (nI j1)), (3, .int (nI i))]) (k := 2) hx hb dX0_run_32 hl rfl (nI_1 _) (by decide) rfl (fun ls hl => ?_)
          refine lv_iinc (v := nI (i + 1)) (lv' := [(3, .int (nI (i + 1))), (2, .int (nI (i + 1))), (0, .ref (g 0)), (1, .int (nI j1))]) (k := 3) hx hb dX0_run_35 hl rfl (nI_1 _) (by decide) rfl (fun ls hl => ?_)
          refine lv_goto (tgt := 16) hx hb dX0_run_38 (by decide) ?_
          exact ih (hlt) ls _ _ _ ⟨lv_sub hl [2, 3, 1, 0] rfl, ⟨onceS S2, hu1, (RG.once hG2).1, run_step hlt h8 hS2⟩⟩ hP hD hS
    · have g1 : iv x1 101 = 0 := iv_nle (n := 100) c_1 c_7 (by decide)
      refine lv_iconst (v := (-1)) hx hb dX0_run_10 (by decide) ?_
      have hz : oRun S x1 = (-1, S) := by
        unfold oRun
        repeat' split
        all_goals first | rfl | (exfalso; omega)
      exact e_i (wf := xw g k) (u := u) hx hb hr hlocks hK hP hD hS dX0_run_11 (by rw [hz]; exact ⟨rfl, hR⟩)

set_option maxHeartbeats 4000000 in
set_option maxRecDepth 100000 in
theorem kX0_reset (l : Launch) (D : va_G) (g k : Nat → Nat) (sz : Nat) (S : MS) (u : XS) (hR : RX S u) (hG : RG S) : Cv l yX0_reset cX0_reset 2 (rm_ 1) D (xt k) (xw g k) sz [.ref (g 0)] u (fun u2 => RX (rstS S) u2) := by
  refine st_v (by decide) (Nat.le_of_ble_eq_true rfl) ?_
  intro p e s m below meth c A ls hx hb hr hlocks hF hA hK hP hD hS hl
  have hl : lv_has ls 2 [(0, .ref (g 0))] := hl
  refine lv_iconst (v := 0) hx hb dX0_reset_0 (by decide) ?_
  refine lv_istore_n (lv' := [(1, .int 0), (0, .ref (g 0))]) hx hb dX0_reset_1 rfl hl (by decide) rfl (fun ls hl => ?_)
  refine lv_iload_n hx hb dX0_reset_2 rfl (lv_at hl 0 rfl) ?_
  refine lv_iconst (v := 4) hx hb dX0_reset_3 (by decide) ?_
  refine lv_icmp_ge (tgt := 26) hx hb dX0_reset_4 (by decide) (fun q => absurd q (by decide)) (fun _ => ?_)
  refine lv_aload_n hx hb dX0_reset_7 rfl (lv_at hl 1 rfl) ?_
  refine lv_iload_n hx hb dX0_reset_8 rfl (lv_at hl 0 rfl) ?_
  refine lv_iconst (v := 0) hx hb dX0_reset_9 (by decide) ?_
  refine c_v (wf := xw g k) (As := [.int 0, .int 0]) (rest := []) hF hA hK hP hD hS (kX0_writeRegister l D g k _ u 0 (by omega) 0) q130 q132 qs4 q28 q133 hdX0_writeRegister rfl rfl ⟨Nat.le_of_ble_eq_true rfl, Nat.le_of_ble_eq_true rfl⟩ rfl rfl rfl hl.1 rfl (Nat.le_of_ble_eq_true rfl) dX0_reset_10 ⟨Nat.zero_le _, Nat.zero_le _⟩ (fun u1 H locs hu1 hP hD hS => ?_)
  rw [hu1] at hP hD
  refine lv_aload_n hx hb dX0_reset_13 rfl (lv_at hl 1 rfl) ?_
  refine x_get (v := .ref (g 3)) hF hK hP 0 rfl 2 (by decide) q59 rfl rfl dX0_reset_14 ?_
  refine lv_iload_n hx hb dX0_reset_17 rfl (lv_at hl 0 rfl) ?_
  refine lv_iconst (v := 0) hx hb dX0_reset_18 (by decide) ?_
  refine n_bast (f' := upd (xs2 u) 0 0) (ws' := xw g k (xu2 (xu0 u (w3 (xs0 u) 0 0)) (upd (xs2 u) 0 0))) hx hb hK hP hD hS 3 2 rfl rfl 0 (rfl) (by omega) (by decide) (rfl) rfl dX0_reset_19 (fun H locs hP hD hS => ?_)
  have hR1 : RX (mu11 (mu0 S (va_up (ms0 S) 0 0)) (va_up (ms11 S) 0 0)) (xu2 (xu0 u (w3 (xs0 u) 0 0)) (upd (xs2 u) 0 0)) := hR.regc (r := 0) (v := 0) (by decide) (by decide)
  have hP : va_P D vwCl (xw g k (xu2 (xu0 u (w3 (xs0 u) 0 0)) (upd (xs2 u) 0 0))) _ := hP
  have hD : va_D A (xw g k (xu2 (xu0 u (w3 (xs0 u) 0 0)) (upd (xs2 u) 0 0))) := hD
  generalize xu2 (xu0 u (w3 (xs0 u) 0 0)) (upd (xs2 u) 0 0) = v1 at hP hD hR1
  refine lv_iinc (v := 1) (lv' := [(1, .int 1), (0, .ref (g 0))]) (k := 0) hx hb dX0_reset_20 hl rfl (by decide) (by decide) rfl (fun ls hl => ?_)
  refine lv_goto (tgt := 2) hx hb dX0_reset_23 (by decide) ?_
  refine lv_iload_n hx hb dX0_reset_2 rfl (lv_at hl 0 rfl) ?_
  refine lv_iconst (v := 4) hx hb dX0_reset_3 (by decide) ?_
  refine lv_icmp_ge (tgt := 26) hx hb dX0_reset_4 (by decide) (fun q => absurd q (by decide)) (fun _ => ?_)
  refine lv_aload_n hx hb dX0_reset_7 rfl (lv_at hl 1 rfl) ?_
  refine lv_iload_n hx hb dX0_reset_8 rfl (lv_at hl 0 rfl) ?_
  refine lv_iconst (v := 0) hx hb dX0_reset_9 (by decide) ?_
  refine c_v (wf := xw g k) (As := [.int 1, .int 0]) (rest := []) hF hA hK hP hD hS (kX0_writeRegister l D g k _ v1 1 (by omega) 0) q130 q132 qs4 q28 q133 hdX0_writeRegister rfl rfl ⟨Nat.le_of_ble_eq_true rfl, Nat.le_of_ble_eq_true rfl⟩ rfl rfl rfl hl.1 rfl (Nat.le_of_ble_eq_true rfl) dX0_reset_10 ⟨Nat.zero_le _, Nat.zero_le _⟩ (fun u2 H locs hu2 hP hD hS => ?_)
  rw [hu2] at hP hD
  refine lv_aload_n hx hb dX0_reset_13 rfl (lv_at hl 1 rfl) ?_
  refine x_get (v := .ref (g 3)) hF hK hP 0 rfl 2 (by decide) q59 rfl rfl dX0_reset_14 ?_
  refine lv_iload_n hx hb dX0_reset_17 rfl (lv_at hl 0 rfl) ?_
  refine lv_iconst (v := 0) hx hb dX0_reset_18 (by decide) ?_
  refine n_bast (f' := upd (xs2 v1) 1 0) (ws' := xw g k (xu2 (xu0 v1 (w3 (xs0 v1) 1 0)) (upd (xs2 v1) 1 0))) hx hb hK hP hD hS 3 2 rfl rfl 1 (rfl) (by omega) (by decide) (rfl) rfl dX0_reset_19 (fun H locs hP hD hS => ?_)
  have hR2 : RX (mu11 (mu0 S (va_up (va_up (ms0 S) 0 0) 1 0)) (va_up (va_up (ms11 S) 0 0) 1 0)) (xu2 (xu0 v1 (w3 (xs0 v1) 1 0)) (upd (xs2 v1) 1 0)) := hR1.regc (r := 1) (v := 0) (by decide) (by decide)
  have hP : va_P D vwCl (xw g k (xu2 (xu0 v1 (w3 (xs0 v1) 1 0)) (upd (xs2 v1) 1 0))) _ := hP
  have hD : va_D A (xw g k (xu2 (xu0 v1 (w3 (xs0 v1) 1 0)) (upd (xs2 v1) 1 0))) := hD
  generalize xu2 (xu0 v1 (w3 (xs0 v1) 1 0)) (upd (xs2 v1) 1 0) = v2 at hP hD hR2
  refine lv_iinc (v := 2) (lv' := [(1, .int 2), (0, .ref (g 0))]) (k := 0) hx hb dX0_reset_20 hl rfl (by decide) (by decide) rfl (fun ls hl => ?_)
  refine lv_goto (tgt := 2) hx hb dX0_reset_23 (by decide) ?_
  refine lv_iload_n hx hb dX0_reset_2 rfl (lv_at hl 0 rfl) ?_
  refine lv_iconst (v := 4) hx hb dX0_reset_3 (by decide) ?_
  refine lv_icmp_ge (tgt := 26) hx hb dX0_reset_4 (by decide) (fun q => absurd q (by decide)) (fun _ => ?_)
  refine lv_aload_n hx hb dX0_reset_7 rfl (lv_at hl 1 rfl) ?_
  refine lv_iload_n hx hb dX0_reset_8 rfl (lv_at hl 0 rfl) ?_
  refine lv_iconst (v := 0) hx hb dX0_reset_9 (by decide) ?_
  refine c_v (wf := xw g k) (As := [.int 2, .int 0]) (rest := []) hF hA hK hP hD hS (kX0_writeRegister l D g k _ v2 2 (by omega) 0) q130 q132 qs4 q28 q133 hdX0_writeRegister rfl rfl ⟨Nat.le_of_ble_eq_true rfl, Nat.le_of_ble_eq_true rfl⟩ rfl rfl rfl hl.1 rfl (Nat.le_of_ble_eq_true rfl) dX0_reset_10 ⟨Nat.zero_le _, Nat.zero_le _⟩ (fun u3 H locs hu3 hP hD hS => ?_)
  rw [hu3] at hP hD
  refine lv_aload_n hx hb dX0_reset_13 rfl (lv_at hl 1 rfl) ?_
  refine x_get (v := .ref (g 3)) hF hK hP 0 rfl 2 (by decide) q59 rfl rfl dX0_reset_14 ?_
  refine lv_iload_n hx hb dX0_reset_17 rfl (lv_at hl 0 rfl) ?_
  refine lv_iconst (v := 0) hx hb dX0_reset_18 (by decide) ?_
  refine n_bast (f' := upd (xs2 v2) 2 0) (ws' := xw g k (xu2 (xu0 v2 (w3 (xs0 v2) 2 0)) (upd (xs2 v2) 2 0))) hx hb hK hP hD hS 3 2 rfl rfl 2 (rfl) (by omega) (by decide) (rfl) rfl dX0_reset_19 (fun H locs hP hD hS => ?_)
  have hR3 : RX (mu11 (mu0 S (va_up (va_up (va_up (ms0 S) 0 0) 1 0) 2 0)) (va_up (va_up (va_up (ms11 S) 0 0) 1 0) 2 0)) (xu2 (xu0 v2 (w3 (xs0 v2) 2 0)) (upd (xs2 v2) 2 0)) := hR2.regc (r := 2) (v := 0) (by decide) (by decide)
  have hP : va_P D vwCl (xw g k (xu2 (xu0 v2 (w3 (xs0 v2) 2 0)) (upd (xs2 v2) 2 0))) _ := hP
  have hD : va_D A (xw g k (xu2 (xu0 v2 (w3 (xs0 v2) 2 0)) (upd (xs2 v2) 2 0))) := hD
  generalize xu2 (xu0 v2 (w3 (xs0 v2) 2 0)) (upd (xs2 v2) 2 0) = v3 at hP hD hR3
  refine lv_iinc (v := 3) (lv' := [(1, .int 3), (0, .ref (g 0))]) (k := 0) hx hb dX0_reset_20 hl rfl (by decide) (by decide) rfl (fun ls hl => ?_)
  refine lv_goto (tgt := 2) hx hb dX0_reset_23 (by decide) ?_
  refine lv_iload_n hx hb dX0_reset_2 rfl (lv_at hl 0 rfl) ?_
  refine lv_iconst (v := 4) hx hb dX0_reset_3 (by decide) ?_
  refine lv_icmp_ge (tgt := 26) hx hb dX0_reset_4 (by decide) (fun q => absurd q (by decide)) (fun _ => ?_)
  refine lv_aload_n hx hb dX0_reset_7 rfl (lv_at hl 1 rfl) ?_
  refine lv_iload_n hx hb dX0_reset_8 rfl (lv_at hl 0 rfl) ?_
  refine lv_iconst (v := 0) hx hb dX0_reset_9 (by decide) ?_
  refine c_v (wf := xw g k) (As := [.int 3, .int 0]) (rest := []) hF hA hK hP hD hS (kX0_writeRegister l D g k _ v3 3 (by omega) 0) q130 q132 qs4 q28 q133 hdX0_writeRegister rfl rfl ⟨Nat.le_of_ble_eq_true rfl, Nat.le_of_ble_eq_true rfl⟩ rfl rfl rfl hl.1 rfl (Nat.le_of_ble_eq_true rfl) dX0_reset_10 ⟨Nat.zero_le _, Nat.zero_le _⟩ (fun u4 H locs hu4 hP hD hS => ?_)
  rw [hu4] at hP hD
  refine lv_aload_n hx hb dX0_reset_13 rfl (lv_at hl 1 rfl) ?_
  refine x_get (v := .ref (g 3)) hF hK hP 0 rfl 2 (by decide) q59 rfl rfl dX0_reset_14 ?_
  refine lv_iload_n hx hb dX0_reset_17 rfl (lv_at hl 0 rfl) ?_
  refine lv_iconst (v := 0) hx hb dX0_reset_18 (by decide) ?_
  refine n_bast (f' := upd (xs2 v3) 3 0) (ws' := xw g k (xu2 (xu0 v3 (w3 (xs0 v3) 3 0)) (upd (xs2 v3) 3 0))) hx hb hK hP hD hS 3 2 rfl rfl 3 (rfl) (by omega) (by decide) (rfl) rfl dX0_reset_19 (fun H locs hP hD hS => ?_)
  have hR4 : RX (mu11 (mu0 S (va_up (va_up (va_up (va_up (ms0 S) 0 0) 1 0) 2 0) 3 0)) (va_up (va_up (va_up (va_up (ms11 S) 0 0) 1 0) 2 0) 3 0)) (xu2 (xu0 v3 (w3 (xs0 v3) 3 0)) (upd (xs2 v3) 3 0)) := hR3.regc (r := 3) (v := 0) (by decide) (by decide)
  have hP : va_P D vwCl (xw g k (xu2 (xu0 v3 (w3 (xs0 v3) 3 0)) (upd (xs2 v3) 3 0))) _ := hP
  have hD : va_D A (xw g k (xu2 (xu0 v3 (w3 (xs0 v3) 3 0)) (upd (xs2 v3) 3 0))) := hD
  generalize xu2 (xu0 v3 (w3 (xs0 v3) 3 0)) (upd (xs2 v3) 3 0) = v4 at hP hD hR4
  refine lv_iinc (v := 4) (lv' := [(1, .int 4), (0, .ref (g 0))]) (k := 0) hx hb dX0_reset_20 hl rfl (by decide) (by decide) rfl (fun ls hl => ?_)
  refine lv_goto (tgt := 2) hx hb dX0_reset_23 (by decide) ?_
  refine lv_iload_n hx hb dX0_reset_2 rfl (lv_at hl 0 rfl) ?_
  refine lv_iconst (v := 4) hx hb dX0_reset_3 (by decide) ?_
  refine lv_icmp_ge (tgt := 26) hx hb dX0_reset_4 (by decide) (fun _ => ?_) (fun q => absurd (by decide) q)
  refine lv_aload_n hx hb dX0_reset_26 rfl (lv_at hl 1 rfl) ?_
  refine lv_iconst (v := 0) hx hb dX0_reset_27 (by decide) ?_
  refine c_v (wf := xw g k) (As := [.int 0]) (rest := []) hF hA hK hP hD hS (kX0_writePlace l D g k _ v4 0) q138 q140 qs6 q28 q141 hdX0_writePlace rfl rfl ⟨Nat.le_of_ble_eq_true rfl, Nat.le_of_ble_eq_true rfl⟩ rfl rfl rfl hl.1 rfl (Nat.le_of_ble_eq_true rfl) dX0_reset_28 ⟨Nat.zero_le _, Nat.zero_le _⟩ (fun u5 H locs hu5 hP hD hS => ?_)
  rw [hu5] at hP hD
  refine lv_aload_n hx hb dX0_reset_31 rfl (lv_at hl 1 rfl) ?_
  refine lv_iconst (v := 0) hx hb dX0_reset_32 (by decide) ?_
  refine x_put (v := .int 0) (ws' := xw g k (xu3 (xu1 v4 (p3 (xs1 v4) 0)) 0)) hF hK hP hD hS 0 rfl 3 (by decide) q60 rfl rfl rfl rfl (Nat.le_of_ble_eq_true rfl) rfl dX0_reset_33 (fun H locs hP hD hS => ?_)
  have hR5 : RX (mu11 (mu5 (mu0 S (va_up (va_up (va_up (va_up (ms0 S) 0 0) 1 0) 2 0) 3 0)) 0) (va_up (va_up (va_up (va_up (va_up (ms11 S) 0 0) 1 0) 2 0) 3 0) 4 0)) (xu3 (xu1 v4 (p3 (xs1 v4) 0)) 0) := hR4.wplcc (v := 0) (by decide)
  have hP : va_P D vwCl (xw g k (xu3 (xu1 v4 (p3 (xs1 v4) 0)) 0)) _ := hP
  have hD : va_D A (xw g k (xu3 (xu1 v4 (p3 (xs1 v4) 0)) 0)) := hD
  generalize xu3 (xu1 v4 (p3 (xs1 v4) 0)) 0 = v5 at hP hD hR5
  refine lv_iconst (v := 0) hx hb dX0_reset_36 (by decide) ?_
  refine lv_istore_n (lv' := [(1, .int 0), (0, .ref (g 0))]) hx hb dX0_reset_37 rfl hl (by decide) rfl (fun ls hl => ?_)
  refine lv_iload_n hx hb dX0_reset_38 rfl (lv_at hl 0 rfl) ?_
  refine lv_iconst (v := 3) hx hb dX0_reset_39 (by decide) ?_
  refine lv_icmp_ge (tgt := 56) hx hb dX0_reset_40 (by decide) (fun q => absurd q (by decide)) (fun _ => ?_)
  refine lv_aload_n hx hb dX0_reset_43 rfl (lv_at hl 1 rfl) ?_
  refine x_get (v := .ref (g 4)) hF hK hP 0 rfl 4 (by decide) q61 rfl rfl dX0_reset_44 ?_
  refine lv_iload_n hx hb dX0_reset_47 rfl (lv_at hl 0 rfl) ?_
  refine lv_iconst (v := 0) hx hb dX0_reset_48 (by decide) ?_
  refine n_iast (f' := upd (xs4 v5) 0 0) (ws' := xw g k (xu4 v5 (upd (xs4 v5) 0 0))) hx hb hK hP hD hS 4 3 rfl rfl 0 (rfl) (by omega) (by decide) (rfl) rfl dX0_reset_49 (fun H locs hP hD hS => ?_)
  refine lv_iinc (v := 1) (lv' := [(1, .int 1), (0, .ref (g 0))]) (k := 0) hx hb dX0_reset_50 hl rfl (by decide) (by decide) rfl (fun ls hl => ?_)
  refine lv_goto (tgt := 38) hx hb dX0_reset_53 (by decide) ?_
  refine lv_iload_n hx hb dX0_reset_38 rfl (lv_at hl 0 rfl) ?_
  refine lv_iconst (v := 3) hx hb dX0_reset_39 (by decide) ?_
  refine lv_icmp_ge (tgt := 56) hx hb dX0_reset_40 (by decide) (fun q => absurd q (by decide)) (fun _ => ?_)
  refine lv_aload_n hx hb dX0_reset_43 rfl (lv_at hl 1 rfl) ?_
  refine x_get (v := .ref (g 4)) hF hK hP 0 rfl 4 (by decide) q61 rfl rfl dX0_reset_44 ?_
  refine lv_iload_n hx hb dX0_reset_47 rfl (lv_at hl 0 rfl) ?_
  refine lv_iconst (v := 0) hx hb dX0_reset_48 (by decide) ?_
  refine n_iast (f' := upd (upd (xs4 v5) 0 0) 1 0) (ws' := xw g k (xu4 v5 (upd (upd (xs4 v5) 0 0) 1 0))) hx hb hK hP hD hS 4 3 rfl rfl 1 (rfl) (by omega) (by decide) (rfl) rfl dX0_reset_49 (fun H locs hP hD hS => ?_)
  refine lv_iinc (v := 2) (lv' := [(1, .int 2), (0, .ref (g 0))]) (k := 0) hx hb dX0_reset_50 hl rfl (by decide) (by decide) rfl (fun ls hl => ?_)
  refine lv_goto (tgt := 38) hx hb dX0_reset_53 (by decide) ?_
  refine lv_iload_n hx hb dX0_reset_38 rfl (lv_at hl 0 rfl) ?_
  refine lv_iconst (v := 3) hx hb dX0_reset_39 (by decide) ?_
  refine lv_icmp_ge (tgt := 56) hx hb dX0_reset_40 (by decide) (fun q => absurd q (by decide)) (fun _ => ?_)
  refine lv_aload_n hx hb dX0_reset_43 rfl (lv_at hl 1 rfl) ?_
  refine x_get (v := .ref (g 4)) hF hK hP 0 rfl 4 (by decide) q61 rfl rfl dX0_reset_44 ?_
  refine lv_iload_n hx hb dX0_reset_47 rfl (lv_at hl 0 rfl) ?_
  refine lv_iconst (v := 0) hx hb dX0_reset_48 (by decide) ?_
  refine n_iast (f' := upd (upd (upd (xs4 v5) 0 0) 1 0) 2 0) (ws' := xw g k (xu4 v5 (upd (upd (upd (xs4 v5) 0 0) 1 0) 2 0))) hx hb hK hP hD hS 4 3 rfl rfl 2 (rfl) (by omega) (by decide) (rfl) rfl dX0_reset_49 (fun H locs hP hD hS => ?_)
  refine lv_iinc (v := 3) (lv' := [(1, .int 3), (0, .ref (g 0))]) (k := 0) hx hb dX0_reset_50 hl rfl (by decide) (by decide) rfl (fun ls hl => ?_)
  refine lv_goto (tgt := 38) hx hb dX0_reset_53 (by decide) ?_
  refine lv_iload_n hx hb dX0_reset_38 rfl (lv_at hl 0 rfl) ?_
  refine lv_iconst (v := 3) hx hb dX0_reset_39 (by decide) ?_
  refine lv_icmp_ge (tgt := 56) hx hb dX0_reset_40 (by decide) (fun _ => ?_) (fun q => absurd (by decide) q)
  refine lv_aload_n hx hb dX0_reset_56 rfl (lv_at hl 1 rfl) ?_
  refine lv_iconst (v := 0) hx hb dX0_reset_57 (by decide) ?_
  refine x_put (v := .int 0) (ws' := xw g k (xu5 (xu4 v5 (upd (upd (upd (xs4 v5) 0 0) 1 0) 2 0)) 0)) hF hK hP hD hS 0 rfl 5 (by decide) q62 rfl rfl rfl rfl (Nat.le_of_ble_eq_true rfl) rfl dX0_reset_58 (fun H locs hP hD hS => ?_)
  have hR6 : RX (mu11 (mu5 (mu0 S (z4 (ms0 S))) 0) (z6 (ms11 S))) (xu5 (xu4 v5 (upd (upd (upd (xs4 v5) 0 0) 1 0) 2 0)) 0) := hR5.wrkc
  have hP : va_P D vwCl (xw g k (xu5 (xu4 v5 (upd (upd (upd (xs4 v5) 0 0) 1 0) 2 0)) 0)) _ := hP
  have hD : va_D A (xw g k (xu5 (xu4 v5 (upd (upd (upd (xs4 v5) 0 0) 1 0) 2 0)) 0)) := hD
  generalize xu5 (xu4 v5 (upd (upd (upd (xs4 v5) 0 0) 1 0) 2 0)) 0 = v6 at hP hD hR6
  refine lv_aload_n hx hb dX0_reset_61 rfl (lv_at hl 1 rfl) ?_
  refine lv_iconst (v := 0) hx hb dX0_reset_62 (by decide) ?_
  refine x_put (v := .int 0) (ws' := xw g k (xu10 v6 0)) hF hK hP hD hS 0 rfl 10 (by decide) q67 rfl rfl rfl rfl (Nat.le_of_ble_eq_true rfl) rfl dX0_reset_63 (fun H locs hP hD hS => ?_)
  have hR7 : RX (mu11 (mu6 (mu5 (mu0 S (z4 (ms0 S))) 0) 0) (z6 (ms11 S))) (xu10 v6 0) := hR6.sh0
  have hP : va_P D vwCl (xw g k (xu10 v6 0)) _ := hP
  have hD : va_D A (xw g k (xu10 v6 0)) := hD
  generalize xu10 v6 0 = v7 at hP hD hR7
  refine lv_aload_n hx hb dX0_reset_66 rfl (lv_at hl 1 rfl) ?_
  refine lv_iconst (v := 0) hx hb dX0_reset_67 (by decide) ?_
  refine x_put (v := .int 0) (ws' := xw g k (xu9 v7 0)) hF hK hP hD hS 0 rfl 9 (by decide) q66 rfl rfl rfl rfl (Nat.le_of_ble_eq_true rfl) rfl dX0_reset_68 (fun H locs hP hD hS => ?_)
  have hR8 : RX (rstS S) (xu9 v7 0) := hR7.stop 0
  exact e_v (wf := xw g k) (u := xu9 v7 0) hx hb hr hlocks hK hP hD hS dX0_reset_71 (hR8)

set_option maxHeartbeats 4000000 in
set_option maxRecDepth 100000 in
theorem kX0_hitRegister (l : Launch) (D : va_G) (g k : Nat → Nat) (sz : Nat) (S : MS) (u : XS) (hR : RX S u) (hG : RG S) (x1 x2 x3 : Int32) : Ci l yX0_hitRegister cX0_hitRegister 4 .boolean (rm_ 1) D (xt k) (xw g k) sz [.ref (g 0), .int x1, .int x2, .int x3] u (fun r u2 => r = nI (oHitR S x1 x2 x3).1 ∧ RX (oHitR S x1 x2 x3).2 u2) := by
  refine st_i (by decide) (Nat.le_of_ble_eq_true rfl) ?_
  intro p e s m below meth c A ls hx hb hr hlocks hF hA hK hP hD hS hl
  have hl : lv_has ls 4 [(0, .ref (g 0)), (1, .int x1), (2, .int x2), (3, .int x3)] := hl
  refine lv_iload_n hx hb dX0_hitRegister_0 rfl (lv_at hl 1 rfl) ?_
  refine s_p (rest := []) hF (kX0_isRegister l x1) q104 q105 q28 q106 hdX0_isRegister rfl rfl ⟨Nat.le_of_ble_eq_true rfl, Nat.le_of_ble_eq_true rfl⟩ rfl hl.1 rfl (Nat.le_of_ble_eq_true rfl) dX0_hitRegister_1 ⟨Nat.zero_le _, Nat.zero_le _⟩ (fun r1 hr1 => ?_)
  refine tx (y := nI (iv x1 4)) (hr1) ?_
  refine lv_if_eq (tgt := 41) hx hb dX0_hitRegister_4 (by decide) (fun c_4 => ?_) (fun c_4 => ?_)
  · have g1 := iv_c0 c_4
    refine lv_iconst (v := 0) hx hb dX0_hitRegister_41 (by decide) ?_
    have hz : oHitR S x1 x2 x3 = (0, S) := by
      unfold oHitR oHit
      repeat' split
      all_goals first | rfl | (exfalso; omega)
    exact e_z (wf := xw g k) (u := u) hx hb hr hlocks hK hP hD hS dX0_hitRegister_42 (rfl) (by rw [hz]; exact ⟨rfl, hR⟩)
  · have g1 := iv_c1 c_4
    refine lv_iload_n hx hb dX0_hitRegister_7 rfl (lv_at hl 2 rfl) ?_
    refine s_p (rest := []) hF (kX0_isCopy l x2) q190 q191 q28 q192 hdX0_isCopy rfl rfl ⟨Nat.le_of_ble_eq_true rfl, Nat.le_of_ble_eq_true rfl⟩ rfl hl.1 rfl (Nat.le_of_ble_eq_true rfl) dX0_hitRegister_8 ⟨Nat.zero_le _, Nat.zero_le _⟩ (fun r2 hr2 => ?_)
    refine tx (y := nI (iv x2 3)) (hr2) ?_
    refine lv_if_eq (tgt := 41) hx hb dX0_hitRegister_11 (by decide) (fun c_11 => ?_) (fun c_11 => ?_)
    · have g2 := iv_c0 c_11
      refine lv_iconst (v := 0) hx hb dX0_hitRegister_41 (by decide) ?_
      have hz : oHitR S x1 x2 x3 = (0, S) := by
        unfold oHitR oHit
        repeat' split
        all_goals first | rfl | (exfalso; omega)
      exact e_z (wf := xw g k) (u := u) hx hb hr hlocks hK hP hD hS dX0_hitRegister_42 (rfl) (by rw [hz]; exact ⟨rfl, hR⟩)
    · have g2 := iv_c1 c_11
      refine lv_iload_n hx hb dX0_hitRegister_14 rfl (lv_at hl 3 rfl) ?_
      refine lv_iconst (v := 1) hx hb dX0_hitRegister_15 (by decide) ?_
      refine lv_icmp_lt (tgt := 41) hx hb dX0_hitRegister_16 (by decide) (fun c_16 => ?_) (fun c_16 => ?_)
      · have g3 : ivm x3 255 = 0 := ivm_lt c_16
        refine lv_iconst (v := 0) hx hb dX0_hitRegister_41 (by decide) ?_
        have hz : oHitR S x1 x2 x3 = (0, S) := by
          unfold oHitR oHit
          repeat' split
          all_goals first | rfl | (exfalso; omega)
        exact e_z (wf := xw g k) (u := u) hx hb hr hlocks hK hP hD hS dX0_hitRegister_42 (rfl) (by rw [hz]; exact ⟨rfl, hR⟩)
      · refine lv_iload_n hx hb dX0_hitRegister_19 rfl (lv_at hl 3 rfl) ?_
        refine lv_sipush (v := 255) hx hb dX0_hitRegister_20 (by decide) ?_
        refine lv_icmp_gt (tgt := 41) hx hb dX0_hitRegister_23 (by decide) (fun c_23 => ?_) (fun c_23 => ?_)
        · have g3 : ivm x3 255 = 0 := ivm_gt (n := 255) c_16 c_23
          refine lv_iconst (v := 0) hx hb dX0_hitRegister_41 (by decide) ?_
          have hz : oHitR S x1 x2 x3 = (0, S) := by
            unfold oHitR oHit
            repeat' split
            all_goals first | rfl | (exfalso; omega)
          exact e_z (wf := xw g k) (u := u) hx hb hr hlocks hK hP hD hS dX0_hitRegister_42 (rfl) (by rw [hz]; exact ⟨rfl, hR⟩)
        · have g3 : ivm x3 255 = 1 := ivm_in (n := 255) c_16 c_23
          obtain ⟨j1, hj1, rfl⟩ := iv_of g1 (by decide)
          obtain ⟨j2, hj2, rfl⟩ := iv_of g2 (by decide)
          obtain ⟨j3, hj3, rfl⟩ := ivm_of g3 (by decide)
          refine lv_aload_n hx hb dX0_hitRegister_26 rfl (lv_at hl 0 rfl) ?_
          refine x_get (v := .ref (g 3)) hF hK hP 0 rfl 2 (by decide) q59 rfl rfl dX0_hitRegister_27 ?_
          refine lv_iload_n hx hb dX0_hitRegister_30 rfl (lv_at hl 1 rfl) ?_
          refine n_bald (v := nI (hbt (ms11 S j1))) hx hb hK hP 3 2 rfl rfl j1 (rfl) (by omega) (by decide) (hR.2.2.1 j1 hj1) dX0_hitRegister_31 ?_
          refine lv_iconst (v := 1) hx hb dX0_hitRegister_32 (by decide) ?_
          refine lv_iload_n hx hb dX0_hitRegister_33 rfl (lv_at hl 2 rfl) ?_
          refine lv_ishl hx hb dX0_hitRegister_34 ?_
          refine lv_iconst (v := (-1)) hx hb dX0_hitRegister_35 (by decide) ?_
          refine lv_ixor hx hb dX0_hitRegister_36 ?_
          refine lv_iand hx hb dX0_hitRegister_37 ?_
          refine lv_if_eq (tgt := 43) hx hb dX0_hitRegister_38 (by decide) (fun c_38 => ?_) (fun c_38 => ?_)
          · have h0 := (hb_ok (ms11 S j1) (by have := hG.2.2.2.2.2.2.2.2 j1 (by omega); omega) j2 hj2).mp c_38
            refine lv_aload_n hx hb dX0_hitRegister_43 rfl (lv_at hl 0 rfl) ?_
            refine x_get (v := .ref (g 1)) hF hK hP 0 rfl 0 (by decide) q57 rfl rfl dX0_hitRegister_44 ?_
            refine lv_iload_n hx hb dX0_hitRegister_47 rfl (lv_at hl 1 rfl) ?_
            refine lv_iconst (v := 3) hx hb dX0_hitRegister_48 (by decide) ?_
            refine lv_imul hx hb dX0_hitRegister_49 ?_
            refine tx (y := nI (j1 * 3)) (pk_mul _ _) ?_
            refine lv_iload_n hx hb dX0_hitRegister_50 rfl (lv_at hl 2 rfl) ?_
            refine lv_iadd hx hb dX0_hitRegister_51 ?_
            refine tx (y := nI (j1 * 3 + j2)) (nI_add _ _) ?_
            refine lv_dup2_11 hx hb dX0_hitRegister_52 rfl rfl ?_
            refine n_iald (v := (xs0 u) (j1 * 3 + j2)) hx hb hK hP 1 0 rfl rfl (j1 * 3 + j2) (rfl) (by omega) (by decide) (rfl) dX0_hitRegister_53 ?_
            refine lv_iload_n hx hb dX0_hitRegister_54 rfl (lv_at hl 3 rfl) ?_
            refine lv_ixor hx hb dX0_hitRegister_55 ?_
            refine n_iast (f' := upd (xs0 u) (j1 * 3 + j2) (((xs0 u) (j1 * 3 + j2)) ^^^ (nI j3))) (ws' := xw g k (xu0 u (upd (xs0 u) (j1 * 3 + j2) (((xs0 u) (j1 * 3 + j2)) ^^^ (nI j3))))) hx hb hK hP hD hS 1 0 rfl rfl (j1 * 3 + j2) (rfl) (by omega) (by decide) (rfl) rfl dX0_hitRegister_56 (fun H locs hP hD hS => ?_)
            refine lv_aload_n hx hb dX0_hitRegister_57 rfl (lv_at hl 0 rfl) ?_
            refine x_get (v := .ref (g 3)) hF hK hP 0 rfl 2 (by decide) q59 rfl rfl dX0_hitRegister_58 ?_
            refine lv_iload_n hx hb dX0_hitRegister_61 rfl (lv_at hl 1 rfl) ?_
            refine lv_iconst (v := 1) hx hb dX0_hitRegister_62 (by decide) ?_
            refine lv_iload_n hx hb dX0_hitRegister_63 rfl (lv_at hl 2 rfl) ?_
            refine lv_ishl hx hb dX0_hitRegister_64 ?_
            refine lv_i2b (v := (1 <<< ((nI j2) &&& 31)).toInt8.toInt32) hx hb dX0_hitRegister_65 (rfl) ?_
            refine n_bast (f' := upd (xs2 u) j1 (nI (hbt (j2 + 1)))) (ws' := xw g k (xu2 (xu0 u (upd (xs0 u) (j1 * 3 + j2) (((xs0 u) (j1 * 3 + j2)) ^^^ (nI j3)))) (upd (xs2 u) j1 (nI (hbt (j2 + 1)))))) hx hb hK hP hD hS 3 2 rfl rfl j1 (rfl) (by omega) (by decide) (by rw [hb_st j2 hj2]) rfl dX0_hitRegister_66 (fun H locs hP hD hS => ?_)
            refine lv_iconst (v := 1) hx hb dX0_hitRegister_67 (by decide) ?_
            have hz : oHitR S (nI j1) (nI j2) (nI j3) = (1, mu11 S (va_up (ms11 S) j1 (j2 + 1))) := by
              unfold oHitR oHit
              rw [if_pos g1, cl_n (j := j1) (by omega), cl_n (j := j2) (by omega)]
              exact if_pos ⟨g3, g2, h0⟩
            exact e_z (wf := xw g k) (u := xu2 (xu0 u (upd (xs0 u) (j1 * 3 + j2) (((xs0 u) (j1 * 3 + j2)) ^^^ (nI j3)))) (upd (xs2 u) j1 (nI (hbt (j2 + 1))))) hx hb hr hlocks hK hP hD hS dX0_hitRegister_68 (rfl) (by rw [hz]; exact ⟨rfl, hR.hitR hj1 hj2 (by omega) h0⟩)
          · have h0 := fun z => c_38 ((hb_ok (ms11 S j1) (by have := hG.2.2.2.2.2.2.2.2 j1 (by omega); omega) j2 hj2).mpr z)
            have e1 := cl_n (j := j1) (by omega)
            have e2 := cl_n (j := j2) (by omega)
            refine lv_iconst (v := 0) hx hb dX0_hitRegister_41 (by decide) ?_
            have hz : oHitR S (nI j1) (nI j2) (nI j3) = (0, S) := by
              unfold oHitR oHit
              rw [if_pos g1, e1, e2]
              exact if_neg (fun q => h0 q.2.2)
            exact e_z (wf := xw g k) (u := u) hx hb hr hlocks hK hP hD hS dX0_hitRegister_42 (rfl) (by rw [hz]; exact ⟨rfl, hR⟩)

set_option maxHeartbeats 4000000 in
set_option maxRecDepth 100000 in
theorem kX0_hitPlace (l : Launch) (D : va_G) (g k : Nat → Nat) (sz : Nat) (S : MS) (u : XS) (hR : RX S u) (hG : RG S) (x1 x2 : Int32) : Ci l yX0_hitPlace cX0_hitPlace 3 .boolean (rm_ 1) D (xt k) (xw g k) sz [.ref (g 0), .int x1, .int x2] u (fun r u2 => r = nI (oHitP S x1 x2).1 ∧ RX (oHitP S x1 x2).2 u2) := by
  refine st_i (by decide) (Nat.le_of_ble_eq_true rfl) ?_
  intro p e s m below meth c A ls hx hb hr hlocks hF hA hK hP hD hS hl
  have hl : lv_has ls 3 [(0, .ref (g 0)), (1, .int x1), (2, .int x2)] := hl
  refine lv_iload_n hx hb dX0_hitPlace_0 rfl (lv_at hl 1 rfl) ?_
  refine s_p (rest := []) hF (kX0_isCopy l x1) q190 q191 q28 q192 hdX0_isCopy rfl rfl ⟨Nat.le_of_ble_eq_true rfl, Nat.le_of_ble_eq_true rfl⟩ rfl hl.1 rfl (Nat.le_of_ble_eq_true rfl) dX0_hitPlace_1 ⟨Nat.zero_le _, Nat.zero_le _⟩ (fun r1 hr1 => ?_)
  refine tx (y := nI (iv x1 3)) (hr1) ?_
  refine lv_if_eq (tgt := 31) hx hb dX0_hitPlace_4 (by decide) (fun c_4 => ?_) (fun c_4 => ?_)
  · have g2 := iv_c0 c_4
    refine lv_iconst (v := 0) hx hb dX0_hitPlace_31 (by decide) ?_
    have hz : oHitP S x1 x2 = (0, S) := by
      unfold oHitP oHit
      repeat' split
      all_goals first | rfl | (exfalso; omega)
    exact e_z (wf := xw g k) (u := u) hx hb hr hlocks hK hP hD hS dX0_hitPlace_32 (rfl) (by rw [hz]; exact ⟨rfl, hR⟩)
  · have g2 := iv_c1 c_4
    refine lv_iload_n hx hb dX0_hitPlace_7 rfl (lv_at hl 2 rfl) ?_
    refine lv_iconst (v := 1) hx hb dX0_hitPlace_8 (by decide) ?_
    refine lv_icmp_lt (tgt := 31) hx hb dX0_hitPlace_9 (by decide) (fun c_9 => ?_) (fun c_9 => ?_)
    · have g3 : ivm x2 31 = 0 := ivm_lt c_9
      refine lv_iconst (v := 0) hx hb dX0_hitPlace_31 (by decide) ?_
      have hz : oHitP S x1 x2 = (0, S) := by
        unfold oHitP oHit
        repeat' split
        all_goals first | rfl | (exfalso; omega)
      exact e_z (wf := xw g k) (u := u) hx hb hr hlocks hK hP hD hS dX0_hitPlace_32 (rfl) (by rw [hz]; exact ⟨rfl, hR⟩)
    · refine lv_iload_n hx hb dX0_hitPlace_12 rfl (lv_at hl 2 rfl) ?_
      refine lv_bipush (v := 31) hx hb dX0_hitPlace_13 (by decide) ?_
      refine lv_icmp_gt (tgt := 31) hx hb dX0_hitPlace_15 (by decide) (fun c_15 => ?_) (fun c_15 => ?_)
      · have g3 : ivm x2 31 = 0 := ivm_gt (n := 31) c_9 c_15
        refine lv_iconst (v := 0) hx hb dX0_hitPlace_31 (by decide) ?_
        have hz : oHitP S x1 x2 = (0, S) := by
          unfold oHitP oHit
          repeat' split
          all_goals first | rfl | (exfalso; omega)
        exact e_z (wf := xw g k) (u := u) hx hb hr hlocks hK hP hD hS dX0_hitPlace_32 (rfl) (by rw [hz]; exact ⟨rfl, hR⟩)
      · have g3 : ivm x2 31 = 1 := ivm_in (n := 31) c_9 c_15
        obtain ⟨j1, hj1, rfl⟩ := iv_of g2 (by decide)
        obtain ⟨j2, hj2, rfl⟩ := ivm_of g3 (by decide)
        refine lv_aload_n hx hb dX0_hitPlace_18 rfl (lv_at hl 0 rfl) ?_
        refine x_get (v := .int (xs3 u)) hF hK hP 0 rfl 3 (by decide) q60 rfl rfl dX0_hitPlace_19 ?_
        refine tx (y := nI (hbt (ms11 S 4))) (hR.2.2.2.1) ?_
        refine lv_iconst (v := 1) hx hb dX0_hitPlace_22 (by decide) ?_
        refine lv_iload_n hx hb dX0_hitPlace_23 rfl (lv_at hl 1 rfl) ?_
        refine lv_ishl hx hb dX0_hitPlace_24 ?_
        refine lv_iconst (v := (-1)) hx hb dX0_hitPlace_25 (by decide) ?_
        refine lv_ixor hx hb dX0_hitPlace_26 ?_
        refine lv_iand hx hb dX0_hitPlace_27 ?_
        refine lv_if_eq (tgt := 33) hx hb dX0_hitPlace_28 (by decide) (fun c_28 => ?_) (fun c_28 => ?_)
        · have h0 := (hb_ok (ms11 S 4) (by have := hG.2.2.2.2.2.2.2.2 4 (by omega); omega) j1 hj1).mp c_28
          refine lv_aload_n hx hb dX0_hitPlace_33 rfl (lv_at hl 0 rfl) ?_
          refine x_get (v := .ref (g 2)) hF hK hP 0 rfl 1 (by decide) q58 rfl rfl dX0_hitPlace_34 ?_
          refine lv_iload_n hx hb dX0_hitPlace_37 rfl (lv_at hl 1 rfl) ?_
          refine lv_dup2_11 hx hb dX0_hitPlace_38 rfl rfl ?_
          refine n_iald (v := (xs1 u) j1) hx hb hK hP 2 1 rfl rfl j1 (rfl) (by omega) (by decide) (rfl) dX0_hitPlace_39 ?_
          refine lv_iload_n hx hb dX0_hitPlace_40 rfl (lv_at hl 2 rfl) ?_
          refine lv_ixor hx hb dX0_hitPlace_41 ?_
          refine n_iast (f' := upd (xs1 u) j1 (((xs1 u) j1) ^^^ (nI j2))) (ws' := xw g k (xu1 u (upd (xs1 u) j1 (((xs1 u) j1) ^^^ (nI j2))))) hx hb hK hP hD hS 2 1 rfl rfl j1 (rfl) (by omega) (by decide) (rfl) rfl dX0_hitPlace_42 (fun H locs hP hD hS => ?_)
          refine lv_aload_n hx hb dX0_hitPlace_43 rfl (lv_at hl 0 rfl) ?_
          refine lv_iconst (v := 1) hx hb dX0_hitPlace_44 (by decide) ?_
          refine lv_iload_n hx hb dX0_hitPlace_45 rfl (lv_at hl 1 rfl) ?_
          refine lv_ishl hx hb dX0_hitPlace_46 ?_
          refine tx (y := nI (hbt (j1 + 1))) (hb_sh j1 hj1) ?_
          refine x_put (v := .int (nI (hbt (j1 + 1)))) (ws' := xw g k (xu3 (xu1 u (upd (xs1 u) j1 (((xs1 u) j1) ^^^ (nI j2)))) (nI (hbt (j1 + 1))))) hF hK hP hD hS 0 rfl 3 (by decide) q60 rfl rfl rfl rfl (Nat.le_of_ble_eq_true rfl) rfl dX0_hitPlace_47 (fun H locs hP hD hS => ?_)
          refine lv_iconst (v := 1) hx hb dX0_hitPlace_50 (by decide) ?_
          have hz : oHitP S (nI j1) (nI j2) = (1, mu11 S (va_up (ms11 S) 4 (j1 + 1))) := by
            unfold oHitP oHit
            rw [cl_n (j := j1) (by omega)]
            exact if_pos ⟨g3, g2, h0⟩
          exact e_z (wf := xw g k) (u := xu3 (xu1 u (upd (xs1 u) j1 (((xs1 u) j1) ^^^ (nI j2)))) (nI (hbt (j1 + 1)))) hx hb hr hlocks hK hP hD hS dX0_hitPlace_51 (rfl) (by rw [hz]; exact ⟨rfl, hR.hitP hj1 (by omega) h0⟩)
        · have h0 := fun z => c_28 ((hb_ok (ms11 S 4) (by have := hG.2.2.2.2.2.2.2.2 4 (by omega); omega) j1 hj1).mpr z)
          have e2 := cl_n (j := j1) (by omega)
          refine lv_iconst (v := 0) hx hb dX0_hitPlace_31 (by decide) ?_
          have hz : oHitP S (nI j1) (nI j2) = (0, S) := by
            unfold oHitP oHit
            rw [e2]
            exact if_neg (fun q => h0 q.2.2)
          exact e_z (wf := xw g k) (u := u) hx hb hr hlocks hK hP hD hS dX0_hitPlace_32 (rfl) (by rw [hz]; exact ⟨rfl, hR⟩)

set_option maxHeartbeats 4000000 in
set_option maxRecDepth 100000 in
theorem kX0_hitWork (l : Launch) (D : va_G) (g k : Nat → Nat) (sz : Nat) (S : MS) (u : XS) (hR : RX S u) (hG : RG S) (x1 x2 : Int32) : Ci l yX0_hitWork cX0_hitWork 3 .boolean (rm_ 1) D (xt k) (xw g k) sz [.ref (g 0), .int x1, .int x2] u (fun r u2 => r = nI (oHitW S x1 x2).1 ∧ RX (oHitW S x1 x2).2 u2) := by
  refine st_i (by decide) (Nat.le_of_ble_eq_true rfl) ?_
  intro p e s m below meth c A ls hx hb hr hlocks hF hA hK hP hD hS hl
  have hl : lv_has ls 3 [(0, .ref (g 0)), (1, .int x1), (2, .int x2)] := hl
  refine lv_iload_n hx hb dX0_hitWork_0 rfl (lv_at hl 1 rfl) ?_
  refine s_p (rest := []) hF (kX0_isCopy l x1) q190 q191 q28 q192 hdX0_isCopy rfl rfl ⟨Nat.le_of_ble_eq_true rfl, Nat.le_of_ble_eq_true rfl⟩ rfl hl.1 rfl (Nat.le_of_ble_eq_true rfl) dX0_hitWork_1 ⟨Nat.zero_le _, Nat.zero_le _⟩ (fun r1 hr1 => ?_)
  refine tx (y := nI (iv x1 3)) (hr1) ?_
  refine lv_if_eq (tgt := 32) hx hb dX0_hitWork_4 (by decide) (fun c_4 => ?_) (fun c_4 => ?_)
  · have g2 := iv_c0 c_4
    refine lv_iconst (v := 0) hx hb dX0_hitWork_32 (by decide) ?_
    have hz : oHitW S x1 x2 = (0, S) := by
      unfold oHitW oHit
      repeat' split
      all_goals first | rfl | (exfalso; omega)
    exact e_z (wf := xw g k) (u := u) hx hb hr hlocks hK hP hD hS dX0_hitWork_33 (rfl) (by rw [hz]; exact ⟨rfl, hR⟩)
  · have g2 := iv_c1 c_4
    refine lv_iload_n hx hb dX0_hitWork_7 rfl (lv_at hl 2 rfl) ?_
    refine lv_iconst (v := 1) hx hb dX0_hitWork_8 (by decide) ?_
    refine lv_icmp_lt (tgt := 32) hx hb dX0_hitWork_9 (by decide) (fun c_9 => ?_) (fun c_9 => ?_)
    · have g3 : ivm x2 255 = 0 := ivm_lt c_9
      refine lv_iconst (v := 0) hx hb dX0_hitWork_32 (by decide) ?_
      have hz : oHitW S x1 x2 = (0, S) := by
        unfold oHitW oHit
        repeat' split
        all_goals first | rfl | (exfalso; omega)
      exact e_z (wf := xw g k) (u := u) hx hb hr hlocks hK hP hD hS dX0_hitWork_33 (rfl) (by rw [hz]; exact ⟨rfl, hR⟩)
    · refine lv_iload_n hx hb dX0_hitWork_12 rfl (lv_at hl 2 rfl) ?_
      refine lv_sipush (v := 255) hx hb dX0_hitWork_13 (by decide) ?_
      refine lv_icmp_gt (tgt := 32) hx hb dX0_hitWork_16 (by decide) (fun c_16 => ?_) (fun c_16 => ?_)
      · have g3 : ivm x2 255 = 0 := ivm_gt (n := 255) c_9 c_16
        refine lv_iconst (v := 0) hx hb dX0_hitWork_32 (by decide) ?_
        have hz : oHitW S x1 x2 = (0, S) := by
          unfold oHitW oHit
          repeat' split
          all_goals first | rfl | (exfalso; omega)
        exact e_z (wf := xw g k) (u := u) hx hb hr hlocks hK hP hD hS dX0_hitWork_33 (rfl) (by rw [hz]; exact ⟨rfl, hR⟩)
      · have g3 : ivm x2 255 = 1 := ivm_in (n := 255) c_9 c_16
        obtain ⟨j1, hj1, rfl⟩ := iv_of g2 (by decide)
        obtain ⟨j2, hj2, rfl⟩ := ivm_of g3 (by decide)
        refine lv_aload_n hx hb dX0_hitWork_19 rfl (lv_at hl 0 rfl) ?_
        refine x_get (v := .int (xs5 u)) hF hK hP 0 rfl 5 (by decide) q62 rfl rfl dX0_hitWork_20 ?_
        refine tx (y := nI (hbt (ms11 S 5))) (hR.2.2.2.2.2.1) ?_
        refine lv_iconst (v := 1) hx hb dX0_hitWork_23 (by decide) ?_
        refine lv_iload_n hx hb dX0_hitWork_24 rfl (lv_at hl 1 rfl) ?_
        refine lv_ishl hx hb dX0_hitWork_25 ?_
        refine lv_iconst (v := (-1)) hx hb dX0_hitWork_26 (by decide) ?_
        refine lv_ixor hx hb dX0_hitWork_27 ?_
        refine lv_iand hx hb dX0_hitWork_28 ?_
        refine lv_if_eq (tgt := 34) hx hb dX0_hitWork_29 (by decide) (fun c_29 => ?_) (fun c_29 => ?_)
        · have h0 := (hb_ok (ms11 S 5) (by have := hG.2.2.2.2.2.2.2.2 5 (by omega); omega) j1 hj1).mp c_29
          refine lv_aload_n hx hb dX0_hitWork_34 rfl (lv_at hl 0 rfl) ?_
          refine x_get (v := .ref (g 4)) hF hK hP 0 rfl 4 (by decide) q61 rfl rfl dX0_hitWork_35 ?_
          refine lv_iload_n hx hb dX0_hitWork_38 rfl (lv_at hl 1 rfl) ?_
          refine lv_dup2_11 hx hb dX0_hitWork_39 rfl rfl ?_
          refine n_iald (v := (xs4 u) j1) hx hb hK hP 4 3 rfl rfl j1 (rfl) (by omega) (by decide) (rfl) dX0_hitWork_40 ?_
          refine lv_iload_n hx hb dX0_hitWork_41 rfl (lv_at hl 2 rfl) ?_
          refine lv_ixor hx hb dX0_hitWork_42 ?_
          refine n_iast (f' := upd (xs4 u) j1 (((xs4 u) j1) ^^^ (nI j2))) (ws' := xw g k (xu4 u (upd (xs4 u) j1 (((xs4 u) j1) ^^^ (nI j2))))) hx hb hK hP hD hS 4 3 rfl rfl j1 (rfl) (by omega) (by decide) (rfl) rfl dX0_hitWork_43 (fun H locs hP hD hS => ?_)
          refine lv_aload_n hx hb dX0_hitWork_44 rfl (lv_at hl 0 rfl) ?_
          refine lv_iconst (v := 1) hx hb dX0_hitWork_45 (by decide) ?_
          refine lv_iload_n hx hb dX0_hitWork_46 rfl (lv_at hl 1 rfl) ?_
          refine lv_ishl hx hb dX0_hitWork_47 ?_
          refine tx (y := nI (hbt (j1 + 1))) (hb_sh j1 hj1) ?_
          refine x_put (v := .int (nI (hbt (j1 + 1)))) (ws' := xw g k (xu5 (xu4 u (upd (xs4 u) j1 (((xs4 u) j1) ^^^ (nI j2)))) (nI (hbt (j1 + 1))))) hF hK hP hD hS 0 rfl 5 (by decide) q62 rfl rfl rfl rfl (Nat.le_of_ble_eq_true rfl) rfl dX0_hitWork_48 (fun H locs hP hD hS => ?_)
          refine lv_iconst (v := 1) hx hb dX0_hitWork_51 (by decide) ?_
          have hz : oHitW S (nI j1) (nI j2) = (1, mu11 S (va_up (ms11 S) 5 (j1 + 1))) := by
            unfold oHitW oHit
            rw [cl_n (j := j1) (by omega)]
            exact if_pos ⟨g3, g2, h0⟩
          exact e_z (wf := xw g k) (u := xu5 (xu4 u (upd (xs4 u) j1 (((xs4 u) j1) ^^^ (nI j2)))) (nI (hbt (j1 + 1)))) hx hb hr hlocks hK hP hD hS dX0_hitWork_52 (rfl) (by rw [hz]; exact ⟨rfl, hR.hitW hj1 (by omega) h0⟩)
        · have h0 := fun z => c_29 ((hb_ok (ms11 S 5) (by have := hG.2.2.2.2.2.2.2.2 5 (by omega); omega) j1 hj1).mpr z)
          have e2 := cl_n (j := j1) (by omega)
          refine lv_iconst (v := 0) hx hb dX0_hitWork_32 (by decide) ?_
          have hz : oHitW S (nI j1) (nI j2) = (0, S) := by
            unfold oHitW oHit
            rw [e2]
            exact if_neg (fun q => h0 q.2.2)
          exact e_z (wf := xw g k) (u := u) hx hb hr hlocks hK hP hD hS dX0_hitWork_33 (rfl) (by rw [hz]; exact ⟨rfl, hR⟩)

set_option maxHeartbeats 4000000 in
set_option maxRecDepth 100000 in
theorem kX0_hitWord (l : Launch) (D : va_G) (g k : Nat → Nat) (sz : Nat) (S : MS) (u : XS) (hR : RX S u) (hG : RG S) (wi bi : Nat) (hw : wi < 48) (hb5 : bi < plc wi) : Ci l yX0_hitWord cX0_hitWord 3 .boolean (rm_ 0) D (xt k) (xw g k) sz [.ref (g 0), .int (nI wi), .int (nI bi)] u (fun r u2 => r = nI (oSpl S wi).1 ∧ RX (oSpl S wi).2 u2) := by
  refine st_i (by decide) (Nat.le_of_ble_eq_true rfl) ?_
  intro p e s m below meth c A ls hx hb hr hlocks hF hA hK hP hD hS hl
  have hl : lv_has ls 3 [(0, .ref (g 0)), (1, .int (nI wi)), (2, .int (nI bi))] := hl
  have hp22 : plc wi ≤ 22 := by rcases plc_2 wi with q | q <;> rw [q] <;> decide
  have hsp1 := hG.2.2.2.2.2.2.2.1 wi hw
  refine lv_aload_n hx hb dX0_hitWord_0 rfl (lv_at hl 0 rfl) ?_
  refine x_get (v := .ref (g 6)) hF hK hP 0 rfl 7 (by decide) q64 rfl rfl dX0_hitWord_1 ?_
  refine lv_iload_n hx hb dX0_hitWord_4 rfl (lv_at hl 1 rfl) ?_
  refine n_zald (v := nI (ms10 S wi)) hx hb hK hP 6 5 rfl rfl wi (rfl) (by omega) (by decide) (hR.sp hw) dX0_hitWord_5 ?_
  refine lv_if_eq (tgt := 11) hx hb dX0_hitWord_6 (by decide) (fun c_6 => ?_) (fun c_6 => ?_)
  · have h0 : ms10 S wi = 0 := eq_of (c_6.trans nI_0.symm) (by omega) (by decide)
    refine lv_aload_n hx hb dX0_hitWord_11 rfl (lv_at hl 0 rfl) ?_
    refine x_get (v := .ref (g 5)) hF hK hP 0 rfl 6 (by decide) q63 rfl rfl dX0_hitWord_12 ?_
    refine lv_iload_n hx hb dX0_hitWord_15 rfl (lv_at hl 1 rfl) ?_
    refine lv_dup2_11 hx hb dX0_hitWord_16 rfl rfl ?_
    refine n_iald (v := (xs6 u) wi) hx hb hK hP 5 4 rfl rfl wi (rfl) (by omega) (by decide) (rfl) dX0_hitWord_17 ?_
    refine lv_iconst (v := 1) hx hb dX0_hitWord_18 (by decide) ?_
    refine lv_iload_n hx hb dX0_hitWord_19 rfl (lv_at hl 2 rfl) ?_
    refine lv_ishl hx hb dX0_hitWord_20 ?_
    refine tx (y := nI (1 * 2 ^ bi)) (nI_shl (by omega) (pw_shl (by omega))) ?_
    refine lv_ixor hx hb dX0_hitWord_21 ?_
    refine n_iast (f' := upd (xs6 u) wi (((xs6 u) wi) ^^^ (nI (1 * 2 ^ bi)))) (ws' := xw g k (xu6 u (upd (xs6 u) wi (((xs6 u) wi) ^^^ (nI (1 * 2 ^ bi)))))) hx hb hK hP hD hS 5 4 rfl rfl wi (rfl) (by omega) (by decide) (rfl) rfl dX0_hitWord_22 (fun H locs hP hD hS => ?_)
    refine lv_aload_n hx hb dX0_hitWord_23 rfl (lv_at hl 0 rfl) ?_
    refine x_get (v := .ref (g 6)) hF hK hP 0 rfl 7 (by decide) q64 rfl rfl dX0_hitWord_24 ?_
    refine lv_iload_n hx hb dX0_hitWord_27 rfl (lv_at hl 1 rfl) ?_
    refine lv_iconst (v := 1) hx hb dX0_hitWord_28 (by decide) ?_
    refine n_zast (f' := upd (xs7 u) wi 1) (ws' := xw g k (xu7 (xu6 u (upd (xs6 u) wi (((xs6 u) wi) ^^^ (nI (1 * 2 ^ bi))))) (upd (xs7 u) wi 1))) hx hb hK hP hD hS 6 5 rfl rfl wi (rfl) (by omega) (by decide) (rfl) rfl dX0_hitWord_29 (fun H locs hP hD hS => ?_)
    refine lv_iconst (v := 1) hx hb dX0_hitWord_30 (by decide) ?_
    have hz : oSpl S wi = (1, mu10 S (va_up (ms10 S) wi 1)) := if_pos h0
    exact e_z (wf := xw g k) (u := xu7 (xu6 u (upd (xs6 u) wi (((xs6 u) wi) ^^^ (nI (1 * 2 ^ bi))))) (upd (xs7 u) wi 1)) hx hb hr hlocks hK hP hD hS dX0_hitWord_31 (rfl) (by rw [hz]; exact ⟨rfl, hR.hitw hw h0 hb5⟩)
  · have h0 : ¬ ms10 S wi = 0 := fun q => c_6 (by rw [q]; rfl)
    refine lv_iconst (v := 0) hx hb dX0_hitWord_9 (by decide) ?_
    have hz : oSpl S wi = (0, S) := if_neg h0
    exact e_z (wf := xw g k) (u := u) hx hb hr hlocks hK hP hD hS dX0_hitWord_10 (rfl) (by rw [hz]; exact ⟨rfl, hR⟩)

set_option maxHeartbeats 4000000 in
set_option maxRecDepth 100000 in
theorem kX0_hitData (l : Launch) (D : va_G) (g k : Nat → Nat) (sz : Nat) (S : MS) (u : XS) (hR : RX S u) (hG : RG S) (x1 x2 : Int32) : Ci l yX0_hitData cX0_hitData 3 .boolean (rm_ 1) D (xt k) (xw g k) sz [.ref (g 0), .int x1, .int x2] u (fun r u2 => r = nI (oHitD S x1 x2).1 ∧ RX (oHitD S x1 x2).2 u2) := by
  refine st_i (by decide) (Nat.le_of_ble_eq_true rfl) ?_
  intro p e s m below meth c A ls hx hb hr hlocks hF hA hK hP hD hS hl
  have hl : lv_has ls 3 [(0, .ref (g 0)), (1, .int x1), (2, .int x2)] := hl
  refine lv_iload_n hx hb dX0_hitData_0 rfl (lv_at hl 1 rfl) ?_
  refine lv_if_lt (tgt := 20) hx hb dX0_hitData_1 (by decide) (fun c_1 => ?_) (fun c_1 => ?_)
  · have g1 : iv x1 16 = 0 := iv_lt c_1
    refine lv_iconst (v := 0) hx hb dX0_hitData_20 (by decide) ?_
    have hz : oHitD S x1 x2 = (0, S) := by
      unfold oHitD
      exact if_neg (by omega)
    exact e_z (wf := xw g k) (u := u) hx hb hr hlocks hK hP hD hS dX0_hitData_21 (rfl) (by rw [hz]; exact ⟨rfl, hR⟩)
  · refine lv_iload_n hx hb dX0_hitData_4 rfl (lv_at hl 1 rfl) ?_
    refine lv_bipush (v := 16) hx hb dX0_hitData_5 (by decide) ?_
    refine lv_icmp_ge (tgt := 20) hx hb dX0_hitData_7 (by decide) (fun c_7 => ?_) (fun c_7 => ?_)
    · have g1 : iv x1 16 = 0 := iv_ge c_1 c_7
      refine lv_iconst (v := 0) hx hb dX0_hitData_20 (by decide) ?_
      have hz : oHitD S x1 x2 = (0, S) := by
        unfold oHitD
        exact if_neg (by omega)
      exact e_z (wf := xw g k) (u := u) hx hb hr hlocks hK hP hD hS dX0_hitData_21 (rfl) (by rw [hz]; exact ⟨rfl, hR⟩)
    · have g1 : iv x1 16 = 1 := iv_in c_1 c_7
      refine lv_iload_n hx hb dX0_hitData_10 rfl (lv_at hl 2 rfl) ?_
      refine lv_if_lt (tgt := 20) hx hb dX0_hitData_11 (by decide) (fun c_11 => ?_) (fun c_11 => ?_)
      · have g2 : iv x2 13 = 0 := iv_lt c_11
        refine lv_iconst (v := 0) hx hb dX0_hitData_20 (by decide) ?_
        have hz : oHitD S x1 x2 = (0, S) := by
          unfold oHitD
          exact if_neg (by omega)
        exact e_z (wf := xw g k) (u := u) hx hb hr hlocks hK hP hD hS dX0_hitData_21 (rfl) (by rw [hz]; exact ⟨rfl, hR⟩)
      · refine lv_iload_n hx hb dX0_hitData_14 rfl (lv_at hl 2 rfl) ?_
        refine lv_bipush (v := 13) hx hb dX0_hitData_15 (by decide) ?_
        refine lv_icmp_lt (tgt := 22) hx hb dX0_hitData_17 (by decide) (fun c_17 => ?_) (fun c_17 => ?_)
        · have g2 : iv x2 13 = 1 := iv_ilt (n := 13) c_11 c_17
          obtain ⟨j1, hj1, rfl⟩ := iv_of g1 (by decide)
          obtain ⟨j2, hj2, rfl⟩ := iv_of g2 (by decide)
          refine lv_aload_n hx hb dX0_hitData_22 rfl (lv_at hl 0 rfl) ?_
          refine lv_bipush (v := 32) hx hb dX0_hitData_23 (by decide) ?_
          refine lv_iload_n hx hb dX0_hitData_25 rfl (lv_at hl 1 rfl) ?_
          refine lv_iadd hx hb dX0_hitData_26 ?_
          refine tx (y := nI (32 + j1)) (nI_add _ _) ?_
          refine lv_iload_n hx hb dX0_hitData_27 rfl (lv_at hl 2 rfl) ?_
          refine c_i (wf := xw g k) (As := [.int (nI (32 + j1)), .int (nI j2)]) (rest := []) hF hA hK hP hD hS (kX0_hitWord l D g k _ S u hR hG (32 + j1) j2 (by omega) (by unfold plc; rw [if_neg (by omega)]; exact hj2)) q205 q207 qs14 q28 q208 hdX0_hitWord rfl rfl ⟨Nat.le_of_ble_eq_true rfl, Nat.le_of_ble_eq_true rfl⟩ rfl rfl rfl hl.1 rfl (Nat.le_of_ble_eq_true rfl) dX0_hitData_28 ⟨Nat.zero_le _, Nat.zero_le _⟩ (fun r1 u2 H locs hr1 hP hD hS => ?_)
          refine tx (y := nI ((oSpl S (32 + j1)).1)) (hr1.1) ?_
          have hz : oHitD S (nI j1) (nI j2) = oSpl S (32 + j1) := by
            unfold oHitD
            rw [if_pos ⟨g1, g2⟩, cl_n (by omega)]
          exact e_z (wf := xw g k) (u := u2) hx hb hr hlocks hK hP hD hS dX0_hitData_31 (nzb (oSpl_le _ _)) (by rw [hz]; exact ⟨rfl, hr1.2⟩)
        · have g2 : iv x2 13 = 0 := iv_nlt (n := 13) c_11 c_17
          refine lv_iconst (v := 0) hx hb dX0_hitData_20 (by decide) ?_
          have hz : oHitD S x1 x2 = (0, S) := by
            unfold oHitD
            exact if_neg (by omega)
          exact e_z (wf := xw g k) (u := u) hx hb hr hlocks hK hP hD hS dX0_hitData_21 (rfl) (by rw [hz]; exact ⟨rfl, hR⟩)

set_option maxHeartbeats 4000000 in
set_option maxRecDepth 100000 in
theorem kX0_hitProgram (l : Launch) (D : va_G) (g k : Nat → Nat) (sz : Nat) (S : MS) (u : XS) (hR : RX S u) (hG : RG S) (x1 x2 : Int32) : Ci l yX0_hitProgram cX0_hitProgram 3 .boolean (rm_ 1) D (xt k) (xw g k) sz [.ref (g 0), .int x1, .int x2] u (fun r u2 => r = nI (oHitG S x1 x2).1 ∧ RX (oHitG S x1 x2).2 u2) := by
  refine st_i (by decide) (Nat.le_of_ble_eq_true rfl) ?_
  intro p e s m below meth c A ls hx hb hr hlocks hF hA hK hP hD hS hl
  have hl : lv_has ls 3 [(0, .ref (g 0)), (1, .int x1), (2, .int x2)] := hl
  refine lv_iload_n hx hb dX0_hitProgram_0 rfl (lv_at hl 1 rfl) ?_
  refine lv_if_lt (tgt := 20) hx hb dX0_hitProgram_1 (by decide) (fun c_1 => ?_) (fun c_1 => ?_)
  · have g1 : iv x1 32 = 0 := iv_lt c_1
    refine lv_iconst (v := 0) hx hb dX0_hitProgram_20 (by decide) ?_
    have hz : oHitG S x1 x2 = (0, S) := by
      unfold oHitG
      exact if_neg (by omega)
    exact e_z (wf := xw g k) (u := u) hx hb hr hlocks hK hP hD hS dX0_hitProgram_21 (rfl) (by rw [hz]; exact ⟨rfl, hR⟩)
  · refine lv_iload_n hx hb dX0_hitProgram_4 rfl (lv_at hl 1 rfl) ?_
    refine lv_bipush (v := 32) hx hb dX0_hitProgram_5 (by decide) ?_
    refine lv_icmp_ge (tgt := 20) hx hb dX0_hitProgram_7 (by decide) (fun c_7 => ?_) (fun c_7 => ?_)
    · have g1 : iv x1 32 = 0 := iv_ge c_1 c_7
      refine lv_iconst (v := 0) hx hb dX0_hitProgram_20 (by decide) ?_
      have hz : oHitG S x1 x2 = (0, S) := by
        unfold oHitG
        exact if_neg (by omega)
      exact e_z (wf := xw g k) (u := u) hx hb hr hlocks hK hP hD hS dX0_hitProgram_21 (rfl) (by rw [hz]; exact ⟨rfl, hR⟩)
    · have g1 : iv x1 32 = 1 := iv_in c_1 c_7
      refine lv_iload_n hx hb dX0_hitProgram_10 rfl (lv_at hl 2 rfl) ?_
      refine lv_if_lt (tgt := 20) hx hb dX0_hitProgram_11 (by decide) (fun c_11 => ?_) (fun c_11 => ?_)
      · have g2 : iv x2 22 = 0 := iv_lt c_11
        refine lv_iconst (v := 0) hx hb dX0_hitProgram_20 (by decide) ?_
        have hz : oHitG S x1 x2 = (0, S) := by
          unfold oHitG
          exact if_neg (by omega)
        exact e_z (wf := xw g k) (u := u) hx hb hr hlocks hK hP hD hS dX0_hitProgram_21 (rfl) (by rw [hz]; exact ⟨rfl, hR⟩)
      · refine lv_iload_n hx hb dX0_hitProgram_14 rfl (lv_at hl 2 rfl) ?_
        refine lv_bipush (v := 22) hx hb dX0_hitProgram_15 (by decide) ?_
        refine lv_icmp_lt (tgt := 22) hx hb dX0_hitProgram_17 (by decide) (fun c_17 => ?_) (fun c_17 => ?_)
        · have g2 : iv x2 22 = 1 := iv_ilt (n := 22) c_11 c_17
          obtain ⟨j1, hj1, rfl⟩ := iv_of g1 (by decide)
          obtain ⟨j2, hj2, rfl⟩ := iv_of g2 (by decide)
          refine lv_aload_n hx hb dX0_hitProgram_22 rfl (lv_at hl 0 rfl) ?_
          refine lv_iload_n hx hb dX0_hitProgram_23 rfl (lv_at hl 1 rfl) ?_
          refine lv_iload_n hx hb dX0_hitProgram_24 rfl (lv_at hl 2 rfl) ?_
          refine c_i (wf := xw g k) (As := [.int (nI j1), .int (nI j2)]) (rest := []) hF hA hK hP hD hS (kX0_hitWord l D g k _ S u hR hG (j1) j2 (by omega) (by unfold plc; rw [if_pos (by omega)]; exact hj2)) q205 q207 qs14 q28 q208 hdX0_hitWord rfl rfl ⟨Nat.le_of_ble_eq_true rfl, Nat.le_of_ble_eq_true rfl⟩ rfl rfl rfl hl.1 rfl (Nat.le_of_ble_eq_true rfl) dX0_hitProgram_25 ⟨Nat.zero_le _, Nat.zero_le _⟩ (fun r1 u2 H locs hr1 hP hD hS => ?_)
          refine tx (y := nI ((oSpl S (j1)).1)) (hr1.1) ?_
          have hz : oHitG S (nI j1) (nI j2) = oSpl S (j1) := by
            unfold oHitG
            rw [if_pos ⟨g1, g2⟩, cl_n (by omega)]
          exact e_z (wf := xw g k) (u := u2) hx hb hr hlocks hK hP hD hS dX0_hitProgram_28 (nzb (oSpl_le _ _)) (by rw [hz]; exact ⟨rfl, hr1.2⟩)
        · have g2 : iv x2 22 = 0 := iv_nlt (n := 22) c_11 c_17
          refine lv_iconst (v := 0) hx hb dX0_hitProgram_20 (by decide) ?_
          have hz : oHitG S x1 x2 = (0, S) := by
            unfold oHitG
            exact if_neg (by omega)
          exact e_z (wf := xw g k) (u := u) hx hb hr hlocks hK hP hD hS dX0_hitProgram_21 (rfl) (by rw [hz]; exact ⟨rfl, hR⟩)

set_option maxHeartbeats 4000000 in
set_option maxRecDepth 100000 in
theorem kX0_register (l : Launch) (D : va_G) (g k : Nat → Nat) (sz : Nat) (S : MS) (u : XS) (hR : RX S u) (hG : RG S) (x1 : Int32) : Ci l yX0_register cX0_register 2 .int (rm_ 2) D (xt k) (xw g k) sz [.ref (g 0), .int x1] u (fun r u2 => r = aReg S x1 ∧ u2 = u) := by
  refine st_i (by decide) (Nat.le_of_ble_eq_true rfl) ?_
  intro p e s m below meth c A ls hx hb hr hlocks hF hA hK hP hD hS hl
  have hl : lv_has ls 2 [(0, .ref (g 0)), (1, .int x1)] := hl
  refine lv_iload_n hx hb dX0_register_0 rfl (lv_at hl 1 rfl) ?_
  refine s_p (rest := []) hF (kX0_isRegister l x1) q104 q105 q28 q106 hdX0_isRegister rfl rfl ⟨Nat.le_of_ble_eq_true rfl, Nat.le_of_ble_eq_true rfl⟩ rfl hl.1 rfl (Nat.le_of_ble_eq_true rfl) dX0_register_1 ⟨Nat.zero_le _, Nat.zero_le _⟩ (fun r1 hr1 => ?_)
  refine tx (y := nI (iv x1 4)) (hr1) ?_
  refine lv_if_eq (tgt := 15) hx hb dX0_register_4 (by decide) (fun c_4 => ?_) (fun c_4 => ?_)
  · have g1 := iv_c0 c_4
    refine lv_iconst (v := (-1)) hx hb dX0_register_15 (by decide) ?_
    exact e_i (wf := xw g k) (u := u) hx hb hr hlocks hK hP hD hS dX0_register_16 (⟨(if_neg (by omega)).symm, rfl⟩)
  · have g1 := iv_c1 c_4
    obtain ⟨j1, hj1, rfl⟩ := iv_of g1 (by decide)
    refine lv_aload_n hx hb dX0_register_7 rfl (lv_at hl 0 rfl) ?_
    refine lv_iload_n hx hb dX0_register_8 rfl (lv_at hl 1 rfl) ?_
    refine c_i (wf := xw g k) (As := [.int (nI j1)]) (rest := []) hF hA hK hP hD hS (kX0_voteRegister l D g k _ S u hR j1 (by omega)) q123 q125 qs3 q28 q126 hdX0_voteRegister rfl rfl ⟨Nat.le_of_ble_eq_true rfl, Nat.le_of_ble_eq_true rfl⟩ rfl rfl rfl hl.1 rfl (Nat.le_of_ble_eq_true rfl) dX0_register_9 ⟨Nat.zero_le _, Nat.zero_le _⟩ (fun r2 u3 H locs hr2 hP hD hS => ?_)
    rw [hr2.2] at hP hD
    refine tx (y := nI (ms0 S j1)) (hr2.1) ?_
    refine lv_goto (tgt := 16) hx hb dX0_register_12 (by decide) ?_
    exact e_i (wf := xw g k) (u := u) hx hb hr hlocks hK hP hD hS dX0_register_16 (⟨by unfold aReg; rw [if_pos g1, cl_n (by omega)], rfl⟩)

set_option maxHeartbeats 4000000 in
set_option maxRecDepth 100000 in
theorem kX0_place (l : Launch) (D : va_G) (g k : Nat → Nat) (sz : Nat) (S : MS) (u : XS) (hR : RX S u) (hG : RG S) : Ci l yX0_place cX0_place 1 .int (rm_ 2) D (xt k) (xw g k) sz [.ref (g 0)] u (fun r u2 => r = nI (ms5 S) ∧ u2 = u) := by
  refine st_i (by decide) (Nat.le_of_ble_eq_true rfl) ?_
  intro p e s m below meth c A ls hx hb hr hlocks hF hA hK hP hD hS hl
  have hl : lv_has ls 1 [(0, .ref (g 0))] := hl
  refine lv_aload_n hx hb dX0_place_0 rfl (lv_at hl 0 rfl) ?_
  refine c_i (wf := xw g k) (As := []) (rest := []) hF hA hK hP hD hS (kX0_votePlace l D g k _ S u hR) q134 q136 qs5 q28 q137 hdX0_votePlace rfl rfl ⟨Nat.le_of_ble_eq_true rfl, Nat.le_of_ble_eq_true rfl⟩ rfl rfl rfl hl.1 rfl (Nat.le_of_ble_eq_true rfl) dX0_place_1 ⟨Nat.zero_le _, Nat.zero_le _⟩ (fun r1 u2 H locs hr1 hP hD hS => ?_)
  rw [hr1.2] at hP hD
  refine tx (y := nI (ms5 S)) (hr1.1) ?_
  exact e_i (wf := xw g k) (u := u) hx hb hr hlocks hK hP hD hS dX0_place_4 (⟨rfl, rfl⟩)

set_option maxHeartbeats 4000000 in
set_option maxRecDepth 100000 in
theorem kX0_data (l : Launch) (D : va_G) (g k : Nat → Nat) (sz : Nat) (S : MS) (u : XS) (hR : RX S u) (hG : RG S) (x1 : Int32) : Ci l yX0_data cX0_data 2 .int (rm_ 3) D (xt k) (xw g k) sz [.ref (g 0), .int x1] u (fun r u2 => r = aDat S x1 ∧ u2 = u) := by
  refine st_i (by decide) (Nat.le_of_ble_eq_true rfl) ?_
  intro p e s m below meth c A ls hx hb hr hlocks hF hA hK hP hD hS hl
  have hl : lv_has ls 2 [(0, .ref (g 0)), (1, .int x1)] := hl
  refine lv_iload_n hx hb dX0_data_0 rfl (lv_at hl 1 rfl) ?_
  refine lv_if_lt (tgt := 21) hx hb dX0_data_1 (by decide) (fun c_1 => ?_) (fun c_1 => ?_)
  · have g1 : iv x1 16 = 0 := iv_lt c_1
    refine lv_iconst (v := (-1)) hx hb dX0_data_21 (by decide) ?_
    exact e_i (wf := xw g k) (u := u) hx hb hr hlocks hK hP hD hS dX0_data_22 (⟨(if_neg (by omega)).symm, rfl⟩)
  · refine lv_iload_n hx hb dX0_data_4 rfl (lv_at hl 1 rfl) ?_
    refine lv_bipush (v := 16) hx hb dX0_data_5 (by decide) ?_
    refine lv_icmp_ge (tgt := 21) hx hb dX0_data_7 (by decide) (fun c_7 => ?_) (fun c_7 => ?_)
    · have g1 : iv x1 16 = 0 := iv_ge c_1 c_7
      refine lv_iconst (v := (-1)) hx hb dX0_data_21 (by decide) ?_
      exact e_i (wf := xw g k) (u := u) hx hb hr hlocks hK hP hD hS dX0_data_22 (⟨(if_neg (by omega)).symm, rfl⟩)
    · have g1 : iv x1 16 = 1 := iv_in c_1 c_7
      obtain ⟨j1, hj1, rfl⟩ := iv_of g1 (by decide)
      refine lv_aload_n hx hb dX0_data_10 rfl (lv_at hl 0 rfl) ?_
      refine lv_bipush (v := 32) hx hb dX0_data_11 (by decide) ?_
      refine lv_iload_n hx hb dX0_data_13 rfl (lv_at hl 1 rfl) ?_
      refine lv_iadd hx hb dX0_data_14 ?_
      refine tx (y := nI (32 + j1)) (nI_add _ _) ?_
      refine c_i (wf := xw g k) (As := [.int (nI (32 + j1))]) (rest := []) hF hA hK hP hD hS (kX0_readWord l D g k _ S u hR hG (32 + j1) (by omega)) q153 q155 qs9 q28 q156 hdX0_readWord rfl rfl ⟨Nat.le_of_ble_eq_true rfl, Nat.le_of_ble_eq_true rfl⟩ rfl rfl rfl hl.1 rfl (Nat.le_of_ble_eq_true rfl) dX0_data_15 ⟨Nat.zero_le _, Nat.zero_le _⟩ (fun r1 u2 H locs hr1 hP hD hS => ?_)
      rw [hr1.2] at hP hD
      refine tx (y := nI (wd S (32 + j1))) (hr1.1) ?_
      refine lv_goto (tgt := 22) hx hb dX0_data_18 (by decide) ?_
      exact e_i (wf := xw g k) (u := u) hx hb hr hlocks hK hP hD hS dX0_data_22 (⟨by unfold aDat; rw [if_pos g1, cl_n (by omega), wd_cell], rfl⟩)

set_option maxHeartbeats 4000000 in
set_option maxRecDepth 100000 in
theorem kX0_outs (l : Launch) (D : va_G) (g k : Nat → Nat) (sz : Nat) (S : MS) (u : XS) (hR : RX S u) (hG : RG S) : Ci l yX0_outs cX0_outs 1 .int (rm_ 0) D (xt k) (xw g k) sz [.ref (g 0)] u (fun r u2 => r = nI (ms6 S) ∧ u2 = u) := by
  refine st_i (by decide) (Nat.le_of_ble_eq_true rfl) ?_
  intro p e s m below meth c A ls hx hb hr hlocks hF hA hK hP hD hS hl
  have hl : lv_has ls 1 [(0, .ref (g 0))] := hl
  refine lv_aload_n hx hb dX0_outs_0 rfl (lv_at hl 0 rfl) ?_
  refine x_get (v := .int (xs10 u)) hF hK hP 0 rfl 10 (by decide) q67 rfl rfl dX0_outs_1 ?_
  exact e_i (wf := xw g k) (u := u) hx hb hr hlocks hK hP hD hS dX0_outs_4 (⟨hR.oc, rfl⟩)

set_option maxHeartbeats 4000000 in
set_option maxRecDepth 100000 in
theorem kX0_out (l : Launch) (D : va_G) (g k : Nat → Nat) (sz : Nat) (S : MS) (u : XS) (hR : RX S u) (hG : RG S) (x1 : Int32) : Ci l yX0_out cX0_out 2 .int (rm_ 0) D (xt k) (xw g k) sz [.ref (g 0), .int x1] u (fun r u2 => r = aOut S x1 ∧ u2 = u) := by
  refine st_i (by decide) (Nat.le_of_ble_eq_true rfl) ?_
  intro p e s m below meth c A ls hx hb hr hlocks hF hA hK hP hD hS hl
  have hl : lv_has ls 2 [(0, .ref (g 0)), (1, .int x1)] := hl
  have hg6 := hG.2.2.2.2.1
  refine lv_iload_n hx hb dX0_out_0 rfl (lv_at hl 1 rfl) ?_
  refine lv_if_lt (tgt := 25) hx hb dX0_out_1 (by decide) (fun c_1 => ?_) (fun c_1 => ?_)
  · refine lv_iconst (v := (-1)) hx hb dX0_out_25 (by decide) ?_
    exact e_i (wf := xw g k) (u := u) hx hb hr hlocks hK hP hD hS dX0_out_26 (⟨(if_pos c_1).symm, rfl⟩)
  · refine lv_iload_n hx hb dX0_out_4 rfl (lv_at hl 1 rfl) ?_
    refine lv_aload_n hx hb dX0_out_5 rfl (lv_at hl 0 rfl) ?_
    refine x_get (v := .int (xs10 u)) hF hK hP 0 rfl 10 (by decide) q67 rfl rfl dX0_out_6 ?_
    refine tx (y := nI (ms6 S)) (hR.oc) ?_
    refine lv_icmp_ge (tgt := 25) hx hb dX0_out_9 (by decide) (fun c_9 => ?_) (fun c_9 => ?_)
    · refine lv_iconst (v := (-1)) hx hb dX0_out_25 (by decide) ?_
      exact e_i (wf := xw g k) (u := u) hx hb hr hlocks hK hP hD hS dX0_out_26 (⟨by unfold aOut; rw [if_neg c_1, if_pos c_9], rfl⟩)
    · obtain ⟨j1, hj31, rfl⟩ := nI_of c_1
      have hj6 : j1 < ms6 S := nle_of c_9
      refine lv_aload_n hx hb dX0_out_12 rfl (lv_at hl 0 rfl) ?_
      refine x_get (v := .ref (g 7)) hF hK hP 0 rfl 11 (by decide) q68 rfl rfl dX0_out_13 ?_
      refine lv_iload_n hx hb dX0_out_16 rfl (lv_at hl 1 rfl) ?_
      refine n_bald (v := (nI (ms7 S j1)).toInt8.toInt32) hx hb hK hP 7 6 rfl rfl j1 (rfl) (by omega) (by decide) (hR.ol (by omega)) dX0_out_17 ?_
      refine lv_sipush (v := 255) hx hb dX0_out_18 (by decide) ?_
      refine lv_iand hx hb dX0_out_21 ?_
      refine tx (y := nI (ms7 S j1)) (sc_k8 _ (hG.2.2.2.2.2.1 j1 (by omega))) ?_
      refine lv_goto (tgt := 26) hx hb dX0_out_22 (by decide) ?_
      exact e_i (wf := xw g k) (u := u) hx hb hr hlocks hK hP hD hS dX0_out_26 (⟨by unfold aOut; rw [if_neg c_1, if_neg c_9, cl_n hj31], rfl⟩)

set_option maxHeartbeats 4000000 in
set_option maxRecDepth 100000 in
theorem kX0_stopped (l : Launch) (D : va_G) (g k : Nat → Nat) (sz : Nat) (S : MS) (u : XS) (hR : RX S u) (hG : RG S) : Ci l yX0_stopped cX0_stopped 1 .boolean (rm_ 0) D (xt k) (xw g k) sz [.ref (g 0)] u (fun r u2 => r = nI (ms8 S) ∧ u2 = u) := by
  refine st_i (by decide) (Nat.le_of_ble_eq_true rfl) ?_
  intro p e s m below meth c A ls hx hb hr hlocks hF hA hK hP hD hS hl
  have hl : lv_has ls 1 [(0, .ref (g 0))] := hl
  refine lv_aload_n hx hb dX0_stopped_0 rfl (lv_at hl 0 rfl) ?_
  refine x_get (v := .int (xs9 u)) hF hK hP 0 rfl 9 (by decide) q66 rfl rfl dX0_stopped_1 ?_
  refine tx (y := nI (ms8 S)) (hR.st) ?_
  exact e_z (wf := xw g k) (u := u) hx hb hr hlocks hK hP hD hS dX0_stopped_4 (nzb hG.2.2.2.2.2.2.1) (⟨rfl, rfl⟩)

set_option maxHeartbeats 4000000 in
set_option maxRecDepth 100000 in
theorem kX0_spoiled (l : Launch) (D : va_G) (g k : Nat → Nat) (sz : Nat) (S : MS) (u : XS) (hR : RX S u) (hG : RG S) : Ci l yX0_spoiled cX0_spoiled 3 .int (rm_ 0) D (xt k) (xw g k) sz [.ref (g 0)] u (fun r u2 => r = nI (cnt (ms10 S) 48) ∧ u2 = u) := by
  refine st_i (by decide) (Nat.le_of_ble_eq_true rfl) ?_
  intro p e s m below meth c A ls hx hb hr hlocks hF hA hK hP hD hS hl
  have hl : lv_has ls 3 [(0, .ref (g 0))] := hl
  refine lv_iconst (v := 0) hx hb dX0_spoiled_0 (by decide) ?_
  refine tx (y := nI (cnt (ms10 S) 0)) (rfl) ?_
  refine lv_istore_n (lv' := [(1, .int (nI (cnt (ms10 S) 0))), (0, .ref (g 0))]) hx hb dX0_spoiled_1 rfl hl (by decide) rfl (fun ls hl => ?_)
  refine lv_iconst (v := 0) hx hb dX0_spoiled_2 (by decide) ?_
  refine lv_istore_n (lv' := [(2, .int 0), (1, .int (nI (cnt (ms10 S) 0))), (0, .ref (g 0))]) hx hb dX0_spoiled_3 rfl hl (by decide) rfl (fun ls hl => ?_)
  refine lp_p (fun i ls => lv_has ls 3 [(0, .ref (g 0)), (1, .int (nI (cnt (ms10 S) i))), (2, .int (nI i))]) 48 ?_ 0 ls (by omega) (lv_sub hl [2, 1, 0] rfl)
  intro i ls hi hI ih
  have hl := hI
  have hl : lv_has ls 3 [(0, .ref (g 0)), (1, .int (nI (cnt (ms10 S) i))), (2, .int (nI i))] := hl
  refine lv_iload_n hx hb dX0_spoiled_4 rfl (lv_at hl 2 rfl) ?_
  refine lv_bipush (v := 48) hx hb dX0_spoiled_5 (by decide) ?_
  refine lv_icmp_ge (tgt := 33) hx hb dX0_spoiled_7 (by decide) (fun c_7 => ?_) (fun c_7 => ?_)
  · have hin : i = 48 := by have := le_of (a := 48) c_7; omega
    refine lv_iload_n hx hb dX0_spoiled_33 rfl (lv_at hl 1 rfl) ?_
    exact e_i (wf := xw g k) (u := u) hx hb hr hlocks hK hP hD hS dX0_spoiled_34 (⟨by rw [hin], rfl⟩)
  · have hlt : i < 48 := nle_of (a := 48) c_7
    have hsp1 := hG.2.2.2.2.2.2.2.1 i hlt
    refine lv_iload_n hx hb dX0_spoiled_10 rfl (lv_at hl 1 rfl) ?_
    refine lv_aload_n hx hb dX0_spoiled_11 rfl (lv_at hl 0 rfl) ?_
    refine x_get (v := .ref (g 6)) hF hK hP 0 rfl 7 (by decide) q64 rfl rfl dX0_spoiled_12 ?_
    refine lv_iload_n hx hb dX0_spoiled_15 rfl (lv_at hl 2 rfl) ?_
    refine n_zald (v := nI (ms10 S i)) hx hb hK hP 6 5 rfl rfl i (rfl) (by omega) (by decide) (hR.sp hlt) dX0_spoiled_16 ?_
    refine lv_if_eq (tgt := 24) hx hb dX0_spoiled_17 (by decide) (fun c_17 => ?_) (fun c_17 => ?_)
    · have h0 : ms10 S i = 0 := eq_of (c_17.trans nI_0.symm) (by omega) (by decide)
      refine lv_iconst (v := 0) hx hb dX0_spoiled_24 (by decide) ?_
      refine lv_iadd hx hb dX0_spoiled_25 ?_
      refine tx (y := nI (cnt (ms10 S) (i + 1))) ((nI_add _ 0).trans (by rw [show cnt (ms10 S) (i + 1) = cnt (ms10 S) i + ms10 S i from rfl, h0])) ?_
      refine lv_istore_n (lv' := [(1, .int (nI (cnt (ms10 S) (i + 1)))), (0, .ref (g 0)), (2, .int (nI i))]) hx hb dX0_spoiled_26 rfl hl (by decide) rfl (fun ls hl => ?_)
      refine lv_iinc (v := nI (i + 1)) (lv' := [(2, .int (nI (i + 1))), (1, .int (nI (cnt (ms10 S) (i + 1)))), (0, .ref (g 0))]) (k := 2) hx hb dX0_spoiled_27 hl rfl (nI_1 _) (by decide) rfl (fun ls hl => ?_)
      refine lv_goto (tgt := 4) hx hb dX0_spoiled_30 (by decide) ?_
      exact ih (hlt) ls (lv_sub hl [2, 1, 0] rfl)
    · have h0 : ms10 S i = 1 := by have : ¬ ms10 S i = 0 := fun q => c_17 (by rw [q]; rfl); omega
      refine lv_iconst (v := 1) hx hb dX0_spoiled_20 (by decide) ?_
      refine lv_goto (tgt := 25) hx hb dX0_spoiled_21 (by decide) ?_
      refine lv_iadd hx hb dX0_spoiled_25 ?_
      refine tx (y := nI (cnt (ms10 S) (i + 1))) ((nI_add _ 1).trans (by rw [show cnt (ms10 S) (i + 1) = cnt (ms10 S) i + ms10 S i from rfl, h0])) ?_
      refine lv_istore_n (lv' := [(1, .int (nI (cnt (ms10 S) (i + 1)))), (0, .ref (g 0)), (2, .int (nI i))]) hx hb dX0_spoiled_26 rfl hl (by decide) rfl (fun ls hl => ?_)
      refine lv_iinc (v := nI (i + 1)) (lv' := [(2, .int (nI (i + 1))), (1, .int (nI (cnt (ms10 S) (i + 1)))), (0, .ref (g 0))]) (k := 2) hx hb dX0_spoiled_27 hl rfl (nI_1 _) (by decide) rfl (fun ls hl => ?_)
      refine lv_goto (tgt := 4) hx hb dX0_spoiled_30 (by decide) ?_
      exact ih (hlt) ls (lv_sub hl [2, 1, 0] rfl)
end
section
/-! helpers for the plain machine's walks -/
theorem nI_sub255 {x y : Nat} (hy : y < 256) : (nI x - nI y) &&& 255 = nI ((x + 256 - y) % 256) := by
  have e : nI x - nI y = nI (2 ^ 32 - y % 2 ^ 32 + x) := by
    apply Int32.toBitVec_inj.1
    show BitVec.ofNat 32 x - BitVec.ofNat 32 y = BitVec.ofNat 32 (2 ^ 32 - y % 2 ^ 32 + x)
    exact BitVec.ofNat_sub_ofNat _ _
  rw [e, nI_and255]
  congr 1
  omega
theorem br_0 {U : MS} {op r n a : Nat} (h : op = 0) : brS U op r n a = (mu8 U 1, (a + 1) % 32) := if_pos h
theorem br_2 {U : MS} {op r n a : Nat} (h : op = 2) : brS U op r n a = (useS U (n % 16) r 0, (a + 1) % 32) := by
  subst h; rfl
theorem br_3 {U : MS} {op r n a : Nat} (h : op = 3) : brS U op r n a = (useS U (n % 16) r 1, (a + 1) % 32) := by
  subst h; rfl
theorem br_12 {U : MS} {op r n a : Nat} (h : op = 12) : brS U op r n a = (useS U (ms0 U (n % 4) % 16) r 0, (a + 1) % 32) := by
  subst h; rfl
theorem br_13 {U : MS} {op r n a : Nat} (h : op = 13) : brS U op r n a = (useS U (ms0 U (n % 4) % 16) r 1, (a + 1) % 32) := by
  subst h; rfl
theorem br_11 {U : MS} {op r n a : Nat} (h : op = 11) : brS U op r n a = (outS U (ms0 U r), (a + 1) % 32) := by
  subst h; rfl
theorem br_9 {U : MS} {op r n a : Nat} (h : op = 9) : brS U op r n a = (U, n % 32) := by
  subst h; rfl
theorem br_10 {U : MS} {op r n a : Nat} (h : op = 10) (h0 : ms0 U r = 0) : brS U op r n a = (U, n % 32) := by
  subst h; exact if_pos (Or.inr ⟨rfl, h0⟩)
theorem br_e {U : MS} {op r n a : Nat} (h0 : op ≠ 0) (h2 : op ≠ 2) (h3 : op ≠ 3) (h12 : op ≠ 12) (h13 : op ≠ 13) (h11 : op ≠ 11) (h9 : op ≠ 9) (h10 : ¬ (op = 10 ∧ ms0 U r = 0)) : brS U op r n a = (mu0 U (va_up (ms0 U) r (clc op (ms0 U r) (ms0 U (n % 4)) n)), (a + 1) % 32) := by
  unfold brS
  rw [if_neg h0, if_neg (by omega), if_neg (by omega), if_neg h11, if_neg (fun q => q.elim h9 h10)]
theorem use_5 (T : MS) (q r wr : Nat) : ms5 (useS T q r wr) = ms5 T := by
  unfold useS
  split <;> rfl
theorem out_5 (T : MS) (v : Nat) : ms5 (outS T v) = ms5 T := by
  unfold outS
  split <;> rfl
theorem br_5 (U : MS) (op r n a : Nat) : ms5 (brS U op r n a).1 = ms5 U := by
  unfold brS
  split
  · rfl
  · split
    · exact use_5 _ _ _ _
    · split
      · exact use_5 _ _ _ _
      · split
        · exact out_5 _ _
        · split <;> rfl
/-- what a step's middle keeps -/
theorem br_inv {S T : MS} {on : Nat} (h : RG S) (hb : brS (unsp S (ms5 S)) (ms2 S (ms5 S)) (ms3 S (ms5 S)) (ms4 S (ms5 S)) (ms5 S) = (T, on)) : ms8 T ≤ 1 ∧ ms5 T = ms5 S ∧ ms9 T = ms9 S := by
  have h5 := h.2.2.2.1
  have h2 := h.2.2.1 (ms5 S) h5
  obtain ⟨g1, g2, g3⟩ := RG.br (RG.uns h (ms5 S)) (op := ms2 S (ms5 S)) (a := ms5 S) h2.2.1 h2.2.2 h5
  have g4 := br_5 (unsp S (ms5 S)) (ms2 S (ms5 S)) (ms3 S (ms5 S)) (ms4 S (ms5 S)) (ms5 S)
  rw [hb] at g1 g3 g4
  exact ⟨g1.2.2.2.2.2.2.1, g4, g3⟩
theorem once_T {S T : MS} {on x : Nat} (hb : brS (unsp S (ms5 S)) (ms2 S (ms5 S)) (ms3 S (ms5 S)) (ms4 S (ms5 S)) (ms5 S) = (T, on)) (hx : (if ms8 T = 1 then ms5 S else on) = x) : mu11 (mu9 (mu10 (mu5 T x) (va_up (ms10 T) (ms9 T % 48) 0)) (ms9 T + 1)) (z6 (ms11 T)) = onceS S := by
  unfold onceS
  rw [hb]
  unfold endS
  dsimp only
  rw [hx]
theorem oHit_le (S : MS) (w : Nat) (q : Int32) (ok : Nat) : (oHit S w q ok).1 ≤ 1 := by unfold oHit; split <;> simp
theorem b_0 {a : Nat} (h : a ≤ 1) (q : nI a = 0) : a = 0 := eq_of (q.trans nI_0.symm) (by omega) (by decide)
theorem b_1 {a : Nat} (h : a ≤ 1) (q : ¬ nI a = 0) : a = 1 := by
  have : ¬ a = 0 := fun z => q (by rw [z]; rfl)
  omega
theorem upd_z0 (f : Nat → Nat) (j : Nat) : upd (nf f) j (vp_nar .boolean 0) = nf (va_up f j 0) := by
  rw [show vp_nar .boolean 0 = nI 0 by decide]
  exact upd_nf f j 0
theorem upd_z1 (f : Nat → Nat) (j : Nat) : upd (nf f) j (vp_nar .boolean 1) = nf (va_up f j 1) := by
  rw [show vp_nar .boolean 1 = nI 1 by decide]
  exact upd_nf f j 1
end
section
/-! SHIELDEDMACHINEMODEL: all its methods but the constructor; its world is the pure state itself -/
set_option maxHeartbeats 4000000 in
set_option maxRecDepth 100000 in
theorem kX1_isByte (l : Launch) (h : Nat) (x : Int32) : Cp l yX1_isByte cX1_isByte 2 .boolean (rm_ 0) [.ref h, .int x] (fun r => r = nI (iv x 256)) := by
  refine st_p (by decide) (Nat.le_of_ble_eq_true rfl) ?_
  intro p e s m below meth c ls hx hb hr hlocks hF hl
  have hl : lv_has ls 2 [(0, .ref h), (1, .int x)] := hl
  refine lv_iload_n hx hb dX1_isByte_0 rfl (lv_at hl 1 rfl) ?_
  refine lv_if_lt (tgt := 15) hx hb dX1_isByte_1 (by decide) (fun c_1 => ?_) (fun c_1 => ?_)
  · refine lv_iconst (v := 0) hx hb dX1_isByte_15 (by decide) ?_
    exact e_pz hx hb hr hlocks dX1_isByte_16 (rfl) (by rw [iv_lt c_1]; rfl)
  · refine lv_iload_n hx hb dX1_isByte_4 rfl (lv_at hl 1 rfl) ?_
    refine lv_sipush (v := 255) hx hb dX1_isByte_5 (by decide) ?_
    refine lv_icmp_gt (tgt := 15) hx hb dX1_isByte_8 (by decide) (fun c_8 => ?_) (fun c_8 => ?_)
    · refine lv_iconst (v := 0) hx hb dX1_isByte_15 (by decide) ?_
      exact e_pz hx hb hr hlocks dX1_isByte_16 (rfl) (by rw [iv_gt (n := 255) c_1 c_8 (by decide)]; rfl)
    · refine lv_iconst (v := 1) hx hb dX1_isByte_11 (by decide) ?_
      refine lv_goto (tgt := 16) hx hb dX1_isByte_12 (by decide) ?_
      exact e_pz hx hb hr hlocks dX1_isByte_16 (rfl) (by rw [iv_le (n := 255) c_1 c_8 (by decide)]; rfl)

set_option maxHeartbeats 4000000 in
set_option maxRecDepth 100000 in
theorem kX1_isRegister (l : Launch) (h : Nat) (x : Int32) : Cp l yX1_isRegister cX1_isRegister 2 .boolean (rm_ 0) [.ref h, .int x] (fun r => r = nI (iv x 4)) := by
  refine st_p (by decide) (Nat.le_of_ble_eq_true rfl) ?_
  intro p e s m below meth c ls hx hb hr hlocks hF hl
  have hl : lv_has ls 2 [(0, .ref h), (1, .int x)] := hl
  refine lv_iload_n hx hb dX1_isRegister_0 rfl (lv_at hl 1 rfl) ?_
  refine lv_if_lt (tgt := 13) hx hb dX1_isRegister_1 (by decide) (fun c_1 => ?_) (fun c_1 => ?_)
  · refine lv_iconst (v := 0) hx hb dX1_isRegister_13 (by decide) ?_
    exact e_pz hx hb hr hlocks dX1_isRegister_14 (rfl) (by rw [iv_lt c_1]; rfl)
  · refine lv_iload_n hx hb dX1_isRegister_4 rfl (lv_at hl 1 rfl) ?_
    refine lv_iconst (v := 3) hx hb dX1_isRegister_5 (by decide) ?_
    refine lv_icmp_gt (tgt := 13) hx hb dX1_isRegister_6 (by decide) (fun c_6 => ?_) (fun c_6 => ?_)
    · refine lv_iconst (v := 0) hx hb dX1_isRegister_13 (by decide) ?_
      exact e_pz hx hb hr hlocks dX1_isRegister_14 (rfl) (by rw [iv_gt (n := 3) c_1 c_6 (by decide)]; rfl)
    · refine lv_iconst (v := 1) hx hb dX1_isRegister_9 (by decide) ?_
      refine lv_goto (tgt := 14) hx hb dX1_isRegister_10 (by decide) ?_
      exact e_pz hx hb hr hlocks dX1_isRegister_14 (rfl) (by rw [iv_le (n := 3) c_1 c_6 (by decide)]; rfl)

set_option maxHeartbeats 4000000 in
set_option maxRecDepth 100000 in
theorem kX1_isCell (l : Launch) (h : Nat) (x : Int32) : Cp l yX1_isCell cX1_isCell 2 .boolean (rm_ 0) [.ref h, .int x] (fun r => r = nI (iv x 16)) := by
  refine st_p (by decide) (Nat.le_of_ble_eq_true rfl) ?_
  intro p e s m below meth c ls hx hb hr hlocks hF hl
  have hl : lv_has ls 2 [(0, .ref h), (1, .int x)] := hl
  refine lv_iload_n hx hb dX1_isCell_0 rfl (lv_at hl 1 rfl) ?_
  refine lv_if_lt (tgt := 14) hx hb dX1_isCell_1 (by decide) (fun c_1 => ?_) (fun c_1 => ?_)
  · refine lv_iconst (v := 0) hx hb dX1_isCell_14 (by decide) ?_
    exact e_pz hx hb hr hlocks dX1_isCell_15 (rfl) (by rw [iv_lt c_1]; rfl)
  · refine lv_iload_n hx hb dX1_isCell_4 rfl (lv_at hl 1 rfl) ?_
    refine lv_bipush (v := 15) hx hb dX1_isCell_5 (by decide) ?_
    refine lv_icmp_gt (tgt := 14) hx hb dX1_isCell_7 (by decide) (fun c_7 => ?_) (fun c_7 => ?_)
    · refine lv_iconst (v := 0) hx hb dX1_isCell_14 (by decide) ?_
      exact e_pz hx hb hr hlocks dX1_isCell_15 (rfl) (by rw [iv_gt (n := 15) c_1 c_7 (by decide)]; rfl)
    · refine lv_iconst (v := 1) hx hb dX1_isCell_10 (by decide) ?_
      refine lv_goto (tgt := 15) hx hb dX1_isCell_11 (by decide) ?_
      exact e_pz hx hb hr hlocks dX1_isCell_15 (rfl) (by rw [iv_le (n := 15) c_1 c_7 (by decide)]; rfl)

set_option maxHeartbeats 4000000 in
set_option maxRecDepth 100000 in
theorem kX1_isPlace (l : Launch) (h : Nat) (x : Int32) : Cp l yX1_isPlace cX1_isPlace 2 .boolean (rm_ 0) [.ref h, .int x] (fun r => r = nI (iv x 32)) := by
  refine st_p (by decide) (Nat.le_of_ble_eq_true rfl) ?_
  intro p e s m below meth c ls hx hb hr hlocks hF hl
  have hl : lv_has ls 2 [(0, .ref h), (1, .int x)] := hl
  refine lv_iload_n hx hb dX1_isPlace_0 rfl (lv_at hl 1 rfl) ?_
  refine lv_if_lt (tgt := 14) hx hb dX1_isPlace_1 (by decide) (fun c_1 => ?_) (fun c_1 => ?_)
  · refine lv_iconst (v := 0) hx hb dX1_isPlace_14 (by decide) ?_
    exact e_pz hx hb hr hlocks dX1_isPlace_15 (rfl) (by rw [iv_lt c_1]; rfl)
  · refine lv_iload_n hx hb dX1_isPlace_4 rfl (lv_at hl 1 rfl) ?_
    refine lv_bipush (v := 31) hx hb dX1_isPlace_5 (by decide) ?_
    refine lv_icmp_gt (tgt := 14) hx hb dX1_isPlace_7 (by decide) (fun c_7 => ?_) (fun c_7 => ?_)
    · refine lv_iconst (v := 0) hx hb dX1_isPlace_14 (by decide) ?_
      exact e_pz hx hb hr hlocks dX1_isPlace_15 (rfl) (by rw [iv_gt (n := 31) c_1 c_7 (by decide)]; rfl)
    · refine lv_iconst (v := 1) hx hb dX1_isPlace_10 (by decide) ?_
      refine lv_goto (tgt := 15) hx hb dX1_isPlace_11 (by decide) ?_
      exact e_pz hx hb hr hlocks dX1_isPlace_15 (rfl) (by rw [iv_le (n := 31) c_1 c_7 (by decide)]; rfl)

set_option maxHeartbeats 4000000 in
set_option maxRecDepth 100000 in
theorem kX1_isMask (l : Launch) (h : Nat) (x : Int32) : Cp l yX1_isMask cX1_isMask 2 .boolean (rm_ 0) [.ref h, .int x] (fun r => r = nI (ivm x 255)) := by
  refine st_p (by decide) (Nat.le_of_ble_eq_true rfl) ?_
  intro p e s m below meth c ls hx hb hr hlocks hF hl
  have hl : lv_has ls 2 [(0, .ref h), (1, .int x)] := hl
  refine lv_iload_n hx hb dX1_isMask_0 rfl (lv_at hl 1 rfl) ?_
  refine lv_iconst (v := 1) hx hb dX1_isMask_1 (by decide) ?_
  refine lv_icmp_lt (tgt := 16) hx hb dX1_isMask_2 (by decide) (fun c_2 => ?_) (fun c_2 => ?_)
  · refine lv_iconst (v := 0) hx hb dX1_isMask_16 (by decide) ?_
    exact e_pz hx hb hr hlocks dX1_isMask_17 (rfl) (by rw [ivm_lt c_2]; rfl)
  · refine lv_iload_n hx hb dX1_isMask_5 rfl (lv_at hl 1 rfl) ?_
    refine lv_sipush (v := 255) hx hb dX1_isMask_6 (by decide) ?_
    refine lv_icmp_gt (tgt := 16) hx hb dX1_isMask_9 (by decide) (fun c_9 => ?_) (fun c_9 => ?_)
    · refine lv_iconst (v := 0) hx hb dX1_isMask_16 (by decide) ?_
      exact e_pz hx hb hr hlocks dX1_isMask_17 (rfl) (by rw [ivm_gt (n := 255) c_2 c_9]; rfl)
    · refine lv_iconst (v := 1) hx hb dX1_isMask_12 (by decide) ?_
      refine lv_goto (tgt := 17) hx hb dX1_isMask_13 (by decide) ?_
      exact e_pz hx hb hr hlocks dX1_isMask_17 (rfl) (by rw [ivm_in (n := 255) c_2 c_9]; rfl)

set_option maxHeartbeats 4000000 in
set_option maxRecDepth 100000 in
theorem kX1_calculated (l : Launch) (h op xx yy nn : Nat) (hop : op < 2 ^ 31) (hxx : xx < 256) (hyy : yy < 256) : Cp l yX1_calculated cX1_calculated 5 .int (rm_ 0) [.ref h, .int (nI op), .int (nI xx), .int (nI yy), .int (nI nn)] (fun r => r = nI (clc op xx yy nn)) := by
  refine st_p (by decide) (Nat.le_of_ble_eq_true rfl) ?_
  intro p e s m below meth c ls hx hb hr hlocks hF hl
  have hl : lv_has ls 5 [(0, .ref h), (1, .int (nI op)), (2, .int (nI xx)), (3, .int (nI yy)), (4, .int (nI nn))] := hl
  refine lv_iload_n hx hb dX1_calculated_0 rfl (lv_at hl 1 rfl) ?_
  refine lv_iconst (v := 1) hx hb dX1_calculated_1 (by decide) ?_
  refine lv_icmp_ne (tgt := 10) hx hb dX1_calculated_2 (by decide) (fun c_2 => ?_) (fun c_2 => ?_)
  · have h_1 : ¬ op = 1 := fun z => c_2 (by rw [z]; rfl)
    refine lv_iload_n hx hb dX1_calculated_10 rfl (lv_at hl 1 rfl) ?_
    refine lv_iconst (v := 4) hx hb dX1_calculated_11 (by decide) ?_
    refine lv_icmp_ne (tgt := 25) hx hb dX1_calculated_12 (by decide) (fun c_12 => ?_) (fun c_12 => ?_)
    · have h_4 : ¬ op = 4 := fun z => c_12 (by rw [z]; rfl)
      refine lv_iload_n hx hb dX1_calculated_25 rfl (lv_at hl 1 rfl) ?_
      refine lv_iconst (v := 5) hx hb dX1_calculated_26 (by decide) ?_
      refine lv_icmp_ne (tgt := 40) hx hb dX1_calculated_27 (by decide) (fun c_27 => ?_) (fun c_27 => ?_)
      · have h_5 : ¬ op = 5 := fun z => c_27 (by rw [z]; rfl)
        refine lv_iload_n hx hb dX1_calculated_40 rfl (lv_at hl 1 rfl) ?_
        refine lv_bipush (v := 6) hx hb dX1_calculated_41 (by decide) ?_
        refine lv_icmp_ne (tgt := 52) hx hb dX1_calculated_43 (by decide) (fun c_43 => ?_) (fun c_43 => ?_)
        · have h_6 : ¬ op = 6 := fun z => c_43 (by rw [z]; rfl)
          refine lv_iload_n hx hb dX1_calculated_52 rfl (lv_at hl 1 rfl) ?_
          refine lv_bipush (v := 7) hx hb dX1_calculated_53 (by decide) ?_
          refine lv_icmp_ne (tgt := 64) hx hb dX1_calculated_55 (by decide) (fun c_55 => ?_) (fun c_55 => ?_)
          · have h_7 : ¬ op = 7 := fun z => c_55 (by rw [z]; rfl)
            refine lv_iload_n hx hb dX1_calculated_64 rfl (lv_at hl 1 rfl) ?_
            refine lv_bipush (v := 8) hx hb dX1_calculated_65 (by decide) ?_
            refine lv_icmp_ne (tgt := 76) hx hb dX1_calculated_67 (by decide) (fun c_67 => ?_) (fun c_67 => ?_)
            · have h_8 : ¬ op = 8 := fun z => c_67 (by rw [z]; rfl)
              refine lv_iload_n hx hb dX1_calculated_76 rfl (lv_at hl 2 rfl) ?_
              exact e_pi hx hb hr hlocks dX1_calculated_77 (by unfold clc; rw [if_neg h_1, if_neg h_4, if_neg h_5, if_neg h_6, if_neg h_7, if_neg h_8])
            · have h_8 : op = 8 := eq_of (b := 8) c_67
              refine lv_iload_n hx hb dX1_calculated_70 rfl (lv_at hl 2 rfl) ?_
              refine lv_iconst (v := 2) hx hb dX1_calculated_71 (by decide) ?_
              refine lv_idiv hx hb dX1_calculated_72 (by decide) ?_
              refine tx (y := nI (xx / 2)) (pk_div (d := 2) (by omega) (by decide) (by decide)) ?_
              refine lv_goto (tgt := 77) hx hb dX1_calculated_73 (by decide) ?_
              exact e_pi hx hb hr hlocks dX1_calculated_77 (by unfold clc; rw [if_neg h_1, if_neg h_4, if_neg h_5, if_neg h_6, if_neg h_7, if_pos h_8])
          · have h_7 : op = 7 := eq_of (b := 7) c_55
            refine lv_iload_n hx hb dX1_calculated_58 rfl (lv_at hl 2 rfl) ?_
            refine lv_iload_n hx hb dX1_calculated_59 rfl (lv_at hl 3 rfl) ?_
            refine lv_ixor hx hb dX1_calculated_60 ?_
            refine tx (y := nI (xx ^^^ yy)) (nx_xor _ _) ?_
            refine lv_goto (tgt := 77) hx hb dX1_calculated_61 (by decide) ?_
            exact e_pi hx hb hr hlocks dX1_calculated_77 (by unfold clc; rw [if_neg h_1, if_neg h_4, if_neg h_5, if_neg h_6, if_pos h_7])
        · have h_6 : op = 6 := eq_of (b := 6) c_43
          refine lv_iload_n hx hb dX1_calculated_46 rfl (lv_at hl 2 rfl) ?_
          refine lv_iload_n hx hb dX1_calculated_47 rfl (lv_at hl 3 rfl) ?_
          refine lv_iand hx hb dX1_calculated_48 ?_
          refine tx (y := nI (xx &&& yy)) (nx_and _ _) ?_
          refine lv_goto (tgt := 77) hx hb dX1_calculated_49 (by decide) ?_
          exact e_pi hx hb hr hlocks dX1_calculated_77 (by unfold clc; rw [if_neg h_1, if_neg h_4, if_neg h_5, if_pos h_6])
      · have h_5 : op = 5 := eq_of (b := 5) c_27
        refine lv_iload_n hx hb dX1_calculated_30 rfl (lv_at hl 2 rfl) ?_
        refine lv_iload_n hx hb dX1_calculated_31 rfl (lv_at hl 3 rfl) ?_
        refine lv_isub hx hb dX1_calculated_32 ?_
        refine lv_sipush (v := 255) hx hb dX1_calculated_33 (by decide) ?_
        refine lv_iand hx hb dX1_calculated_36 ?_
        refine tx (y := nI ((xx + 256 - yy) % 256)) (nI_sub255 hyy) ?_
        refine lv_goto (tgt := 77) hx hb dX1_calculated_37 (by decide) ?_
        exact e_pi hx hb hr hlocks dX1_calculated_77 (by unfold clc; rw [if_neg h_1, if_neg h_4, if_pos h_5])
    · have h_4 : op = 4 := eq_of (b := 4) c_12
      refine lv_iload_n hx hb dX1_calculated_15 rfl (lv_at hl 2 rfl) ?_
      refine lv_iload_n hx hb dX1_calculated_16 rfl (lv_at hl 3 rfl) ?_
      refine lv_iadd hx hb dX1_calculated_17 ?_
      refine tx (y := nI (xx + yy)) (nI_add _ _) ?_
      refine lv_sipush (v := 255) hx hb dX1_calculated_18 (by decide) ?_
      refine lv_iand hx hb dX1_calculated_21 ?_
      refine tx (y := nI ((xx + yy) % 256)) (nI_and255 _) ?_
      refine lv_goto (tgt := 77) hx hb dX1_calculated_22 (by decide) ?_
      exact e_pi hx hb hr hlocks dX1_calculated_77 (by unfold clc; rw [if_neg h_1, if_pos h_4])
  · have h_1 : op = 1 := eq_of (b := 1) c_2
    refine lv_iload hx hb dX1_calculated_5 (lv_at hl 4 rfl) ?_
    refine lv_goto (tgt := 77) hx hb dX1_calculated_7 (by decide) ?_
    exact e_pi hx hb hr hlocks dX1_calculated_77 (by unfold clc; rw [if_pos h_1])

set_option maxHeartbeats 4000000 in
set_option maxRecDepth 100000 in
theorem kX1_useCell (l : Launch) (D : va_G) (g k : Nat → Nat) (sz : Nat) (S : MS) (qi ri wr : Nat) (hqi : qi < 16) (hri : ri < 4) (hwr : wr ≤ 1) : Cv l yX1_useCell cX1_useCell 4 (rm_ 0) D (mt k) (mw g k) sz [.ref (g 0), .int (nI qi), .int (nI ri), .int (nI wr)] S (fun u2 => u2 = useS S qi ri wr) := by
  refine st_v (by decide) (Nat.le_of_ble_eq_true rfl) ?_
  intro p e s m below meth c A ls hx hb hr hlocks hF hA hK hP hD hS hl
  have hl : lv_has ls 4 [(0, .ref (g 0)), (1, .int (nI qi)), (2, .int (nI ri)), (3, .int (nI wr))] := hl
  refine lv_aload_n hx hb dX1_useCell_0 rfl (lv_at hl 0 rfl) ?_
  refine m_get (v := .ref (g 7)) hF hK hP 0 rfl 10 (by decide) q257 rfl rfl dX1_useCell_1 ?_
  refine lv_bipush (v := 32) hx hb dX1_useCell_4 (by decide) ?_
  refine lv_iload_n hx hb dX1_useCell_6 rfl (lv_at hl 1 rfl) ?_
  refine lv_iadd hx hb dX1_useCell_7 ?_
  refine tx (y := nI (32 + qi)) (nI_add _ _) ?_
  refine lv_iconst (v := 0) hx hb dX1_useCell_8 (by decide) ?_
  refine n_zast (f' := nf (va_up (ms10 S) (32 + qi) 0)) (ws' := mw g k (mu10 S (va_up (ms10 S) (32 + qi) 0))) hx hb hK hP hD hS 7 6 rfl rfl (32 + qi) (rfl) (by omega) (by decide) (upd_z0 _ _) rfl dX1_useCell_9 (fun H locs hP hD hS => ?_)
  refine lv_iload_n hx hb dX1_useCell_10 rfl (lv_at hl 3 rfl) ?_
  refine lv_if_eq (tgt := 29) hx hb dX1_useCell_11 (by decide) (fun c_11 => ?_) (fun c_11 => ?_)
  · have h_w : ¬ wr = 1 := by have := b_0 hwr c_11; omega
    refine lv_aload_n hx hb dX1_useCell_29 rfl (lv_at hl 0 rfl) ?_
    refine m_get (v := .ref (g 1)) hF hK hP 0 rfl 0 (by decide) q247 rfl rfl dX1_useCell_30 ?_
    refine lv_iload_n hx hb dX1_useCell_33 rfl (lv_at hl 2 rfl) ?_
    refine lv_aload_n hx hb dX1_useCell_34 rfl (lv_at hl 0 rfl) ?_
    refine m_get (v := .ref (g 2)) hF hK hP 0 rfl 1 (by decide) q248 rfl rfl dX1_useCell_35 ?_
    refine lv_iload_n hx hb dX1_useCell_38 rfl (lv_at hl 1 rfl) ?_
    refine n_iald (v := nI ((ms1 S) qi)) hx hb hK hP 2 1 rfl rfl qi (rfl) (by omega) (by decide) (rfl) dX1_useCell_39 ?_
    refine n_iast (f' := nf (va_up (ms0 S) ri ((ms1 S) qi))) (ws' := mw g k (mu10 (mu0 S (va_up (ms0 S) ri ((ms1 S) qi))) (va_up (ms10 S) (32 + qi) 0))) hx hb hK hP hD hS 1 0 rfl rfl ri (rfl) (by omega) (by decide) (upd_nf _ _ _) rfl dX1_useCell_40 (fun H locs hP hD hS => ?_)
    exact e_v (wf := mw g k) (u := mu10 (mu0 S (va_up (ms0 S) ri ((ms1 S) qi))) (va_up (ms10 S) (32 + qi) 0)) hx hb hr hlocks hK hP hD hS dX1_useCell_41 ((if_neg h_w).symm)
  · have h_w : wr = 1 := b_1 hwr c_11
    refine lv_aload_n hx hb dX1_useCell_14 rfl (lv_at hl 0 rfl) ?_
    refine m_get (v := .ref (g 2)) hF hK hP 0 rfl 1 (by decide) q248 rfl rfl dX1_useCell_15 ?_
    refine lv_iload_n hx hb dX1_useCell_18 rfl (lv_at hl 1 rfl) ?_
    refine lv_aload_n hx hb dX1_useCell_19 rfl (lv_at hl 0 rfl) ?_
    refine m_get (v := .ref (g 1)) hF hK hP 0 rfl 0 (by decide) q247 rfl rfl dX1_useCell_20 ?_
    refine lv_iload_n hx hb dX1_useCell_23 rfl (lv_at hl 2 rfl) ?_
    refine n_iald (v := nI ((ms0 S) ri)) hx hb hK hP 1 0 rfl rfl ri (rfl) (by omega) (by decide) (rfl) dX1_useCell_24 ?_
    refine n_iast (f' := nf (va_up (ms1 S) qi ((ms0 S) ri))) (ws' := mw g k (mu10 (mu1 S (va_up (ms1 S) qi ((ms0 S) ri))) (va_up (ms10 S) (32 + qi) 0))) hx hb hK hP hD hS 2 1 rfl rfl qi (rfl) (by omega) (by decide) (upd_nf _ _ _) rfl dX1_useCell_25 (fun H locs hP hD hS => ?_)
    refine lv_goto (tgt := 41) hx hb dX1_useCell_26 (by decide) ?_
    exact e_v (wf := mw g k) (u := mu10 (mu1 S (va_up (ms1 S) qi ((ms0 S) ri))) (va_up (ms10 S) (32 + qi) 0)) hx hb hr hlocks hK hP hD hS dX1_useCell_41 ((if_pos h_w).symm)

set_option maxHeartbeats 4000000 in
set_option maxRecDepth 100000 in
theorem kX1_putOut (l : Launch) (D : va_G) (g k : Nat → Nat) (sz : Nat) (S : MS) (vv : Nat) (h6 : ms6 S ≤ 16) : Cv l yX1_putOut cX1_putOut 2 (rm_ 0) D (mt k) (mw g k) sz [.ref (g 0), .int (nI vv)] S (fun u2 => u2 = outS S vv) := by
  refine st_v (by decide) (Nat.le_of_ble_eq_true rfl) ?_
  intro p e s m below meth c A ls hx hb hr hlocks hF hA hK hP hD hS hl
  have hl : lv_has ls 2 [(0, .ref (g 0)), (1, .int (nI vv))] := hl
  refine lv_aload_n hx hb dX1_putOut_0 rfl (lv_at hl 0 rfl) ?_
  refine m_get (v := .int (nI (ms6 S))) hF hK hP 0 rfl 6 (by decide) q253 rfl rfl dX1_putOut_1 ?_
  refine lv_bipush (v := 16) hx hb dX1_putOut_4 (by decide) ?_
  refine lv_icmp_ne (tgt := 17) hx hb dX1_putOut_6 (by decide) (fun c_6 => ?_) (fun c_6 => ?_)
  · have h_n : ¬ ms6 S = 16 := fun z => c_6 (by rw [z]; rfl)
    have h_l : ms6 S < 16 := by omega
    refine lv_aload_n hx hb dX1_putOut_17 rfl (lv_at hl 0 rfl) ?_
    refine m_get (v := .ref (g 6)) hF hK hP 0 rfl 7 (by decide) q254 rfl rfl dX1_putOut_18 ?_
    refine lv_aload_n hx hb dX1_putOut_21 rfl (lv_at hl 0 rfl) ?_
    refine m_get (v := .int (nI (ms6 S))) hF hK hP 0 rfl 6 (by decide) q253 rfl rfl dX1_putOut_22 ?_
    refine lv_iload_n hx hb dX1_putOut_25 rfl (lv_at hl 1 rfl) ?_
    refine n_iast (f' := nf (va_up (ms7 S) (ms6 S) vv)) (ws' := mw g k (mu7 S (va_up (ms7 S) (ms6 S) vv))) hx hb hK hP hD hS 6 5 rfl rfl (ms6 S) (rfl) (by omega) (by decide) (upd_nf _ _ _) rfl dX1_putOut_26 (fun H locs hP hD hS => ?_)
    refine lv_aload_n hx hb dX1_putOut_27 rfl (lv_at hl 0 rfl) ?_
    refine lv_dup hx hb dX1_putOut_28 rfl ?_
    refine m_get (v := .int (nI (ms6 S))) hF hK hP 0 rfl 6 (by decide) q253 rfl rfl dX1_putOut_29 ?_
    refine lv_iconst (v := 1) hx hb dX1_putOut_32 (by decide) ?_
    refine lv_iadd hx hb dX1_putOut_33 ?_
    refine tx (y := nI (ms6 S + 1)) (nI_add _ _) ?_
    refine m_put (v := .int (nI (ms6 S + 1))) (ws' := mw g k (mu7 (mu6 S (ms6 S + 1)) (va_up (ms7 S) (ms6 S) vv))) hF hK hP hD hS 0 rfl 6 (by decide) q253 rfl rfl rfl rfl (Nat.le_of_ble_eq_true rfl) rfl dX1_putOut_34 (fun H locs hP hD hS => ?_)
    exact e_v (wf := mw g k) (u := mu7 (mu6 S (ms6 S + 1)) (va_up (ms7 S) (ms6 S) vv)) hx hb hr hlocks hK hP hD hS dX1_putOut_37 ((if_neg h_n).symm)
  · have h_n : ms6 S = 16 := eq_of (b := 16) c_6
    refine lv_aload_n hx hb dX1_putOut_9 rfl (lv_at hl 0 rfl) ?_
    refine lv_iconst (v := 1) hx hb dX1_putOut_10 (by decide) ?_
    refine m_put (v := .int 1) (ws' := mw g k (mu8 S 1)) hF hK hP hD hS 0 rfl 8 (by decide) q255 rfl rfl rfl rfl (Nat.le_of_ble_eq_true rfl) rfl dX1_putOut_11 (fun H locs hP hD hS => ?_)
    refine lv_goto (tgt := 37) hx hb dX1_putOut_14 (by decide) ?_
    exact e_v (wf := mw g k) (u := mu8 S 1) hx hb hr hlocks hK hP hD hS dX1_putOut_37 ((if_pos h_n).symm)

set_option maxHeartbeats 4000000 in
set_option maxRecDepth 100000 in
theorem kX1_forgetHits (l : Launch) (D : va_G) (g k : Nat → Nat) (sz : Nat) (S : MS) : Cv l yX1_forgetHits cX1_forgetHits 2 (rm_ 0) D (mt k) (mw g k) sz [.ref (g 0)] S (fun u2 => u2 = mu11 S (z6 (ms11 S))) := by
  refine st_v (by decide) (Nat.le_of_ble_eq_true rfl) ?_
  intro p e s m below meth c A ls hx hb hr hlocks hF hA hK hP hD hS hl
  have hl : lv_has ls 2 [(0, .ref (g 0))] := hl
  refine lv_iconst (v := 0) hx hb dX1_forgetHits_0 (by decide) ?_
  refine lv_istore_n (lv' := [(1, .int 0), (0, .ref (g 0))]) hx hb dX1_forgetHits_1 rfl hl (by decide) rfl (fun ls hl => ?_)
  refine lv_iload_n hx hb dX1_forgetHits_2 rfl (lv_at hl 0 rfl) ?_
  refine lv_bipush (v := 6) hx hb dX1_forgetHits_3 (by decide) ?_
  refine lv_icmp_ge (tgt := 21) hx hb dX1_forgetHits_5 (by decide) (fun q => absurd q (by decide)) (fun _ => ?_)
  refine lv_aload_n hx hb dX1_forgetHits_8 rfl (lv_at hl 1 rfl) ?_
  refine m_get (v := .ref (g 8)) hF hK hP 0 rfl 11 (by decide) q258 rfl rfl dX1_forgetHits_9 ?_
  refine lv_iload_n hx hb dX1_forgetHits_12 rfl (lv_at hl 0 rfl) ?_
  refine lv_iconst (v := 0) hx hb dX1_forgetHits_13 (by decide) ?_
  refine n_iast (f' := nf (va_up (ms11 S) 0 0)) (ws' := mw g k (mu11 S (va_up (ms11 S) 0 0))) hx hb hK hP hD hS 8 7 rfl rfl 0 (rfl) (by omega) (by decide) (upd_nf _ _ _) rfl dX1_forgetHits_14 (fun H locs hP hD hS => ?_)
  refine lv_iinc (v := 1) (lv' := [(1, .int 1), (0, .ref (g 0))]) (k := 0) hx hb dX1_forgetHits_15 hl rfl (by decide) (by decide) rfl (fun ls hl => ?_)
  refine lv_goto (tgt := 2) hx hb dX1_forgetHits_18 (by decide) ?_
  refine lv_iload_n hx hb dX1_forgetHits_2 rfl (lv_at hl 0 rfl) ?_
  refine lv_bipush (v := 6) hx hb dX1_forgetHits_3 (by decide) ?_
  refine lv_icmp_ge (tgt := 21) hx hb dX1_forgetHits_5 (by decide) (fun q => absurd q (by decide)) (fun _ => ?_)
  refine lv_aload_n hx hb dX1_forgetHits_8 rfl (lv_at hl 1 rfl) ?_
  refine m_get (v := .ref (g 8)) hF hK hP 0 rfl 11 (by decide) q258 rfl rfl dX1_forgetHits_9 ?_
  refine lv_iload_n hx hb dX1_forgetHits_12 rfl (lv_at hl 0 rfl) ?_
  refine lv_iconst (v := 0) hx hb dX1_forgetHits_13 (by decide) ?_
  refine n_iast (f' := nf (va_up (va_up (ms11 S) 0 0) 1 0)) (ws' := mw g k (mu11 S (va_up (va_up (ms11 S) 0 0) 1 0))) hx hb hK hP hD hS 8 7 rfl rfl 1 (rfl) (by omega) (by decide) (upd_nf _ _ _) rfl dX1_forgetHits_14 (fun H locs hP hD hS => ?_)
  refine lv_iinc (v := 2) (lv' := [(1, .int 2), (0, .ref (g 0))]) (k := 0) hx hb dX1_forgetHits_15 hl rfl (by decide) (by decide) rfl (fun ls hl => ?_)
  refine lv_goto (tgt := 2) hx hb dX1_forgetHits_18 (by decide) ?_
  refine lv_iload_n hx hb dX1_forgetHits_2 rfl (lv_at hl 0 rfl) ?_
  refine lv_bipush (v := 6) hx hb dX1_forgetHits_3 (by decide) ?_
  refine lv_icmp_ge (tgt := 21) hx hb dX1_forgetHits_5 (by decide) (fun q => absurd q (by decide)) (fun _ => ?_)
  refine lv_aload_n hx hb dX1_forgetHits_8 rfl (lv_at hl 1 rfl) ?_
  refine m_get (v := .ref (g 8)) hF hK hP 0 rfl 11 (by decide) q258 rfl rfl dX1_forgetHits_9 ?_
  refine lv_iload_n hx hb dX1_forgetHits_12 rfl (lv_at hl 0 rfl) ?_
  refine lv_iconst (v := 0) hx hb dX1_forgetHits_13 (by decide) ?_
  refine n_iast (f' := nf (va_up (va_up (va_up (ms11 S) 0 0) 1 0) 2 0)) (ws' := mw g k (mu11 S (va_up (va_up (va_up (ms11 S) 0 0) 1 0) 2 0))) hx hb hK hP hD hS 8 7 rfl rfl 2 (rfl) (by omega) (by decide) (upd_nf _ _ _) rfl dX1_forgetHits_14 (fun H locs hP hD hS => ?_)
  refine lv_iinc (v := 3) (lv' := [(1, .int 3), (0, .ref (g 0))]) (k := 0) hx hb dX1_forgetHits_15 hl rfl (by decide) (by decide) rfl (fun ls hl => ?_)
  refine lv_goto (tgt := 2) hx hb dX1_forgetHits_18 (by decide) ?_
  refine lv_iload_n hx hb dX1_forgetHits_2 rfl (lv_at hl 0 rfl) ?_
  refine lv_bipush (v := 6) hx hb dX1_forgetHits_3 (by decide) ?_
  refine lv_icmp_ge (tgt := 21) hx hb dX1_forgetHits_5 (by decide) (fun q => absurd q (by decide)) (fun _ => ?_)
  refine lv_aload_n hx hb dX1_forgetHits_8 rfl (lv_at hl 1 rfl) ?_
  refine m_get (v := .ref (g 8)) hF hK hP 0 rfl 11 (by decide) q258 rfl rfl dX1_forgetHits_9 ?_
  refine lv_iload_n hx hb dX1_forgetHits_12 rfl (lv_at hl 0 rfl) ?_
  refine lv_iconst (v := 0) hx hb dX1_forgetHits_13 (by decide) ?_
  refine n_iast (f' := nf (va_up (va_up (va_up (va_up (ms11 S) 0 0) 1 0) 2 0) 3 0)) (ws' := mw g k (mu11 S (va_up (va_up (va_up (va_up (ms11 S) 0 0) 1 0) 2 0) 3 0))) hx hb hK hP hD hS 8 7 rfl rfl 3 (rfl) (by omega) (by decide) (upd_nf _ _ _) rfl dX1_forgetHits_14 (fun H locs hP hD hS => ?_)
  refine lv_iinc (v := 4) (lv' := [(1, .int 4), (0, .ref (g 0))]) (k := 0) hx hb dX1_forgetHits_15 hl rfl (by decide) (by decide) rfl (fun ls hl => ?_)
  refine lv_goto (tgt := 2) hx hb dX1_forgetHits_18 (by decide) ?_
  refine lv_iload_n hx hb dX1_forgetHits_2 rfl (lv_at hl 0 rfl) ?_
  refine lv_bipush (v := 6) hx hb dX1_forgetHits_3 (by decide) ?_
  refine lv_icmp_ge (tgt := 21) hx hb dX1_forgetHits_5 (by decide) (fun q => absurd q (by decide)) (fun _ => ?_)
  refine lv_aload_n hx hb dX1_forgetHits_8 rfl (lv_at hl 1 rfl) ?_
  refine m_get (v := .ref (g 8)) hF hK hP 0 rfl 11 (by decide) q258 rfl rfl dX1_forgetHits_9 ?_
  refine lv_iload_n hx hb dX1_forgetHits_12 rfl (lv_at hl 0 rfl) ?_
  refine lv_iconst (v := 0) hx hb dX1_forgetHits_13 (by decide) ?_
  refine n_iast (f' := nf (va_up (va_up (va_up (va_up (va_up (ms11 S) 0 0) 1 0) 2 0) 3 0) 4 0)) (ws' := mw g k (mu11 S (va_up (va_up (va_up (va_up (va_up (ms11 S) 0 0) 1 0) 2 0) 3 0) 4 0))) hx hb hK hP hD hS 8 7 rfl rfl 4 (rfl) (by omega) (by decide) (upd_nf _ _ _) rfl dX1_forgetHits_14 (fun H locs hP hD hS => ?_)
  refine lv_iinc (v := 5) (lv' := [(1, .int 5), (0, .ref (g 0))]) (k := 0) hx hb dX1_forgetHits_15 hl rfl (by decide) (by decide) rfl (fun ls hl => ?_)
  refine lv_goto (tgt := 2) hx hb dX1_forgetHits_18 (by decide) ?_
  refine lv_iload_n hx hb dX1_forgetHits_2 rfl (lv_at hl 0 rfl) ?_
  refine lv_bipush (v := 6) hx hb dX1_forgetHits_3 (by decide) ?_
  refine lv_icmp_ge (tgt := 21) hx hb dX1_forgetHits_5 (by decide) (fun q => absurd q (by decide)) (fun _ => ?_)
  refine lv_aload_n hx hb dX1_forgetHits_8 rfl (lv_at hl 1 rfl) ?_
  refine m_get (v := .ref (g 8)) hF hK hP 0 rfl 11 (by decide) q258 rfl rfl dX1_forgetHits_9 ?_
  refine lv_iload_n hx hb dX1_forgetHits_12 rfl (lv_at hl 0 rfl) ?_
  refine lv_iconst (v := 0) hx hb dX1_forgetHits_13 (by decide) ?_
  refine n_iast (f' := nf (va_up (va_up (va_up (va_up (va_up (va_up (ms11 S) 0 0) 1 0) 2 0) 3 0) 4 0) 5 0)) (ws' := mw g k (mu11 S (va_up (va_up (va_up (va_up (va_up (va_up (ms11 S) 0 0) 1 0) 2 0) 3 0) 4 0) 5 0))) hx hb hK hP hD hS 8 7 rfl rfl 5 (rfl) (by omega) (by decide) (upd_nf _ _ _) rfl dX1_forgetHits_14 (fun H locs hP hD hS => ?_)
  refine lv_iinc (v := 6) (lv' := [(1, .int 6), (0, .ref (g 0))]) (k := 0) hx hb dX1_forgetHits_15 hl rfl (by decide) (by decide) rfl (fun ls hl => ?_)
  refine lv_goto (tgt := 2) hx hb dX1_forgetHits_18 (by decide) ?_
  refine lv_iload_n hx hb dX1_forgetHits_2 rfl (lv_at hl 0 rfl) ?_
  refine lv_bipush (v := 6) hx hb dX1_forgetHits_3 (by decide) ?_
  refine lv_icmp_ge (tgt := 21) hx hb dX1_forgetHits_5 (by decide) (fun _ => ?_) (fun q => absurd (by decide) q)
  exact e_v (wf := mw g k) (u := mu11 S (va_up (va_up (va_up (va_up (va_up (va_up (ms11 S) 0 0) 1 0) 2 0) 3 0) 4 0) 5 0)) hx hb hr hlocks hK hP hD hS dX1_forgetHits_21 (rfl)

set_option maxHeartbeats 4000000 in
set_option maxRecDepth 100000 in
theorem kX1_once (l : Launch) (D : va_G) (g k : Nat → Nat) (sz : Nat) (S : MS) (hG : RG S) (h9 : ms9 S < 2 ^ 31 - 1) : Cv l yX1_once cX1_once 6 (rm_ 1) D (mt k) (mw g k) sz [.ref (g 0)] S (fun u2 => u2 = onceS S) := by
  refine st_v (by decide) (Nat.le_of_ble_eq_true rfl) ?_
  intro p e s m below meth c A ls hx hb hr hlocks hF hA hK hP hD hS hl
  have hl : lv_has ls 6 [(0, .ref (g 0))] := hl
  have hg := hG
  unfold RG at hg
  have hg5 := hg.2.2.2.1
  have hg2 := hG.2.2.1 (ms5 S) hg5
  have hgr := hG.1 (ms3 S (ms5 S)) hg2.2.1
  have hgs := hG.1 (ms4 S (ms5 S) % 4) (by omega)
  refine lv_aload_n hx hb dX1_once_0 rfl (lv_at hl 0 rfl) ?_
  refine m_get (v := .ref (g 3)) hF hK hP 0 rfl 2 (by decide) q249 rfl rfl dX1_once_1 ?_
  refine lv_aload_n hx hb dX1_once_4 rfl (lv_at hl 0 rfl) ?_
  refine m_get (v := .int (nI (ms5 S))) hF hK hP 0 rfl 5 (by decide) q252 rfl rfl dX1_once_5 ?_
  refine n_iald (v := nI (ms2 S (ms5 S))) hx hb hK hP 3 2 rfl rfl (ms5 S) (rfl) (by omega) (by decide) (rfl) dX1_once_8 ?_
  refine lv_istore_n (lv' := [(1, .int (nI (ms2 S (ms5 S)))), (0, .ref (g 0))]) hx hb dX1_once_9 rfl hl (by decide) rfl (fun ls hl => ?_)
  refine lv_aload_n hx hb dX1_once_10 rfl (lv_at hl 1 rfl) ?_
  refine m_get (v := .ref (g 4)) hF hK hP 0 rfl 3 (by decide) q250 rfl rfl dX1_once_11 ?_
  refine lv_aload_n hx hb dX1_once_14 rfl (lv_at hl 1 rfl) ?_
  refine m_get (v := .int (nI (ms5 S))) hF hK hP 0 rfl 5 (by decide) q252 rfl rfl dX1_once_15 ?_
  refine n_iald (v := nI (ms3 S (ms5 S))) hx hb hK hP 4 3 rfl rfl (ms5 S) (rfl) (by omega) (by decide) (rfl) dX1_once_18 ?_
  refine lv_istore_n (lv' := [(2, .int (nI (ms3 S (ms5 S)))), (1, .int (nI (ms2 S (ms5 S)))), (0, .ref (g 0))]) hx hb dX1_once_19 rfl hl (by decide) rfl (fun ls hl => ?_)
  refine lv_aload_n hx hb dX1_once_20 rfl (lv_at hl 2 rfl) ?_
  refine m_get (v := .ref (g 5)) hF hK hP 0 rfl 4 (by decide) q251 rfl rfl dX1_once_21 ?_
  refine lv_aload_n hx hb dX1_once_24 rfl (lv_at hl 2 rfl) ?_
  refine m_get (v := .int (nI (ms5 S))) hF hK hP 0 rfl 5 (by decide) q252 rfl rfl dX1_once_25 ?_
  refine n_iald (v := nI (ms4 S (ms5 S))) hx hb hK hP 5 4 rfl rfl (ms5 S) (rfl) (by omega) (by decide) (rfl) dX1_once_28 ?_
  refine lv_istore_n (lv' := [(3, .int (nI (ms4 S (ms5 S)))), (2, .int (nI (ms3 S (ms5 S)))), (1, .int (nI (ms2 S (ms5 S)))), (0, .ref (g 0))]) hx hb dX1_once_29 rfl hl (by decide) rfl (fun ls hl => ?_)
  refine lv_aload_n hx hb dX1_once_30 rfl (lv_at hl 3 rfl) ?_
  refine m_get (v := .ref (g 1)) hF hK hP 0 rfl 0 (by decide) q247 rfl rfl dX1_once_31 ?_
  refine lv_iload_n hx hb dX1_once_34 rfl (lv_at hl 0 rfl) ?_
  refine lv_iconst (v := 4) hx hb dX1_once_35 (by decide) ?_
  refine lv_irem hx hb dX1_once_36 (by decide) ?_
  refine tx (y := nI (ms4 S (ms5 S) % 4)) (rem_n (d := 4) (by omega) (by decide) (by decide)) ?_
  refine n_iald (v := nI (ms0 S (ms4 S (ms5 S) % 4))) hx hb hK hP 1 0 rfl rfl (ms4 S (ms5 S) % 4) (rfl) (by omega) (by decide) (rfl) dX1_once_37 ?_
  refine lv_istore (lv' := [(4, .int (nI (ms0 S (ms4 S (ms5 S) % 4)))), (3, .int (nI (ms4 S (ms5 S)))), (2, .int (nI (ms3 S (ms5 S)))), (1, .int (nI (ms2 S (ms5 S)))), (0, .ref (g 0))]) hx hb dX1_once_38 hl (by decide) rfl (fun ls hl => ?_)
  refine lv_aload_n hx hb dX1_once_40 rfl (lv_at hl 4 rfl) ?_
  refine m_get (v := .int (nI (ms5 S))) hF hK hP 0 rfl 5 (by decide) q252 rfl rfl dX1_once_41 ?_
  refine lv_iconst (v := 1) hx hb dX1_once_44 (by decide) ?_
  refine lv_iadd hx hb dX1_once_45 ?_
  refine tx (y := nI (ms5 S + 1)) (nI_add _ _) ?_
  refine lv_bipush (v := 32) hx hb dX1_once_46 (by decide) ?_
  refine lv_irem hx hb dX1_once_48 (by decide) ?_
  refine tx (y := nI ((ms5 S + 1) % 32)) (rem_n (d := 32) (by omega) (by decide) (by decide)) ?_
  refine lv_istore (lv' := [(5, .int (nI ((ms5 S + 1) % 32))), (4, .int (nI (ms0 S (ms4 S (ms5 S) % 4)))), (3, .int (nI (ms4 S (ms5 S)))), (2, .int (nI (ms3 S (ms5 S)))), (1, .int (nI (ms2 S (ms5 S)))), (0, .ref (g 0))]) hx hb dX1_once_49 hl (by decide) rfl (fun ls hl => ?_)
  refine lv_aload_n hx hb dX1_once_51 rfl (lv_at hl 5 rfl) ?_
  refine m_get (v := .ref (g 7)) hF hK hP 0 rfl 10 (by decide) q257 rfl rfl dX1_once_52 ?_
  refine lv_aload_n hx hb dX1_once_55 rfl (lv_at hl 5 rfl) ?_
  refine m_get (v := .int (nI (ms5 S))) hF hK hP 0 rfl 5 (by decide) q252 rfl rfl dX1_once_56 ?_
  refine lv_iconst (v := 0) hx hb dX1_once_59 (by decide) ?_
  refine n_zast (f' := nf (va_up (ms10 S) (ms5 S) 0)) (ws' := mw g k (mu10 S (va_up (ms10 S) (ms5 S) 0))) hx hb hK hP hD hS 7 6 rfl rfl (ms5 S) (rfl) (by omega) (by decide) (upd_z0 _ _) rfl dX1_once_60 (fun H locs hP hD hS => ?_)
  refine jn_w (wf := mw g k) (D := D) (A := A) (H0 := s.heap) (fun ls T => ∃ (on2 : Nat), lv_has ls 6 [(0, .ref (g 0)), (5, .int (nI on2))] ∧ brS (unsp S (ms5 S)) (ms2 S (ms5 S)) (ms3 S (ms5 S)) (ms4 S (ms5 S)) (ms5 S) = (T, on2)) 210 [] ?_ ?_
  · intro ls T H locs hJ hP hD hS
    obtain ⟨on2, hl, hbr⟩ := hJ
    have hl : lv_has ls 6 [(0, .ref (g 0)), (5, .int (nI on2))] := hl
    have hT := br_inv hG hbr
    have hT9 := hT.2.2
    refine lv_aload_n hx hb dX1_once_210 rfl (lv_at hl 0 rfl) ?_
    refine lv_aload_n hx hb dX1_once_211 rfl (lv_at hl 0 rfl) ?_
    refine m_get (v := .int (nI (ms8 T))) hF hK hP 0 rfl 8 (by decide) q255 rfl rfl dX1_once_212 ?_
    refine lv_if_eq (tgt := 225) hx hb dX1_once_215 (by decide) (fun c_215 => ?_) (fun c_215 => ?_)
    · refine lv_iload hx hb dX1_once_225 (lv_at hl 1 rfl) ?_
      refine m_put (v := .int (nI on2)) (ws' := mw g k (mu5 T on2)) hF hK hP hD hS 0 rfl 5 (by decide) q252 rfl rfl rfl rfl (Nat.le_of_ble_eq_true rfl) rfl dX1_once_227 (fun H locs hP hD hS => ?_)
      refine lv_aload_n hx hb dX1_once_230 rfl (lv_at hl 0 rfl) ?_
      refine m_get (v := .ref (g 7)) hF hK hP 0 rfl 10 (by decide) q257 rfl rfl dX1_once_231 ?_
      refine lv_aload_n hx hb dX1_once_234 rfl (lv_at hl 0 rfl) ?_
      refine m_get (v := .int (nI (ms9 T))) hF hK hP 0 rfl 9 (by decide) q256 rfl rfl dX1_once_235 ?_
      refine lv_bipush (v := 48) hx hb dX1_once_238 (by decide) ?_
      refine lv_irem hx hb dX1_once_240 (by decide) ?_
      refine tx (y := nI (ms9 T % 48)) (rem_n (d := 48) (by omega) (by decide) (by decide)) ?_
      refine lv_iconst (v := 0) hx hb dX1_once_241 (by decide) ?_
      refine n_zast (f' := nf (va_up (ms10 T) (ms9 T % 48) 0)) (ws' := mw g k (mu10 (mu5 T on2) (va_up (ms10 T) (ms9 T % 48) 0))) hx hb hK hP hD hS 7 6 rfl rfl (ms9 T % 48) (rfl) (by omega) (by decide) (upd_z0 _ _) rfl dX1_once_242 (fun H locs hP hD hS => ?_)
      refine lv_aload_n hx hb dX1_once_243 rfl (lv_at hl 0 rfl) ?_
      refine lv_dup hx hb dX1_once_244 rfl ?_
      refine m_get (v := .int (nI (ms9 T))) hF hK hP 0 rfl 9 (by decide) q256 rfl rfl dX1_once_245 ?_
      refine lv_iconst (v := 1) hx hb dX1_once_248 (by decide) ?_
      refine lv_iadd hx hb dX1_once_249 ?_
      refine tx (y := nI (ms9 T + 1)) (nI_add _ _) ?_
      refine m_put (v := .int (nI (ms9 T + 1))) (ws' := mw g k (mu10 (mu9 (mu5 T on2) (ms9 T + 1)) (va_up (ms10 T) (ms9 T % 48) 0))) hF hK hP hD hS 0 rfl 9 (by decide) q256 rfl rfl rfl rfl (Nat.le_of_ble_eq_true rfl) rfl dX1_once_250 (fun H locs hP hD hS => ?_)
      refine lv_aload_n hx hb dX1_once_253 rfl (lv_at hl 0 rfl) ?_
      refine c_v (wf := mw g k) (As := []) (rest := []) hF hA hK hP hD hS (kX1_forgetHits l D g k _ (mu10 (mu9 (mu5 T on2) (ms9 T + 1)) (va_up (ms10 T) (ms9 T % 48) 0))) q328 q330 qs23 q29 q331 hdX1_forgetHits rfl rfl ⟨Nat.le_of_ble_eq_true rfl, Nat.le_of_ble_eq_true rfl⟩ rfl rfl rfl hl.1 rfl (Nat.le_of_ble_eq_true rfl) dX1_once_254 ⟨Nat.zero_le _, Nat.zero_le _⟩ (fun u1 H locs hu1 hP hD hS => ?_)
      rw [hu1] at hP hD
      exact e_v (wf := mw g k) (u := mu11 (mu10 (mu9 (mu5 T on2) (ms9 T + 1)) (va_up (ms10 T) (ms9 T % 48) 0)) (z6 (ms11 T))) hx hb hr hlocks hK hP hD hS dX1_once_257 (once_T hbr (if_neg (by have := b_0 hT.1 c_215; omega)))
    · refine lv_aload_n hx hb dX1_once_218 rfl (lv_at hl 0 rfl) ?_
      refine m_get (v := .int (nI (ms5 T))) hF hK hP 0 rfl 5 (by decide) q252 rfl rfl dX1_once_219 ?_
      refine lv_goto (tgt := 227) hx hb dX1_once_222 (by decide) ?_
      refine m_put (v := .int (nI (ms5 T))) (ws' := mw g k (mu5 T (ms5 T))) hF hK hP hD hS 0 rfl 5 (by decide) q252 rfl rfl rfl rfl (Nat.le_of_ble_eq_true rfl) rfl dX1_once_227 (fun H locs hP hD hS => ?_)
      refine lv_aload_n hx hb dX1_once_230 rfl (lv_at hl 0 rfl) ?_
      refine m_get (v := .ref (g 7)) hF hK hP 0 rfl 10 (by decide) q257 rfl rfl dX1_once_231 ?_
      refine lv_aload_n hx hb dX1_once_234 rfl (lv_at hl 0 rfl) ?_
      refine m_get (v := .int (nI (ms9 T))) hF hK hP 0 rfl 9 (by decide) q256 rfl rfl dX1_once_235 ?_
      refine lv_bipush (v := 48) hx hb dX1_once_238 (by decide) ?_
      refine lv_irem hx hb dX1_once_240 (by decide) ?_
      refine tx (y := nI (ms9 T % 48)) (rem_n (d := 48) (by omega) (by decide) (by decide)) ?_
      refine lv_iconst (v := 0) hx hb dX1_once_241 (by decide) ?_
      refine n_zast (f' := nf (va_up (ms10 T) (ms9 T % 48) 0)) (ws' := mw g k (mu10 (mu5 T (ms5 T)) (va_up (ms10 T) (ms9 T % 48) 0))) hx hb hK hP hD hS 7 6 rfl rfl (ms9 T % 48) (rfl) (by omega) (by decide) (upd_z0 _ _) rfl dX1_once_242 (fun H locs hP hD hS => ?_)
      refine lv_aload_n hx hb dX1_once_243 rfl (lv_at hl 0 rfl) ?_
      refine lv_dup hx hb dX1_once_244 rfl ?_
      refine m_get (v := .int (nI (ms9 T))) hF hK hP 0 rfl 9 (by decide) q256 rfl rfl dX1_once_245 ?_
      refine lv_iconst (v := 1) hx hb dX1_once_248 (by decide) ?_
      refine lv_iadd hx hb dX1_once_249 ?_
      refine tx (y := nI (ms9 T + 1)) (nI_add _ _) ?_
      refine m_put (v := .int (nI (ms9 T + 1))) (ws' := mw g k (mu10 (mu9 (mu5 T (ms5 T)) (ms9 T + 1)) (va_up (ms10 T) (ms9 T % 48) 0))) hF hK hP hD hS 0 rfl 9 (by decide) q256 rfl rfl rfl rfl (Nat.le_of_ble_eq_true rfl) rfl dX1_once_250 (fun H locs hP hD hS => ?_)
      refine lv_aload_n hx hb dX1_once_253 rfl (lv_at hl 0 rfl) ?_
      refine c_v (wf := mw g k) (As := []) (rest := []) hF hA hK hP hD hS (kX1_forgetHits l D g k _ (mu10 (mu9 (mu5 T (ms5 T)) (ms9 T + 1)) (va_up (ms10 T) (ms9 T % 48) 0))) q328 q330 qs23 q29 q331 hdX1_forgetHits rfl rfl ⟨Nat.le_of_ble_eq_true rfl, Nat.le_of_ble_eq_true rfl⟩ rfl rfl rfl hl.1 rfl (Nat.le_of_ble_eq_true rfl) dX1_once_254 ⟨Nat.zero_le _, Nat.zero_le _⟩ (fun u2 H locs hu2 hP hD hS => ?_)
      rw [hu2] at hP hD
      exact e_v (wf := mw g k) (u := mu11 (mu10 (mu9 (mu5 T (ms5 T)) (ms9 T + 1)) (va_up (ms10 T) (ms9 T % 48) 0)) (z6 (ms11 T))) hx hb hr hlocks hK hP hD hS dX1_once_257 (once_T hbr ((if_pos (b_1 hT.1 c_215)).trans hT.2.1.symm))
  · intro hj
    refine lv_iload_n hx hb dX1_once_61 rfl (lv_at hl 4 rfl) ?_
    refine lv_if_ne (tgt := 73) hx hb dX1_once_62 (by decide) (fun c_62 => ?_) (fun c_62 => ?_)
    · have n_0 : ¬ ms2 S (ms5 S) = 0 := fun z => c_62 (by rw [z]; rfl)
      refine lv_iload_n hx hb dX1_once_73 rfl (lv_at hl 4 rfl) ?_
      refine lv_iconst (v := 2) hx hb dX1_once_74 (by decide) ?_
      refine lv_icmp_eq (tgt := 83) hx hb dX1_once_75 (by decide) (fun c_75 => ?_) (fun c_75 => ?_)
      · have e_2 : ms2 S (ms5 S) = 2 := eq_of (b := 2) c_75 (by omega) (by decide)
        refine lv_aload_n hx hb dX1_once_83 rfl (lv_at hl 5 rfl) ?_
        refine lv_iload_n hx hb dX1_once_84 rfl (lv_at hl 2 rfl) ?_
        refine lv_bipush (v := 16) hx hb dX1_once_85 (by decide) ?_
        refine lv_irem hx hb dX1_once_87 (by decide) ?_
        refine tx (y := nI (ms4 S (ms5 S) % 16)) (rem_n (d := 16) (by omega) (by decide) (by decide)) ?_
        refine lv_iload_n hx hb dX1_once_88 rfl (lv_at hl 3 rfl) ?_
        refine lv_iload_n hx hb dX1_once_89 rfl (lv_at hl 4 rfl) ?_
        refine lv_iconst (v := 3) hx hb dX1_once_90 (by decide) ?_
        refine lv_icmp_ne (tgt := 98) hx hb dX1_once_91 (by decide) (fun _ => ?_) (fun q => absurd q (by rw [e_2]; decide))
        refine lv_iconst (v := 0) hx hb dX1_once_98 (by decide) ?_
        refine c_v (wf := mw g k) (As := [.int (nI (ms4 S (ms5 S) % 16)), .int (nI (ms3 S (ms5 S))), .int 0]) (rest := []) hF hA hK hP hD hS (kX1_useCell l D g k _ (mu10 S (va_up (ms10 S) (ms5 S) 0)) (ms4 S (ms5 S) % 16) (ms3 S (ms5 S)) 0 (by omega) hg2.2.1 (by decide)) q316 q318 qs20 q29 q319 hdX1_useCell rfl rfl ⟨Nat.le_of_ble_eq_true rfl, Nat.le_of_ble_eq_true rfl⟩ rfl rfl rfl hl.1 rfl (Nat.le_of_ble_eq_true rfl) dX1_once_99 ⟨Nat.zero_le _, Nat.zero_le _⟩ (fun u3 H locs hu3 hP hD hS => ?_)
        refine lv_goto (tgt := 210) hx hb dX1_once_102 (by decide) ?_
        exact hj _ (u3) _ _ ⟨(ms5 S + 1) % 32, lv_sub hl [5, 0] rfl, by rw [hu3]; exact br_2 e_2⟩ hP hD hS
      · have n_2 : ¬ ms2 S (ms5 S) = 2 := fun z => c_75 (by rw [z]; rfl)
        refine lv_iload_n hx hb dX1_once_78 rfl (lv_at hl 4 rfl) ?_
        refine lv_iconst (v := 3) hx hb dX1_once_79 (by decide) ?_
        refine lv_icmp_ne (tgt := 105) hx hb dX1_once_80 (by decide) (fun c_80 => ?_) (fun c_80 => ?_)
        · have n_3 : ¬ ms2 S (ms5 S) = 3 := fun z => c_80 (by rw [z]; rfl)
          refine lv_iload_n hx hb dX1_once_105 rfl (lv_at hl 4 rfl) ?_
          refine lv_bipush (v := 12) hx hb dX1_once_106 (by decide) ?_
          refine lv_icmp_eq (tgt := 117) hx hb dX1_once_108 (by decide) (fun c_108 => ?_) (fun c_108 => ?_)
          · have e_12 : ms2 S (ms5 S) = 12 := eq_of (b := 12) c_108 (by omega) (by decide)
            refine lv_aload_n hx hb dX1_once_117 rfl (lv_at hl 5 rfl) ?_
            refine lv_iload hx hb dX1_once_118 (lv_at hl 1 rfl) ?_
            refine lv_bipush (v := 16) hx hb dX1_once_120 (by decide) ?_
            refine lv_irem hx hb dX1_once_122 (by decide) ?_
            refine tx (y := nI (ms0 S (ms4 S (ms5 S) % 4) % 16)) (rem_n (d := 16) (by omega) (by decide) (by decide)) ?_
            refine lv_iload_n hx hb dX1_once_123 rfl (lv_at hl 3 rfl) ?_
            refine lv_iload_n hx hb dX1_once_124 rfl (lv_at hl 4 rfl) ?_
            refine lv_bipush (v := 13) hx hb dX1_once_125 (by decide) ?_
            refine lv_icmp_ne (tgt := 134) hx hb dX1_once_127 (by decide) (fun _ => ?_) (fun q => absurd q (by rw [e_12]; decide))
            refine lv_iconst (v := 0) hx hb dX1_once_134 (by decide) ?_
            refine c_v (wf := mw g k) (As := [.int (nI (ms0 S (ms4 S (ms5 S) % 4) % 16)), .int (nI (ms3 S (ms5 S))), .int 0]) (rest := []) hF hA hK hP hD hS (kX1_useCell l D g k _ (mu10 S (va_up (ms10 S) (ms5 S) 0)) (ms0 S (ms4 S (ms5 S) % 4) % 16) (ms3 S (ms5 S)) 0 (by omega) hg2.2.1 (by decide)) q316 q318 qs20 q29 q319 hdX1_useCell rfl rfl ⟨Nat.le_of_ble_eq_true rfl, Nat.le_of_ble_eq_true rfl⟩ rfl rfl rfl hl.1 rfl (Nat.le_of_ble_eq_true rfl) dX1_once_135 ⟨Nat.zero_le _, Nat.zero_le _⟩ (fun u4 H locs hu4 hP hD hS => ?_)
            refine lv_goto (tgt := 210) hx hb dX1_once_138 (by decide) ?_
            exact hj _ (u4) _ _ ⟨(ms5 S + 1) % 32, lv_sub hl [5, 0] rfl, by rw [hu4]; exact br_12 e_12⟩ hP hD hS
          · have n_12 : ¬ ms2 S (ms5 S) = 12 := fun z => c_108 (by rw [z]; rfl)
            refine lv_iload_n hx hb dX1_once_111 rfl (lv_at hl 4 rfl) ?_
            refine lv_bipush (v := 13) hx hb dX1_once_112 (by decide) ?_
            refine lv_icmp_ne (tgt := 141) hx hb dX1_once_114 (by decide) (fun c_114 => ?_) (fun c_114 => ?_)
            · have n_13 : ¬ ms2 S (ms5 S) = 13 := fun z => c_114 (by rw [z]; rfl)
              refine lv_iload_n hx hb dX1_once_141 rfl (lv_at hl 4 rfl) ?_
              refine lv_bipush (v := 11) hx hb dX1_once_142 (by decide) ?_
              refine lv_icmp_ne (tgt := 160) hx hb dX1_once_144 (by decide) (fun c_144 => ?_) (fun c_144 => ?_)
              · have n_11 : ¬ ms2 S (ms5 S) = 11 := fun z => c_144 (by rw [z]; rfl)
                refine lv_iload_n hx hb dX1_once_160 rfl (lv_at hl 4 rfl) ?_
                refine lv_bipush (v := 9) hx hb dX1_once_161 (by decide) ?_
                refine lv_icmp_eq (tgt := 181) hx hb dX1_once_163 (by decide) (fun c_163 => ?_) (fun c_163 => ?_)
                · have e_9 : ms2 S (ms5 S) = 9 := eq_of (b := 9) c_163 (by omega) (by decide)
                  refine lv_iload_n hx hb dX1_once_181 rfl (lv_at hl 2 rfl) ?_
                  refine lv_bipush (v := 32) hx hb dX1_once_182 (by decide) ?_
                  refine lv_irem hx hb dX1_once_184 (by decide) ?_
                  refine tx (y := nI (ms4 S (ms5 S) % 32)) (rem_n (d := 32) (by omega) (by decide) (by decide)) ?_
                  refine lv_istore (lv' := [(5, .int (nI (ms4 S (ms5 S) % 32))), (4, .int (nI (ms0 S (ms4 S (ms5 S) % 4)))), (3, .int (nI (ms4 S (ms5 S)))), (2, .int (nI (ms3 S (ms5 S)))), (1, .int (nI (ms2 S (ms5 S)))), (0, .ref (g 0))]) hx hb dX1_once_185 hl (by decide) rfl (fun ls hl => ?_)
                  refine lv_goto (tgt := 210) hx hb dX1_once_187 (by decide) ?_
                  exact hj _ (mu10 S (va_up (ms10 S) (ms5 S) 0)) _ _ ⟨ms4 S (ms5 S) % 32, lv_sub hl [5, 0] rfl, br_9 e_9⟩ hP hD hS
                · have n_9 : ¬ ms2 S (ms5 S) = 9 := fun z => c_163 (by rw [z]; rfl)
                  refine lv_iload_n hx hb dX1_once_166 rfl (lv_at hl 4 rfl) ?_
                  refine lv_bipush (v := 10) hx hb dX1_once_167 (by decide) ?_
                  refine lv_icmp_ne (tgt := 190) hx hb dX1_once_169 (by decide) (fun c_169 => ?_) (fun c_169 => ?_)
                  · have n_10 : ¬ ms2 S (ms5 S) = 10 := fun z => c_169 (by rw [z]; rfl)
                    refine lv_aload_n hx hb dX1_once_190 rfl (lv_at hl 5 rfl) ?_
                    refine m_get (v := .ref (g 1)) hF hK hP 0 rfl 0 (by decide) q247 rfl rfl dX1_once_191 ?_
                    refine lv_iload_n hx hb dX1_once_194 rfl (lv_at hl 3 rfl) ?_
                    refine lv_aload_n hx hb dX1_once_195 rfl (lv_at hl 5 rfl) ?_
                    refine lv_iload_n hx hb dX1_once_196 rfl (lv_at hl 4 rfl) ?_
                    refine lv_aload_n hx hb dX1_once_197 rfl (lv_at hl 5 rfl) ?_
                    refine m_get (v := .ref (g 1)) hF hK hP 0 rfl 0 (by decide) q247 rfl rfl dX1_once_198 ?_
                    refine lv_iload_n hx hb dX1_once_201 rfl (lv_at hl 3 rfl) ?_
                    refine n_iald (v := nI (ms0 S (ms3 S (ms5 S)))) hx hb hK hP 1 0 rfl rfl (ms3 S (ms5 S)) (rfl) (by omega) (by decide) (rfl) dX1_once_202 ?_
                    refine lv_iload hx hb dX1_once_203 (lv_at hl 1 rfl) ?_
                    refine lv_iload_n hx hb dX1_once_205 rfl (lv_at hl 2 rfl) ?_
                    refine c_p (q0 := 0) (As := [.int (nI (ms2 S (ms5 S))), .int (nI (ms0 S (ms3 S (ms5 S)))), .int (nI (ms0 S (ms4 S (ms5 S) % 4))), .int (nI (ms4 S (ms5 S)))]) (rest := [.int (nI (ms3 S (ms5 S))), .ref (g 1)]) hF hK hP (kX1_calculated l _ (ms2 S (ms5 S)) (ms0 S (ms3 S (ms5 S))) (ms0 S (ms4 S (ms5 S) % 4)) (ms4 S (ms5 S)) (by omega) (by omega) (by omega)) q324 q326 qs22 q29 q327 hdX1_calculated rfl rfl ⟨Nat.le_of_ble_eq_true rfl, Nat.le_of_ble_eq_true rfl⟩ rfl rfl rfl hl.1 rfl (Nat.le_of_ble_eq_true rfl) dX1_once_206 ⟨Nat.zero_le _, Nat.zero_le _⟩ (fun r5 hr5 => ?_)
                    refine tx (y := nI (clc (ms2 S (ms5 S)) (ms0 S (ms3 S (ms5 S))) (ms0 S (ms4 S (ms5 S) % 4)) (ms4 S (ms5 S)))) (hr5) ?_
                    refine n_iast (f' := nf (va_up (ms0 S) (ms3 S (ms5 S)) (clc (ms2 S (ms5 S)) (ms0 S (ms3 S (ms5 S))) (ms0 S (ms4 S (ms5 S) % 4)) (ms4 S (ms5 S))))) (ws' := mw g k (mu10 (mu0 S (va_up (ms0 S) (ms3 S (ms5 S)) (clc (ms2 S (ms5 S)) (ms0 S (ms3 S (ms5 S))) (ms0 S (ms4 S (ms5 S) % 4)) (ms4 S (ms5 S))))) (va_up (ms10 S) (ms5 S) 0))) hx hb hK hP hD hS 1 0 rfl rfl (ms3 S (ms5 S)) (rfl) (by omega) (by decide) (upd_nf _ _ _) rfl dX1_once_209 (fun H locs hP hD hS => ?_)
                    exact hj _ (mu10 (mu0 S (va_up (ms0 S) (ms3 S (ms5 S)) (clc (ms2 S (ms5 S)) (ms0 S (ms3 S (ms5 S))) (ms0 S (ms4 S (ms5 S) % 4)) (ms4 S (ms5 S))))) (va_up (ms10 S) (ms5 S) 0)) _ _ ⟨(ms5 S + 1) % 32, lv_sub hl [5, 0] rfl, br_e n_0 n_2 n_3 n_12 n_13 n_11 n_9 (fun q => n_10 q.1)⟩ hP hD hS
                  · have e_10 : ms2 S (ms5 S) = 10 := eq_of (b := 10) c_169 (by omega) (by decide)
                    refine lv_aload_n hx hb dX1_once_172 rfl (lv_at hl 5 rfl) ?_
                    refine m_get (v := .ref (g 1)) hF hK hP 0 rfl 0 (by decide) q247 rfl rfl dX1_once_173 ?_
                    refine lv_iload_n hx hb dX1_once_176 rfl (lv_at hl 3 rfl) ?_
                    refine n_iald (v := nI (ms0 S (ms3 S (ms5 S)))) hx hb hK hP 1 0 rfl rfl (ms3 S (ms5 S)) (rfl) (by omega) (by decide) (rfl) dX1_once_177 ?_
                    refine lv_if_ne (tgt := 190) hx hb dX1_once_178 (by decide) (fun c_178 => ?_) (fun c_178 => ?_)
                    · have z_r : ¬ ms0 S (ms3 S (ms5 S)) = 0 := fun z => c_178 (by rw [z]; rfl)
                      refine lv_aload_n hx hb dX1_once_190 rfl (lv_at hl 5 rfl) ?_
                      refine m_get (v := .ref (g 1)) hF hK hP 0 rfl 0 (by decide) q247 rfl rfl dX1_once_191 ?_
                      refine lv_iload_n hx hb dX1_once_194 rfl (lv_at hl 3 rfl) ?_
                      refine lv_aload_n hx hb dX1_once_195 rfl (lv_at hl 5 rfl) ?_
                      refine lv_iload_n hx hb dX1_once_196 rfl (lv_at hl 4 rfl) ?_
                      refine lv_aload_n hx hb dX1_once_197 rfl (lv_at hl 5 rfl) ?_
                      refine m_get (v := .ref (g 1)) hF hK hP 0 rfl 0 (by decide) q247 rfl rfl dX1_once_198 ?_
                      refine lv_iload_n hx hb dX1_once_201 rfl (lv_at hl 3 rfl) ?_
                      refine n_iald (v := nI (ms0 S (ms3 S (ms5 S)))) hx hb hK hP 1 0 rfl rfl (ms3 S (ms5 S)) (rfl) (by omega) (by decide) (rfl) dX1_once_202 ?_
                      refine lv_iload hx hb dX1_once_203 (lv_at hl 1 rfl) ?_
                      refine lv_iload_n hx hb dX1_once_205 rfl (lv_at hl 2 rfl) ?_
                      refine c_p (q0 := 0) (As := [.int (nI (ms2 S (ms5 S))), .int (nI (ms0 S (ms3 S (ms5 S)))), .int (nI (ms0 S (ms4 S (ms5 S) % 4))), .int (nI (ms4 S (ms5 S)))]) (rest := [.int (nI (ms3 S (ms5 S))), .ref (g 1)]) hF hK hP (kX1_calculated l _ (ms2 S (ms5 S)) (ms0 S (ms3 S (ms5 S))) (ms0 S (ms4 S (ms5 S) % 4)) (ms4 S (ms5 S)) (by omega) (by omega) (by omega)) q324 q326 qs22 q29 q327 hdX1_calculated rfl rfl ⟨Nat.le_of_ble_eq_true rfl, Nat.le_of_ble_eq_true rfl⟩ rfl rfl rfl hl.1 rfl (Nat.le_of_ble_eq_true rfl) dX1_once_206 ⟨Nat.zero_le _, Nat.zero_le _⟩ (fun r6 hr6 => ?_)
                      refine tx (y := nI (clc (ms2 S (ms5 S)) (ms0 S (ms3 S (ms5 S))) (ms0 S (ms4 S (ms5 S) % 4)) (ms4 S (ms5 S)))) (hr6) ?_
                      refine n_iast (f' := nf (va_up (ms0 S) (ms3 S (ms5 S)) (clc (ms2 S (ms5 S)) (ms0 S (ms3 S (ms5 S))) (ms0 S (ms4 S (ms5 S) % 4)) (ms4 S (ms5 S))))) (ws' := mw g k (mu10 (mu0 S (va_up (ms0 S) (ms3 S (ms5 S)) (clc (ms2 S (ms5 S)) (ms0 S (ms3 S (ms5 S))) (ms0 S (ms4 S (ms5 S) % 4)) (ms4 S (ms5 S))))) (va_up (ms10 S) (ms5 S) 0))) hx hb hK hP hD hS 1 0 rfl rfl (ms3 S (ms5 S)) (rfl) (by omega) (by decide) (upd_nf _ _ _) rfl dX1_once_209 (fun H locs hP hD hS => ?_)
                      exact hj _ (mu10 (mu0 S (va_up (ms0 S) (ms3 S (ms5 S)) (clc (ms2 S (ms5 S)) (ms0 S (ms3 S (ms5 S))) (ms0 S (ms4 S (ms5 S) % 4)) (ms4 S (ms5 S))))) (va_up (ms10 S) (ms5 S) 0)) _ _ ⟨(ms5 S + 1) % 32, lv_sub hl [5, 0] rfl, br_e n_0 n_2 n_3 n_12 n_13 n_11 n_9 (fun q => z_r q.2)⟩ hP hD hS
                    · have z_r : ms0 S (ms3 S (ms5 S)) = 0 := eq_of (c_178.trans nI_0.symm) (by omega) (by decide)
                      refine lv_iload_n hx hb dX1_once_181 rfl (lv_at hl 2 rfl) ?_
                      refine lv_bipush (v := 32) hx hb dX1_once_182 (by decide) ?_
                      refine lv_irem hx hb dX1_once_184 (by decide) ?_
                      refine tx (y := nI (ms4 S (ms5 S) % 32)) (rem_n (d := 32) (by omega) (by decide) (by decide)) ?_
                      refine lv_istore (lv' := [(5, .int (nI (ms4 S (ms5 S) % 32))), (4, .int (nI (ms0 S (ms4 S (ms5 S) % 4)))), (3, .int (nI (ms4 S (ms5 S)))), (2, .int (nI (ms3 S (ms5 S)))), (1, .int (nI (ms2 S (ms5 S)))), (0, .ref (g 0))]) hx hb dX1_once_185 hl (by decide) rfl (fun ls hl => ?_)
                      refine lv_goto (tgt := 210) hx hb dX1_once_187 (by decide) ?_
                      exact hj _ (mu10 S (va_up (ms10 S) (ms5 S) 0)) _ _ ⟨ms4 S (ms5 S) % 32, lv_sub hl [5, 0] rfl, br_10 e_10 z_r⟩ hP hD hS
              · have e_11 : ms2 S (ms5 S) = 11 := eq_of (b := 11) c_144 (by omega) (by decide)
                refine lv_aload_n hx hb dX1_once_147 rfl (lv_at hl 5 rfl) ?_
                refine lv_aload_n hx hb dX1_once_148 rfl (lv_at hl 5 rfl) ?_
                refine m_get (v := .ref (g 1)) hF hK hP 0 rfl 0 (by decide) q247 rfl rfl dX1_once_149 ?_
                refine lv_iload_n hx hb dX1_once_152 rfl (lv_at hl 3 rfl) ?_
                refine n_iald (v := nI (ms0 S (ms3 S (ms5 S)))) hx hb hK hP 1 0 rfl rfl (ms3 S (ms5 S)) (rfl) (by omega) (by decide) (rfl) dX1_once_153 ?_
                refine c_v (wf := mw g k) (As := [.int (nI (ms0 S (ms3 S (ms5 S))))]) (rest := []) hF hA hK hP hD hS (kX1_putOut l D g k _ (mu10 S (va_up (ms10 S) (ms5 S) 0)) (ms0 S (ms3 S (ms5 S))) hg.2.2.2.2.1) q320 q322 qs21 q29 q323 hdX1_putOut rfl rfl ⟨Nat.le_of_ble_eq_true rfl, Nat.le_of_ble_eq_true rfl⟩ rfl rfl rfl hl.1 rfl (Nat.le_of_ble_eq_true rfl) dX1_once_154 ⟨Nat.zero_le _, Nat.zero_le _⟩ (fun u7 H locs hu7 hP hD hS => ?_)
                refine lv_goto (tgt := 210) hx hb dX1_once_157 (by decide) ?_
                exact hj _ (u7) _ _ ⟨(ms5 S + 1) % 32, lv_sub hl [5, 0] rfl, by rw [hu7]; exact br_11 e_11⟩ hP hD hS
            · have e_13 : ms2 S (ms5 S) = 13 := eq_of (b := 13) c_114 (by omega) (by decide)
              refine lv_aload_n hx hb dX1_once_117 rfl (lv_at hl 5 rfl) ?_
              refine lv_iload hx hb dX1_once_118 (lv_at hl 1 rfl) ?_
              refine lv_bipush (v := 16) hx hb dX1_once_120 (by decide) ?_
              refine lv_irem hx hb dX1_once_122 (by decide) ?_
              refine tx (y := nI (ms0 S (ms4 S (ms5 S) % 4) % 16)) (rem_n (d := 16) (by omega) (by decide) (by decide)) ?_
              refine lv_iload_n hx hb dX1_once_123 rfl (lv_at hl 3 rfl) ?_
              refine lv_iload_n hx hb dX1_once_124 rfl (lv_at hl 4 rfl) ?_
              refine lv_bipush (v := 13) hx hb dX1_once_125 (by decide) ?_
              refine lv_icmp_ne (tgt := 134) hx hb dX1_once_127 (by decide) (fun q => absurd (by rw [e_13]; rfl) q) (fun _ => ?_)
              refine lv_iconst (v := 1) hx hb dX1_once_130 (by decide) ?_
              refine lv_goto (tgt := 135) hx hb dX1_once_131 (by decide) ?_
              refine c_v (wf := mw g k) (As := [.int (nI (ms0 S (ms4 S (ms5 S) % 4) % 16)), .int (nI (ms3 S (ms5 S))), .int 1]) (rest := []) hF hA hK hP hD hS (kX1_useCell l D g k _ (mu10 S (va_up (ms10 S) (ms5 S) 0)) (ms0 S (ms4 S (ms5 S) % 4) % 16) (ms3 S (ms5 S)) 1 (by omega) hg2.2.1 (by decide)) q316 q318 qs20 q29 q319 hdX1_useCell rfl rfl ⟨Nat.le_of_ble_eq_true rfl, Nat.le_of_ble_eq_true rfl⟩ rfl rfl rfl hl.1 rfl (Nat.le_of_ble_eq_true rfl) dX1_once_135 ⟨Nat.zero_le _, Nat.zero_le _⟩ (fun u8 H locs hu8 hP hD hS => ?_)
              refine lv_goto (tgt := 210) hx hb dX1_once_138 (by decide) ?_
              exact hj _ (u8) _ _ ⟨(ms5 S + 1) % 32, lv_sub hl [5, 0] rfl, by rw [hu8]; exact br_13 e_13⟩ hP hD hS
        · have e_3 : ms2 S (ms5 S) = 3 := eq_of (b := 3) c_80 (by omega) (by decide)
          refine lv_aload_n hx hb dX1_once_83 rfl (lv_at hl 5 rfl) ?_
          refine lv_iload_n hx hb dX1_once_84 rfl (lv_at hl 2 rfl) ?_
          refine lv_bipush (v := 16) hx hb dX1_once_85 (by decide) ?_
          refine lv_irem hx hb dX1_once_87 (by decide) ?_
          refine tx (y := nI (ms4 S (ms5 S) % 16)) (rem_n (d := 16) (by omega) (by decide) (by decide)) ?_
          refine lv_iload_n hx hb dX1_once_88 rfl (lv_at hl 3 rfl) ?_
          refine lv_iload_n hx hb dX1_once_89 rfl (lv_at hl 4 rfl) ?_
          refine lv_iconst (v := 3) hx hb dX1_once_90 (by decide) ?_
          refine lv_icmp_ne (tgt := 98) hx hb dX1_once_91 (by decide) (fun q => absurd (by rw [e_3]; rfl) q) (fun _ => ?_)
          refine lv_iconst (v := 1) hx hb dX1_once_94 (by decide) ?_
          refine lv_goto (tgt := 99) hx hb dX1_once_95 (by decide) ?_
          refine c_v (wf := mw g k) (As := [.int (nI (ms4 S (ms5 S) % 16)), .int (nI (ms3 S (ms5 S))), .int 1]) (rest := []) hF hA hK hP hD hS (kX1_useCell l D g k _ (mu10 S (va_up (ms10 S) (ms5 S) 0)) (ms4 S (ms5 S) % 16) (ms3 S (ms5 S)) 1 (by omega) hg2.2.1 (by decide)) q316 q318 qs20 q29 q319 hdX1_useCell rfl rfl ⟨Nat.le_of_ble_eq_true rfl, Nat.le_of_ble_eq_true rfl⟩ rfl rfl rfl hl.1 rfl (Nat.le_of_ble_eq_true rfl) dX1_once_99 ⟨Nat.zero_le _, Nat.zero_le _⟩ (fun u9 H locs hu9 hP hD hS => ?_)
          refine lv_goto (tgt := 210) hx hb dX1_once_102 (by decide) ?_
          exact hj _ (u9) _ _ ⟨(ms5 S + 1) % 32, lv_sub hl [5, 0] rfl, by rw [hu9]; exact br_3 e_3⟩ hP hD hS
    · have e_0 : ms2 S (ms5 S) = 0 := eq_of (b := 0) c_62 (by omega) (by decide)
      refine lv_aload_n hx hb dX1_once_65 rfl (lv_at hl 5 rfl) ?_
      refine lv_iconst (v := 1) hx hb dX1_once_66 (by decide) ?_
      refine m_put (v := .int 1) (ws' := mw g k (mu10 (mu8 S 1) (va_up (ms10 S) (ms5 S) 0))) hF hK hP hD hS 0 rfl 8 (by decide) q255 rfl rfl rfl rfl (Nat.le_of_ble_eq_true rfl) rfl dX1_once_67 (fun H locs hP hD hS => ?_)
      refine lv_goto (tgt := 210) hx hb dX1_once_70 (by decide) ?_
      exact hj _ (mu10 (mu8 S 1) (va_up (ms10 S) (ms5 S) 0)) _ _ ⟨(ms5 S + 1) % 32, lv_sub hl [5, 0] rfl, br_0 e_0⟩ hP hD hS
end
section
/-! SHIELDEDMACHINEMODEL: what the outside calls -/
set_option maxHeartbeats 4000000 in
set_option maxRecDepth 100000 in
theorem kX1_set (l : Launch) (D : va_G) (g k : Nat → Nat) (sz : Nat) (S : MS) (x1 x2 x3 x4 : Int32) : Ci l yX1_set cX1_set 5 .boolean (rm_ 1) D (mt k) (mw g k) sz [.ref (g 0), .int x1, .int x2, .int x3, .int x4] S (fun r u2 => r = nI (oSet S x1 x2 x3 x4).1 ∧ u2 = (oSet S x1 x2 x3 x4).2) := by
  refine st_i (by decide) (Nat.le_of_ble_eq_true rfl) ?_
  intro p e s m below meth c A ls hx hb hr hlocks hF hA hK hP hD hS hl
  have hl : lv_has ls 5 [(0, .ref (g 0)), (1, .int x1), (2, .int x2), (3, .int x3), (4, .int x4)] := hl
  refine lv_aload_n hx hb dX1_set_0 rfl (lv_at hl 0 rfl) ?_
  refine lv_iload_n hx hb dX1_set_1 rfl (lv_at hl 1 rfl) ?_
  refine c_p (q0 := 0) (As := [.int x1]) (rest := []) hF hK hP (kX1_isPlace l _ x1) q288 q290 qs15 q29 q291 hdX1_isPlace rfl rfl ⟨Nat.le_of_ble_eq_true rfl, Nat.le_of_ble_eq_true rfl⟩ rfl rfl rfl hl.1 rfl (Nat.le_of_ble_eq_true rfl) dX1_set_2 ⟨Nat.zero_le _, Nat.zero_le _⟩ (fun r1 hr1 => ?_)
  refine tx (y := nI (iv x1 32)) (hr1) ?_
  refine lv_if_eq (tgt := 35) hx hb dX1_set_5 (by decide) (fun c_5 => ?_) (fun c_5 => ?_)
  · have g1 := iv_c0 c_5
    refine lv_iconst (v := 0) hx hb dX1_set_35 (by decide) ?_
    have hz : oSet S x1 x2 x3 x4 = (0, S) := by
      unfold oSet
      repeat' split
      all_goals first | rfl | (exfalso; omega)
    exact e_z (wf := mw g k) (u := S) hx hb hr hlocks hK hP hD hS dX1_set_36 (rfl) (by rw [hz]; exact ⟨rfl, rfl⟩)
  · have g1 := iv_c1 c_5
    refine lv_iload_n hx hb dX1_set_8 rfl (lv_at hl 2 rfl) ?_
    refine lv_if_lt (tgt := 35) hx hb dX1_set_9 (by decide) (fun c_9 => ?_) (fun c_9 => ?_)
    · have g2 : iv x2 14 = 0 := iv_lt c_9
      refine lv_iconst (v := 0) hx hb dX1_set_35 (by decide) ?_
      have hz : oSet S x1 x2 x3 x4 = (0, S) := by
        unfold oSet
        repeat' split
        all_goals first | rfl | (exfalso; omega)
      exact e_z (wf := mw g k) (u := S) hx hb hr hlocks hK hP hD hS dX1_set_36 (rfl) (by rw [hz]; exact ⟨rfl, rfl⟩)
    · refine lv_iload_n hx hb dX1_set_12 rfl (lv_at hl 2 rfl) ?_
      refine lv_bipush (v := 13) hx hb dX1_set_13 (by decide) ?_
      refine lv_icmp_gt (tgt := 35) hx hb dX1_set_15 (by decide) (fun c_15 => ?_) (fun c_15 => ?_)
      · have g2 : iv x2 14 = 0 := iv_gt (n := 13) c_9 c_15 (by decide)
        refine lv_iconst (v := 0) hx hb dX1_set_35 (by decide) ?_
        have hz : oSet S x1 x2 x3 x4 = (0, S) := by
          unfold oSet
          repeat' split
          all_goals first | rfl | (exfalso; omega)
        exact e_z (wf := mw g k) (u := S) hx hb hr hlocks hK hP hD hS dX1_set_36 (rfl) (by rw [hz]; exact ⟨rfl, rfl⟩)
      · have g2 : iv x2 14 = 1 := iv_le (n := 13) c_9 c_15 (by decide)
        refine lv_aload_n hx hb dX1_set_18 rfl (lv_at hl 0 rfl) ?_
        refine lv_iload_n hx hb dX1_set_19 rfl (lv_at hl 3 rfl) ?_
        refine c_p (q0 := 0) (As := [.int x3]) (rest := []) hF hK hP (kX1_isRegister l _ x3) q292 q294 qs16 q29 q295 hdX1_isRegister rfl rfl ⟨Nat.le_of_ble_eq_true rfl, Nat.le_of_ble_eq_true rfl⟩ rfl rfl rfl hl.1 rfl (Nat.le_of_ble_eq_true rfl) dX1_set_20 ⟨Nat.zero_le _, Nat.zero_le _⟩ (fun r2 hr2 => ?_)
        refine tx (y := nI (iv x3 4)) (hr2) ?_
        refine lv_if_eq (tgt := 35) hx hb dX1_set_23 (by decide) (fun c_23 => ?_) (fun c_23 => ?_)
        · have g3 := iv_c0 c_23
          refine lv_iconst (v := 0) hx hb dX1_set_35 (by decide) ?_
          have hz : oSet S x1 x2 x3 x4 = (0, S) := by
            unfold oSet
            repeat' split
            all_goals first | rfl | (exfalso; omega)
          exact e_z (wf := mw g k) (u := S) hx hb hr hlocks hK hP hD hS dX1_set_36 (rfl) (by rw [hz]; exact ⟨rfl, rfl⟩)
        · have g3 := iv_c1 c_23
          refine lv_aload_n hx hb dX1_set_26 rfl (lv_at hl 0 rfl) ?_
          refine lv_iload hx hb dX1_set_27 (lv_at hl 4 rfl) ?_
          refine c_p (q0 := 0) (As := [.int x4]) (rest := []) hF hK hP (kX1_isByte l _ x4) q296 q298 qs17 q29 q299 hdX1_isByte rfl rfl ⟨Nat.le_of_ble_eq_true rfl, Nat.le_of_ble_eq_true rfl⟩ rfl rfl rfl hl.1 rfl (Nat.le_of_ble_eq_true rfl) dX1_set_29 ⟨Nat.zero_le _, Nat.zero_le _⟩ (fun r3 hr3 => ?_)
          refine tx (y := nI (iv x4 256)) (hr3) ?_
          refine lv_if_ne (tgt := 37) hx hb dX1_set_32 (by decide) (fun c_32 => ?_) (fun c_32 => ?_)
          · have g4 := iv_c1 c_32
            obtain ⟨j1, hj1, rfl⟩ := iv_of g1 (by decide)
            obtain ⟨j2, hj2, rfl⟩ := iv_of g2 (by decide)
            obtain ⟨j3, hj3, rfl⟩ := iv_of g3 (by decide)
            obtain ⟨j4, hj4, rfl⟩ := iv_of g4 (by decide)
            refine lv_aload_n hx hb dX1_set_37 rfl (lv_at hl 0 rfl) ?_
            refine m_get (v := .ref (g 3)) hF hK hP 0 rfl 2 (by decide) q249 rfl rfl dX1_set_38 ?_
            refine lv_iload_n hx hb dX1_set_41 rfl (lv_at hl 1 rfl) ?_
            refine lv_iload_n hx hb dX1_set_42 rfl (lv_at hl 2 rfl) ?_
            refine n_iast (f' := nf (va_up (ms2 S) j1 j2)) (ws' := mw g k (mu2 S (va_up (ms2 S) j1 j2))) hx hb hK hP hD hS 3 2 rfl rfl j1 (rfl) (by omega) (by decide) (upd_nf _ _ _) rfl dX1_set_43 (fun H locs hP hD hS => ?_)
            refine lv_aload_n hx hb dX1_set_44 rfl (lv_at hl 0 rfl) ?_
            refine m_get (v := .ref (g 4)) hF hK hP 0 rfl 3 (by decide) q250 rfl rfl dX1_set_45 ?_
            refine lv_iload_n hx hb dX1_set_48 rfl (lv_at hl 1 rfl) ?_
            refine lv_iload_n hx hb dX1_set_49 rfl (lv_at hl 3 rfl) ?_
            refine n_iast (f' := nf (va_up (ms3 S) j1 j3)) (ws' := mw g k (mu3 (mu2 S (va_up (ms2 S) j1 j2)) (va_up (ms3 S) j1 j3))) hx hb hK hP hD hS 4 3 rfl rfl j1 (rfl) (by omega) (by decide) (upd_nf _ _ _) rfl dX1_set_50 (fun H locs hP hD hS => ?_)
            refine lv_aload_n hx hb dX1_set_51 rfl (lv_at hl 0 rfl) ?_
            refine m_get (v := .ref (g 5)) hF hK hP 0 rfl 4 (by decide) q251 rfl rfl dX1_set_52 ?_
            refine lv_iload_n hx hb dX1_set_55 rfl (lv_at hl 1 rfl) ?_
            refine lv_iload hx hb dX1_set_56 (lv_at hl 4 rfl) ?_
            refine n_iast (f' := nf (va_up (ms4 S) j1 j4)) (ws' := mw g k (mu4 (mu3 (mu2 S (va_up (ms2 S) j1 j2)) (va_up (ms3 S) j1 j3)) (va_up (ms4 S) j1 j4))) hx hb hK hP hD hS 5 4 rfl rfl j1 (rfl) (by omega) (by decide) (upd_nf _ _ _) rfl dX1_set_58 (fun H locs hP hD hS => ?_)
            refine lv_aload_n hx hb dX1_set_59 rfl (lv_at hl 0 rfl) ?_
            refine m_get (v := .ref (g 7)) hF hK hP 0 rfl 10 (by decide) q257 rfl rfl dX1_set_60 ?_
            refine lv_iload_n hx hb dX1_set_63 rfl (lv_at hl 1 rfl) ?_
            refine lv_iconst (v := 0) hx hb dX1_set_64 (by decide) ?_
            refine n_zast (f' := nf (va_up (ms10 S) j1 0)) (ws' := mw g k (mu10 (mu4 (mu3 (mu2 S (va_up (ms2 S) j1 j2)) (va_up (ms3 S) j1 j3)) (va_up (ms4 S) j1 j4)) (va_up (ms10 S) j1 0))) hx hb hK hP hD hS 7 6 rfl rfl j1 (rfl) (by omega) (by decide) (upd_z0 _ _) rfl dX1_set_65 (fun H locs hP hD hS => ?_)
            refine lv_iconst (v := 1) hx hb dX1_set_66 (by decide) ?_
            have hz : oSet S (nI j1) (nI j2) (nI j3) (nI j4) = (1, setS S j1 j2 j3 j4) := by
              unfold oSet
              rw [if_pos ⟨g1, g2, g3, g4⟩, cl_n (by omega), cl_n (by omega), cl_n (by omega), cl_n (by omega)]
            exact e_z (wf := mw g k) (u := mu10 (mu4 (mu3 (mu2 S (va_up (ms2 S) j1 j2)) (va_up (ms3 S) j1 j3)) (va_up (ms4 S) j1 j4)) (va_up (ms10 S) j1 0)) hx hb hr hlocks hK hP hD hS dX1_set_67 (rfl) (by rw [hz]; exact ⟨rfl, rfl⟩)
          · have g4 := iv_c0 c_32
            refine lv_iconst (v := 0) hx hb dX1_set_35 (by decide) ?_
            have hz : oSet S x1 x2 x3 x4 = (0, S) := by
              unfold oSet
              repeat' split
              all_goals first | rfl | (exfalso; omega)
            exact e_z (wf := mw g k) (u := S) hx hb hr hlocks hK hP hD hS dX1_set_36 (rfl) (by rw [hz]; exact ⟨rfl, rfl⟩)

set_option maxHeartbeats 4000000 in
set_option maxRecDepth 100000 in
theorem kX1_setData (l : Launch) (D : va_G) (g k : Nat → Nat) (sz : Nat) (S : MS) (x1 x2 : Int32) : Ci l yX1_setData cX1_setData 3 .boolean (rm_ 1) D (mt k) (mw g k) sz [.ref (g 0), .int x1, .int x2] S (fun r u2 => r = nI (oDat S x1 x2).1 ∧ u2 = (oDat S x1 x2).2) := by
  refine st_i (by decide) (Nat.le_of_ble_eq_true rfl) ?_
  intro p e s m below meth c A ls hx hb hr hlocks hF hA hK hP hD hS hl
  have hl : lv_has ls 3 [(0, .ref (g 0)), (1, .int x1), (2, .int x2)] := hl
  refine lv_aload_n hx hb dX1_setData_0 rfl (lv_at hl 0 rfl) ?_
  refine lv_iload_n hx hb dX1_setData_1 rfl (lv_at hl 1 rfl) ?_
  refine c_p (q0 := 0) (As := [.int x1]) (rest := []) hF hK hP (kX1_isCell l _ x1) q304 q306 qs18 q29 q307 hdX1_isCell rfl rfl ⟨Nat.le_of_ble_eq_true rfl, Nat.le_of_ble_eq_true rfl⟩ rfl rfl rfl hl.1 rfl (Nat.le_of_ble_eq_true rfl) dX1_setData_2 ⟨Nat.zero_le _, Nat.zero_le _⟩ (fun r1 hr1 => ?_)
  refine tx (y := nI (iv x1 16)) (hr1) ?_
  refine lv_if_eq (tgt := 16) hx hb dX1_setData_5 (by decide) (fun c_5 => ?_) (fun c_5 => ?_)
  · have g1 := iv_c0 c_5
    refine lv_iconst (v := 0) hx hb dX1_setData_16 (by decide) ?_
    have hz : oDat S x1 x2 = (0, S) := by
      unfold oDat
      repeat' split
      all_goals first | rfl | (exfalso; omega)
    exact e_z (wf := mw g k) (u := S) hx hb hr hlocks hK hP hD hS dX1_setData_17 (rfl) (by rw [hz]; exact ⟨rfl, rfl⟩)
  · have g1 := iv_c1 c_5
    refine lv_aload_n hx hb dX1_setData_8 rfl (lv_at hl 0 rfl) ?_
    refine lv_iload_n hx hb dX1_setData_9 rfl (lv_at hl 2 rfl) ?_
    refine c_p (q0 := 0) (As := [.int x2]) (rest := []) hF hK hP (kX1_isByte l _ x2) q296 q298 qs17 q29 q299 hdX1_isByte rfl rfl ⟨Nat.le_of_ble_eq_true rfl, Nat.le_of_ble_eq_true rfl⟩ rfl rfl rfl hl.1 rfl (Nat.le_of_ble_eq_true rfl) dX1_setData_10 ⟨Nat.zero_le _, Nat.zero_le _⟩ (fun r2 hr2 => ?_)
    refine tx (y := nI (iv x2 256)) (hr2) ?_
    refine lv_if_ne (tgt := 18) hx hb dX1_setData_13 (by decide) (fun c_13 => ?_) (fun c_13 => ?_)
    · have g2 := iv_c1 c_13
      obtain ⟨j1, hj1, rfl⟩ := iv_of g1 (by decide)
      obtain ⟨j2, hj2, rfl⟩ := iv_of g2 (by decide)
      refine lv_aload_n hx hb dX1_setData_18 rfl (lv_at hl 0 rfl) ?_
      refine m_get (v := .ref (g 2)) hF hK hP 0 rfl 1 (by decide) q248 rfl rfl dX1_setData_19 ?_
      refine lv_iload_n hx hb dX1_setData_22 rfl (lv_at hl 1 rfl) ?_
      refine lv_iload_n hx hb dX1_setData_23 rfl (lv_at hl 2 rfl) ?_
      refine n_iast (f' := nf (va_up (ms1 S) j1 j2)) (ws' := mw g k (mu1 S (va_up (ms1 S) j1 j2))) hx hb hK hP hD hS 2 1 rfl rfl j1 (rfl) (by omega) (by decide) (upd_nf _ _ _) rfl dX1_setData_24 (fun H locs hP hD hS => ?_)
      refine lv_aload_n hx hb dX1_setData_25 rfl (lv_at hl 0 rfl) ?_
      refine m_get (v := .ref (g 7)) hF hK hP 0 rfl 10 (by decide) q257 rfl rfl dX1_setData_26 ?_
      refine lv_bipush (v := 32) hx hb dX1_setData_29 (by decide) ?_
      refine lv_iload_n hx hb dX1_setData_31 rfl (lv_at hl 1 rfl) ?_
      refine lv_iadd hx hb dX1_setData_32 ?_
      refine tx (y := nI (32 + j1)) (nI_add _ _) ?_
      refine lv_iconst (v := 0) hx hb dX1_setData_33 (by decide) ?_
      refine n_zast (f' := nf (va_up (ms10 S) (32 + j1) 0)) (ws' := mw g k (mu10 (mu1 S (va_up (ms1 S) j1 j2)) (va_up (ms10 S) (32 + j1) 0))) hx hb hK hP hD hS 7 6 rfl rfl (32 + j1) (rfl) (by omega) (by decide) (upd_z0 _ _) rfl dX1_setData_34 (fun H locs hP hD hS => ?_)
      refine lv_iconst (v := 1) hx hb dX1_setData_35 (by decide) ?_
      have hz : oDat S (nI j1) (nI j2) = (1, datS S j1 j2) := by
        unfold oDat
        rw [if_pos ⟨g1, g2⟩, cl_n (by omega), cl_n (by omega)]
      exact e_z (wf := mw g k) (u := mu10 (mu1 S (va_up (ms1 S) j1 j2)) (va_up (ms10 S) (32 + j1) 0)) hx hb hr hlocks hK hP hD hS dX1_setData_36 (rfl) (by rw [hz]; exact ⟨rfl, rfl⟩)
    · have g2 := iv_c0 c_13
      refine lv_iconst (v := 0) hx hb dX1_setData_16 (by decide) ?_
      have hz : oDat S x1 x2 = (0, S) := by
        unfold oDat
        repeat' split
        all_goals first | rfl | (exfalso; omega)
      exact e_z (wf := mw g k) (u := S) hx hb hr hlocks hK hP hD hS dX1_setData_17 (rfl) (by rw [hz]; exact ⟨rfl, rfl⟩)

set_option maxHeartbeats 4000000 in
set_option maxRecDepth 100000 in
theorem kX1_run (l : Launch) (D : va_G) (g k : Nat → Nat) (sz : Nat) (S : MS) (hG : RG S) (h9 : ms9 S < 2 ^ 30) (x1 : Int32) : Ci l yX1_run cX1_run 3 .int (rm_ 2) D (mt k) (mw g k) sz [.ref (g 0), .int x1] S (fun r u2 => r = (oRun S x1).1 ∧ u2 = (oRun S x1).2) := by
  refine st_i (by decide) (Nat.le_of_ble_eq_true rfl) ?_
  intro p e s m below meth c A ls hx hb hr hlocks hF hA hK hP hD hS hl
  have hl : lv_has ls 3 [(0, .ref (g 0)), (1, .int x1)] := hl
  refine lv_iload_n hx hb dX1_run_0 rfl (lv_at hl 1 rfl) ?_
  refine lv_if_lt (tgt := 10) hx hb dX1_run_1 (by decide) (fun c_1 => ?_) (fun c_1 => ?_)
  · have g1 : iv x1 101 = 0 := iv_lt c_1
    refine lv_iconst (v := (-1)) hx hb dX1_run_10 (by decide) ?_
    have hz : oRun S x1 = (-1, S) := by
      unfold oRun
      repeat' split
      all_goals first | rfl | (exfalso; omega)
    exact e_i (wf := mw g k) (u := S) hx hb hr hlocks hK hP hD hS dX1_run_11 (by rw [hz]; exact ⟨rfl, rfl⟩)
  · refine lv_iload_n hx hb dX1_run_4 rfl (lv_at hl 1 rfl) ?_
    refine lv_bipush (v := 100) hx hb dX1_run_5 (by decide) ?_
    refine lv_icmp_le (tgt := 12) hx hb dX1_run_7 (by decide) (fun c_7 => ?_) (fun c_7 => ?_)
    · have g1 : iv x1 101 = 1 := iv_nge (n := 100) c_1 c_7 (by decide)
      obtain ⟨j1, hj1, rfl⟩ := iv_of g1 (by decide)
      refine lv_iconst (v := 0) hx hb dX1_run_12 (by decide) ?_
      refine lv_istore_n (lv' := [(2, .int 0), (0, .ref (g 0)), (1, .int (nI j1))]) hx hb dX1_run_13 rfl hl (by decide) rfl (fun ls hl => ?_)
      refine lp_w (wf := mw g k) (fun i ls v => lv_has ls 3 [(0, .ref (g 0)), (1, .int (nI j1)), (2, .int (nI i))] ∧ RG v ∧ ms9 v ≤ ms9 S + i ∧ runS j1 S = (i + (runS (j1 - i) v).1, (runS (j1 - i) v).2)) j1 ?_ 0 ls _ _ _ (Nat.zero_le _) ⟨lv_sub hl [1, 2, 0] rfl, hG, Nat.le_refl _, by rw [Nat.zero_add, Nat.sub_zero]⟩ hP hD hS
      intro i ls v H locs hi hI hP hD hS ih
      obtain ⟨hl, hG2, h92, hS2⟩ := hI
      have hl : lv_has ls 3 [(0, .ref (g 0)), (1, .int (nI j1)), (2, .int (nI i))] := hl
      refine lv_iload_n hx hb dX1_run_14 rfl (lv_at hl 2 rfl) ?_
      refine lv_iload_n hx hb dX1_run_15 rfl (lv_at hl 1 rfl) ?_
      refine lv_icmp_ge (tgt := 36) hx hb dX1_run_16 (by decide) (fun c_16 => ?_) (fun c_16 => ?_)
      · have hin : i = j1 := by have := le_of c_16; omega
        refine lv_iload_n hx hb dX1_run_36 rfl (lv_at hl 2 rfl) ?_
        have hz : oRun S (nI j1) = (nI i, v) := by
          unfold oRun
          rw [if_pos g1, cl_n (by omega), run_end1 hin hS2]
        exact e_i (wf := mw g k) (u := v) hx hb hr hlocks hK hP hD hS dX1_run_37 (by rw [hz]; exact ⟨rfl, rfl⟩)
      · have hlt : i < j1 := nle_of c_16
        refine lv_aload_n hx hb dX1_run_19 rfl (lv_at hl 0 rfl) ?_
        refine m_get (v := .int (nI (ms8 v))) hF hK hP 0 rfl 8 (by decide) q255 rfl rfl dX1_run_20 ?_
        refine lv_if_ne (tgt := 36) hx hb dX1_run_23 (by decide) (fun c_23 => ?_) (fun c_23 => ?_)
        · have h8 : ¬ ms8 v = 0 := fun q => c_23 (by rw [q]; rfl)
          refine lv_iload_n hx hb dX1_run_36 rfl (lv_at hl 2 rfl) ?_
          have hz : oRun S (nI j1) = (nI i, v) := by
            unfold oRun
            rw [if_pos g1, cl_n (by omega), run_end2 h8 hS2]
          exact e_i (wf := mw g k) (u := v) hx hb hr hlocks hK hP hD hS dX1_run_37 (by rw [hz]; exact ⟨rfl, rfl⟩)
        · have h8 : ms8 v = 0 := eq_of (c_23.trans nI_0.symm) (by have := hG2.2.2.2.2.2.2.1; omega) (by decide)
          refine lv_aload_n hx hb dX1_run_26 rfl (lv_at hl 0 rfl) ?_
          refine c_v (wf := mw g k) (As := []) (rest := []) hF hA hK hP hD hS (kX1_once l D g k _ v hG2 (by omega)) q312 q314 qs19 q29 q315 hdX1_once rfl rfl ⟨Nat.le_of_ble_eq_true rfl, Nat.le_of_ble_eq_true rfl⟩ rfl rfl rfl hl.1 rfl (Nat.le_of_ble_eq_true rfl) dX1_run_27 ⟨Nat.zero_le _, Nat.zero_le _⟩ (fun u1 H locs hu1 hP hD hS => ?_)
          refine lv_iinc (v := nI (i + 1)) (lv' := [(2, .int (nI (i + 1))), (0, .ref (g 0)), (1, .int (nI j1))]) (k := 2) hx hb dX1_run_30 hl rfl (nI_1 _) (by decide) rfl (fun ls hl => ?_)
          refine lv_goto (tgt := 14) hx hb dX1_run_33 (by decide) ?_
          exact ih (hlt) ls _ _ _ ⟨lv_sub hl [1, 2, 0] rfl, by rw [hu1]; exact (RG.once hG2).1, by rw [hu1, (RG.once hG2).2]; omega, by rw [hu1]; exact run_step hlt h8 hS2⟩ hP hD hS
    · have g1 : iv x1 101 = 0 := iv_nle (n := 100) c_1 c_7 (by decide)
      refine lv_iconst (v := (-1)) hx hb dX1_run_10 (by decide) ?_
      have hz : oRun S x1 = (-1, S) := by
        unfold oRun
        repeat' split
        all_goals first | rfl | (exfalso; omega)
      exact e_i (wf := mw g k) (u := S) hx hb hr hlocks hK hP hD hS dX1_run_11 (by rw [hz]; exact ⟨rfl, rfl⟩)

set_option maxHeartbeats 4000000 in
set_option maxRecDepth 100000 in
theorem kX1_reset (l : Launch) (D : va_G) (g k : Nat → Nat) (sz : Nat) (S : MS) : Cv l yX1_reset cX1_reset 2 (rm_ 1) D (mt k) (mw g k) sz [.ref (g 0)] S (fun u2 => u2 = rstS S) := by
  refine st_v (by decide) (Nat.le_of_ble_eq_true rfl) ?_
  intro p e s m below meth c A ls hx hb hr hlocks hF hA hK hP hD hS hl
  have hl : lv_has ls 2 [(0, .ref (g 0))] := hl
  refine lv_iconst (v := 0) hx hb dX1_reset_0 (by decide) ?_
  refine lv_istore_n (lv' := [(1, .int 0), (0, .ref (g 0))]) hx hb dX1_reset_1 rfl hl (by decide) rfl (fun ls hl => ?_)
  refine lv_iload_n hx hb dX1_reset_2 rfl (lv_at hl 0 rfl) ?_
  refine lv_iconst (v := 4) hx hb dX1_reset_3 (by decide) ?_
  refine lv_icmp_ge (tgt := 20) hx hb dX1_reset_4 (by decide) (fun q => absurd q (by decide)) (fun _ => ?_)
  refine lv_aload_n hx hb dX1_reset_7 rfl (lv_at hl 1 rfl) ?_
  refine m_get (v := .ref (g 1)) hF hK hP 0 rfl 0 (by decide) q247 rfl rfl dX1_reset_8 ?_
  refine lv_iload_n hx hb dX1_reset_11 rfl (lv_at hl 0 rfl) ?_
  refine lv_iconst (v := 0) hx hb dX1_reset_12 (by decide) ?_
  refine n_iast (f' := nf (va_up (ms0 S) 0 0)) (ws' := mw g k (mu0 S (va_up (ms0 S) 0 0))) hx hb hK hP hD hS 1 0 rfl rfl 0 (rfl) (by omega) (by decide) (upd_nf _ _ _) rfl dX1_reset_13 (fun H locs hP hD hS => ?_)
  refine lv_iinc (v := 1) (lv' := [(1, .int 1), (0, .ref (g 0))]) (k := 0) hx hb dX1_reset_14 hl rfl (by decide) (by decide) rfl (fun ls hl => ?_)
  refine lv_goto (tgt := 2) hx hb dX1_reset_17 (by decide) ?_
  refine lv_iload_n hx hb dX1_reset_2 rfl (lv_at hl 0 rfl) ?_
  refine lv_iconst (v := 4) hx hb dX1_reset_3 (by decide) ?_
  refine lv_icmp_ge (tgt := 20) hx hb dX1_reset_4 (by decide) (fun q => absurd q (by decide)) (fun _ => ?_)
  refine lv_aload_n hx hb dX1_reset_7 rfl (lv_at hl 1 rfl) ?_
  refine m_get (v := .ref (g 1)) hF hK hP 0 rfl 0 (by decide) q247 rfl rfl dX1_reset_8 ?_
  refine lv_iload_n hx hb dX1_reset_11 rfl (lv_at hl 0 rfl) ?_
  refine lv_iconst (v := 0) hx hb dX1_reset_12 (by decide) ?_
  refine n_iast (f' := nf (va_up (va_up (ms0 S) 0 0) 1 0)) (ws' := mw g k (mu0 S (va_up (va_up (ms0 S) 0 0) 1 0))) hx hb hK hP hD hS 1 0 rfl rfl 1 (rfl) (by omega) (by decide) (upd_nf _ _ _) rfl dX1_reset_13 (fun H locs hP hD hS => ?_)
  refine lv_iinc (v := 2) (lv' := [(1, .int 2), (0, .ref (g 0))]) (k := 0) hx hb dX1_reset_14 hl rfl (by decide) (by decide) rfl (fun ls hl => ?_)
  refine lv_goto (tgt := 2) hx hb dX1_reset_17 (by decide) ?_
  refine lv_iload_n hx hb dX1_reset_2 rfl (lv_at hl 0 rfl) ?_
  refine lv_iconst (v := 4) hx hb dX1_reset_3 (by decide) ?_
  refine lv_icmp_ge (tgt := 20) hx hb dX1_reset_4 (by decide) (fun q => absurd q (by decide)) (fun _ => ?_)
  refine lv_aload_n hx hb dX1_reset_7 rfl (lv_at hl 1 rfl) ?_
  refine m_get (v := .ref (g 1)) hF hK hP 0 rfl 0 (by decide) q247 rfl rfl dX1_reset_8 ?_
  refine lv_iload_n hx hb dX1_reset_11 rfl (lv_at hl 0 rfl) ?_
  refine lv_iconst (v := 0) hx hb dX1_reset_12 (by decide) ?_
  refine n_iast (f' := nf (va_up (va_up (va_up (ms0 S) 0 0) 1 0) 2 0)) (ws' := mw g k (mu0 S (va_up (va_up (va_up (ms0 S) 0 0) 1 0) 2 0))) hx hb hK hP hD hS 1 0 rfl rfl 2 (rfl) (by omega) (by decide) (upd_nf _ _ _) rfl dX1_reset_13 (fun H locs hP hD hS => ?_)
  refine lv_iinc (v := 3) (lv' := [(1, .int 3), (0, .ref (g 0))]) (k := 0) hx hb dX1_reset_14 hl rfl (by decide) (by decide) rfl (fun ls hl => ?_)
  refine lv_goto (tgt := 2) hx hb dX1_reset_17 (by decide) ?_
  refine lv_iload_n hx hb dX1_reset_2 rfl (lv_at hl 0 rfl) ?_
  refine lv_iconst (v := 4) hx hb dX1_reset_3 (by decide) ?_
  refine lv_icmp_ge (tgt := 20) hx hb dX1_reset_4 (by decide) (fun q => absurd q (by decide)) (fun _ => ?_)
  refine lv_aload_n hx hb dX1_reset_7 rfl (lv_at hl 1 rfl) ?_
  refine m_get (v := .ref (g 1)) hF hK hP 0 rfl 0 (by decide) q247 rfl rfl dX1_reset_8 ?_
  refine lv_iload_n hx hb dX1_reset_11 rfl (lv_at hl 0 rfl) ?_
  refine lv_iconst (v := 0) hx hb dX1_reset_12 (by decide) ?_
  refine n_iast (f' := nf (va_up (va_up (va_up (va_up (ms0 S) 0 0) 1 0) 2 0) 3 0)) (ws' := mw g k (mu0 S (va_up (va_up (va_up (va_up (ms0 S) 0 0) 1 0) 2 0) 3 0))) hx hb hK hP hD hS 1 0 rfl rfl 3 (rfl) (by omega) (by decide) (upd_nf _ _ _) rfl dX1_reset_13 (fun H locs hP hD hS => ?_)
  refine lv_iinc (v := 4) (lv' := [(1, .int 4), (0, .ref (g 0))]) (k := 0) hx hb dX1_reset_14 hl rfl (by decide) (by decide) rfl (fun ls hl => ?_)
  refine lv_goto (tgt := 2) hx hb dX1_reset_17 (by decide) ?_
  refine lv_iload_n hx hb dX1_reset_2 rfl (lv_at hl 0 rfl) ?_
  refine lv_iconst (v := 4) hx hb dX1_reset_3 (by decide) ?_
  refine lv_icmp_ge (tgt := 20) hx hb dX1_reset_4 (by decide) (fun _ => ?_) (fun q => absurd (by decide) q)
  refine lv_aload_n hx hb dX1_reset_20 rfl (lv_at hl 1 rfl) ?_
  refine lv_iconst (v := 0) hx hb dX1_reset_21 (by decide) ?_
  refine m_put (v := .int 0) (ws' := mw g k (mu5 (mu0 S (va_up (va_up (va_up (va_up (ms0 S) 0 0) 1 0) 2 0) 3 0)) 0)) hF hK hP hD hS 0 rfl 5 (by decide) q252 rfl rfl rfl rfl (Nat.le_of_ble_eq_true rfl) rfl dX1_reset_22 (fun H locs hP hD hS => ?_)
  refine lv_aload_n hx hb dX1_reset_25 rfl (lv_at hl 1 rfl) ?_
  refine lv_iconst (v := 0) hx hb dX1_reset_26 (by decide) ?_
  refine m_put (v := .int 0) (ws' := mw g k (mu6 (mu5 (mu0 S (va_up (va_up (va_up (va_up (ms0 S) 0 0) 1 0) 2 0) 3 0)) 0) 0)) hF hK hP hD hS 0 rfl 6 (by decide) q253 rfl rfl rfl rfl (Nat.le_of_ble_eq_true rfl) rfl dX1_reset_27 (fun H locs hP hD hS => ?_)
  refine lv_aload_n hx hb dX1_reset_30 rfl (lv_at hl 1 rfl) ?_
  refine lv_iconst (v := 0) hx hb dX1_reset_31 (by decide) ?_
  refine m_put (v := .int 0) (ws' := mw g k (mu8 (mu6 (mu5 (mu0 S (va_up (va_up (va_up (va_up (ms0 S) 0 0) 1 0) 2 0) 3 0)) 0) 0) 0)) hF hK hP hD hS 0 rfl 8 (by decide) q255 rfl rfl rfl rfl (Nat.le_of_ble_eq_true rfl) rfl dX1_reset_32 (fun H locs hP hD hS => ?_)
  refine lv_aload_n hx hb dX1_reset_35 rfl (lv_at hl 1 rfl) ?_
  refine c_v (wf := mw g k) (As := []) (rest := []) hF hA hK hP hD hS (kX1_forgetHits l D g k _ (mu8 (mu6 (mu5 (mu0 S (va_up (va_up (va_up (va_up (ms0 S) 0 0) 1 0) 2 0) 3 0)) 0) 0) 0)) q328 q330 qs23 q29 q331 hdX1_forgetHits rfl rfl ⟨Nat.le_of_ble_eq_true rfl, Nat.le_of_ble_eq_true rfl⟩ rfl rfl rfl hl.1 rfl (Nat.le_of_ble_eq_true rfl) dX1_reset_36 ⟨Nat.zero_le _, Nat.zero_le _⟩ (fun u1 H locs hu1 hP hD hS => ?_)
  rw [hu1] at hP hD
  exact e_v (wf := mw g k) (u := mu11 (mu8 (mu6 (mu5 (mu0 S (va_up (va_up (va_up (va_up (ms0 S) 0 0) 1 0) 2 0) 3 0)) 0) 0) 0) (z6 (ms11 S))) hx hb hr hlocks hK hP hD hS dX1_reset_39 (rfl)

set_option maxHeartbeats 4000000 in
set_option maxRecDepth 100000 in
theorem kX1_hit (l : Launch) (D : va_G) (g k : Nat → Nat) (sz : Nat) (S : MS) (hG : RG S) (what : Nat) (hwh : what < 6) (x : Int32) (ok : Nat) (hok : ok ≤ 1) : Ci l yX1_hit cX1_hit 4 .boolean (rm_ 0) D (mt k) (mw g k) sz [.ref (g 0), .int (nI what), .int x, .int (nI ok)] S (fun r u2 => r = nI (oHit S what x ok).1 ∧ u2 = (oHit S what x ok).2) := by
  refine st_i (by decide) (Nat.le_of_ble_eq_true rfl) ?_
  intro p e s m below meth c A ls hx hb hr hlocks hF hA hK hP hD hS hl
  have hl : lv_has ls 4 [(0, .ref (g 0)), (1, .int (nI what)), (2, .int x), (3, .int (nI ok))] := hl
  have hg11 := hG.2.2.2.2.2.2.2.2 what hwh
  refine lv_iload_n hx hb dX1_hit_0 rfl (lv_at hl 3 rfl) ?_
  refine lv_if_eq (tgt := 34) hx hb dX1_hit_1 (by decide) (fun c_1 => ?_) (fun c_1 => ?_)
  · have g0 : ok = 0 := b_0 hok c_1
    refine lv_iconst (v := 0) hx hb dX1_hit_34 (by decide) ?_
    have hz : oHit S what x ok = (0, S) := by
      unfold oHit
      skip
      exact if_neg (by omega)
    exact e_z (wf := mw g k) (u := S) hx hb hr hlocks hK hP hD hS dX1_hit_35 (rfl) (by rw [hz]; exact ⟨rfl, rfl⟩)
  · have g0 : ok = 1 := b_1 hok c_1
    refine lv_iload_n hx hb dX1_hit_4 rfl (lv_at hl 2 rfl) ?_
    refine lv_if_lt (tgt := 34) hx hb dX1_hit_5 (by decide) (fun c_5 => ?_) (fun c_5 => ?_)
    · have g2 : iv x 3 = 0 := iv_lt c_5
      refine lv_iconst (v := 0) hx hb dX1_hit_34 (by decide) ?_
      have hz : oHit S what x ok = (0, S) := by
        unfold oHit
        skip
        exact if_neg (by omega)
      exact e_z (wf := mw g k) (u := S) hx hb hr hlocks hK hP hD hS dX1_hit_35 (rfl) (by rw [hz]; exact ⟨rfl, rfl⟩)
    · refine lv_iload_n hx hb dX1_hit_8 rfl (lv_at hl 2 rfl) ?_
      refine lv_iconst (v := 2) hx hb dX1_hit_9 (by decide) ?_
      refine lv_icmp_gt (tgt := 34) hx hb dX1_hit_10 (by decide) (fun c_10 => ?_) (fun c_10 => ?_)
      · have g2 : iv x 3 = 0 := iv_gt (n := 2) c_5 c_10 (by decide)
        refine lv_iconst (v := 0) hx hb dX1_hit_34 (by decide) ?_
        have hz : oHit S what x ok = (0, S) := by
          unfold oHit
          skip
          exact if_neg (by omega)
        exact e_z (wf := mw g k) (u := S) hx hb hr hlocks hK hP hD hS dX1_hit_35 (rfl) (by rw [hz]; exact ⟨rfl, rfl⟩)
      · have g2 : iv x 3 = 1 := iv_le (n := 2) c_5 c_10 (by decide)
        obtain ⟨j1, hj1, rfl⟩ := iv_of g2 (by decide)
        have e1 := cl_n (j := j1) (by omega)
        refine lv_aload_n hx hb dX1_hit_13 rfl (lv_at hl 0 rfl) ?_
        refine m_get (v := .ref (g 8)) hF hK hP 0 rfl 11 (by decide) q258 rfl rfl dX1_hit_14 ?_
        refine lv_iload_n hx hb dX1_hit_17 rfl (lv_at hl 1 rfl) ?_
        refine n_iald (v := nI ((ms11 S) what)) hx hb hK hP 8 7 rfl rfl what (rfl) (by omega) (by decide) (rfl) dX1_hit_18 ?_
        refine lv_if_eq (tgt := 36) hx hb dX1_hit_19 (by decide) (fun c_19 => ?_) (fun c_19 => ?_)
        · have h0 : (ms11 S what = 0 ∨ ms11 S what = j1 + 1) := Or.inl (eq_of (c_19.trans nI_0.symm) (by omega) (by decide))
          refine lv_aload_n hx hb dX1_hit_36 rfl (lv_at hl 0 rfl) ?_
          refine m_get (v := .ref (g 8)) hF hK hP 0 rfl 11 (by decide) q258 rfl rfl dX1_hit_37 ?_
          refine lv_iload_n hx hb dX1_hit_40 rfl (lv_at hl 1 rfl) ?_
          refine lv_iload_n hx hb dX1_hit_41 rfl (lv_at hl 2 rfl) ?_
          refine lv_iconst (v := 1) hx hb dX1_hit_42 (by decide) ?_
          refine lv_iadd hx hb dX1_hit_43 ?_
          refine tx (y := nI (j1 + 1)) (nI_add _ _) ?_
          refine n_iast (f' := nf (va_up (ms11 S) what (j1 + 1))) (ws' := mw g k (mu11 S (va_up (ms11 S) what (j1 + 1)))) hx hb hK hP hD hS 8 7 rfl rfl what (rfl) (by omega) (by decide) (upd_nf _ _ _) rfl dX1_hit_44 (fun H locs hP hD hS => ?_)
          refine lv_iconst (v := 1) hx hb dX1_hit_45 (by decide) ?_
          have hz : oHit S what (nI j1) ok = (1, mu11 S (va_up (ms11 S) what (j1 + 1))) := by
            unfold oHit
            rw [e1]
            exact if_pos ⟨g0, g2, h0⟩
          exact e_z (wf := mw g k) (u := mu11 S (va_up (ms11 S) what (j1 + 1))) hx hb hr hlocks hK hP hD hS dX1_hit_46 (rfl) (by rw [hz]; exact ⟨rfl, rfl⟩)
        · have h1 : ¬ ms11 S what = 0 := fun z => c_19 (by rw [z]; rfl)
          refine lv_aload_n hx hb dX1_hit_22 rfl (lv_at hl 0 rfl) ?_
          refine m_get (v := .ref (g 8)) hF hK hP 0 rfl 11 (by decide) q258 rfl rfl dX1_hit_23 ?_
          refine lv_iload_n hx hb dX1_hit_26 rfl (lv_at hl 1 rfl) ?_
          refine n_iald (v := nI ((ms11 S) what)) hx hb hK hP 8 7 rfl rfl what (rfl) (by omega) (by decide) (rfl) dX1_hit_27 ?_
          refine lv_iload_n hx hb dX1_hit_28 rfl (lv_at hl 2 rfl) ?_
          refine lv_iconst (v := 1) hx hb dX1_hit_29 (by decide) ?_
          refine lv_iadd hx hb dX1_hit_30 ?_
          refine tx (y := nI (j1 + 1)) (nI_add _ _) ?_
          refine lv_icmp_eq (tgt := 36) hx hb dX1_hit_31 (by decide) (fun c_31 => ?_) (fun c_31 => ?_)
          · have h0 : (ms11 S what = 0 ∨ ms11 S what = j1 + 1) := Or.inr (eq_of c_31)
            refine lv_aload_n hx hb dX1_hit_36 rfl (lv_at hl 0 rfl) ?_
            refine m_get (v := .ref (g 8)) hF hK hP 0 rfl 11 (by decide) q258 rfl rfl dX1_hit_37 ?_
            refine lv_iload_n hx hb dX1_hit_40 rfl (lv_at hl 1 rfl) ?_
            refine lv_iload_n hx hb dX1_hit_41 rfl (lv_at hl 2 rfl) ?_
            refine lv_iconst (v := 1) hx hb dX1_hit_42 (by decide) ?_
            refine lv_iadd hx hb dX1_hit_43 ?_
            refine tx (y := nI (j1 + 1)) (nI_add _ _) ?_
            refine n_iast (f' := nf (va_up (ms11 S) what (j1 + 1))) (ws' := mw g k (mu11 S (va_up (ms11 S) what (j1 + 1)))) hx hb hK hP hD hS 8 7 rfl rfl what (rfl) (by omega) (by decide) (upd_nf _ _ _) rfl dX1_hit_44 (fun H locs hP hD hS => ?_)
            refine lv_iconst (v := 1) hx hb dX1_hit_45 (by decide) ?_
            have hz : oHit S what (nI j1) ok = (1, mu11 S (va_up (ms11 S) what (j1 + 1))) := by
              unfold oHit
              rw [e1]
              exact if_pos ⟨g0, g2, h0⟩
            exact e_z (wf := mw g k) (u := mu11 S (va_up (ms11 S) what (j1 + 1))) hx hb hr hlocks hK hP hD hS dX1_hit_46 (rfl) (by rw [hz]; exact ⟨rfl, rfl⟩)
          · have h2 : ¬ ms11 S what = j1 + 1 := fun z => c_31 (by rw [z])
            refine lv_iconst (v := 0) hx hb dX1_hit_34 (by decide) ?_
            have hz : oHit S what (nI j1) ok = (0, S) := by
              unfold oHit
              rw [e1]
              exact if_neg (by omega)
            exact e_z (wf := mw g k) (u := S) hx hb hr hlocks hK hP hD hS dX1_hit_35 (rfl) (by rw [hz]; exact ⟨rfl, rfl⟩)

set_option maxHeartbeats 4000000 in
set_option maxRecDepth 100000 in
theorem kX1_hitRegister (l : Launch) (D : va_G) (g k : Nat → Nat) (sz : Nat) (S : MS) (hG : RG S) (x1 x2 x3 : Int32) : Ci l yX1_hitRegister cX1_hitRegister 4 .boolean (rm_ 1) D (mt k) (mw g k) sz [.ref (g 0), .int x1, .int x2, .int x3] S (fun r u2 => r = nI (oHitR S x1 x2 x3).1 ∧ u2 = (oHitR S x1 x2 x3).2) := by
  refine st_i (by decide) (Nat.le_of_ble_eq_true rfl) ?_
  intro p e s m below meth c A ls hx hb hr hlocks hF hA hK hP hD hS hl
  have hl : lv_has ls 4 [(0, .ref (g 0)), (1, .int x1), (2, .int x2), (3, .int x3)] := hl
  refine lv_aload_n hx hb dX1_hitRegister_0 rfl (lv_at hl 0 rfl) ?_
  refine lv_iload_n hx hb dX1_hitRegister_1 rfl (lv_at hl 1 rfl) ?_
  refine c_p (q0 := 0) (As := [.int x1]) (rest := []) hF hK hP (kX1_isRegister l _ x1) q292 q294 qs16 q29 q295 hdX1_isRegister rfl rfl ⟨Nat.le_of_ble_eq_true rfl, Nat.le_of_ble_eq_true rfl⟩ rfl rfl rfl hl.1 rfl (Nat.le_of_ble_eq_true rfl) dX1_hitRegister_2 ⟨Nat.zero_le _, Nat.zero_le _⟩ (fun r1 hr1 => ?_)
  refine tx (y := nI (iv x1 4)) (hr1) ?_
  refine lv_if_eq (tgt := 26) hx hb dX1_hitRegister_5 (by decide) (fun c_5 => ?_) (fun c_5 => ?_)
  · have g1 := iv_c0 c_5
    refine lv_iconst (v := 0) hx hb dX1_hitRegister_26 (by decide) ?_
    have hz : oHitR S x1 x2 x3 = (0, S) := if_neg (by omega)
    exact e_z (wf := mw g k) (u := S) hx hb hr hlocks hK hP hD hS dX1_hitRegister_27 (rfl) (by rw [hz]; exact ⟨rfl, rfl⟩)
  · have g1 := iv_c1 c_5
    obtain ⟨j1, hj1, rfl⟩ := iv_of g1 (by decide)
    refine lv_aload_n hx hb dX1_hitRegister_8 rfl (lv_at hl 0 rfl) ?_
    refine lv_iload_n hx hb dX1_hitRegister_9 rfl (lv_at hl 1 rfl) ?_
    refine lv_iload_n hx hb dX1_hitRegister_10 rfl (lv_at hl 2 rfl) ?_
    refine lv_aload_n hx hb dX1_hitRegister_11 rfl (lv_at hl 0 rfl) ?_
    refine lv_iload_n hx hb dX1_hitRegister_12 rfl (lv_at hl 3 rfl) ?_
    refine c_p (q0 := 0) (As := [.int x3]) (rest := [.int x2, .int (nI j1), .ref (g 0)]) hF hK hP (kX1_isMask l _ x3) q340 q342 qs24 q29 q343 hdX1_isMask rfl rfl ⟨Nat.le_of_ble_eq_true rfl, Nat.le_of_ble_eq_true rfl⟩ rfl rfl rfl hl.1 rfl (Nat.le_of_ble_eq_true rfl) dX1_hitRegister_13 ⟨Nat.zero_le _, Nat.zero_le _⟩ (fun r2 hr2 => ?_)
    refine tx (y := nI (ivm x3 255)) (hr2) ?_
    refine c_i (wf := mw g k) (As := [.int (nI j1), .int x2, .int (nI (ivm x3 255))]) (rest := []) hF hA hK hP hD hS (kX1_hit l D g k _ S hG j1 (by omega) x2 (ivm x3 255) (by have := ivm_2 x3 255; omega)) q344 q346 qs25 q29 q347 hdX1_hit rfl rfl ⟨Nat.le_of_ble_eq_true rfl, Nat.le_of_ble_eq_true rfl⟩ rfl rfl rfl hl.1 rfl (Nat.le_of_ble_eq_true rfl) dX1_hitRegister_16 ⟨Nat.zero_le _, Nat.zero_le _⟩ (fun r3 u4 H locs hr3 hP hD hS => ?_)
    refine tx (y := nI ((oHit S j1 x2 (ivm x3 255)).1)) (hr3.1) ?_
    refine lv_if_eq (tgt := 26) hx hb dX1_hitRegister_19 (by decide) (fun c_19 => ?_) (fun c_19 => ?_)
    · refine lv_iconst (v := 0) hx hb dX1_hitRegister_26 (by decide) ?_
      have hz : oHitR S (nI j1) x2 x3 = oHit S j1 x2 (ivm x3 255) := by
        unfold oHitR
        rw [if_pos g1, cl_n (by omega)]
      exact e_z (wf := mw g k) (u := u4) hx hb hr hlocks hK hP hD hS dX1_hitRegister_27 (rfl) (by rw [hz]; exact ⟨by rw [b_0 (oHit_le _ _ _ _) c_19]; rfl, hr3.2⟩)
    · refine lv_iconst (v := 1) hx hb dX1_hitRegister_22 (by decide) ?_
      refine lv_goto (tgt := 27) hx hb dX1_hitRegister_23 (by decide) ?_
      have hz : oHitR S (nI j1) x2 x3 = oHit S j1 x2 (ivm x3 255) := by
        unfold oHitR
        rw [if_pos g1, cl_n (by omega)]
      exact e_z (wf := mw g k) (u := u4) hx hb hr hlocks hK hP hD hS dX1_hitRegister_27 (rfl) (by rw [hz]; exact ⟨by rw [b_1 (oHit_le _ _ _ _) c_19]; rfl, hr3.2⟩)

set_option maxHeartbeats 4000000 in
set_option maxRecDepth 100000 in
theorem kX1_hitPlace (l : Launch) (D : va_G) (g k : Nat → Nat) (sz : Nat) (S : MS) (hG : RG S) (x1 x2 : Int32) : Ci l yX1_hitPlace cX1_hitPlace 3 .boolean (rm_ 1) D (mt k) (mw g k) sz [.ref (g 0), .int x1, .int x2] S (fun r u2 => r = nI (oHitP S x1 x2).1 ∧ u2 = (oHitP S x1 x2).2) := by
  refine st_i (by decide) (Nat.le_of_ble_eq_true rfl) ?_
  intro p e s m below meth c A ls hx hb hr hlocks hF hA hK hP hD hS hl
  have hl : lv_has ls 3 [(0, .ref (g 0)), (1, .int x1), (2, .int x2)] := hl
  refine lv_aload_n hx hb dX1_hitPlace_0 rfl (lv_at hl 0 rfl) ?_
  refine lv_iconst (v := 4) hx hb dX1_hitPlace_1 (by decide) ?_
  refine lv_iload_n hx hb dX1_hitPlace_2 rfl (lv_at hl 1 rfl) ?_
  refine lv_iload_n hx hb dX1_hitPlace_3 rfl (lv_at hl 2 rfl) ?_
  refine lv_iconst (v := 1) hx hb dX1_hitPlace_4 (by decide) ?_
  refine lv_icmp_lt (tgt := 18) hx hb dX1_hitPlace_5 (by decide) (fun c_5 => ?_) (fun c_5 => ?_)
  · refine lv_iconst (v := 0) hx hb dX1_hitPlace_18 (by decide) ?_
    refine c_i (wf := mw g k) (As := [.int 4, .int x1, .int 0]) (rest := []) hF hA hK hP hD hS (kX1_hit l D g k _ S hG 4 (by decide) x1 0 (by decide)) q344 q346 qs25 q29 q347 hdX1_hit rfl rfl ⟨Nat.le_of_ble_eq_true rfl, Nat.le_of_ble_eq_true rfl⟩ rfl rfl rfl hl.1 rfl (Nat.le_of_ble_eq_true rfl) dX1_hitPlace_19 ⟨Nat.zero_le _, Nat.zero_le _⟩ (fun r1 u2 H locs hr1 hP hD hS => ?_)
    refine tx (y := nI ((oHit S 4 x1 0).1)) (hr1.1) ?_
    exact e_z (wf := mw g k) (u := u2) hx hb hr hlocks hK hP hD hS dX1_hitPlace_22 (nzb (oHit_le _ _ _ _)) (by unfold oHitP; rw [ivm_lt c_5]; exact ⟨rfl, hr1.2⟩)
  · refine lv_iload_n hx hb dX1_hitPlace_8 rfl (lv_at hl 2 rfl) ?_
    refine lv_bipush (v := 31) hx hb dX1_hitPlace_9 (by decide) ?_
    refine lv_icmp_gt (tgt := 18) hx hb dX1_hitPlace_11 (by decide) (fun c_11 => ?_) (fun c_11 => ?_)
    · refine lv_iconst (v := 0) hx hb dX1_hitPlace_18 (by decide) ?_
      refine c_i (wf := mw g k) (As := [.int 4, .int x1, .int 0]) (rest := []) hF hA hK hP hD hS (kX1_hit l D g k _ S hG 4 (by decide) x1 0 (by decide)) q344 q346 qs25 q29 q347 hdX1_hit rfl rfl ⟨Nat.le_of_ble_eq_true rfl, Nat.le_of_ble_eq_true rfl⟩ rfl rfl rfl hl.1 rfl (Nat.le_of_ble_eq_true rfl) dX1_hitPlace_19 ⟨Nat.zero_le _, Nat.zero_le _⟩ (fun r3 u4 H locs hr3 hP hD hS => ?_)
      refine tx (y := nI ((oHit S 4 x1 0).1)) (hr3.1) ?_
      exact e_z (wf := mw g k) (u := u4) hx hb hr hlocks hK hP hD hS dX1_hitPlace_22 (nzb (oHit_le _ _ _ _)) (by unfold oHitP; rw [ivm_gt (n := 31) c_5 c_11]; exact ⟨rfl, hr3.2⟩)
    · refine lv_iconst (v := 1) hx hb dX1_hitPlace_14 (by decide) ?_
      refine lv_goto (tgt := 19) hx hb dX1_hitPlace_15 (by decide) ?_
      refine c_i (wf := mw g k) (As := [.int 4, .int x1, .int 1]) (rest := []) hF hA hK hP hD hS (kX1_hit l D g k _ S hG 4 (by decide) x1 1 (by decide)) q344 q346 qs25 q29 q347 hdX1_hit rfl rfl ⟨Nat.le_of_ble_eq_true rfl, Nat.le_of_ble_eq_true rfl⟩ rfl rfl rfl hl.1 rfl (Nat.le_of_ble_eq_true rfl) dX1_hitPlace_19 ⟨Nat.zero_le _, Nat.zero_le _⟩ (fun r5 u6 H locs hr5 hP hD hS => ?_)
      refine tx (y := nI ((oHit S 4 x1 1).1)) (hr5.1) ?_
      exact e_z (wf := mw g k) (u := u6) hx hb hr hlocks hK hP hD hS dX1_hitPlace_22 (nzb (oHit_le _ _ _ _)) (by unfold oHitP; rw [ivm_in (n := 31) c_5 c_11]; exact ⟨rfl, hr5.2⟩)

set_option maxHeartbeats 4000000 in
set_option maxRecDepth 100000 in
theorem kX1_hitWork (l : Launch) (D : va_G) (g k : Nat → Nat) (sz : Nat) (S : MS) (hG : RG S) (x1 x2 : Int32) : Ci l yX1_hitWork cX1_hitWork 3 .boolean (rm_ 1) D (mt k) (mw g k) sz [.ref (g 0), .int x1, .int x2] S (fun r u2 => r = nI (oHitW S x1 x2).1 ∧ u2 = (oHitW S x1 x2).2) := by
  refine st_i (by decide) (Nat.le_of_ble_eq_true rfl) ?_
  intro p e s m below meth c A ls hx hb hr hlocks hF hA hK hP hD hS hl
  have hl : lv_has ls 3 [(0, .ref (g 0)), (1, .int x1), (2, .int x2)] := hl
  refine lv_aload_n hx hb dX1_hitWork_0 rfl (lv_at hl 0 rfl) ?_
  refine lv_iconst (v := 5) hx hb dX1_hitWork_1 (by decide) ?_
  refine lv_iload_n hx hb dX1_hitWork_2 rfl (lv_at hl 1 rfl) ?_
  refine lv_aload_n hx hb dX1_hitWork_3 rfl (lv_at hl 0 rfl) ?_
  refine lv_iload_n hx hb dX1_hitWork_4 rfl (lv_at hl 2 rfl) ?_
  refine c_p (q0 := 0) (As := [.int x2]) (rest := [.int x1, .int 5, .ref (g 0)]) hF hK hP (kX1_isMask l _ x2) q340 q342 qs24 q29 q343 hdX1_isMask rfl rfl ⟨Nat.le_of_ble_eq_true rfl, Nat.le_of_ble_eq_true rfl⟩ rfl rfl rfl hl.1 rfl (Nat.le_of_ble_eq_true rfl) dX1_hitWork_5 ⟨Nat.zero_le _, Nat.zero_le _⟩ (fun r1 hr1 => ?_)
  refine tx (y := nI (ivm x2 255)) (hr1) ?_
  refine c_i (wf := mw g k) (As := [.int 5, .int x1, .int (nI (ivm x2 255))]) (rest := []) hF hA hK hP hD hS (kX1_hit l D g k _ S hG 5 (by decide) x1 (ivm x2 255) (by have := ivm_2 x2 255; omega)) q344 q346 qs25 q29 q347 hdX1_hit rfl rfl ⟨Nat.le_of_ble_eq_true rfl, Nat.le_of_ble_eq_true rfl⟩ rfl rfl rfl hl.1 rfl (Nat.le_of_ble_eq_true rfl) dX1_hitWork_8 ⟨Nat.zero_le _, Nat.zero_le _⟩ (fun r2 u3 H locs hr2 hP hD hS => ?_)
  refine tx (y := nI ((oHit S 5 x1 (ivm x2 255)).1)) (hr2.1) ?_
  exact e_z (wf := mw g k) (u := u3) hx hb hr hlocks hK hP hD hS dX1_hitWork_11 (nzb (oHit_le _ _ _ _)) (⟨rfl, hr2.2⟩)

set_option maxHeartbeats 4000000 in
set_option maxRecDepth 100000 in
theorem kX1_spoil (l : Launch) (D : va_G) (g k : Nat → Nat) (sz : Nat) (S : MS) (hG : RG S) (wi : Nat) (hw : wi < 48) : Ci l yX1_spoil cX1_spoil 2 .boolean (rm_ 0) D (mt k) (mw g k) sz [.ref (g 0), .int (nI wi)] S (fun r u2 => r = nI (oSpl S wi).1 ∧ u2 = (oSpl S wi).2) := by
  refine st_i (by decide) (Nat.le_of_ble_eq_true rfl) ?_
  intro p e s m below meth c A ls hx hb hr hlocks hF hA hK hP hD hS hl
  have hl : lv_has ls 2 [(0, .ref (g 0)), (1, .int (nI wi))] := hl
  have hsp1 := hG.2.2.2.2.2.2.2.1 wi hw
  refine lv_aload_n hx hb dX1_spoil_0 rfl (lv_at hl 0 rfl) ?_
  refine m_get (v := .ref (g 7)) hF hK hP 0 rfl 10 (by decide) q257 rfl rfl dX1_spoil_1 ?_
  refine lv_iload_n hx hb dX1_spoil_4 rfl (lv_at hl 1 rfl) ?_
  refine n_zald (v := nI ((ms10 S) wi)) hx hb hK hP 7 6 rfl rfl wi (rfl) (by omega) (by decide) (rfl) dX1_spoil_5 ?_
  refine lv_if_eq (tgt := 11) hx hb dX1_spoil_6 (by decide) (fun c_6 => ?_) (fun c_6 => ?_)
  · have h0 : ms10 S wi = 0 := b_0 hsp1 c_6
    refine lv_aload_n hx hb dX1_spoil_11 rfl (lv_at hl 0 rfl) ?_
    refine m_get (v := .ref (g 7)) hF hK hP 0 rfl 10 (by decide) q257 rfl rfl dX1_spoil_12 ?_
    refine lv_iload_n hx hb dX1_spoil_15 rfl (lv_at hl 1 rfl) ?_
    refine lv_iconst (v := 1) hx hb dX1_spoil_16 (by decide) ?_
    refine n_zast (f' := nf (va_up (ms10 S) wi 1)) (ws' := mw g k (mu10 S (va_up (ms10 S) wi 1))) hx hb hK hP hD hS 7 6 rfl rfl wi (rfl) (by omega) (by decide) (upd_z1 _ _) rfl dX1_spoil_17 (fun H locs hP hD hS => ?_)
    refine lv_iconst (v := 1) hx hb dX1_spoil_18 (by decide) ?_
    have hz : oSpl S wi = (1, mu10 S (va_up (ms10 S) wi 1)) := if_pos h0
    exact e_z (wf := mw g k) (u := mu10 S (va_up (ms10 S) wi 1)) hx hb hr hlocks hK hP hD hS dX1_spoil_19 (rfl) (by rw [hz]; exact ⟨rfl, rfl⟩)
  · have h0 : ¬ ms10 S wi = 0 := by have := b_1 hsp1 c_6; omega
    refine lv_iconst (v := 0) hx hb dX1_spoil_9 (by decide) ?_
    have hz : oSpl S wi = (0, S) := if_neg h0
    exact e_z (wf := mw g k) (u := S) hx hb hr hlocks hK hP hD hS dX1_spoil_10 (rfl) (by rw [hz]; exact ⟨rfl, rfl⟩)

set_option maxHeartbeats 4000000 in
set_option maxRecDepth 100000 in
theorem kX1_hitData (l : Launch) (D : va_G) (g k : Nat → Nat) (sz : Nat) (S : MS) (hG : RG S) (x1 x2 : Int32) : Ci l yX1_hitData cX1_hitData 3 .boolean (rm_ 1) D (mt k) (mw g k) sz [.ref (g 0), .int x1, .int x2] S (fun r u2 => r = nI (oHitD S x1 x2).1 ∧ u2 = (oHitD S x1 x2).2) := by
  refine st_i (by decide) (Nat.le_of_ble_eq_true rfl) ?_
  intro p e s m below meth c A ls hx hb hr hlocks hF hA hK hP hD hS hl
  have hl : lv_has ls 3 [(0, .ref (g 0)), (1, .int x1), (2, .int x2)] := hl
  refine lv_aload_n hx hb dX1_hitData_0 rfl (lv_at hl 0 rfl) ?_
  refine lv_iload_n hx hb dX1_hitData_1 rfl (lv_at hl 1 rfl) ?_
  refine c_p (q0 := 0) (As := [.int x1]) (rest := []) hF hK hP (kX1_isCell l _ x1) q304 q306 qs18 q29 q307 hdX1_isCell rfl rfl ⟨Nat.le_of_ble_eq_true rfl, Nat.le_of_ble_eq_true rfl⟩ rfl rfl rfl hl.1 rfl (Nat.le_of_ble_eq_true rfl) dX1_hitData_2 ⟨Nat.zero_le _, Nat.zero_le _⟩ (fun r1 hr1 => ?_)
  refine tx (y := nI (iv x1 16)) (hr1) ?_
  refine lv_if_eq (tgt := 33) hx hb dX1_hitData_5 (by decide) (fun c_5 => ?_) (fun c_5 => ?_)
  · have g1 := iv_c0 c_5
    refine lv_iconst (v := 0) hx hb dX1_hitData_33 (by decide) ?_
    have hz : oHitD S x1 x2 = (0, S) := by
      unfold oHitD
      exact if_neg (by omega)
    exact e_z (wf := mw g k) (u := S) hx hb hr hlocks hK hP hD hS dX1_hitData_34 (rfl) (by rw [hz]; exact ⟨rfl, rfl⟩)
  · have g1 := iv_c1 c_5
    refine lv_iload_n hx hb dX1_hitData_8 rfl (lv_at hl 2 rfl) ?_
    refine lv_if_lt (tgt := 33) hx hb dX1_hitData_9 (by decide) (fun c_9 => ?_) (fun c_9 => ?_)
    · have g2 : iv x2 13 = 0 := iv_lt c_9
      refine lv_iconst (v := 0) hx hb dX1_hitData_33 (by decide) ?_
      have hz : oHitD S x1 x2 = (0, S) := by
        unfold oHitD
        exact if_neg (by omega)
      exact e_z (wf := mw g k) (u := S) hx hb hr hlocks hK hP hD hS dX1_hitData_34 (rfl) (by rw [hz]; exact ⟨rfl, rfl⟩)
    · refine lv_iload_n hx hb dX1_hitData_12 rfl (lv_at hl 2 rfl) ?_
      refine lv_bipush (v := 12) hx hb dX1_hitData_13 (by decide) ?_
      refine lv_icmp_gt (tgt := 33) hx hb dX1_hitData_15 (by decide) (fun c_15 => ?_) (fun c_15 => ?_)
      · have g2 : iv x2 13 = 0 := iv_gt (n := 12) c_9 c_15 (by decide)
        refine lv_iconst (v := 0) hx hb dX1_hitData_33 (by decide) ?_
        have hz : oHitD S x1 x2 = (0, S) := by
          unfold oHitD
          exact if_neg (by omega)
        exact e_z (wf := mw g k) (u := S) hx hb hr hlocks hK hP hD hS dX1_hitData_34 (rfl) (by rw [hz]; exact ⟨rfl, rfl⟩)
      · have g2 : iv x2 13 = 1 := iv_le (n := 12) c_9 c_15 (by decide)
        obtain ⟨j1, hj1, rfl⟩ := iv_of g1 (by decide)
        refine lv_aload_n hx hb dX1_hitData_18 rfl (lv_at hl 0 rfl) ?_
        refine lv_bipush (v := 32) hx hb dX1_hitData_19 (by decide) ?_
        refine lv_iload_n hx hb dX1_hitData_21 rfl (lv_at hl 1 rfl) ?_
        refine lv_iadd hx hb dX1_hitData_22 ?_
        refine tx (y := nI (32 + j1)) (nI_add _ _) ?_
        refine c_i (wf := mw g k) (As := [.int (nI (32 + j1))]) (rest := []) hF hA hK hP hD hS (kX1_spoil l D g k _ S hG (32 + j1) (by omega)) q360 q362 qs26 q29 q363 hdX1_spoil rfl rfl ⟨Nat.le_of_ble_eq_true rfl, Nat.le_of_ble_eq_true rfl⟩ rfl rfl rfl hl.1 rfl (Nat.le_of_ble_eq_true rfl) dX1_hitData_23 ⟨Nat.zero_le _, Nat.zero_le _⟩ (fun r2 u3 H locs hr2 hP hD hS => ?_)
        refine tx (y := nI ((oSpl S (32 + j1)).1)) (hr2.1) ?_
        refine lv_if_eq (tgt := 33) hx hb dX1_hitData_26 (by decide) (fun c_26 => ?_) (fun c_26 => ?_)
        · refine lv_iconst (v := 0) hx hb dX1_hitData_33 (by decide) ?_
          have hz : oHitD S (nI j1) x2 = oSpl S (32 + j1) := by
            unfold oHitD
            rw [if_pos ⟨g1, g2⟩, cl_n (by omega)]
          exact e_z (wf := mw g k) (u := u3) hx hb hr hlocks hK hP hD hS dX1_hitData_34 (rfl) (by rw [hz]; exact ⟨by rw [b_0 (oSpl_le _ _) c_26]; rfl, hr2.2⟩)
        · refine lv_iconst (v := 1) hx hb dX1_hitData_29 (by decide) ?_
          refine lv_goto (tgt := 34) hx hb dX1_hitData_30 (by decide) ?_
          have hz : oHitD S (nI j1) x2 = oSpl S (32 + j1) := by
            unfold oHitD
            rw [if_pos ⟨g1, g2⟩, cl_n (by omega)]
          exact e_z (wf := mw g k) (u := u3) hx hb hr hlocks hK hP hD hS dX1_hitData_34 (rfl) (by rw [hz]; exact ⟨by rw [b_1 (oSpl_le _ _) c_26]; rfl, hr2.2⟩)

set_option maxHeartbeats 4000000 in
set_option maxRecDepth 100000 in
theorem kX1_hitProgram (l : Launch) (D : va_G) (g k : Nat → Nat) (sz : Nat) (S : MS) (hG : RG S) (x1 x2 : Int32) : Ci l yX1_hitProgram cX1_hitProgram 3 .boolean (rm_ 1) D (mt k) (mw g k) sz [.ref (g 0), .int x1, .int x2] S (fun r u2 => r = nI (oHitG S x1 x2).1 ∧ u2 = (oHitG S x1 x2).2) := by
  refine st_i (by decide) (Nat.le_of_ble_eq_true rfl) ?_
  intro p e s m below meth c A ls hx hb hr hlocks hF hA hK hP hD hS hl
  have hl : lv_has ls 3 [(0, .ref (g 0)), (1, .int x1), (2, .int x2)] := hl
  refine lv_aload_n hx hb dX1_hitProgram_0 rfl (lv_at hl 0 rfl) ?_
  refine lv_iload_n hx hb dX1_hitProgram_1 rfl (lv_at hl 1 rfl) ?_
  refine c_p (q0 := 0) (As := [.int x1]) (rest := []) hF hK hP (kX1_isPlace l _ x1) q288 q290 qs15 q29 q291 hdX1_isPlace rfl rfl ⟨Nat.le_of_ble_eq_true rfl, Nat.le_of_ble_eq_true rfl⟩ rfl rfl rfl hl.1 rfl (Nat.le_of_ble_eq_true rfl) dX1_hitProgram_2 ⟨Nat.zero_le _, Nat.zero_le _⟩ (fun r1 hr1 => ?_)
  refine tx (y := nI (iv x1 32)) (hr1) ?_
  refine lv_if_eq (tgt := 30) hx hb dX1_hitProgram_5 (by decide) (fun c_5 => ?_) (fun c_5 => ?_)
  · have g1 := iv_c0 c_5
    refine lv_iconst (v := 0) hx hb dX1_hitProgram_30 (by decide) ?_
    have hz : oHitG S x1 x2 = (0, S) := by
      unfold oHitG
      exact if_neg (by omega)
    exact e_z (wf := mw g k) (u := S) hx hb hr hlocks hK hP hD hS dX1_hitProgram_31 (rfl) (by rw [hz]; exact ⟨rfl, rfl⟩)
  · have g1 := iv_c1 c_5
    refine lv_iload_n hx hb dX1_hitProgram_8 rfl (lv_at hl 2 rfl) ?_
    refine lv_if_lt (tgt := 30) hx hb dX1_hitProgram_9 (by decide) (fun c_9 => ?_) (fun c_9 => ?_)
    · have g2 : iv x2 22 = 0 := iv_lt c_9
      refine lv_iconst (v := 0) hx hb dX1_hitProgram_30 (by decide) ?_
      have hz : oHitG S x1 x2 = (0, S) := by
        unfold oHitG
        exact if_neg (by omega)
      exact e_z (wf := mw g k) (u := S) hx hb hr hlocks hK hP hD hS dX1_hitProgram_31 (rfl) (by rw [hz]; exact ⟨rfl, rfl⟩)
    · refine lv_iload_n hx hb dX1_hitProgram_12 rfl (lv_at hl 2 rfl) ?_
      refine lv_bipush (v := 21) hx hb dX1_hitProgram_13 (by decide) ?_
      refine lv_icmp_gt (tgt := 30) hx hb dX1_hitProgram_15 (by decide) (fun c_15 => ?_) (fun c_15 => ?_)
      · have g2 : iv x2 22 = 0 := iv_gt (n := 21) c_9 c_15 (by decide)
        refine lv_iconst (v := 0) hx hb dX1_hitProgram_30 (by decide) ?_
        have hz : oHitG S x1 x2 = (0, S) := by
          unfold oHitG
          exact if_neg (by omega)
        exact e_z (wf := mw g k) (u := S) hx hb hr hlocks hK hP hD hS dX1_hitProgram_31 (rfl) (by rw [hz]; exact ⟨rfl, rfl⟩)
      · have g2 : iv x2 22 = 1 := iv_le (n := 21) c_9 c_15 (by decide)
        obtain ⟨j1, hj1, rfl⟩ := iv_of g1 (by decide)
        refine lv_aload_n hx hb dX1_hitProgram_18 rfl (lv_at hl 0 rfl) ?_
        refine lv_iload_n hx hb dX1_hitProgram_19 rfl (lv_at hl 1 rfl) ?_
        refine c_i (wf := mw g k) (As := [.int (nI j1)]) (rest := []) hF hA hK hP hD hS (kX1_spoil l D g k _ S hG j1 (by omega)) q360 q362 qs26 q29 q363 hdX1_spoil rfl rfl ⟨Nat.le_of_ble_eq_true rfl, Nat.le_of_ble_eq_true rfl⟩ rfl rfl rfl hl.1 rfl (Nat.le_of_ble_eq_true rfl) dX1_hitProgram_20 ⟨Nat.zero_le _, Nat.zero_le _⟩ (fun r2 u3 H locs hr2 hP hD hS => ?_)
        refine tx (y := nI ((oSpl S j1).1)) (hr2.1) ?_
        refine lv_if_eq (tgt := 30) hx hb dX1_hitProgram_23 (by decide) (fun c_23 => ?_) (fun c_23 => ?_)
        · refine lv_iconst (v := 0) hx hb dX1_hitProgram_30 (by decide) ?_
          have hz : oHitG S (nI j1) x2 = oSpl S (j1) := by
            unfold oHitG
            rw [if_pos ⟨g1, g2⟩, cl_n (by omega)]
          exact e_z (wf := mw g k) (u := u3) hx hb hr hlocks hK hP hD hS dX1_hitProgram_31 (rfl) (by rw [hz]; exact ⟨by rw [b_0 (oSpl_le _ _) c_23]; rfl, hr2.2⟩)
        · refine lv_iconst (v := 1) hx hb dX1_hitProgram_26 (by decide) ?_
          refine lv_goto (tgt := 31) hx hb dX1_hitProgram_27 (by decide) ?_
          have hz : oHitG S (nI j1) x2 = oSpl S (j1) := by
            unfold oHitG
            rw [if_pos ⟨g1, g2⟩, cl_n (by omega)]
          exact e_z (wf := mw g k) (u := u3) hx hb hr hlocks hK hP hD hS dX1_hitProgram_31 (rfl) (by rw [hz]; exact ⟨by rw [b_1 (oSpl_le _ _) c_23]; rfl, hr2.2⟩)

set_option maxHeartbeats 4000000 in
set_option maxRecDepth 100000 in
theorem kX1_register (l : Launch) (D : va_G) (g k : Nat → Nat) (sz : Nat) (S : MS) (x1 : Int32) : Ci l yX1_register cX1_register 2 .int (rm_ 1) D (mt k) (mw g k) sz [.ref (g 0), .int x1] S (fun r u2 => r = aReg S x1 ∧ u2 = S) := by
  refine st_i (by decide) (Nat.le_of_ble_eq_true rfl) ?_
  intro p e s m below meth c A ls hx hb hr hlocks hF hA hK hP hD hS hl
  have hl : lv_has ls 2 [(0, .ref (g 0)), (1, .int x1)] := hl
  refine lv_aload_n hx hb dX1_register_0 rfl (lv_at hl 0 rfl) ?_
  refine lv_iload_n hx hb dX1_register_1 rfl (lv_at hl 1 rfl) ?_
  refine c_p (q0 := 0) (As := [.int x1]) (rest := []) hF hK hP (kX1_isRegister l _ x1) q292 q294 qs16 q29 q295 hdX1_isRegister rfl rfl ⟨Nat.le_of_ble_eq_true rfl, Nat.le_of_ble_eq_true rfl⟩ rfl rfl rfl hl.1 rfl (Nat.le_of_ble_eq_true rfl) dX1_register_2 ⟨Nat.zero_le _, Nat.zero_le _⟩ (fun r1 hr1 => ?_)
  refine tx (y := nI (iv x1 4)) (hr1) ?_
  refine lv_if_eq (tgt := 17) hx hb dX1_register_5 (by decide) (fun c_5 => ?_) (fun c_5 => ?_)
  · have g1 := iv_c0 c_5
    refine lv_iconst (v := (-1)) hx hb dX1_register_17 (by decide) ?_
    exact e_i (wf := mw g k) (u := S) hx hb hr hlocks hK hP hD hS dX1_register_18 (⟨(if_neg (by omega)).symm, rfl⟩)
  · have g1 := iv_c1 c_5
    obtain ⟨j1, hj1, rfl⟩ := iv_of g1 (by decide)
    refine lv_aload_n hx hb dX1_register_8 rfl (lv_at hl 0 rfl) ?_
    refine m_get (v := .ref (g 1)) hF hK hP 0 rfl 0 (by decide) q247 rfl rfl dX1_register_9 ?_
    refine lv_iload_n hx hb dX1_register_12 rfl (lv_at hl 1 rfl) ?_
    refine n_iald (v := nI ((ms0 S) j1)) hx hb hK hP 1 0 rfl rfl j1 (rfl) (by omega) (by decide) (rfl) dX1_register_13 ?_
    refine lv_goto (tgt := 18) hx hb dX1_register_14 (by decide) ?_
    exact e_i (wf := mw g k) (u := S) hx hb hr hlocks hK hP hD hS dX1_register_18 (⟨by unfold aReg; rw [if_pos g1, cl_n (by omega)], rfl⟩)

set_option maxHeartbeats 4000000 in
set_option maxRecDepth 100000 in
theorem kX1_data (l : Launch) (D : va_G) (g k : Nat → Nat) (sz : Nat) (S : MS) (x1 : Int32) : Ci l yX1_data cX1_data 2 .int (rm_ 1) D (mt k) (mw g k) sz [.ref (g 0), .int x1] S (fun r u2 => r = aDat S x1 ∧ u2 = S) := by
  refine st_i (by decide) (Nat.le_of_ble_eq_true rfl) ?_
  intro p e s m below meth c A ls hx hb hr hlocks hF hA hK hP hD hS hl
  have hl : lv_has ls 2 [(0, .ref (g 0)), (1, .int x1)] := hl
  refine lv_aload_n hx hb dX1_data_0 rfl (lv_at hl 0 rfl) ?_
  refine lv_iload_n hx hb dX1_data_1 rfl (lv_at hl 1 rfl) ?_
  refine c_p (q0 := 0) (As := [.int x1]) (rest := []) hF hK hP (kX1_isCell l _ x1) q304 q306 qs18 q29 q307 hdX1_isCell rfl rfl ⟨Nat.le_of_ble_eq_true rfl, Nat.le_of_ble_eq_true rfl⟩ rfl rfl rfl hl.1 rfl (Nat.le_of_ble_eq_true rfl) dX1_data_2 ⟨Nat.zero_le _, Nat.zero_le _⟩ (fun r1 hr1 => ?_)
  refine tx (y := nI (iv x1 16)) (hr1) ?_
  refine lv_if_eq (tgt := 17) hx hb dX1_data_5 (by decide) (fun c_5 => ?_) (fun c_5 => ?_)
  · have g1 := iv_c0 c_5
    refine lv_iconst (v := (-1)) hx hb dX1_data_17 (by decide) ?_
    exact e_i (wf := mw g k) (u := S) hx hb hr hlocks hK hP hD hS dX1_data_18 (⟨(if_neg (by omega)).symm, rfl⟩)
  · have g1 := iv_c1 c_5
    obtain ⟨j1, hj1, rfl⟩ := iv_of g1 (by decide)
    refine lv_aload_n hx hb dX1_data_8 rfl (lv_at hl 0 rfl) ?_
    refine m_get (v := .ref (g 2)) hF hK hP 0 rfl 1 (by decide) q248 rfl rfl dX1_data_9 ?_
    refine lv_iload_n hx hb dX1_data_12 rfl (lv_at hl 1 rfl) ?_
    refine n_iald (v := nI ((ms1 S) j1)) hx hb hK hP 2 1 rfl rfl j1 (rfl) (by omega) (by decide) (rfl) dX1_data_13 ?_
    refine lv_goto (tgt := 18) hx hb dX1_data_14 (by decide) ?_
    exact e_i (wf := mw g k) (u := S) hx hb hr hlocks hK hP hD hS dX1_data_18 (⟨by unfold aDat; rw [if_pos g1, cl_n (by omega)], rfl⟩)

set_option maxHeartbeats 4000000 in
set_option maxRecDepth 100000 in
theorem kX1_place (l : Launch) (D : va_G) (g k : Nat → Nat) (sz : Nat) (S : MS) : Ci l yX1_place cX1_place 1 .int (rm_ 0) D (mt k) (mw g k) sz [.ref (g 0)] S (fun r u2 => r = nI (ms5 S) ∧ u2 = S) := by
  refine st_i (by decide) (Nat.le_of_ble_eq_true rfl) ?_
  intro p e s m below meth c A ls hx hb hr hlocks hF hA hK hP hD hS hl
  have hl : lv_has ls 1 [(0, .ref (g 0))] := hl
  refine lv_aload_n hx hb dX1_place_0 rfl (lv_at hl 0 rfl) ?_
  refine m_get (v := .int (nI (ms5 S))) hF hK hP 0 rfl 5 (by decide) q252 rfl rfl dX1_place_1 ?_
  exact e_i (wf := mw g k) (u := S) hx hb hr hlocks hK hP hD hS dX1_place_4 (⟨rfl, rfl⟩)

set_option maxHeartbeats 4000000 in
set_option maxRecDepth 100000 in
theorem kX1_outs (l : Launch) (D : va_G) (g k : Nat → Nat) (sz : Nat) (S : MS) : Ci l yX1_outs cX1_outs 1 .int (rm_ 0) D (mt k) (mw g k) sz [.ref (g 0)] S (fun r u2 => r = nI (ms6 S) ∧ u2 = S) := by
  refine st_i (by decide) (Nat.le_of_ble_eq_true rfl) ?_
  intro p e s m below meth c A ls hx hb hr hlocks hF hA hK hP hD hS hl
  have hl : lv_has ls 1 [(0, .ref (g 0))] := hl
  refine lv_aload_n hx hb dX1_outs_0 rfl (lv_at hl 0 rfl) ?_
  refine m_get (v := .int (nI (ms6 S))) hF hK hP 0 rfl 6 (by decide) q253 rfl rfl dX1_outs_1 ?_
  exact e_i (wf := mw g k) (u := S) hx hb hr hlocks hK hP hD hS dX1_outs_4 (⟨rfl, rfl⟩)

set_option maxHeartbeats 4000000 in
set_option maxRecDepth 100000 in
theorem kX1_out (l : Launch) (D : va_G) (g k : Nat → Nat) (sz : Nat) (S : MS) (hG : RG S) (x1 : Int32) : Ci l yX1_out cX1_out 2 .int (rm_ 0) D (mt k) (mw g k) sz [.ref (g 0), .int x1] S (fun r u2 => r = aOut S x1 ∧ u2 = S) := by
  refine st_i (by decide) (Nat.le_of_ble_eq_true rfl) ?_
  intro p e s m below meth c A ls hx hb hr hlocks hF hA hK hP hD hS hl
  have hl : lv_has ls 2 [(0, .ref (g 0)), (1, .int x1)] := hl
  have hg6 := hG.2.2.2.2.1
  refine lv_iload_n hx hb dX1_out_0 rfl (lv_at hl 1 rfl) ?_
  refine lv_if_lt (tgt := 21) hx hb dX1_out_1 (by decide) (fun c_1 => ?_) (fun c_1 => ?_)
  · refine lv_iconst (v := (-1)) hx hb dX1_out_21 (by decide) ?_
    exact e_i (wf := mw g k) (u := S) hx hb hr hlocks hK hP hD hS dX1_out_22 (⟨(if_pos c_1).symm, rfl⟩)
  · refine lv_iload_n hx hb dX1_out_4 rfl (lv_at hl 1 rfl) ?_
    refine lv_aload_n hx hb dX1_out_5 rfl (lv_at hl 0 rfl) ?_
    refine m_get (v := .int (nI (ms6 S))) hF hK hP 0 rfl 6 (by decide) q253 rfl rfl dX1_out_6 ?_
    refine lv_icmp_ge (tgt := 21) hx hb dX1_out_9 (by decide) (fun c_9 => ?_) (fun c_9 => ?_)
    · refine lv_iconst (v := (-1)) hx hb dX1_out_21 (by decide) ?_
      exact e_i (wf := mw g k) (u := S) hx hb hr hlocks hK hP hD hS dX1_out_22 (⟨by unfold aOut; rw [if_neg c_1, if_pos c_9], rfl⟩)
    · obtain ⟨j1, hj31, rfl⟩ := nI_of c_1
      have hj6 : j1 < ms6 S := nle_of c_9
      refine lv_aload_n hx hb dX1_out_12 rfl (lv_at hl 0 rfl) ?_
      refine m_get (v := .ref (g 6)) hF hK hP 0 rfl 7 (by decide) q254 rfl rfl dX1_out_13 ?_
      refine lv_iload_n hx hb dX1_out_16 rfl (lv_at hl 1 rfl) ?_
      refine n_iald (v := nI ((ms7 S) j1)) hx hb hK hP 6 5 rfl rfl j1 (rfl) (by omega) (by decide) (rfl) dX1_out_17 ?_
      refine lv_goto (tgt := 22) hx hb dX1_out_18 (by decide) ?_
      exact e_i (wf := mw g k) (u := S) hx hb hr hlocks hK hP hD hS dX1_out_22 (⟨by unfold aOut; rw [if_neg c_1, if_neg c_9, cl_n hj31], rfl⟩)

set_option maxHeartbeats 4000000 in
set_option maxRecDepth 100000 in
theorem kX1_stopped (l : Launch) (D : va_G) (g k : Nat → Nat) (sz : Nat) (S : MS) (hG : RG S) : Ci l yX1_stopped cX1_stopped 1 .boolean (rm_ 0) D (mt k) (mw g k) sz [.ref (g 0)] S (fun r u2 => r = nI (ms8 S) ∧ u2 = S) := by
  refine st_i (by decide) (Nat.le_of_ble_eq_true rfl) ?_
  intro p e s m below meth c A ls hx hb hr hlocks hF hA hK hP hD hS hl
  have hl : lv_has ls 1 [(0, .ref (g 0))] := hl
  refine lv_aload_n hx hb dX1_stopped_0 rfl (lv_at hl 0 rfl) ?_
  refine m_get (v := .int (nI (ms8 S))) hF hK hP 0 rfl 8 (by decide) q255 rfl rfl dX1_stopped_1 ?_
  exact e_z (wf := mw g k) (u := S) hx hb hr hlocks hK hP hD hS dX1_stopped_4 (nzb hG.2.2.2.2.2.2.1) (⟨rfl, rfl⟩)

set_option maxHeartbeats 4000000 in
set_option maxRecDepth 100000 in
theorem kX1_spoiled (l : Launch) (D : va_G) (g k : Nat → Nat) (sz : Nat) (S : MS) (hG : RG S) : Ci l yX1_spoiled cX1_spoiled 3 .int (rm_ 0) D (mt k) (mw g k) sz [.ref (g 0)] S (fun r u2 => r = nI (cnt (ms10 S) 48) ∧ u2 = S) := by
  refine st_i (by decide) (Nat.le_of_ble_eq_true rfl) ?_
  intro p e s m below meth c A ls hx hb hr hlocks hF hA hK hP hD hS hl
  have hl : lv_has ls 3 [(0, .ref (g 0))] := hl
  refine lv_iconst (v := 0) hx hb dX1_spoiled_0 (by decide) ?_
  refine tx (y := nI (cnt (ms10 S) 0)) (rfl) ?_
  refine lv_istore_n (lv' := [(1, .int (nI (cnt (ms10 S) 0))), (0, .ref (g 0))]) hx hb dX1_spoiled_1 rfl hl (by decide) rfl (fun ls hl => ?_)
  refine lv_iconst (v := 0) hx hb dX1_spoiled_2 (by decide) ?_
  refine lv_istore_n (lv' := [(2, .int 0), (1, .int (nI (cnt (ms10 S) 0))), (0, .ref (g 0))]) hx hb dX1_spoiled_3 rfl hl (by decide) rfl (fun ls hl => ?_)
  refine lp_p (fun i ls => lv_has ls 3 [(0, .ref (g 0)), (1, .int (nI (cnt (ms10 S) i))), (2, .int (nI i))]) 48 ?_ 0 ls (by omega) (lv_sub hl [2, 1, 0] rfl)
  intro i ls hi hI ih
  have hl := hI
  have hl : lv_has ls 3 [(0, .ref (g 0)), (1, .int (nI (cnt (ms10 S) i))), (2, .int (nI i))] := hl
  refine lv_iload_n hx hb dX1_spoiled_4 rfl (lv_at hl 2 rfl) ?_
  refine lv_bipush (v := 48) hx hb dX1_spoiled_5 (by decide) ?_
  refine lv_icmp_ge (tgt := 33) hx hb dX1_spoiled_7 (by decide) (fun c_7 => ?_) (fun c_7 => ?_)
  · have hin : i = 48 := by have := le_of (a := 48) c_7; omega
    refine lv_iload_n hx hb dX1_spoiled_33 rfl (lv_at hl 1 rfl) ?_
    exact e_i (wf := mw g k) (u := S) hx hb hr hlocks hK hP hD hS dX1_spoiled_34 (⟨by rw [hin], rfl⟩)
  · have hlt : i < 48 := nle_of (a := 48) c_7
    have hsp1 := hG.2.2.2.2.2.2.2.1 i hlt
    refine lv_aload_n hx hb dX1_spoiled_10 rfl (lv_at hl 0 rfl) ?_
    refine m_get (v := .ref (g 7)) hF hK hP 0 rfl 10 (by decide) q257 rfl rfl dX1_spoiled_11 ?_
    refine lv_iload_n hx hb dX1_spoiled_14 rfl (lv_at hl 2 rfl) ?_
    refine n_zald (v := nI ((ms10 S) i)) hx hb hK hP 7 6 rfl rfl i (rfl) (by omega) (by decide) (rfl) dX1_spoiled_15 ?_
    refine lv_if_eq (tgt := 25) hx hb dX1_spoiled_16 (by decide) (fun c_16 => ?_) (fun c_16 => ?_)
    · have h0 : ms10 S i = 0 := b_0 hsp1 c_16
      refine lv_iload_n hx hb dX1_spoiled_25 rfl (lv_at hl 1 rfl) ?_
      refine tx (y := nI (cnt (ms10 S) (i + 1))) (by rw [show cnt (ms10 S) (i + 1) = cnt (ms10 S) i + ms10 S i from rfl, h0, Nat.add_zero]) ?_
      refine lv_istore_n (lv' := [(1, .int (nI (cnt (ms10 S) (i + 1)))), (0, .ref (g 0)), (2, .int (nI i))]) hx hb dX1_spoiled_26 rfl hl (by decide) rfl (fun ls hl => ?_)
      refine lv_iinc (v := nI (i + 1)) (lv' := [(2, .int (nI (i + 1))), (1, .int (nI (cnt (ms10 S) (i + 1)))), (0, .ref (g 0))]) (k := 2) hx hb dX1_spoiled_27 hl rfl (nI_1 _) (by decide) rfl (fun ls hl => ?_)
      refine lv_goto (tgt := 4) hx hb dX1_spoiled_30 (by decide) ?_
      exact ih (hlt) ls (lv_sub hl [2, 1, 0] rfl)
    · have h0 : ms10 S i = 1 := b_1 hsp1 c_16
      refine lv_iload_n hx hb dX1_spoiled_19 rfl (lv_at hl 1 rfl) ?_
      refine lv_iconst (v := 1) hx hb dX1_spoiled_20 (by decide) ?_
      refine lv_iadd hx hb dX1_spoiled_21 ?_
      refine tx (y := nI (cnt (ms10 S) i + 1)) (nI_add _ _) ?_
      refine lv_goto (tgt := 26) hx hb dX1_spoiled_22 (by decide) ?_
      refine tx (y := nI (cnt (ms10 S) (i + 1))) (by rw [show cnt (ms10 S) (i + 1) = cnt (ms10 S) i + ms10 S i from rfl, h0]) ?_
      refine lv_istore_n (lv' := [(1, .int (nI (cnt (ms10 S) (i + 1)))), (0, .ref (g 0)), (2, .int (nI i))]) hx hb dX1_spoiled_26 rfl hl (by decide) rfl (fun ls hl => ?_)
      refine lv_iinc (v := nI (i + 1)) (lv' := [(2, .int (nI (i + 1))), (1, .int (nI (cnt (ms10 S) (i + 1)))), (0, .ref (g 0))]) (k := 2) hx hb dX1_spoiled_27 hl rfl (nI_1 _) (by decide) rfl (fun ls hl => ?_)
      refine lv_goto (tgt := 4) hx hb dX1_spoiled_30 (by decide) ?_
      exact ih (hlt) ls (lv_sub hl [2, 1, 0] rfl)
end
section
/-! ROWS FOR TWO WORLDS SIDE BY SIDE: a call into one of them leaves the other as it is -/
section LR
variable {D : va_G} {cl : List vw_C} {A : Nat → Prop} {a b : va_W} {H H1 : Heap}
theorem gl_l {k : Nat} {q : Nat × va_E} (hk : a[k]? = some q) : (a ++ b)[k]? = some q := by
  rw [List.getElem?_append_left (List.getElem?_eq_some_iff.mp hk).1]; exact hk
theorem gl_r {k : Nat} {q : Nat × va_E} (hk : b[k]? = some q) : (a ++ b)[a.length + k]? = some q := by
  rw [List.getElem?_append_right (Nat.le_add_right _ _), Nat.add_sub_cancel_left]; exact hk
theorem wP_l (h : va_P D cl (a ++ b) H) : va_P D cl a H := fun k q hk => h k q (gl_l hk)
theorem wP_r (h : va_P D cl (a ++ b) H) : va_P D cl b H := fun k q hk => h (a.length + k) q (gl_r hk)
theorem wD_l (h : va_D A (a ++ b)) : va_D A a := ⟨fun i j p q hi hj e => h.1 i j p q (gl_l hi) (gl_l hj) e, fun k q hk => h.2 k q (gl_l hk)⟩
theorem wD_r (h : va_D A (a ++ b)) : va_D A b := ⟨fun i j p q hi hj e => by
  have := h.1 (a.length + i) (a.length + j) p q (gl_r hi) (gl_r hj) e
  omega, fun k q hk => h.2 (a.length + k) q (gl_r hk)⟩
theorem wD_x (h : va_D A (a ++ b)) (i j : Nat) (x y : Nat × va_E) (hx : a[i]? = some x) (hy : b[j]? = some y) : x.1 ≠ y.1 := by
  intro e
  have h1 := h.1 i (a.length + j) x y (gl_l hx) (gl_r hy) e
  have h2 := (List.getElem?_eq_some_iff.mp hx).1
  omega
theorem wP_sw (h : va_P D cl (a ++ b) H) : va_P D cl (b ++ a) H := (wP_r h).app (wP_l h)
theorem wD_sw (h : va_D A (a ++ b)) : va_D A (b ++ a) := (wD_r h).app (wD_l h) (fun i j p q hp hq => (wD_x h j i q p hq hp).symm)
/-- behind a call into the first world -/
theorem w_join {w1 : va_W} (hP : va_P D cl (a ++ b) H) (hD : va_D A (a ++ b)) (hk : ∀ q : Nat, q < H.size → ¬ va_A a H.size q → H1[q]? = H[q]?) (hF : ∀ q, va_A a H.size q → A q) (hP1 : va_P D cl w1 H1) (hD1 : va_D (va_A a H.size) w1) : va_P D cl (w1 ++ b) H1 ∧ va_D A (w1 ++ b) := by
  have apart : ∀ (k : Nat) (q : Nat × va_E), b[k]? = some q → q.1 < H.size ∧ ¬ va_A a H.size q.1 := by
    intro k q hq
    have hl := (wP_r hP k q hq).lt
    refine ⟨hl, fun h => ?_⟩
    rcases h with ⟨k2, e, h⟩ | h
    · exact wD_x hD k2 k (q.1, e) q h hq rfl
    · omega
  refine ⟨hP1.app (fun k q hq => (wP_r hP k q hq).kept (hk q.1 (apart k q hq).1 (apart k q hq).2)), (hD1.weaken (fun k q _ h => hF q.1 h)).app (wD_r hD) (fun i j x y hx hy hxy => ?_)⟩
  exact (apart j y hy).2 (by rw [← hxy]; exact hD1.2 i x hx)
theorem w_free1 {H0 : Heap} {locs : List Loc} (hD : va_D A (a ++ b)) (hS : va_S A H0 H locs) (hA : ∀ q : Nat, H0.size ≤ q → A q) : ∀ q, va_A a H.size q → A q := w_free (wD_l hD) hS hA
end LR
section LC
variable {p : Program} {l : Launch} {e : Env} {R : Room} {s : State} {m : MethodId} {args : Array Value} {below : List Frame} {meth : Method} {c : Code} {H : Heap} {locs : List Loc} {cells slots : Nat} {Q : State → Prop}
variable {cc : ByteArray} {pc : Nat} {ls : Array Slot} {rest st0 : List Value} {D : va_G} {A : Nat → Prop} {tys : List (ClassId × FieldType)} {wr : va_W} {H0 : Heap}
/-- a call into the first of two worlds -/
theorem l_v {σ : Type} {wf : σ → va_W} {u : σ} {post : σ → Prop} {own : String} {y : MethodName} {b : ByteArray} {L nL n idx h ci : Nat} {q : vw_C} {fs : List Value} {rm : Room} {As : List Value} (hF : CallFix p m c cc nL s args lw_all own) (hA : ∀ q : Nat, H0.size ≤ q → A q) (hK : va_K D vwCl tys s) (hP : va_P D vwCl (wf u ++ wr) H) (hD : va_D A (wf u ++ wr)) (hS : va_S A H0 H locs) (hM : Cv l y b L rm D tys wf H.size (.ref h :: As) u post)
    (h1 : Cond.methodLink own idx y ∈ lw_all) (h2 : Cond.instanceMethod y ∈ lw_all) (h3 : Cond.selects q.1 y y ∈ lw_all) (h4 : Cond.initialized q.1 ∈ lw_all) (h5 : Cond.code y b L none ∈ lw_all) (hd : hd_ q.1 y n) (hrc : rm.cells = 0) (hrs : rm.slots = 0) (hR : rm.frames + 1 ≤ R.frames ∧ 8 + (L + 11) + rm.locals ≤ R.locals)
    (he : (wf u)[0]? = some (h, .inr (ci, fs))) (hcl : vwCl[ci]? = some q)
    (hn : As.length = n) (hsize : ls.size = nL) (hst : st0 = As.reverse ++ .ref h :: rest) (hroom : (rest.map fun v => v.category).sum ≤ 8) (hdg : decode cc pc = .ok (.invokevirtual idx, 3)) (hfit : cells ≤ R.cells ∧ slots ≤ R.slots)
    (kk : ∀ (u' : σ) (H1 : Heap) (locs1 : List Loc), post u' → va_P D vwCl (wf u' ++ wr) H1 → va_D A (wf u' ++ wr) → va_S A H0 H1 locs1 → W p l e R s m args below meth c H1 locs1 cells slots Q (F0 m (pc + 3) ls rest)) : W p l e R s m args below meth c H locs cells slots Q (F0 m pc ls st0) := by
  have hFc := w_free1 hD hS hA
  have hPc := wP_l hP
  have hDc := wD_l hD
  refine va_callv (rest := rest) (va_runV (As := As) (C := q.1) hF hM (cwV n hF.2.2.2.2 (lw_V h1 h2 h3 h4 h5) rfl hrc hrs hd hR) ⟨GPre.blind, va_recv hK hPc hcl he, fun U hU hW => ⟨rfl, by rw [hU], by rw [hU]; exact hPc, va_K.moved hW.alike hK, hDc.weaken (fun _ _ _ _ => trivial)⟩⟩ rfl hn hsize hst (lv_room hroom) hdg hfit) hS (fun q _ h => hFc q h) hFc (fun u' t H1 locs1 ht hvm hpost hB hz hk hS1 => ?_)
  obtain ⟨hP1, hK1, hD1⟩ := hB
  rw [ht] at hP1
  obtain ⟨g1, g2⟩ := w_join hP hD hk hFc hP1 hD1
  exact kk u' H1 locs1 hpost g1 g2 hS1
theorem l_i {σ : Type} {wf : σ → va_W} {u : σ} {post : Int32 → σ → Prop} {own : String} {y : MethodName} {b : ByteArray} {L nL n idx h ci : Nat} {ret : FieldType} {q : vw_C} {fs : List Value} {rm : Room} {As : List Value} (hF : CallFix p m c cc nL s args lw_all own) (hA : ∀ q : Nat, H0.size ≤ q → A q) (hK : va_K D vwCl tys s) (hP : va_P D vwCl (wf u ++ wr) H) (hD : va_D A (wf u ++ wr)) (hS : va_S A H0 H locs) (hM : Ci l y b L ret rm D tys wf H.size (.ref h :: As) u post)
    (h1 : Cond.methodLink own idx y ∈ lw_all) (h2 : Cond.instanceMethod y ∈ lw_all) (h3 : Cond.selects q.1 y y ∈ lw_all) (h4 : Cond.initialized q.1 ∈ lw_all) (h5 : Cond.code y b L (some ret) ∈ lw_all) (hd : hd_ q.1 y n) (hrc : rm.cells = 0) (hrs : rm.slots = 0) (hR : rm.frames + 1 ≤ R.frames ∧ 8 + (L + 11) + rm.locals ≤ R.locals)
    (he : (wf u)[0]? = some (h, .inr (ci, fs))) (hcl : vwCl[ci]? = some q)
    (hn : As.length = n) (hsize : ls.size = nL) (hst : st0 = As.reverse ++ .ref h :: rest) (hroom : (rest.map fun v => v.category).sum ≤ 8) (hdg : decode cc pc = .ok (.invokevirtual idx, 3)) (hfit : cells ≤ R.cells ∧ slots ≤ R.slots)
    (kk : ∀ (r : Int32) (u' : σ) (H1 : Heap) (locs1 : List Loc), post r u' → va_P D vwCl (wf u' ++ wr) H1 → va_D A (wf u' ++ wr) → va_S A H0 H1 locs1 → W p l e R s m args below meth c H1 locs1 cells slots Q (F0 m (pc + 3) ls (.int r :: rest))) : W p l e R s m args below meth c H locs cells slots Q (F0 m pc ls st0) := by
  have hFc := w_free1 hD hS hA
  have hPc := wP_l hP
  have hDc := wD_l hD
  refine va_calli (rest := rest) (va_runV (As := As) (C := q.1) hF hM (cwV n hF.2.2.2.2 (lw_V h1 h2 h3 h4 h5) rfl hrc hrs hd hR) ⟨GPre.blind, va_recv hK hPc hcl he, fun U hU hW => ⟨rfl, by rw [hU], by rw [hU]; exact hPc, va_K.moved hW.alike hK, hDc.weaken (fun _ _ _ _ => trivial)⟩⟩ rfl hn hsize hst (lv_room hroom) hdg hfit) hS (fun q _ h => hFc q h) hFc (fun r u' t H1 locs1 ht hvm hpost hB hz hk hS1 => ?_)
  obtain ⟨hP1, hK1, hD1⟩ := hB
  rw [ht] at hP1
  obtain ⟨g1, g2⟩ := w_join hP hD hk hFc hP1 hD1
  exact kk r u' H1 locs1 hpost g1 g2 hS1
/-- a constructor's call: the new object is the first of two worlds; behind it stands a world of its own -/
theorem l_new {σ : Type} {wf : σ → va_W} {tf : σ → List (ClassId × FieldType)} {wc : va_W} {post : σ → Prop} {own : String} {y : MethodName} {b : ByteArray} {L nL idx h mc ms : Nat} {rm : Room} (hF : CallFix p m c cc nL s args lw_all own) (hA : ∀ q : Nat, H0.size ≤ q → A q) (hK : va_K D vwCl [] s) (hP : va_P D vwCl (wc ++ wr) H) (hD : va_D A (wc ++ wr)) (hS : va_S A H0 H locs)
    (hM : Met l y (ws_ y b L none) rm (va_Pc [.ref h] (GPre D [] wc H.size)) (va_Qv post (fun u t => GB D (tf u) wf (va_A wc H.size) u t) (va_A wc H.size)) mc ms (va_A wc H.size))
    (h1 : Cond.methodLink own idx y ∈ lw_all) (h2 : Cond.instanceMethod y ∈ lw_all) (h4 : Cond.initialized y.cls ∈ lw_all) (h5 : Cond.code y b L none ∈ lw_all) (hy : y.name = "<init>") (hd : y.cls ≠ "java/lang/invoke/MethodHandle" ∧ y.cls ≠ "java/lang/invoke/VarHandle" ∧ (parseMethodDescriptor y.desc).map (fun d => d.parameters.length) = some 0) (hrc : rm.cells = mc) (hrs : rm.slots = ms) (hR : rm.frames + 1 ≤ R.frames ∧ 8 + (L + 11) + rm.locals ≤ R.locals)
    (hsize : ls.size = nL) (hst : st0 = .ref h :: rest) (hroom : (rest.map fun v => v.category).sum ≤ 8) (hdg : decode cc pc = .ok (.invokespecial idx, 3)) (hfit : cells + mc ≤ R.cells ∧ slots + ms ≤ R.slots)
    (kk : ∀ (u' : σ) (H1 : Heap) (locs1 : List Loc), post u' → va_K D vwCl (tf u') s → va_P D vwCl (wf u' ++ wr) H1 → va_D A (wf u' ++ wr) → va_S A H0 H1 locs1 → W p l e R s m args below meth c H1 locs1 (cells + mc) (slots + ms) Q (F0 m (pc + 3) ls rest)) : W p l e R s m args below meth c H locs cells slots Q (F0 m pc ls st0) := by
  have hFc := w_free1 hD hS hA
  have hPc := wP_l hP
  have hDc := wD_l hD
  refine va_callv (rest := rest) (va_runI (As := []) hF hM (cwI 0 hF.2.2.2.2 (lw_meth h5) rfl hrc hrs (hF.2.2.2.2 _ h4) (hF.2.2.2.2 _ h1) (hF.2.2.2.2 _ h2) hy hd hR) ⟨GPre.blind, fun U hU hW => ⟨rfl, by rw [hU], by rw [hU]; exact hPc, va_K.moved hW.alike hK, hDc.weaken (fun _ _ _ _ => trivial)⟩⟩ rfl rfl hsize hst (lv_room hroom) hdg hfit) hS (fun q _ h => hFc q h) hFc (fun u' t H1 locs1 ht hvm hpost hB hz hk hS1 => ?_)
  obtain ⟨hP1, hK1, hD1⟩ := hB
  rw [ht] at hP1
  obtain ⟨g1, g2⟩ := w_join hP hD hk hFc hP1 hD1
  exact kk u' H1 locs1 hpost (va_K.moved hvm.symm hK1) g1 g2 hS1
/-- the script's int at j -/
theorem n_sld (hexec : p.tables.exec = Jvm.exec) (hb : c.code = cc) {b L : Nat} {xs : Nat → Int32} (hX : va_X b L xs s H0) (hbl : b < H0.size) (hbA : ¬ A b) (hS : va_S A H0 H locs) (hL : L ≤ 320) {i : Int32} (j : Nat) (hi : i = nI j) (hj : j < L) (hdg : decode cc pc = .ok (.iaload, 1))
    (kk : W p l e R s m args below meth c H locs cells slots Q (F0 m (pc + 1) ls (.int (xs j) :: rest))) : W p l e R s m args below meth c H locs cells slots Q (F0 m pc ls (.int i :: .ref b :: rest)) :=
  va_sld hexec hb hX hbl hbA hS (n_in hi hj (by omega)) hdg (by rw [n_cl hi hj (by omega)]; exact kk)
end LC
end
section
/-! THE CONSTRUCTORS -/
def zS : MS := (fun _ => 0, fun _ => 0, fun _ => 0, fun _ => 0, fun _ => 0, 0, 0, fun _ => 0, 0, 0, fun _ => 0, fun _ => 0)
def zX : XS := (fun _ => 0, fun _ => 0, fun _ => 0, 0, fun _ => 0, 0, fun _ => 0, fun _ => 0, 0, 0, 0, fun _ => 0, fun _ => 0)
theorem enc_0 (w : Nat) : enc 0 (plc w) = 0 := by
  rcases plc_2 w with q | q <;> rw [q] <;> decide +kernel
theorem wd_z (w : Nat) : wd zS w = 0 := by
  unfold wd
  split <;> rfl
theorem RG_z : RG zS := by
  exact ⟨fun _ _ => (by decide : 0 < 256), fun _ _ => (by decide : 0 < 256), fun _ _ => ⟨Nat.zero_le 13, (by decide : 0 < 4), (by decide : 0 < 256)⟩, (by decide : 0 < 32), Nat.zero_le 16, fun _ _ => (by decide : 0 < 256), Nat.zero_le 1, fun _ _ => Nat.zero_le 1, fun _ _ => Nat.zero_le 3⟩
theorem RX_z : RX zS zX := by
  refine ⟨fun r hr q hq => ⟨0, by decide, rfl, fun _ => rfl⟩, fun q hq => ⟨0, by decide, rfl, fun _ => rfl⟩, fun r hr => rfl, rfl, fun q hq => ⟨0, by decide, rfl, fun _ => rfl⟩, rfl, fun w hw => ⟨0, by decide, rfl, Or.inl ?_⟩, fun w hw => rfl, rfl, rfl, rfl, fun i hi => rfl⟩
  rw [wd_z, enc_0]
theorem unsp_z (w : Nat) : unsp zS w = zS := by
  have e : va_up (ms10 zS) w 0 = ms10 zS := up_self (ms10 zS) w
  unfold unsp
  rw [e]
theorem RX.fix_z {u : XS} (h : RX zS u) {w : Nat} (hw : w < 48) : RX zS (xu7 (xu6 u (upd (xs6 u) w (nI (enc 0 (plc w))))) (upd (xs7 u) w 0)) := by
  have h1 := h.fix hw
  rw [unsp_z, wd_z] at h1
  exact h1
abbrev bx0 : List Value := [.null, .null, .null, .int 0, .null, .int 0, .null, .null, .int 0, .int 0, .int 0, .null, .null]
abbrev bm0 : List Value := [.null, .null, .null, .null, .null, .int 0, .int 0, .null, .int 0, .int 0, .null, .null]
set_option maxHeartbeats 4000000 in
set_option maxRecDepth 100000 in
theorem kX0_init (l : Launch) (D : va_G) (h0 sz : Nat) : Met l yX0_init (ws_ yX0_init cX0_init 2 none) ({ frames := 3, cells := 8, slots := 137, locals := 90 }) (va_Pc [.ref h0] (GPre D [] [(h0, .inr (0, bx0))] sz)) (va_Qv (fun u : (Nat → Nat) × (Nat → Nat) × XS => u.1 0 = h0 ∧ RX zS u.2.2) (fun u t => GB D (xt u.2.1) (fun v : (Nat → Nat) × (Nat → Nat) × XS => xw v.1 v.2.1 v.2.2) (va_A [(h0, .inr (0, bx0))] sz) u t) (va_A [(h0, .inr (0, bx0))] sz)) 8 137 (va_A [(h0, .inr (0, bx0))] sz) := by
  refine Met.ofW (cc := cX0_init) (maxL := 2) (ret := none) (by decide) rfl ?_
  intro p e s m args below meth c s₁ B hml hv
  obtain ⟨rfl, hsz, hP, hK, hD0⟩ := hv
  have hx := B.exec
  have hb := B.bytes
  have hr := B.returns
  have hts := atoms_spec (ws := ws_ yX0_init cX0_init 2 none) B.pre
  have hts : ∀ w ∈ lw_all, w.before _ s = true := fun w h => hts w (List.mem_cons_of_mem _ h)
  have hown : s.vm.findClass RX0 = some m.cls := findClass_of_methodNamed B.named
  have hlocks := B.notSynchronized
  have hin : meth.name = "<init>" := (name_of_methodNamed B.named B.method).1
  have hF : CallFix p m c cX0_init 2 s ([.ref h0] : List Value).toArray lw_all RX0 := ⟨hx, hb, hml, hown, hts⟩
  subst hsz
  have hD := hD0.self (sz := s.heap.size)
  generalize hAe : va_A [(h0, .inr (0, bx0))] s.heap.size = A at hD ⊢
  have hA : ∀ q : Nat, s.heap.size ≤ q → A q := fun q h => by rw [← hAe]; exact Or.inr h
  have hS : va_S A s.heap s.heap [] := va_S.rf
  have hl := lv_entry ([.ref h0]) (n := 2) (Nat.le_of_ble_eq_true rfl)
  rw [lg_entry_eq]
  generalize (lg_sl ([.ref h0]) ++ List.replicate (2 - (lg_sl ([.ref h0])).length) Slot.unset).toArray = ls at hl ⊢
  have hl : lv_has ls 2 [(0, .ref h0)] := hl
  refine lv_aload_n hx hb dX0_init_0 rfl (lv_at hl 0 rfl) ?_
  refine W.objInit hx hb hown (hts _ q35) (hts _ q36) (hts _ q37) rfl (by rw [hml]; exact hl.1) rfl dX0_init_1 (Nat.le_of_ble_eq_true rfl) (Nat.le_of_ble_eq_true rfl) ?_
  refine W.eq (g2 := F0 m 4 ls []) rfl ?_
  refine lv_aload_n hx hb dX0_init_4 rfl (lv_at hl 0 rfl) ?_
  refine lv_bipush (v := 12) hx hb dX0_init_5 (by decide) ?_
  refine va_newa (atype := .int) (a0 := (12, .inl (fun _ => 0))) (N' := 12) (ty := .int) hx hb (hts _ q97) rfl hK hP hD hS hA (fun _ => rfl) (by decide) (by decide) (by decide) (Nat.le_of_ble_eq_true rfl) (Nat.le_of_ble_eq_true rfl) dX0_init_7 (fun q1 k1 H hK hP hD hS => ?_)
  refine W.widen (k := 1) (n := 12) (by decide) (by decide) ?_
  have hK : va_K D vwCl [(k1, .int)] s := hK
  have hP : va_P D vwCl [(h0, .inr (0, [.null, .null, .null, .int 0, .null, .int 0, .null, .null, .int 0, .int 0, .int 0, .null, .null])), (q1, .inl (k1, 12, .inl (fun _ => 0)))] H := hP
  have hD : va_D A [(h0, .inr (0, [.null, .null, .null, .int 0, .null, .int 0, .null, .null, .int 0, .int 0, .int 0, .null, .null])), (q1, .inl (k1, 12, .inl (fun _ => 0)))] := hD
  refine x_putF (v := .ref q1) (ws' := [(h0, .inr (0, [.ref q1, .null, .null, .int 0, .null, .int 0, .null, .null, .int 0, .int 0, .int 0, .null, .null])), (q1, .inl (k1, 12, .inl (fun _ => 0)))]) hF hin hK hP hD hS 0 rfl 0 (by decide) q57 rfl rfl rfl rfl (Nat.le_of_ble_eq_true rfl) rfl dX0_init_9 (fun H locs hP hD hS => ?_)
  refine lv_aload_n hx hb dX0_init_12 rfl (lv_at hl 0 rfl) ?_
  refine lv_iconst (v := 3) hx hb dX0_init_13 (by decide) ?_
  refine va_newa (atype := .int) (a0 := (3, .inl (fun _ => 0))) (N' := 3) (ty := .int) hx hb (hts _ q97) rfl hK hP hD hS hA (fun _ => rfl) (by decide) (by decide) (by decide) (Nat.le_of_ble_eq_true rfl) (Nat.le_of_ble_eq_true rfl) dX0_init_14 (fun q2 k2 H hK hP hD hS => ?_)
  refine W.widen (k := 2) (n := 15) (by decide) (by decide) ?_
  have hK : va_K D vwCl [(k1, .int), (k2, .int)] s := hK
  have hP : va_P D vwCl [(h0, .inr (0, [.ref q1, .null, .null, .int 0, .null, .int 0, .null, .null, .int 0, .int 0, .int 0, .null, .null])), (q1, .inl (k1, 12, .inl (fun _ => 0))), (q2, .inl (k2, 3, .inl (fun _ => 0)))] H := hP
  have hD : va_D A [(h0, .inr (0, [.ref q1, .null, .null, .int 0, .null, .int 0, .null, .null, .int 0, .int 0, .int 0, .null, .null])), (q1, .inl (k1, 12, .inl (fun _ => 0))), (q2, .inl (k2, 3, .inl (fun _ => 0)))] := hD
  refine x_putF (v := .ref q2) (ws' := [(h0, .inr (0, [.ref q1, .ref q2, .null, .int 0, .null, .int 0, .null, .null, .int 0, .int 0, .int 0, .null, .null])), (q1, .inl (k1, 12, .inl (fun _ => 0))), (q2, .inl (k2, 3, .inl (fun _ => 0)))]) hF hin hK hP hD hS 0 rfl 1 (by decide) q58 rfl rfl rfl rfl (Nat.le_of_ble_eq_true rfl) rfl dX0_init_16 (fun H locs hP hD hS => ?_)
  refine lv_aload_n hx hb dX0_init_19 rfl (lv_at hl 0 rfl) ?_
  refine lv_iconst (v := 4) hx hb dX0_init_20 (by decide) ?_
  refine va_newa (atype := .byte) (a0 := (4, .inl (fun _ => 0))) (N' := 4) (ty := .byte) hx hb (hts _ q98) rfl hK hP hD hS hA (fun _ => rfl) (by decide) (by decide) (by decide) (Nat.le_of_ble_eq_true rfl) (Nat.le_of_ble_eq_true rfl) dX0_init_21 (fun q3 k3 H hK hP hD hS => ?_)
  refine W.widen (k := 3) (n := 19) (by decide) (by decide) ?_
  have hK : va_K D vwCl [(k1, .int), (k2, .int), (k3, .byte)] s := hK
  have hP : va_P D vwCl [(h0, .inr (0, [.ref q1, .ref q2, .null, .int 0, .null, .int 0, .null, .null, .int 0, .int 0, .int 0, .null, .null])), (q1, .inl (k1, 12, .inl (fun _ => 0))), (q2, .inl (k2, 3, .inl (fun _ => 0))), (q3, .inl (k3, 4, .inl (fun _ => 0)))] H := hP
  have hD : va_D A [(h0, .inr (0, [.ref q1, .ref q2, .null, .int 0, .null, .int 0, .null, .null, .int 0, .int 0, .int 0, .null, .null])), (q1, .inl (k1, 12, .inl (fun _ => 0))), (q2, .inl (k2, 3, .inl (fun _ => 0))), (q3, .inl (k3, 4, .inl (fun _ => 0)))] := hD
  refine x_putF (v := .ref q3) (ws' := [(h0, .inr (0, [.ref q1, .ref q2, .ref q3, .int 0, .null, .int 0, .null, .null, .int 0, .int 0, .int 0, .null, .null])), (q1, .inl (k1, 12, .inl (fun _ => 0))), (q2, .inl (k2, 3, .inl (fun _ => 0))), (q3, .inl (k3, 4, .inl (fun _ => 0)))]) hF hin hK hP hD hS 0 rfl 2 (by decide) q59 rfl rfl rfl rfl (Nat.le_of_ble_eq_true rfl) rfl dX0_init_23 (fun H locs hP hD hS => ?_)
  refine lv_aload_n hx hb dX0_init_26 rfl (lv_at hl 0 rfl) ?_
  refine lv_iconst (v := 3) hx hb dX0_init_27 (by decide) ?_
  refine va_newa (atype := .int) (a0 := (3, .inl (fun _ => 0))) (N' := 3) (ty := .int) hx hb (hts _ q97) rfl hK hP hD hS hA (fun _ => rfl) (by decide) (by decide) (by decide) (Nat.le_of_ble_eq_true rfl) (Nat.le_of_ble_eq_true rfl) dX0_init_28 (fun q4 k4 H hK hP hD hS => ?_)
  refine W.widen (k := 4) (n := 22) (by decide) (by decide) ?_
  have hK : va_K D vwCl [(k1, .int), (k2, .int), (k3, .byte), (k4, .int)] s := hK
  have hP : va_P D vwCl [(h0, .inr (0, [.ref q1, .ref q2, .ref q3, .int 0, .null, .int 0, .null, .null, .int 0, .int 0, .int 0, .null, .null])), (q1, .inl (k1, 12, .inl (fun _ => 0))), (q2, .inl (k2, 3, .inl (fun _ => 0))), (q3, .inl (k3, 4, .inl (fun _ => 0))), (q4, .inl (k4, 3, .inl (fun _ => 0)))] H := hP
  have hD : va_D A [(h0, .inr (0, [.ref q1, .ref q2, .ref q3, .int 0, .null, .int 0, .null, .null, .int 0, .int 0, .int 0, .null, .null])), (q1, .inl (k1, 12, .inl (fun _ => 0))), (q2, .inl (k2, 3, .inl (fun _ => 0))), (q3, .inl (k3, 4, .inl (fun _ => 0))), (q4, .inl (k4, 3, .inl (fun _ => 0)))] := hD
  refine x_putF (v := .ref q4) (ws' := [(h0, .inr (0, [.ref q1, .ref q2, .ref q3, .int 0, .ref q4, .int 0, .null, .null, .int 0, .int 0, .int 0, .null, .null])), (q1, .inl (k1, 12, .inl (fun _ => 0))), (q2, .inl (k2, 3, .inl (fun _ => 0))), (q3, .inl (k3, 4, .inl (fun _ => 0))), (q4, .inl (k4, 3, .inl (fun _ => 0)))]) hF hin hK hP hD hS 0 rfl 4 (by decide) q61 rfl rfl rfl rfl (Nat.le_of_ble_eq_true rfl) rfl dX0_init_30 (fun H locs hP hD hS => ?_)
  refine lv_aload_n hx hb dX0_init_33 rfl (lv_at hl 0 rfl) ?_
  refine lv_bipush (v := 48) hx hb dX0_init_34 (by decide) ?_
  refine va_newa (atype := .int) (a0 := (48, .inl (fun _ => 0))) (N' := 48) (ty := .int) hx hb (hts _ q97) rfl hK hP hD hS hA (fun _ => rfl) (by decide) (by decide) (by decide) (Nat.le_of_ble_eq_true rfl) (Nat.le_of_ble_eq_true rfl) dX0_init_36 (fun q5 k5 H hK hP hD hS => ?_)
  refine W.widen (k := 5) (n := 70) (by decide) (by decide) ?_
  have hK : va_K D vwCl [(k1, .int), (k2, .int), (k3, .byte), (k4, .int), (k5, .int)] s := hK
  have hP : va_P D vwCl [(h0, .inr (0, [.ref q1, .ref q2, .ref q3, .int 0, .ref q4, .int 0, .null, .null, .int 0, .int 0, .int 0, .null, .null])), (q1, .inl (k1, 12, .inl (fun _ => 0))), (q2, .inl (k2, 3, .inl (fun _ => 0))), (q3, .inl (k3, 4, .inl (fun _ => 0))), (q4, .inl (k4, 3, .inl (fun _ => 0))), (q5, .inl (k5, 48, .inl (fun _ => 0)))] H := hP
  have hD : va_D A [(h0, .inr (0, [.ref q1, .ref q2, .ref q3, .int 0, .ref q4, .int 0, .null, .null, .int 0, .int 0, .int 0, .null, .null])), (q1, .inl (k1, 12, .inl (fun _ => 0))), (q2, .inl (k2, 3, .inl (fun _ => 0))), (q3, .inl (k3, 4, .inl (fun _ => 0))), (q4, .inl (k4, 3, .inl (fun _ => 0))), (q5, .inl (k5, 48, .inl (fun _ => 0)))] := hD
  refine x_putF (v := .ref q5) (ws' := [(h0, .inr (0, [.ref q1, .ref q2, .ref q3, .int 0, .ref q4, .int 0, .ref q5, .null, .int 0, .int 0, .int 0, .null, .null])), (q1, .inl (k1, 12, .inl (fun _ => 0))), (q2, .inl (k2, 3, .inl (fun _ => 0))), (q3, .inl (k3, 4, .inl (fun _ => 0))), (q4, .inl (k4, 3, .inl (fun _ => 0))), (q5, .inl (k5, 48, .inl (fun _ => 0)))]) hF hin hK hP hD hS 0 rfl 6 (by decide) q63 rfl rfl rfl rfl (Nat.le_of_ble_eq_true rfl) rfl dX0_init_38 (fun H locs hP hD hS => ?_)
  refine lv_aload_n hx hb dX0_init_41 rfl (lv_at hl 0 rfl) ?_
  refine lv_bipush (v := 48) hx hb dX0_init_42 (by decide) ?_
  refine va_newa (atype := .boolean) (a0 := (48, .inl (fun _ => 0))) (N' := 48) (ty := .boolean) hx hb (hts _ q99) rfl hK hP hD hS hA (fun _ => rfl) (by decide) (by decide) (by decide) (Nat.le_of_ble_eq_true rfl) (Nat.le_of_ble_eq_true rfl) dX0_init_44 (fun q6 k6 H hK hP hD hS => ?_)
  refine W.widen (k := 6) (n := 118) (by decide) (by decide) ?_
  have hK : va_K D vwCl [(k1, .int), (k2, .int), (k3, .byte), (k4, .int), (k5, .int), (k6, .boolean)] s := hK
  have hP : va_P D vwCl [(h0, .inr (0, [.ref q1, .ref q2, .ref q3, .int 0, .ref q4, .int 0, .ref q5, .null, .int 0, .int 0, .int 0, .null, .null])), (q1, .inl (k1, 12, .inl (fun _ => 0))), (q2, .inl (k2, 3, .inl (fun _ => 0))), (q3, .inl (k3, 4, .inl (fun _ => 0))), (q4, .inl (k4, 3, .inl (fun _ => 0))), (q5, .inl (k5, 48, .inl (fun _ => 0))), (q6, .inl (k6, 48, .inl (fun _ => 0)))] H := hP
  have hD : va_D A [(h0, .inr (0, [.ref q1, .ref q2, .ref q3, .int 0, .ref q4, .int 0, .ref q5, .null, .int 0, .int 0, .int 0, .null, .null])), (q1, .inl (k1, 12, .inl (fun _ => 0))), (q2, .inl (k2, 3, .inl (fun _ => 0))), (q3, .inl (k3, 4, .inl (fun _ => 0))), (q4, .inl (k4, 3, .inl (fun _ => 0))), (q5, .inl (k5, 48, .inl (fun _ => 0))), (q6, .inl (k6, 48, .inl (fun _ => 0)))] := hD
  refine x_putF (v := .ref q6) (ws' := [(h0, .inr (0, [.ref q1, .ref q2, .ref q3, .int 0, .ref q4, .int 0, .ref q5, .ref q6, .int 0, .int 0, .int 0, .null, .null])), (q1, .inl (k1, 12, .inl (fun _ => 0))), (q2, .inl (k2, 3, .inl (fun _ => 0))), (q3, .inl (k3, 4, .inl (fun _ => 0))), (q4, .inl (k4, 3, .inl (fun _ => 0))), (q5, .inl (k5, 48, .inl (fun _ => 0))), (q6, .inl (k6, 48, .inl (fun _ => 0)))]) hF hin hK hP hD hS 0 rfl 7 (by decide) q64 rfl rfl rfl rfl (Nat.le_of_ble_eq_true rfl) rfl dX0_init_46 (fun H locs hP hD hS => ?_)
  refine lv_aload_n hx hb dX0_init_49 rfl (lv_at hl 0 rfl) ?_
  refine lv_bipush (v := 16) hx hb dX0_init_50 (by decide) ?_
  refine va_newa (atype := .byte) (a0 := (16, .inl (fun _ => 0))) (N' := 16) (ty := .byte) hx hb (hts _ q98) rfl hK hP hD hS hA (fun _ => rfl) (by decide) (by decide) (by decide) (Nat.le_of_ble_eq_true rfl) (Nat.le_of_ble_eq_true rfl) dX0_init_52 (fun q7 k7 H hK hP hD hS => ?_)
  refine W.widen (k := 7) (n := 134) (by decide) (by decide) ?_
  have hK : va_K D vwCl [(k1, .int), (k2, .int), (k3, .byte), (k4, .int), (k5, .int), (k6, .boolean), (k7, .byte)] s := hK
  have hP : va_P D vwCl [(h0, .inr (0, [.ref q1, .ref q2, .ref q3, .int 0, .ref q4, .int 0, .ref q5, .ref q6, .int 0, .int 0, .int 0, .null, .null])), (q1, .inl (k1, 12, .inl (fun _ => 0))), (q2, .inl (k2, 3, .inl (fun _ => 0))), (q3, .inl (k3, 4, .inl (fun _ => 0))), (q4, .inl (k4, 3, .inl (fun _ => 0))), (q5, .inl (k5, 48, .inl (fun _ => 0))), (q6, .inl (k6, 48, .inl (fun _ => 0))), (q7, .inl (k7, 16, .inl (fun _ => 0)))] H := hP
  have hD : va_D A [(h0, .inr (0, [.ref q1, .ref q2, .ref q3, .int 0, .ref q4, .int 0, .ref q5, .ref q6, .int 0, .int 0, .int 0, .null, .null])), (q1, .inl (k1, 12, .inl (fun _ => 0))), (q2, .inl (k2, 3, .inl (fun _ => 0))), (q3, .inl (k3, 4, .inl (fun _ => 0))), (q4, .inl (k4, 3, .inl (fun _ => 0))), (q5, .inl (k5, 48, .inl (fun _ => 0))), (q6, .inl (k6, 48, .inl (fun _ => 0))), (q7, .inl (k7, 16, .inl (fun _ => 0)))] := hD
  refine x_putF (v := .ref q7) (ws' := [(h0, .inr (0, [.ref q1, .ref q2, .ref q3, .int 0, .ref q4, .int 0, .ref q5, .ref q6, .int 0, .int 0, .int 0, .ref q7, .null])), (q1, .inl (k1, 12, .inl (fun _ => 0))), (q2, .inl (k2, 3, .inl (fun _ => 0))), (q3, .inl (k3, 4, .inl (fun _ => 0))), (q4, .inl (k4, 3, .inl (fun _ => 0))), (q5, .inl (k5, 48, .inl (fun _ => 0))), (q6, .inl (k6, 48, .inl (fun _ => 0))), (q7, .inl (k7, 16, .inl (fun _ => 0)))]) hF hin hK hP hD hS 0 rfl 11 (by decide) q68 rfl rfl rfl rfl (Nat.le_of_ble_eq_true rfl) rfl dX0_init_54 (fun H locs hP hD hS => ?_)
  refine lv_aload_n hx hb dX0_init_57 rfl (lv_at hl 0 rfl) ?_
  refine lv_iconst (v := 3) hx hb dX0_init_58 (by decide) ?_
  refine va_newa (atype := .int) (a0 := (3, .inl (fun _ => 0))) (N' := 3) (ty := .int) hx hb (hts _ q97) rfl hK hP hD hS hA (fun _ => rfl) (by decide) (by decide) (by decide) (Nat.le_of_ble_eq_true rfl) (Nat.le_of_ble_eq_true rfl) dX0_init_59 (fun q8 k8 H hK hP hD hS => ?_)
  refine W.widen (k := 8) (n := 137) (by decide) (by decide) ?_
  have hK : va_K D vwCl [(k1, .int), (k2, .int), (k3, .byte), (k4, .int), (k5, .int), (k6, .boolean), (k7, .byte), (k8, .int)] s := hK
  have hP : va_P D vwCl [(h0, .inr (0, [.ref q1, .ref q2, .ref q3, .int 0, .ref q4, .int 0, .ref q5, .ref q6, .int 0, .int 0, .int 0, .ref q7, .null])), (q1, .inl (k1, 12, .inl (fun _ => 0))), (q2, .inl (k2, 3, .inl (fun _ => 0))), (q3, .inl (k3, 4, .inl (fun _ => 0))), (q4, .inl (k4, 3, .inl (fun _ => 0))), (q5, .inl (k5, 48, .inl (fun _ => 0))), (q6, .inl (k6, 48, .inl (fun _ => 0))), (q7, .inl (k7, 16, .inl (fun _ => 0))), (q8, .inl (k8, 3, .inl (fun _ => 0)))] H := hP
  have hD : va_D A [(h0, .inr (0, [.ref q1, .ref q2, .ref q3, .int 0, .ref q4, .int 0, .ref q5, .ref q6, .int 0, .int 0, .int 0, .ref q7, .null])), (q1, .inl (k1, 12, .inl (fun _ => 0))), (q2, .inl (k2, 3, .inl (fun _ => 0))), (q3, .inl (k3, 4, .inl (fun _ => 0))), (q4, .inl (k4, 3, .inl (fun _ => 0))), (q5, .inl (k5, 48, .inl (fun _ => 0))), (q6, .inl (k6, 48, .inl (fun _ => 0))), (q7, .inl (k7, 16, .inl (fun _ => 0))), (q8, .inl (k8, 3, .inl (fun _ => 0)))] := hD
  refine x_putF (v := .ref q8) (ws' := [(h0, .inr (0, [.ref q1, .ref q2, .ref q3, .int 0, .ref q4, .int 0, .ref q5, .ref q6, .int 0, .int 0, .int 0, .ref q7, .ref q8])), (q1, .inl (k1, 12, .inl (fun _ => 0))), (q2, .inl (k2, 3, .inl (fun _ => 0))), (q3, .inl (k3, 4, .inl (fun _ => 0))), (q4, .inl (k4, 3, .inl (fun _ => 0))), (q5, .inl (k5, 48, .inl (fun _ => 0))), (q6, .inl (k6, 48, .inl (fun _ => 0))), (q7, .inl (k7, 16, .inl (fun _ => 0))), (q8, .inl (k8, 3, .inl (fun _ => 0)))]) hF hin hK hP hD hS 0 rfl 12 (by decide) q69 rfl rfl rfl rfl (Nat.le_of_ble_eq_true rfl) rfl dX0_init_61 (fun H locs hP hD hS => ?_)
  obtain ⟨g, k, u, hg0, hR, hP, hD, hK⟩ : ∃ (g k : Nat → Nat) (u : XS), g 0 = h0 ∧ RX zS u ∧ va_P D vwCl (xw g k u) H ∧ va_D A (xw g k u) ∧ va_K D vwCl (xt k) s := ⟨fun i => [h0, q1, q2, q3, q4, q5, q6, q7, q8].getD i 0, fun i => [0, k1, k2, k3, k4, k5, k6, k7, k8].getD i 0, zX, rfl, RX_z, hP, hD, hK⟩
  have hl : lv_has ls 2 [(0, .ref (g 0))] := by rw [hg0]; exact hl
  refine lv_iconst (v := 0) hx hb dX0_init_64 (by decide) ?_
  refine tx (y := nI 0) (rfl) ?_
  refine lv_istore_n (lv' := [(1, .int (nI 0)), (0, .ref (g 0))]) hx hb dX0_init_65 rfl hl (by decide) rfl (fun ls hl => ?_)
  refine lp_w (wf := xw g k) (fun i ls v => lv_has ls 2 [(0, .ref (g 0)), (1, .int (nI i))] ∧ RX zS v) 48 ?_ 0 ls _ _ _ (by decide) ⟨lv_sub hl [1, 0] rfl, hR⟩ hP hD hS
  intro i ls v H locs hi hI hP hD hS ih
  obtain ⟨hl, hR2⟩ := hI
  have hl : lv_has ls 2 [(0, .ref (g 0)), (1, .int (nI i))] := hl
  refine lv_iload_n hx hb dX0_init_66 rfl (lv_at hl 1 rfl) ?_
  refine lv_bipush (v := 48) hx hb dX0_init_67 (by decide) ?_
  refine lv_icmp_ge (tgt := 84) hx hb dX0_init_69 (by decide) (fun c_69 => ?_) (fun c_69 => ?_)
  · have hin2 : i = 48 := by have := le_of (a := 48) c_69; omega
    exact W.vret hx hb hr (fun t ht hW => ⟨⟨(g, k, v), rfl, ⟨hg0, hR2⟩, by rw [ht]; exact hP, va_K.moved hW.alike hK, hD⟩, hS.F ht⟩) hS.2.2 dX0_init_84 hlocks
  · have hlt : i < 48 := nle_of (a := 48) c_69
    refine lv_aload_n hx hb dX0_init_72 rfl (lv_at hl 0 rfl) ?_
    refine lv_iload_n hx hb dX0_init_73 rfl (lv_at hl 1 rfl) ?_
    refine lv_iconst (v := 0) hx hb dX0_init_74 (by decide) ?_
    refine c_v (wf := xw g k) (As := [.int (nI i), .int 0]) (rest := []) hF hA hK hP hD hS (kX0_writeWord l D g k _ v i 0 hlt (by decide)) q38 q40 qs0 q28 q41 hdX0_writeWord rfl rfl ⟨Nat.le_of_ble_eq_true rfl, Nat.le_of_ble_eq_true rfl⟩ rfl rfl rfl hl.1 rfl (Nat.le_of_ble_eq_true rfl) dX0_init_75 ⟨Nat.le_of_ble_eq_true rfl, Nat.le_of_ble_eq_true rfl⟩ (fun u1 H locs hu1 hP hD hS => ?_)
    refine lv_iinc (v := nI (i + 1)) (lv' := [(1, .int (nI (i + 1))), (0, .ref (g 0))]) (k := 1) hx hb dX0_init_78 hl rfl (nI_1 _) (by decide) rfl (fun ls hl => ?_)
    refine lv_goto (tgt := 66) hx hb dX0_init_81 (by decide) ?_
    exact ih (hlt) ls _ _ _ ⟨lv_sub hl [1, 0] rfl, by rw [hu1]; exact hR2.fix_z hlt⟩ hP hD hS

set_option maxHeartbeats 4000000 in
set_option maxRecDepth 100000 in
theorem kX1_init (l : Launch) (D : va_G) (h0 sz : Nat) : Met l yX1_init (ws_ yX1_init cX1_init 1 none) ({ frames := 1, cells := 8, slots := 186, locals := 30 }) (va_Pc [.ref h0] (GPre D [] [(h0, .inr (1, bm0))] sz)) (va_Qv (fun u : (Nat → Nat) × (Nat → Nat) × MS => u.1 0 = h0 ∧ u.2.2 = zS) (fun u t => GB D (mt u.2.1) (fun v : (Nat → Nat) × (Nat → Nat) × MS => mw v.1 v.2.1 v.2.2) (va_A [(h0, .inr (1, bm0))] sz) u t) (va_A [(h0, .inr (1, bm0))] sz)) 8 186 (va_A [(h0, .inr (1, bm0))] sz) := by
  refine Met.ofW (cc := cX1_init) (maxL := 1) (ret := none) (by decide) rfl ?_
  intro p e s m args below meth c s₁ B hml hv
  obtain ⟨rfl, hsz, hP, hK, hD0⟩ := hv
  have hx := B.exec
  have hb := B.bytes
  have hr := B.returns
  have hts := atoms_spec (ws := ws_ yX1_init cX1_init 1 none) B.pre
  have hts : ∀ w ∈ lw_all, w.before _ s = true := fun w h => hts w (List.mem_cons_of_mem _ h)
  have hown : s.vm.findClass RX1 = some m.cls := findClass_of_methodNamed B.named
  have hlocks := B.notSynchronized
  have hin : meth.name = "<init>" := (name_of_methodNamed B.named B.method).1
  have hF : CallFix p m c cX1_init 1 s ([.ref h0] : List Value).toArray lw_all RX1 := ⟨hx, hb, hml, hown, hts⟩
  subst hsz
  have hD := hD0.self (sz := s.heap.size)
  generalize hAe : va_A [(h0, .inr (1, bm0))] s.heap.size = A at hD ⊢
  have hA : ∀ q : Nat, s.heap.size ≤ q → A q := fun q h => by rw [← hAe]; exact Or.inr h
  have hS : va_S A s.heap s.heap [] := va_S.rf
  have hl := lv_entry ([.ref h0]) (n := 1) (Nat.le_of_ble_eq_true rfl)
  rw [lg_entry_eq]
  generalize (lg_sl ([.ref h0]) ++ List.replicate (1 - (lg_sl ([.ref h0])).length) Slot.unset).toArray = ls at hl ⊢
  have hl : lv_has ls 1 [(0, .ref h0)] := hl
  refine lv_aload_n hx hb dX1_init_0 rfl (lv_at hl 0 rfl) ?_
  refine W.objInit hx hb hown (hts _ q246) (hts _ q36) (hts _ q37) rfl (by rw [hml]; exact hl.1) rfl dX1_init_1 (Nat.le_of_ble_eq_true rfl) (Nat.le_of_ble_eq_true rfl) ?_
  refine W.eq (g2 := F0 m 4 ls []) rfl ?_
  refine lv_aload_n hx hb dX1_init_4 rfl (lv_at hl 0 rfl) ?_
  refine lv_iconst (v := 4) hx hb dX1_init_5 (by decide) ?_
  refine va_newa (atype := .int) (a0 := (4, .inl (nf (fun _ => 0)))) (N' := 4) (ty := .int) hx hb (hts _ q97) rfl hK hP hD hS hA (fun _ => rfl) (by decide) (by decide) (by decide) (Nat.le_of_ble_eq_true rfl) (Nat.le_of_ble_eq_true rfl) dX1_init_6 (fun q1 k1 H hK hP hD hS => ?_)
  refine W.widen (k := 1) (n := 4) (by decide) (by decide) ?_
  have hK : va_K D vwCl [(k1, .int)] s := hK
  have hP : va_P D vwCl [(h0, .inr (1, [.null, .null, .null, .null, .null, .int 0, .int 0, .null, .int 0, .int 0, .null, .null])), (q1, .inl (k1, 4, .inl (nf (fun _ => 0))))] H := hP
  have hD : va_D A [(h0, .inr (1, [.null, .null, .null, .null, .null, .int 0, .int 0, .null, .int 0, .int 0, .null, .null])), (q1, .inl (k1, 4, .inl (nf (fun _ => 0))))] := hD
  refine m_put (v := .ref q1) (ws' := [(h0, .inr (1, [.ref q1, .null, .null, .null, .null, .int 0, .int 0, .null, .int 0, .int 0, .null, .null])), (q1, .inl (k1, 4, .inl (nf (fun _ => 0))))]) hF hK hP hD hS 0 rfl 0 (by decide) q247 rfl rfl rfl rfl (Nat.le_of_ble_eq_true rfl) rfl dX1_init_8 (fun H locs hP hD hS => ?_)
  refine lv_aload_n hx hb dX1_init_11 rfl (lv_at hl 0 rfl) ?_
  refine lv_bipush (v := 16) hx hb dX1_init_12 (by decide) ?_
  refine va_newa (atype := .int) (a0 := (16, .inl (nf (fun _ => 0)))) (N' := 16) (ty := .int) hx hb (hts _ q97) rfl hK hP hD hS hA (fun _ => rfl) (by decide) (by decide) (by decide) (Nat.le_of_ble_eq_true rfl) (Nat.le_of_ble_eq_true rfl) dX1_init_14 (fun q2 k2 H hK hP hD hS => ?_)
  refine W.widen (k := 2) (n := 20) (by decide) (by decide) ?_
  have hK : va_K D vwCl [(k1, .int), (k2, .int)] s := hK
  have hP : va_P D vwCl [(h0, .inr (1, [.ref q1, .null, .null, .null, .null, .int 0, .int 0, .null, .int 0, .int 0, .null, .null])), (q1, .inl (k1, 4, .inl (nf (fun _ => 0)))), (q2, .inl (k2, 16, .inl (nf (fun _ => 0))))] H := hP
  have hD : va_D A [(h0, .inr (1, [.ref q1, .null, .null, .null, .null, .int 0, .int 0, .null, .int 0, .int 0, .null, .null])), (q1, .inl (k1, 4, .inl (nf (fun _ => 0)))), (q2, .inl (k2, 16, .inl (nf (fun _ => 0))))] := hD
  refine m_put (v := .ref q2) (ws' := [(h0, .inr (1, [.ref q1, .ref q2, .null, .null, .null, .int 0, .int 0, .null, .int 0, .int 0, .null, .null])), (q1, .inl (k1, 4, .inl (nf (fun _ => 0)))), (q2, .inl (k2, 16, .inl (nf (fun _ => 0))))]) hF hK hP hD hS 0 rfl 1 (by decide) q248 rfl rfl rfl rfl (Nat.le_of_ble_eq_true rfl) rfl dX1_init_16 (fun H locs hP hD hS => ?_)
  refine lv_aload_n hx hb dX1_init_19 rfl (lv_at hl 0 rfl) ?_
  refine lv_bipush (v := 32) hx hb dX1_init_20 (by decide) ?_
  refine va_newa (atype := .int) (a0 := (32, .inl (nf (fun _ => 0)))) (N' := 32) (ty := .int) hx hb (hts _ q97) rfl hK hP hD hS hA (fun _ => rfl) (by decide) (by decide) (by decide) (Nat.le_of_ble_eq_true rfl) (Nat.le_of_ble_eq_true rfl) dX1_init_22 (fun q3 k3 H hK hP hD hS => ?_)
  refine W.widen (k := 3) (n := 52) (by decide) (by decide) ?_
  have hK : va_K D vwCl [(k1, .int), (k2, .int), (k3, .int)] s := hK
  have hP : va_P D vwCl [(h0, .inr (1, [.ref q1, .ref q2, .null, .null, .null, .int 0, .int 0, .null, .int 0, .int 0, .null, .null])), (q1, .inl (k1, 4, .inl (nf (fun _ => 0)))), (q2, .inl (k2, 16, .inl (nf (fun _ => 0)))), (q3, .inl (k3, 32, .inl (nf (fun _ => 0))))] H := hP
  have hD : va_D A [(h0, .inr (1, [.ref q1, .ref q2, .null, .null, .null, .int 0, .int 0, .null, .int 0, .int 0, .null, .null])), (q1, .inl (k1, 4, .inl (nf (fun _ => 0)))), (q2, .inl (k2, 16, .inl (nf (fun _ => 0)))), (q3, .inl (k3, 32, .inl (nf (fun _ => 0))))] := hD
  refine m_put (v := .ref q3) (ws' := [(h0, .inr (1, [.ref q1, .ref q2, .ref q3, .null, .null, .int 0, .int 0, .null, .int 0, .int 0, .null, .null])), (q1, .inl (k1, 4, .inl (nf (fun _ => 0)))), (q2, .inl (k2, 16, .inl (nf (fun _ => 0)))), (q3, .inl (k3, 32, .inl (nf (fun _ => 0))))]) hF hK hP hD hS 0 rfl 2 (by decide) q249 rfl rfl rfl rfl (Nat.le_of_ble_eq_true rfl) rfl dX1_init_24 (fun H locs hP hD hS => ?_)
  refine lv_aload_n hx hb dX1_init_27 rfl (lv_at hl 0 rfl) ?_
  refine lv_bipush (v := 32) hx hb dX1_init_28 (by decide) ?_
  refine va_newa (atype := .int) (a0 := (32, .inl (nf (fun _ => 0)))) (N' := 32) (ty := .int) hx hb (hts _ q97) rfl hK hP hD hS hA (fun _ => rfl) (by decide) (by decide) (by decide) (Nat.le_of_ble_eq_true rfl) (Nat.le_of_ble_eq_true rfl) dX1_init_30 (fun q4 k4 H hK hP hD hS => ?_)
  refine W.widen (k := 4) (n := 84) (by decide) (by decide) ?_
  have hK : va_K D vwCl [(k1, .int), (k2, .int), (k3, .int), (k4, .int)] s := hK
  have hP : va_P D vwCl [(h0, .inr (1, [.ref q1, .ref q2, .ref q3, .null, .null, .int 0, .int 0, .null, .int 0, .int 0, .null, .null])), (q1, .inl (k1, 4, .inl (nf (fun _ => 0)))), (q2, .inl (k2, 16, .inl (nf (fun _ => 0)))), (q3, .inl (k3, 32, .inl (nf (fun _ => 0)))), (q4, .inl (k4, 32, .inl (nf (fun _ => 0))))] H := hP
  have hD : va_D A [(h0, .inr (1, [.ref q1, .ref q2, .ref q3, .null, .null, .int 0, .int 0, .null, .int 0, .int 0, .null, .null])), (q1, .inl (k1, 4, .inl (nf (fun _ => 0)))), (q2, .inl (k2, 16, .inl (nf (fun _ => 0)))), (q3, .inl (k3, 32, .inl (nf (fun _ => 0)))), (q4, .inl (k4, 32, .inl (nf (fun _ => 0))))] := hD
  refine m_put (v := .ref q4) (ws' := [(h0, .inr (1, [.ref q1, .ref q2, .ref q3, .ref q4, .null, .int 0, .int 0, .null, .int 0, .int 0, .null, .null])), (q1, .inl (k1, 4, .inl (nf (fun _ => 0)))), (q2, .inl (k2, 16, .inl (nf (fun _ => 0)))), (q3, .inl (k3, 32, .inl (nf (fun _ => 0)))), (q4, .inl (k4, 32, .inl (nf (fun _ => 0))))]) hF hK hP hD hS 0 rfl 3 (by decide) q250 rfl rfl rfl rfl (Nat.le_of_ble_eq_true rfl) rfl dX1_init_32 (fun H locs hP hD hS => ?_)
  refine lv_aload_n hx hb dX1_init_35 rfl (lv_at hl 0 rfl) ?_
  refine lv_bipush (v := 32) hx hb dX1_init_36 (by decide) ?_
  refine va_newa (atype := .int) (a0 := (32, .inl (nf (fun _ => 0)))) (N' := 32) (ty := .int) hx hb (hts _ q97) rfl hK hP hD hS hA (fun _ => rfl) (by decide) (by decide) (by decide) (Nat.le_of_ble_eq_true rfl) (Nat.le_of_ble_eq_true rfl) dX1_init_38 (fun q5 k5 H hK hP hD hS => ?_)
  refine W.widen (k := 5) (n := 116) (by decide) (by decide) ?_
  have hK : va_K D vwCl [(k1, .int), (k2, .int), (k3, .int), (k4, .int), (k5, .int)] s := hK
  have hP : va_P D vwCl [(h0, .inr (1, [.ref q1, .ref q2, .ref q3, .ref q4, .null, .int 0, .int 0, .null, .int 0, .int 0, .null, .null])), (q1, .inl (k1, 4, .inl (nf (fun _ => 0)))), (q2, .inl (k2, 16, .inl (nf (fun _ => 0)))), (q3, .inl (k3, 32, .inl (nf (fun _ => 0)))), (q4, .inl (k4, 32, .inl (nf (fun _ => 0)))), (q5, .inl (k5, 32, .inl (nf (fun _ => 0))))] H := hP
  have hD : va_D A [(h0, .inr (1, [.ref q1, .ref q2, .ref q3, .ref q4, .null, .int 0, .int 0, .null, .int 0, .int 0, .null, .null])), (q1, .inl (k1, 4, .inl (nf (fun _ => 0)))), (q2, .inl (k2, 16, .inl (nf (fun _ => 0)))), (q3, .inl (k3, 32, .inl (nf (fun _ => 0)))), (q4, .inl (k4, 32, .inl (nf (fun _ => 0)))), (q5, .inl (k5, 32, .inl (nf (fun _ => 0))))] := hD
  refine m_put (v := .ref q5) (ws' := [(h0, .inr (1, [.ref q1, .ref q2, .ref q3, .ref q4, .ref q5, .int 0, .int 0, .null, .int 0, .int 0, .null, .null])), (q1, .inl (k1, 4, .inl (nf (fun _ => 0)))), (q2, .inl (k2, 16, .inl (nf (fun _ => 0)))), (q3, .inl (k3, 32, .inl (nf (fun _ => 0)))), (q4, .inl (k4, 32, .inl (nf (fun _ => 0)))), (q5, .inl (k5, 32, .inl (nf (fun _ => 0))))]) hF hK hP hD hS 0 rfl 4 (by decide) q251 rfl rfl rfl rfl (Nat.le_of_ble_eq_true rfl) rfl dX1_init_40 (fun H locs hP hD hS => ?_)
  refine lv_aload_n hx hb dX1_init_43 rfl (lv_at hl 0 rfl) ?_
  refine lv_bipush (v := 16) hx hb dX1_init_44 (by decide) ?_
  refine va_newa (atype := .int) (a0 := (16, .inl (nf (fun _ => 0)))) (N' := 16) (ty := .int) hx hb (hts _ q97) rfl hK hP hD hS hA (fun _ => rfl) (by decide) (by decide) (by decide) (Nat.le_of_ble_eq_true rfl) (Nat.le_of_ble_eq_true rfl) dX1_init_46 (fun q6 k6 H hK hP hD hS => ?_)
  refine W.widen (k := 6) (n := 132) (by decide) (by decide) ?_
  have hK : va_K D vwCl [(k1, .int), (k2, .int), (k3, .int), (k4, .int), (k5, .int), (k6, .int)] s := hK
  have hP : va_P D vwCl [(h0, .inr (1, [.ref q1, .ref q2, .ref q3, .ref q4, .ref q5, .int 0, .int 0, .null, .int 0, .int 0, .null, .null])), (q1, .inl (k1, 4, .inl (nf (fun _ => 0)))), (q2, .inl (k2, 16, .inl (nf (fun _ => 0)))), (q3, .inl (k3, 32, .inl (nf (fun _ => 0)))), (q4, .inl (k4, 32, .inl (nf (fun _ => 0)))), (q5, .inl (k5, 32, .inl (nf (fun _ => 0)))), (q6, .inl (k6, 16, .inl (nf (fun _ => 0))))] H := hP
  have hD : va_D A [(h0, .inr (1, [.ref q1, .ref q2, .ref q3, .ref q4, .ref q5, .int 0, .int 0, .null, .int 0, .int 0, .null, .null])), (q1, .inl (k1, 4, .inl (nf (fun _ => 0)))), (q2, .inl (k2, 16, .inl (nf (fun _ => 0)))), (q3, .inl (k3, 32, .inl (nf (fun _ => 0)))), (q4, .inl (k4, 32, .inl (nf (fun _ => 0)))), (q5, .inl (k5, 32, .inl (nf (fun _ => 0)))), (q6, .inl (k6, 16, .inl (nf (fun _ => 0))))] := hD
  refine m_put (v := .ref q6) (ws' := [(h0, .inr (1, [.ref q1, .ref q2, .ref q3, .ref q4, .ref q5, .int 0, .int 0, .ref q6, .int 0, .int 0, .null, .null])), (q1, .inl (k1, 4, .inl (nf (fun _ => 0)))), (q2, .inl (k2, 16, .inl (nf (fun _ => 0)))), (q3, .inl (k3, 32, .inl (nf (fun _ => 0)))), (q4, .inl (k4, 32, .inl (nf (fun _ => 0)))), (q5, .inl (k5, 32, .inl (nf (fun _ => 0)))), (q6, .inl (k6, 16, .inl (nf (fun _ => 0))))]) hF hK hP hD hS 0 rfl 7 (by decide) q254 rfl rfl rfl rfl (Nat.le_of_ble_eq_true rfl) rfl dX1_init_48 (fun H locs hP hD hS => ?_)
  refine lv_aload_n hx hb dX1_init_51 rfl (lv_at hl 0 rfl) ?_
  refine lv_bipush (v := 48) hx hb dX1_init_52 (by decide) ?_
  refine va_newa (atype := .boolean) (a0 := (48, .inl (nf (fun _ => 0)))) (N' := 48) (ty := .boolean) hx hb (hts _ q99) rfl hK hP hD hS hA (fun _ => rfl) (by decide) (by decide) (by decide) (Nat.le_of_ble_eq_true rfl) (Nat.le_of_ble_eq_true rfl) dX1_init_54 (fun q7 k7 H hK hP hD hS => ?_)
  refine W.widen (k := 7) (n := 180) (by decide) (by decide) ?_
  have hK : va_K D vwCl [(k1, .int), (k2, .int), (k3, .int), (k4, .int), (k5, .int), (k6, .int), (k7, .boolean)] s := hK
  have hP : va_P D vwCl [(h0, .inr (1, [.ref q1, .ref q2, .ref q3, .ref q4, .ref q5, .int 0, .int 0, .ref q6, .int 0, .int 0, .null, .null])), (q1, .inl (k1, 4, .inl (nf (fun _ => 0)))), (q2, .inl (k2, 16, .inl (nf (fun _ => 0)))), (q3, .inl (k3, 32, .inl (nf (fun _ => 0)))), (q4, .inl (k4, 32, .inl (nf (fun _ => 0)))), (q5, .inl (k5, 32, .inl (nf (fun _ => 0)))), (q6, .inl (k6, 16, .inl (nf (fun _ => 0)))), (q7, .inl (k7, 48, .inl (nf (fun _ => 0))))] H := hP
  have hD : va_D A [(h0, .inr (1, [.ref q1, .ref q2, .ref q3, .ref q4, .ref q5, .int 0, .int 0, .ref q6, .int 0, .int 0, .null, .null])), (q1, .inl (k1, 4, .inl (nf (fun _ => 0)))), (q2, .inl (k2, 16, .inl (nf (fun _ => 0)))), (q3, .inl (k3, 32, .inl (nf (fun _ => 0)))), (q4, .inl (k4, 32, .inl (nf (fun _ => 0)))), (q5, .inl (k5, 32, .inl (nf (fun _ => 0)))), (q6, .inl (k6, 16, .inl (nf (fun _ => 0)))), (q7, .inl (k7, 48, .inl (nf (fun _ => 0))))] := hD
  refine m_put (v := .ref q7) (ws' := [(h0, .inr (1, [.ref q1, .ref q2, .ref q3, .ref q4, .ref q5, .int 0, .int 0, .ref q6, .int 0, .int 0, .ref q7, .null])), (q1, .inl (k1, 4, .inl (nf (fun _ => 0)))), (q2, .inl (k2, 16, .inl (nf (fun _ => 0)))), (q3, .inl (k3, 32, .inl (nf (fun _ => 0)))), (q4, .inl (k4, 32, .inl (nf (fun _ => 0)))), (q5, .inl (k5, 32, .inl (nf (fun _ => 0)))), (q6, .inl (k6, 16, .inl (nf (fun _ => 0)))), (q7, .inl (k7, 48, .inl (nf (fun _ => 0))))]) hF hK hP hD hS 0 rfl 10 (by decide) q257 rfl rfl rfl rfl (Nat.le_of_ble_eq_true rfl) rfl dX1_init_56 (fun H locs hP hD hS => ?_)
  refine lv_aload_n hx hb dX1_init_59 rfl (lv_at hl 0 rfl) ?_
  refine lv_bipush (v := 6) hx hb dX1_init_60 (by decide) ?_
  refine va_newa (atype := .int) (a0 := (6, .inl (nf (fun _ => 0)))) (N' := 6) (ty := .int) hx hb (hts _ q97) rfl hK hP hD hS hA (fun _ => rfl) (by decide) (by decide) (by decide) (Nat.le_of_ble_eq_true rfl) (Nat.le_of_ble_eq_true rfl) dX1_init_62 (fun q8 k8 H hK hP hD hS => ?_)
  refine W.widen (k := 8) (n := 186) (by decide) (by decide) ?_
  have hK : va_K D vwCl [(k1, .int), (k2, .int), (k3, .int), (k4, .int), (k5, .int), (k6, .int), (k7, .boolean), (k8, .int)] s := hK
  have hP : va_P D vwCl [(h0, .inr (1, [.ref q1, .ref q2, .ref q3, .ref q4, .ref q5, .int 0, .int 0, .ref q6, .int 0, .int 0, .ref q7, .null])), (q1, .inl (k1, 4, .inl (nf (fun _ => 0)))), (q2, .inl (k2, 16, .inl (nf (fun _ => 0)))), (q3, .inl (k3, 32, .inl (nf (fun _ => 0)))), (q4, .inl (k4, 32, .inl (nf (fun _ => 0)))), (q5, .inl (k5, 32, .inl (nf (fun _ => 0)))), (q6, .inl (k6, 16, .inl (nf (fun _ => 0)))), (q7, .inl (k7, 48, .inl (nf (fun _ => 0)))), (q8, .inl (k8, 6, .inl (nf (fun _ => 0))))] H := hP
  have hD : va_D A [(h0, .inr (1, [.ref q1, .ref q2, .ref q3, .ref q4, .ref q5, .int 0, .int 0, .ref q6, .int 0, .int 0, .ref q7, .null])), (q1, .inl (k1, 4, .inl (nf (fun _ => 0)))), (q2, .inl (k2, 16, .inl (nf (fun _ => 0)))), (q3, .inl (k3, 32, .inl (nf (fun _ => 0)))), (q4, .inl (k4, 32, .inl (nf (fun _ => 0)))), (q5, .inl (k5, 32, .inl (nf (fun _ => 0)))), (q6, .inl (k6, 16, .inl (nf (fun _ => 0)))), (q7, .inl (k7, 48, .inl (nf (fun _ => 0)))), (q8, .inl (k8, 6, .inl (nf (fun _ => 0))))] := hD
  refine m_put (v := .ref q8) (ws' := [(h0, .inr (1, [.ref q1, .ref q2, .ref q3, .ref q4, .ref q5, .int 0, .int 0, .ref q6, .int 0, .int 0, .ref q7, .ref q8])), (q1, .inl (k1, 4, .inl (nf (fun _ => 0)))), (q2, .inl (k2, 16, .inl (nf (fun _ => 0)))), (q3, .inl (k3, 32, .inl (nf (fun _ => 0)))), (q4, .inl (k4, 32, .inl (nf (fun _ => 0)))), (q5, .inl (k5, 32, .inl (nf (fun _ => 0)))), (q6, .inl (k6, 16, .inl (nf (fun _ => 0)))), (q7, .inl (k7, 48, .inl (nf (fun _ => 0)))), (q8, .inl (k8, 6, .inl (nf (fun _ => 0))))]) hF hK hP hD hS 0 rfl 11 (by decide) q258 rfl rfl rfl rfl (Nat.le_of_ble_eq_true rfl) rfl dX1_init_64 (fun H locs hP hD hS => ?_)
  obtain ⟨g, k, hg0, hP, hD, hK⟩ : ∃ (g k : Nat → Nat), g 0 = h0 ∧ va_P D vwCl (mw g k zS) H ∧ va_D A (mw g k zS) ∧ va_K D vwCl (mt k) s := ⟨fun i => [h0, q1, q2, q3, q4, q5, q6, q7, q8].getD i 0, fun i => [0, k1, k2, k3, k4, k5, k6, k7, k8].getD i 0, rfl, hP, hD, hK⟩
  exact W.vret hx hb hr (fun t ht hW => ⟨⟨(g, k, zS), rfl, ⟨hg0, rfl⟩, by rw [ht]; exact hP, va_K.moved hW.alike hK, hD⟩, hS.F ht⟩) hS.2.2 dX1_init_67 hlocks
end
section
/-! the ranges behind each call of the law -/
theorem cl_lt {x : Int32} {n : Nat} (h : iv x n = 1) (hn : n < 2 ^ 31) : cl x < n := by
  obtain ⟨j, hj, rfl⟩ := iv_of h hn
  rw [cl_n (by omega)]
  exact hj
theorem RG.set_ {S : MS} (h : RG S) (q : Nat) {o r n : Nat} (ho : o ≤ 13) (hr : r < 4) (hn : n < 256) : RG (setS S q o r n) := by
  obtain ⟨h0, h1, h2, h3, h4, h5, h6, h7, h8⟩ := h
  refine ⟨h0, h1, fun w hw => ?_, h3, h4, h5, h6, up_le h7 (by decide), h8⟩
  have := h2 w hw
  show va_up (ms2 S) q o w ≤ 13 ∧ va_up (ms3 S) q r w < 4 ∧ va_up (ms4 S) q n w < 256
  unfold va_up
  split
  · exact ⟨ho, hr, hn⟩
  · exact this
theorem RG.k_oSet {S : MS} (h : RG S) (x1 x2 x3 x4 : Int32) : RG (oSet S x1 x2 x3 x4).2 ∧ ms9 (oSet S x1 x2 x3 x4).2 ≤ ms9 S + 100 := by
  unfold oSet
  split
  · next q =>
    have h2 := cl_lt q.2.1 (by decide)
    exact ⟨h.set_ _ (by omega) (cl_lt q.2.2.1 (by decide)) (cl_lt q.2.2.2 (by decide)), Nat.le_add_right _ _⟩
  · exact ⟨h, Nat.le_add_right _ _⟩
theorem RG.k_oDat {S : MS} (h : RG S) (x1 x2 : Int32) : RG (oDat S x1 x2).2 ∧ ms9 (oDat S x1 x2).2 ≤ ms9 S + 100 := by
  unfold oDat
  split
  · next q => exact ⟨RG.c10 (RG.c1 h (cl_lt q.2 (by decide))) (by decide), Nat.le_add_right _ _⟩
  · exact ⟨h, Nat.le_add_right _ _⟩
theorem RG.k_oRun {S : MS} (h : RG S) (x1 : Int32) : RG (oRun S x1).2 ∧ ms9 (oRun S x1).2 ≤ ms9 S + 100 := by
  unfold oRun
  split
  · next q =>
    have h1 := cl_lt q (by decide)
    have h2 := RG.run (cl x1) h
    refine ⟨h2.1, ?_⟩
    show ms9 (runS (cl x1) S).2 ≤ ms9 S + 100
    have := h2.2
    omega
  · exact ⟨h, Nat.le_add_right _ _⟩
theorem z4_lt (f : Nat → Nat) : ∀ j, j < 4 → z4 f j < 256 := by
  intro j hj
  rcases (by omega : j = 0 ∨ j = 1 ∨ j = 2 ∨ j = 3) with rfl | rfl | rfl | rfl <;> exact Nat.zero_lt_succ 255
theorem RG.rst {S : MS} (h : RG S) : RG (rstS S) ∧ ms9 (rstS S) ≤ ms9 S + 100 := by
  obtain ⟨h0, h1, h2, h3, h4, h5, h6, h7, h8⟩ := h
  exact ⟨⟨z4_lt _, h1, h2, (by decide : 0 < 32), Nat.zero_le 16, h5, Nat.zero_le 1, h7, z6_le _⟩, Nat.le_add_right _ _⟩
theorem RG.k_oHit {S : MS} (h : RG S) (w : Nat) (x : Int32) (ok : Nat) : RG (oHit S w x ok).2 ∧ ms9 (oHit S w x ok).2 ≤ ms9 S + 100 := by
  unfold oHit
  split
  · next q =>
    have h1 := cl_lt q.2.1 (by decide)
    exact ⟨RG.hits h (up_le h.2.2.2.2.2.2.2.2 (by omega)), Nat.le_add_right _ _⟩
  · exact ⟨h, Nat.le_add_right _ _⟩
theorem RG.k_oHitR {S : MS} (h : RG S) (x1 x2 x3 : Int32) : RG (oHitR S x1 x2 x3).2 ∧ ms9 (oHitR S x1 x2 x3).2 ≤ ms9 S + 100 := by
  unfold oHitR
  split
  · exact h.k_oHit _ _ _
  · exact ⟨h, Nat.le_add_right _ _⟩
theorem RG.k_oHitP {S : MS} (h : RG S) (x1 x2 : Int32) : RG (oHitP S x1 x2).2 ∧ ms9 (oHitP S x1 x2).2 ≤ ms9 S + 100 := h.k_oHit _ _ _
theorem RG.k_oHitW {S : MS} (h : RG S) (x1 x2 : Int32) : RG (oHitW S x1 x2).2 ∧ ms9 (oHitW S x1 x2).2 ≤ ms9 S + 100 := h.k_oHit _ _ _
theorem RG.k_oSpl {S : MS} (h : RG S) (w : Nat) : RG (oSpl S w).2 ∧ ms9 (oSpl S w).2 ≤ ms9 S + 100 := by
  unfold oSpl
  split
  · exact ⟨RG.c10 h (by decide), Nat.le_add_right _ _⟩
  · exact ⟨h, Nat.le_add_right _ _⟩
theorem RG.k_oHitD {S : MS} (h : RG S) (x1 x2 : Int32) : RG (oHitD S x1 x2).2 ∧ ms9 (oHitD S x1 x2).2 ≤ ms9 S + 100 := by
  unfold oHitD
  split
  · exact h.k_oSpl _
  · exact ⟨h, Nat.le_add_right _ _⟩
theorem RG.k_oHitG {S : MS} (h : RG S) (x1 x2 : Int32) : RG (oHitG S x1 x2).2 ∧ ms9 (oHitG S x1 x2).2 ≤ ms9 S + 100 := by
  unfold oHitG
  split
  · exact h.k_oSpl _
  · exact ⟨h, Nat.le_add_right _ _⟩
/-- the law's switch -/
theorem sw16 (x : Int32) : ∃ j : Nat, j < 16 ∧ x &&& 15 = nI j := by
  have e : x = nI x.toBitVec.toNat := by
    apply Int32.toBitVec_inj.1
    show x.toBitVec = BitVec.ofNat 32 x.toBitVec.toNat
    rw [BitVec.ofNat_toNat, BitVec.setWidth_eq]
  refine ⟨x.toBitVec.toNat % 16, by omega, ?_⟩
  conv => lhs; rw [e]
  exact nI_and15 _
theorem sub5 : ∀ L, L < 321 → (nI L - 5).toInt = (L : Int) - 5 := by decide +kernel
theorem law_in {i L : Nat} (hL : L ≤ 320) (hi : i ≤ L) (h : ¬ nI L - 5 < nI i) : i + 5 ≤ L := by
  rw [Int32.lt_iff_toInt_lt, sub5 L (by omega), nI_toInt (by omega)] at h
  omega
end
section
/-! THE CLAIM OUT OF ONE WALK OF THE LAW'S BODY. Your part is whole_start (and what it stands on); all else here is the same for every law, but numbers. -/
def R_law : String := "ShieldedMachineLaw"
def lw_P (b : Addr) (xs : List Int32) (args : Array Value) (s : State) : Prop := args = #[.ref b] ∧ s.IntsAt b xs ∧ xs.length ≤ 320 ∧ (Jvm.Cond.and given_1 narrow_1).before args s = true
def lw_Q (_ : Array Value) (s : State) (o : Outcome) (t : State) : Prop := o = .returned (some (.int 1)) ∧ Framed s o t [] 600000 7290000
def lw_Z (below : List Frame) (a : Array Value) (s : State) : State → Prop := fun t => ∃ o, t.status = .running ∧ Ended t below o ∧ lw_Q a s o t
/-- the law's own end, with 1 on the stack, nothing written that was there before, its room as the claim has it -/
theorem lw_ret {p : Program} {l : Launch} {e : Env} {s : State} {m : MethodId} {below : List Frame} {meth : Method} {c : Code} {b : Nat} (hx : p.tables.exec = Jvm.exec) (hb : c.code = code) (hr : meth.sig.returnType = ret) (hlocks : meth.locks = false) {pc : Nat} {H : Heap} {ls : Array Slot} (hdg : decode code pc = .ok (.ireturn, 1)) : W p l e room_1 s m #[Value.ref b] below meth c H [] 600000 7290000 (lw_Z below #[Value.ref b] s) (F0 m pc ls [.int 1]) := by
  intro T hT X
  obtain ⟨fs, hret, hrun, hended, hW, hframe⟩ := X.leave (v := some (.int 1)) (hlocks := hlocks) (fun h => by rw [hr] at h; cases h)
  have hmeth' : T.vm.method? m = some meth := X.method'
  refine ⟨T.setFrames fs, ?_, .returned (some (.int 1)), hrun, hended, rfl, ⟨_, rfl⟩, hW, hframe⟩
  jvm_step X.here [X.here.top, hx, hb, hdg, hmeth', hr, ret, narrow_b1]
  (try refine ⟨rfl, ?_⟩); (try refine ⟨rfl, ?_⟩)
  first | (intro acts; rw [hret _ acts rfl rfl rfl]) | rw [hret _ _ rfl rfl rfl]
  exact Steps.refl _
/-- what holds at the law's entry: the machine, the code, the tables' words (any of lw_tbl by 'hts w (by decide +kernel)'), the script of L ints xs at the cell b, what the Statement gives of the start (any of its parts by flat_of_before) -/
def lw_At (p : Program) (s : State) (m : MethodId) (meth : Method) (c : Code) (b L : Nat) (xs : Nat → Int32) : Prop :=
  p.tables.exec = Jvm.exec ∧ c.code = code ∧ meth.sig.returnType = ret ∧ c.maxLocals = 4 ∧ s.vm.findClass R_law = some m.cls ∧ (∀ w ∈ lw_tbl, w.before #[Value.ref b] s = true) ∧ va_X b L xs s s.heap ∧ b < s.heap.size ∧ meth.locks = false ∧ (Jvm.Cond.and given_1 narrow_1).before #[Value.ref b] s = true
end
section
/-! THE LAW: its sixteen cases -/
abbrev LA (s : State) : Nat → Prop := fun q => s.heap.size ≤ q
/-- what holds in the law between two calls: the two machines hold one pure state -/
def LwSt (D : va_G) (s : State) (g k g' k' : Nat → Nat) (b i : Nat) (S : MS) (u : XS) (H : Heap) (locs : List Loc) (ls : Array Slot) : Prop := RX S u ∧ RG S ∧ va_P D vwCl (xw g k u ++ mw g' k' S) H ∧ va_D (LA s) (xw g k u ++ mw g' k' S) ∧ va_S (LA s) s.heap H locs ∧ lv_has ls 4 [(0, .ref b), (1, .ref (g 0)), (2, .ref (g' 0)), (3, .int (nI i))]
set_option maxHeartbeats 4000000 in
set_option maxRecDepth 100000 in
theorem law_c0 {p : Program} {l : Launch} {e : Env} {s : State} {m : MethodId} {below : List Frame} {meth : Method} {c : Code} {b L : Nat} {xs : Nat → Int32} {D : va_G} {g k g' k' : Nat → Nat} (hL : L ≤ 320) (C0 : lw_At p s m meth c b L xs) (hKx : va_K D vwCl (xt k) s) (hKm : va_K D vwCl (mt k') s) {i : Nat} (hi : i + 5 ≤ L) {S : MS} {u : XS} {H : Heap} {locs : List Loc} {ls : Array Slot} (h9 : ms9 S < 2 ^ 30) (st : LwSt D s g k g' k' b i S u H locs ls)
    (KK : ∀ (S' : MS) (u' : XS) (H' : Heap) (locs' : List Loc) (ls' : Array Slot), ms9 S' ≤ ms9 S + 100 → LwSt D s g k g' k' b i S' u' H' locs' ls' → W p l e room_1 s m #[Value.ref b] below meth c H' locs' 18 348 (lw_Z below #[Value.ref b] s) (F0 m 528 ls' [])) : W p l e room_1 s m #[Value.ref b] below meth c H locs 18 348 (lw_Z below #[Value.ref b] s) (F0 m 112 ls []) := by
  obtain ⟨hx, hb, hr, hml, hown, hts0, hX, hbl, hlocks, hgv⟩ := C0
  have hF : CallFix p m c code 4 s #[Value.ref b] lw_all R_law := ⟨hx, hb, hml, hown, fun w h => hts0 w (lw_all_tbl h)⟩
  have hA : ∀ q : Nat, s.heap.size ≤ q → LA s q := fun _ h => h
  have hbA : ¬ LA s b := Nat.not_le.mpr hbl
  obtain ⟨hR, hG, hP, hD, hS, hl⟩ := st
  refine lv_aload_n hx hb dL_law_112 rfl (lv_at hl 1 rfl) ?_
  refine lv_aload_n hx hb dL_law_113 rfl (lv_at hl 0 rfl) ?_
  refine lv_iload_n hx hb dL_law_114 rfl (lv_at hl 3 rfl) ?_
  refine lv_iconst (v := 1) hx hb dL_law_115 (by decide) ?_
  refine lv_iadd hx hb dL_law_116 ?_
  refine tx (y := nI (i + 1)) (nI_add _ _) ?_
  refine n_sld hx hb hX hbl hbA hS hL (i + 1) rfl (by omega) dL_law_117 ?_
  refine lv_aload_n hx hb dL_law_118 rfl (lv_at hl 0 rfl) ?_
  refine lv_iload_n hx hb dL_law_119 rfl (lv_at hl 3 rfl) ?_
  refine lv_iconst (v := 2) hx hb dL_law_120 (by decide) ?_
  refine lv_iadd hx hb dL_law_121 ?_
  refine tx (y := nI (i + 2)) (nI_add _ _) ?_
  refine n_sld hx hb hX hbl hbA hS hL (i + 2) rfl (by omega) dL_law_122 ?_
  refine lv_aload_n hx hb dL_law_123 rfl (lv_at hl 0 rfl) ?_
  refine lv_iload_n hx hb dL_law_124 rfl (lv_at hl 3 rfl) ?_
  refine lv_iconst (v := 3) hx hb dL_law_125 (by decide) ?_
  refine lv_iadd hx hb dL_law_126 ?_
  refine tx (y := nI (i + 3)) (nI_add _ _) ?_
  refine n_sld hx hb hX hbl hbA hS hL (i + 3) rfl (by omega) dL_law_127 ?_
  refine lv_aload_n hx hb dL_law_128 rfl (lv_at hl 0 rfl) ?_
  refine lv_iload_n hx hb dL_law_129 rfl (lv_at hl 3 rfl) ?_
  refine lv_iconst (v := 4) hx hb dL_law_130 (by decide) ?_
  refine lv_iadd hx hb dL_law_131 ?_
  refine tx (y := nI (i + 4)) (nI_add _ _) ?_
  refine n_sld hx hb hX hbl hbA hS hL (i + 4) rfl (by omega) dL_law_132 ?_
  refine l_i (wf := xw g k) (u := u) (wr := mw g' k' S) (As := [.int (xs (i + 1)), .int (xs (i + 2)), .int (xs (i + 3)), .int (xs (i + 4))]) (rest := []) hF hA hKx hP hD hS (kX0_set l D g k _ S u hR hG (xs (i + 1)) (xs (i + 2)) (xs (i + 3)) (xs (i + 4))) q100 q101 q102 q28 q103 hdX0_set rfl rfl ⟨Nat.le_of_ble_eq_true rfl, Nat.le_of_ble_eq_true rfl⟩ rfl rfl rfl hl.1 rfl (Nat.le_of_ble_eq_true rfl) dL_law_133 ⟨Nat.le_of_ble_eq_true rfl, Nat.le_of_ble_eq_true rfl⟩ (fun r1 u1 H locs hq1 hP hD hS => ?_)
  obtain ⟨e1, hR1⟩ := hq1
  refine lv_aload_n hx hb dL_law_136 rfl (lv_at hl 2 rfl) ?_
  refine lv_aload_n hx hb dL_law_137 rfl (lv_at hl 0 rfl) ?_
  refine lv_iload_n hx hb dL_law_138 rfl (lv_at hl 3 rfl) ?_
  refine lv_iconst (v := 1) hx hb dL_law_139 (by decide) ?_
  refine lv_iadd hx hb dL_law_140 ?_
  refine tx (y := nI (i + 1)) (nI_add _ _) ?_
  refine n_sld hx hb hX hbl hbA hS hL (i + 1) rfl (by omega) dL_law_141 ?_
  refine lv_aload_n hx hb dL_law_142 rfl (lv_at hl 0 rfl) ?_
  refine lv_iload_n hx hb dL_law_143 rfl (lv_at hl 3 rfl) ?_
  refine lv_iconst (v := 2) hx hb dL_law_144 (by decide) ?_
  refine lv_iadd hx hb dL_law_145 ?_
  refine tx (y := nI (i + 2)) (nI_add _ _) ?_
  refine n_sld hx hb hX hbl hbA hS hL (i + 2) rfl (by omega) dL_law_146 ?_
  refine lv_aload_n hx hb dL_law_147 rfl (lv_at hl 0 rfl) ?_
  refine lv_iload_n hx hb dL_law_148 rfl (lv_at hl 3 rfl) ?_
  refine lv_iconst (v := 3) hx hb dL_law_149 (by decide) ?_
  refine lv_iadd hx hb dL_law_150 ?_
  refine tx (y := nI (i + 3)) (nI_add _ _) ?_
  refine n_sld hx hb hX hbl hbA hS hL (i + 3) rfl (by omega) dL_law_151 ?_
  refine lv_aload_n hx hb dL_law_152 rfl (lv_at hl 0 rfl) ?_
  refine lv_iload_n hx hb dL_law_153 rfl (lv_at hl 3 rfl) ?_
  refine lv_iconst (v := 4) hx hb dL_law_154 (by decide) ?_
  refine lv_iadd hx hb dL_law_155 ?_
  refine tx (y := nI (i + 4)) (nI_add _ _) ?_
  refine n_sld hx hb hX hbl hbA hS hL (i + 4) rfl (by omega) dL_law_156 ?_
  have hP := wP_sw hP
  have hD := wD_sw hD
  refine l_i (wf := mw g' k') (u := S) (wr := xw g k u1) (As := [.int (xs (i + 1)), .int (xs (i + 2)), .int (xs (i + 3)), .int (xs (i + 4))]) (rest := [.int r1]) hF hA hKm hP hD hS (kX1_set l D g' k' _ S  (xs (i + 1)) (xs (i + 2)) (xs (i + 3)) (xs (i + 4))) q284 q285 q286 q29 q287 hdX1_set rfl rfl ⟨Nat.le_of_ble_eq_true rfl, Nat.le_of_ble_eq_true rfl⟩ rfl rfl rfl hl.1 rfl (Nat.le_of_ble_eq_true rfl) dL_law_157 ⟨Nat.le_of_ble_eq_true rfl, Nat.le_of_ble_eq_true rfl⟩ (fun r2 S1 H locs hq2 hP hD hS => ?_)
  obtain ⟨e2, rfl⟩ := hq2
  refine lv_icmp_eq (tgt := 528) hx hb dL_law_160 (by decide) (fun c_1 => ?_) (fun c_1 => ?_)
  · exact KK _ _ _ _ _ (hG.k_oSet (xs (i + 1)) (xs (i + 2)) (xs (i + 3)) (xs (i + 4))).2 ⟨hR1, (hG.k_oSet (xs (i + 1)) (xs (i + 2)) (xs (i + 3)) (xs (i + 4))).1, wP_sw hP, wD_sw hD, hS, hl⟩
  · exact absurd (e1.trans e2.symm) c_1

set_option maxHeartbeats 4000000 in
set_option maxRecDepth 100000 in
theorem law_c1 {p : Program} {l : Launch} {e : Env} {s : State} {m : MethodId} {below : List Frame} {meth : Method} {c : Code} {b L : Nat} {xs : Nat → Int32} {D : va_G} {g k g' k' : Nat → Nat} (hL : L ≤ 320) (C0 : lw_At p s m meth c b L xs) (hKx : va_K D vwCl (xt k) s) (hKm : va_K D vwCl (mt k') s) {i : Nat} (hi : i + 5 ≤ L) {S : MS} {u : XS} {H : Heap} {locs : List Loc} {ls : Array Slot} (h9 : ms9 S < 2 ^ 30) (st : LwSt D s g k g' k' b i S u H locs ls)
    (KK : ∀ (S' : MS) (u' : XS) (H' : Heap) (locs' : List Loc) (ls' : Array Slot), ms9 S' ≤ ms9 S + 100 → LwSt D s g k g' k' b i S' u' H' locs' ls' → W p l e room_1 s m #[Value.ref b] below meth c H' locs' 18 348 (lw_Z below #[Value.ref b] s) (F0 m 528 ls' [])) : W p l e room_1 s m #[Value.ref b] below meth c H locs 18 348 (lw_Z below #[Value.ref b] s) (F0 m 165 ls []) := by
  obtain ⟨hx, hb, hr, hml, hown, hts0, hX, hbl, hlocks, hgv⟩ := C0
  have hF : CallFix p m c code 4 s #[Value.ref b] lw_all R_law := ⟨hx, hb, hml, hown, fun w h => hts0 w (lw_all_tbl h)⟩
  have hA : ∀ q : Nat, s.heap.size ≤ q → LA s q := fun _ h => h
  have hbA : ¬ LA s b := Nat.not_le.mpr hbl
  obtain ⟨hR, hG, hP, hD, hS, hl⟩ := st
  refine lv_aload_n hx hb dL_law_165 rfl (lv_at hl 1 rfl) ?_
  refine lv_aload_n hx hb dL_law_166 rfl (lv_at hl 0 rfl) ?_
  refine lv_iload_n hx hb dL_law_167 rfl (lv_at hl 3 rfl) ?_
  refine lv_iconst (v := 1) hx hb dL_law_168 (by decide) ?_
  refine lv_iadd hx hb dL_law_169 ?_
  refine tx (y := nI (i + 1)) (nI_add _ _) ?_
  refine n_sld hx hb hX hbl hbA hS hL (i + 1) rfl (by omega) dL_law_170 ?_
  refine lv_aload_n hx hb dL_law_171 rfl (lv_at hl 0 rfl) ?_
  refine lv_iload_n hx hb dL_law_172 rfl (lv_at hl 3 rfl) ?_
  refine lv_iconst (v := 2) hx hb dL_law_173 (by decide) ?_
  refine lv_iadd hx hb dL_law_174 ?_
  refine tx (y := nI (i + 2)) (nI_add _ _) ?_
  refine n_sld hx hb hX hbl hbA hS hL (i + 2) rfl (by omega) dL_law_175 ?_
  refine l_i (wf := xw g k) (u := u) (wr := mw g' k' S) (As := [.int (xs (i + 1)), .int (xs (i + 2))]) (rest := []) hF hA hKx hP hD hS (kX0_setData l D g k _ S u hR hG (xs (i + 1)) (xs (i + 2))) q107 q108 q109 q28 q110 hdX0_setData rfl rfl ⟨Nat.le_of_ble_eq_true rfl, Nat.le_of_ble_eq_true rfl⟩ rfl rfl rfl hl.1 rfl (Nat.le_of_ble_eq_true rfl) dL_law_176 ⟨Nat.le_of_ble_eq_true rfl, Nat.le_of_ble_eq_true rfl⟩ (fun r1 u1 H locs hq1 hP hD hS => ?_)
  obtain ⟨e1, hR1⟩ := hq1
  refine lv_aload_n hx hb dL_law_179 rfl (lv_at hl 2 rfl) ?_
  refine lv_aload_n hx hb dL_law_180 rfl (lv_at hl 0 rfl) ?_
  refine lv_iload_n hx hb dL_law_181 rfl (lv_at hl 3 rfl) ?_
  refine lv_iconst (v := 1) hx hb dL_law_182 (by decide) ?_
  refine lv_iadd hx hb dL_law_183 ?_
  refine tx (y := nI (i + 1)) (nI_add _ _) ?_
  refine n_sld hx hb hX hbl hbA hS hL (i + 1) rfl (by omega) dL_law_184 ?_
  refine lv_aload_n hx hb dL_law_185 rfl (lv_at hl 0 rfl) ?_
  refine lv_iload_n hx hb dL_law_186 rfl (lv_at hl 3 rfl) ?_
  refine lv_iconst (v := 2) hx hb dL_law_187 (by decide) ?_
  refine lv_iadd hx hb dL_law_188 ?_
  refine tx (y := nI (i + 2)) (nI_add _ _) ?_
  refine n_sld hx hb hX hbl hbA hS hL (i + 2) rfl (by omega) dL_law_189 ?_
  have hP := wP_sw hP
  have hD := wD_sw hD
  refine l_i (wf := mw g' k') (u := S) (wr := xw g k u1) (As := [.int (xs (i + 1)), .int (xs (i + 2))]) (rest := [.int r1]) hF hA hKm hP hD hS (kX1_setData l D g' k' _ S  (xs (i + 1)) (xs (i + 2))) q300 q301 q302 q29 q303 hdX1_setData rfl rfl ⟨Nat.le_of_ble_eq_true rfl, Nat.le_of_ble_eq_true rfl⟩ rfl rfl rfl hl.1 rfl (Nat.le_of_ble_eq_true rfl) dL_law_190 ⟨Nat.le_of_ble_eq_true rfl, Nat.le_of_ble_eq_true rfl⟩ (fun r2 S1 H locs hq2 hP hD hS => ?_)
  obtain ⟨e2, rfl⟩ := hq2
  refine lv_icmp_eq (tgt := 528) hx hb dL_law_193 (by decide) (fun c_1 => ?_) (fun c_1 => ?_)
  · exact KK _ _ _ _ _ (hG.k_oDat (xs (i + 1)) (xs (i + 2))).2 ⟨hR1, (hG.k_oDat (xs (i + 1)) (xs (i + 2))).1, wP_sw hP, wD_sw hD, hS, hl⟩
  · exact absurd (e1.trans e2.symm) c_1

set_option maxHeartbeats 4000000 in
set_option maxRecDepth 100000 in
theorem law_c2 {p : Program} {l : Launch} {e : Env} {s : State} {m : MethodId} {below : List Frame} {meth : Method} {c : Code} {b L : Nat} {xs : Nat → Int32} {D : va_G} {g k g' k' : Nat → Nat} (hL : L ≤ 320) (C0 : lw_At p s m meth c b L xs) (hKx : va_K D vwCl (xt k) s) (hKm : va_K D vwCl (mt k') s) {i : Nat} (hi : i + 5 ≤ L) {S : MS} {u : XS} {H : Heap} {locs : List Loc} {ls : Array Slot} (h9 : ms9 S < 2 ^ 30) (st : LwSt D s g k g' k' b i S u H locs ls)
    (KK : ∀ (S' : MS) (u' : XS) (H' : Heap) (locs' : List Loc) (ls' : Array Slot), ms9 S' ≤ ms9 S + 100 → LwSt D s g k g' k' b i S' u' H' locs' ls' → W p l e room_1 s m #[Value.ref b] below meth c H' locs' 18 348 (lw_Z below #[Value.ref b] s) (F0 m 528 ls' [])) : W p l e room_1 s m #[Value.ref b] below meth c H locs 18 348 (lw_Z below #[Value.ref b] s) (F0 m 198 ls []) := by
  obtain ⟨hx, hb, hr, hml, hown, hts0, hX, hbl, hlocks, hgv⟩ := C0
  have hF : CallFix p m c code 4 s #[Value.ref b] lw_all R_law := ⟨hx, hb, hml, hown, fun w h => hts0 w (lw_all_tbl h)⟩
  have hA : ∀ q : Nat, s.heap.size ≤ q → LA s q := fun _ h => h
  have hbA : ¬ LA s b := Nat.not_le.mpr hbl
  obtain ⟨hR, hG, hP, hD, hS, hl⟩ := st
  refine lv_aload_n hx hb dL_law_198 rfl (lv_at hl 1 rfl) ?_
  refine lv_aload_n hx hb dL_law_199 rfl (lv_at hl 0 rfl) ?_
  refine lv_iload_n hx hb dL_law_200 rfl (lv_at hl 3 rfl) ?_
  refine lv_iconst (v := 1) hx hb dL_law_201 (by decide) ?_
  refine lv_iadd hx hb dL_law_202 ?_
  refine tx (y := nI (i + 1)) (nI_add _ _) ?_
  refine n_sld hx hb hX hbl hbA hS hL (i + 1) rfl (by omega) dL_law_203 ?_
  refine l_i (wf := xw g k) (u := u) (wr := mw g' k' S) (As := [.int (xs (i + 1))]) (rest := []) hF hA hKx hP hD hS (kX0_run l D g k _ S u hR hG (xs (i + 1))) q111 q112 q113 q28 q114 hdX0_run rfl rfl ⟨Nat.le_of_ble_eq_true rfl, Nat.le_of_ble_eq_true rfl⟩ rfl rfl rfl hl.1 rfl (Nat.le_of_ble_eq_true rfl) dL_law_204 ⟨Nat.le_of_ble_eq_true rfl, Nat.le_of_ble_eq_true rfl⟩ (fun r1 u1 H locs hq1 hP hD hS => ?_)
  obtain ⟨e1, hR1⟩ := hq1
  refine lv_aload_n hx hb dL_law_207 rfl (lv_at hl 2 rfl) ?_
  refine lv_aload_n hx hb dL_law_208 rfl (lv_at hl 0 rfl) ?_
  refine lv_iload_n hx hb dL_law_209 rfl (lv_at hl 3 rfl) ?_
  refine lv_iconst (v := 1) hx hb dL_law_210 (by decide) ?_
  refine lv_iadd hx hb dL_law_211 ?_
  refine tx (y := nI (i + 1)) (nI_add _ _) ?_
  refine n_sld hx hb hX hbl hbA hS hL (i + 1) rfl (by omega) dL_law_212 ?_
  have hP := wP_sw hP
  have hD := wD_sw hD
  refine l_i (wf := mw g' k') (u := S) (wr := xw g k u1) (As := [.int (xs (i + 1))]) (rest := [.int r1]) hF hA hKm hP hD hS (kX1_run l D g' k' _ S hG h9 (xs (i + 1))) q308 q309 q310 q29 q311 hdX1_run rfl rfl ⟨Nat.le_of_ble_eq_true rfl, Nat.le_of_ble_eq_true rfl⟩ rfl rfl rfl hl.1 rfl (Nat.le_of_ble_eq_true rfl) dL_law_213 ⟨Nat.le_of_ble_eq_true rfl, Nat.le_of_ble_eq_true rfl⟩ (fun r2 S1 H locs hq2 hP hD hS => ?_)
  obtain ⟨e2, rfl⟩ := hq2
  refine lv_icmp_eq (tgt := 528) hx hb dL_law_216 (by decide) (fun c_1 => ?_) (fun c_1 => ?_)
  · exact KK _ _ _ _ _ (hG.k_oRun (xs (i + 1))).2 ⟨hR1, (hG.k_oRun (xs (i + 1))).1, wP_sw hP, wD_sw hD, hS, hl⟩
  · exact absurd (e1.trans e2.symm) c_1

set_option maxHeartbeats 4000000 in
set_option maxRecDepth 100000 in
theorem law_c3 {p : Program} {l : Launch} {e : Env} {s : State} {m : MethodId} {below : List Frame} {meth : Method} {c : Code} {b L : Nat} {xs : Nat → Int32} {D : va_G} {g k g' k' : Nat → Nat} (hL : L ≤ 320) (C0 : lw_At p s m meth c b L xs) (hKx : va_K D vwCl (xt k) s) (hKm : va_K D vwCl (mt k') s) {i : Nat} (hi : i + 5 ≤ L) {S : MS} {u : XS} {H : Heap} {locs : List Loc} {ls : Array Slot} (h9 : ms9 S < 2 ^ 30) (st : LwSt D s g k g' k' b i S u H locs ls)
    (KK : ∀ (S' : MS) (u' : XS) (H' : Heap) (locs' : List Loc) (ls' : Array Slot), ms9 S' ≤ ms9 S + 100 → LwSt D s g k g' k' b i S' u' H' locs' ls' → W p l e room_1 s m #[Value.ref b] below meth c H' locs' 18 348 (lw_Z below #[Value.ref b] s) (F0 m 528 ls' [])) : W p l e room_1 s m #[Value.ref b] below meth c H locs 18 348 (lw_Z below #[Value.ref b] s) (F0 m 221 ls []) := by
  obtain ⟨hx, hb, hr, hml, hown, hts0, hX, hbl, hlocks, hgv⟩ := C0
  have hF : CallFix p m c code 4 s #[Value.ref b] lw_all R_law := ⟨hx, hb, hml, hown, fun w h => hts0 w (lw_all_tbl h)⟩
  have hA : ∀ q : Nat, s.heap.size ≤ q → LA s q := fun _ h => h
  have hbA : ¬ LA s b := Nat.not_le.mpr hbl
  obtain ⟨hR, hG, hP, hD, hS, hl⟩ := st
  refine lv_aload_n hx hb dL_law_221 rfl (lv_at hl 1 rfl) ?_
  refine l_v (wf := xw g k) (u := u) (wr := mw g' k' S) (As := []) (rest := []) hF hA hKx hP hD hS (kX0_reset l D g k _ S u hR hG) q182 q183 q184 q28 q185 hdX0_reset rfl rfl ⟨Nat.le_of_ble_eq_true rfl, Nat.le_of_ble_eq_true rfl⟩ rfl rfl rfl hl.1 rfl (Nat.le_of_ble_eq_true rfl) dL_law_222 ⟨Nat.le_of_ble_eq_true rfl, Nat.le_of_ble_eq_true rfl⟩ (fun u1 H locs hq1 hP hD hS => ?_)
  refine lv_aload_n hx hb dL_law_225 rfl (lv_at hl 2 rfl) ?_
  have hP := wP_sw hP
  have hD := wD_sw hD
  refine l_v (wf := mw g' k') (u := S) (wr := xw g k u1) (As := []) (rest := []) hF hA hKm hP hD hS (kX1_reset l D g' k' _ S) q332 q333 q334 q29 q335 hdX1_reset rfl rfl ⟨Nat.le_of_ble_eq_true rfl, Nat.le_of_ble_eq_true rfl⟩ rfl rfl rfl hl.1 rfl (Nat.le_of_ble_eq_true rfl) dL_law_226 ⟨Nat.le_of_ble_eq_true rfl, Nat.le_of_ble_eq_true rfl⟩ (fun S1 H locs hq2 hP hD hS => ?_)
  subst hq2
  refine lv_goto (tgt := 528) hx hb dL_law_229 (by decide) ?_
  exact KK _ _ _ _ _ hG.rst.2 ⟨hq1, hG.rst.1, wP_sw hP, wD_sw hD, hS, hl⟩

set_option maxHeartbeats 4000000 in
set_option maxRecDepth 100000 in
theorem law_c4 {p : Program} {l : Launch} {e : Env} {s : State} {m : MethodId} {below : List Frame} {meth : Method} {c : Code} {b L : Nat} {xs : Nat → Int32} {D : va_G} {g k g' k' : Nat → Nat} (hL : L ≤ 320) (C0 : lw_At p s m meth c b L xs) (hKx : va_K D vwCl (xt k) s) (hKm : va_K D vwCl (mt k') s) {i : Nat} (hi : i + 5 ≤ L) {S : MS} {u : XS} {H : Heap} {locs : List Loc} {ls : Array Slot} (h9 : ms9 S < 2 ^ 30) (st : LwSt D s g k g' k' b i S u H locs ls)
    (KK : ∀ (S' : MS) (u' : XS) (H' : Heap) (locs' : List Loc) (ls' : Array Slot), ms9 S' ≤ ms9 S + 100 → LwSt D s g k g' k' b i S' u' H' locs' ls' → W p l e room_1 s m #[Value.ref b] below meth c H' locs' 18 348 (lw_Z below #[Value.ref b] s) (F0 m 528 ls' [])) : W p l e room_1 s m #[Value.ref b] below meth c H locs 18 348 (lw_Z below #[Value.ref b] s) (F0 m 232 ls []) := by
  obtain ⟨hx, hb, hr, hml, hown, hts0, hX, hbl, hlocks, hgv⟩ := C0
  have hF : CallFix p m c code 4 s #[Value.ref b] lw_all R_law := ⟨hx, hb, hml, hown, fun w h => hts0 w (lw_all_tbl h)⟩
  have hA : ∀ q : Nat, s.heap.size ≤ q → LA s q := fun _ h => h
  have hbA : ¬ LA s b := Nat.not_le.mpr hbl
  obtain ⟨hR, hG, hP, hD, hS, hl⟩ := st
  refine lv_aload_n hx hb dL_law_232 rfl (lv_at hl 1 rfl) ?_
  refine lv_aload_n hx hb dL_law_233 rfl (lv_at hl 0 rfl) ?_
  refine lv_iload_n hx hb dL_law_234 rfl (lv_at hl 3 rfl) ?_
  refine lv_iconst (v := 1) hx hb dL_law_235 (by decide) ?_
  refine lv_iadd hx hb dL_law_236 ?_
  refine tx (y := nI (i + 1)) (nI_add _ _) ?_
  refine n_sld hx hb hX hbl hbA hS hL (i + 1) rfl (by omega) dL_law_237 ?_
  refine lv_aload_n hx hb dL_law_238 rfl (lv_at hl 0 rfl) ?_
  refine lv_iload_n hx hb dL_law_239 rfl (lv_at hl 3 rfl) ?_
  refine lv_iconst (v := 2) hx hb dL_law_240 (by decide) ?_
  refine lv_iadd hx hb dL_law_241 ?_
  refine tx (y := nI (i + 2)) (nI_add _ _) ?_
  refine n_sld hx hb hX hbl hbA hS hL (i + 2) rfl (by omega) dL_law_242 ?_
  refine lv_aload_n hx hb dL_law_243 rfl (lv_at hl 0 rfl) ?_
  refine lv_iload_n hx hb dL_law_244 rfl (lv_at hl 3 rfl) ?_
  refine lv_iconst (v := 3) hx hb dL_law_245 (by decide) ?_
  refine lv_iadd hx hb dL_law_246 ?_
  refine tx (y := nI (i + 3)) (nI_add _ _) ?_
  refine n_sld hx hb hX hbl hbA hS hL (i + 3) rfl (by omega) dL_law_247 ?_
  refine l_i (wf := xw g k) (u := u) (wr := mw g' k' S) (As := [.int (xs (i + 1)), .int (xs (i + 2)), .int (xs (i + 3))]) (rest := []) hF hA hKx hP hD hS (kX0_hitRegister l D g k _ S u hR hG (xs (i + 1)) (xs (i + 2)) (xs (i + 3))) q186 q187 q188 q28 q189 hdX0_hitRegister rfl rfl ⟨Nat.le_of_ble_eq_true rfl, Nat.le_of_ble_eq_true rfl⟩ rfl rfl rfl hl.1 rfl (Nat.le_of_ble_eq_true rfl) dL_law_248 ⟨Nat.le_of_ble_eq_true rfl, Nat.le_of_ble_eq_true rfl⟩ (fun r1 u1 H locs hq1 hP hD hS => ?_)
  obtain ⟨e1, hR1⟩ := hq1
  refine lv_aload_n hx hb dL_law_251 rfl (lv_at hl 2 rfl) ?_
  refine lv_aload_n hx hb dL_law_252 rfl (lv_at hl 0 rfl) ?_
  refine lv_iload_n hx hb dL_law_253 rfl (lv_at hl 3 rfl) ?_
  refine lv_iconst (v := 1) hx hb dL_law_254 (by decide) ?_
  refine lv_iadd hx hb dL_law_255 ?_
  refine tx (y := nI (i + 1)) (nI_add _ _) ?_
  refine n_sld hx hb hX hbl hbA hS hL (i + 1) rfl (by omega) dL_law_256 ?_
  refine lv_aload_n hx hb dL_law_257 rfl (lv_at hl 0 rfl) ?_
  refine lv_iload_n hx hb dL_law_258 rfl (lv_at hl 3 rfl) ?_
  refine lv_iconst (v := 2) hx hb dL_law_259 (by decide) ?_
  refine lv_iadd hx hb dL_law_260 ?_
  refine tx (y := nI (i + 2)) (nI_add _ _) ?_
  refine n_sld hx hb hX hbl hbA hS hL (i + 2) rfl (by omega) dL_law_261 ?_
  refine lv_aload_n hx hb dL_law_262 rfl (lv_at hl 0 rfl) ?_
  refine lv_iload_n hx hb dL_law_263 rfl (lv_at hl 3 rfl) ?_
  refine lv_iconst (v := 3) hx hb dL_law_264 (by decide) ?_
  refine lv_iadd hx hb dL_law_265 ?_
  refine tx (y := nI (i + 3)) (nI_add _ _) ?_
  refine n_sld hx hb hX hbl hbA hS hL (i + 3) rfl (by omega) dL_law_266 ?_
  have hP := wP_sw hP
  have hD := wD_sw hD
  refine l_i (wf := mw g' k') (u := S) (wr := xw g k u1) (As := [.int (xs (i + 1)), .int (xs (i + 2)), .int (xs (i + 3))]) (rest := [.int r1]) hF hA hKm hP hD hS (kX1_hitRegister l D g' k' _ S hG (xs (i + 1)) (xs (i + 2)) (xs (i + 3))) q336 q337 q338 q29 q339 hdX1_hitRegister rfl rfl ⟨Nat.le_of_ble_eq_true rfl, Nat.le_of_ble_eq_true rfl⟩ rfl rfl rfl hl.1 rfl (Nat.le_of_ble_eq_true rfl) dL_law_267 ⟨Nat.le_of_ble_eq_true rfl, Nat.le_of_ble_eq_true rfl⟩ (fun r2 S1 H locs hq2 hP hD hS => ?_)
  obtain ⟨e2, rfl⟩ := hq2
  refine lv_icmp_eq (tgt := 528) hx hb dL_law_270 (by decide) (fun c_1 => ?_) (fun c_1 => ?_)
  · exact KK _ _ _ _ _ (hG.k_oHitR (xs (i + 1)) (xs (i + 2)) (xs (i + 3))).2 ⟨hR1, (hG.k_oHitR (xs (i + 1)) (xs (i + 2)) (xs (i + 3))).1, wP_sw hP, wD_sw hD, hS, hl⟩
  · exact absurd (e1.trans e2.symm) c_1

set_option maxHeartbeats 4000000 in
set_option maxRecDepth 100000 in
theorem law_c5 {p : Program} {l : Launch} {e : Env} {s : State} {m : MethodId} {below : List Frame} {meth : Method} {c : Code} {b L : Nat} {xs : Nat → Int32} {D : va_G} {g k g' k' : Nat → Nat} (hL : L ≤ 320) (C0 : lw_At p s m meth c b L xs) (hKx : va_K D vwCl (xt k) s) (hKm : va_K D vwCl (mt k') s) {i : Nat} (hi : i + 5 ≤ L) {S : MS} {u : XS} {H : Heap} {locs : List Loc} {ls : Array Slot} (h9 : ms9 S < 2 ^ 30) (st : LwSt D s g k g' k' b i S u H locs ls)
    (KK : ∀ (S' : MS) (u' : XS) (H' : Heap) (locs' : List Loc) (ls' : Array Slot), ms9 S' ≤ ms9 S + 100 → LwSt D s g k g' k' b i S' u' H' locs' ls' → W p l e room_1 s m #[Value.ref b] below meth c H' locs' 18 348 (lw_Z below #[Value.ref b] s) (F0 m 528 ls' [])) : W p l e room_1 s m #[Value.ref b] below meth c H locs 18 348 (lw_Z below #[Value.ref b] s) (F0 m 275 ls []) := by
  obtain ⟨hx, hb, hr, hml, hown, hts0, hX, hbl, hlocks, hgv⟩ := C0
  have hF : CallFix p m c code 4 s #[Value.ref b] lw_all R_law := ⟨hx, hb, hml, hown, fun w h => hts0 w (lw_all_tbl h)⟩
  have hA : ∀ q : Nat, s.heap.size ≤ q → LA s q := fun _ h => h
  have hbA : ¬ LA s b := Nat.not_le.mpr hbl
  obtain ⟨hR, hG, hP, hD, hS, hl⟩ := st
  refine lv_aload_n hx hb dL_law_275 rfl (lv_at hl 1 rfl) ?_
  refine lv_aload_n hx hb dL_law_276 rfl (lv_at hl 0 rfl) ?_
  refine lv_iload_n hx hb dL_law_277 rfl (lv_at hl 3 rfl) ?_
  refine lv_iconst (v := 1) hx hb dL_law_278 (by decide) ?_
  refine lv_iadd hx hb dL_law_279 ?_
  refine tx (y := nI (i + 1)) (nI_add _ _) ?_
  refine n_sld hx hb hX hbl hbA hS hL (i + 1) rfl (by omega) dL_law_280 ?_
  refine lv_aload_n hx hb dL_law_281 rfl (lv_at hl 0 rfl) ?_
  refine lv_iload_n hx hb dL_law_282 rfl (lv_at hl 3 rfl) ?_
  refine lv_iconst (v := 2) hx hb dL_law_283 (by decide) ?_
  refine lv_iadd hx hb dL_law_284 ?_
  refine tx (y := nI (i + 2)) (nI_add _ _) ?_
  refine n_sld hx hb hX hbl hbA hS hL (i + 2) rfl (by omega) dL_law_285 ?_
  refine l_i (wf := xw g k) (u := u) (wr := mw g' k' S) (As := [.int (xs (i + 1)), .int (xs (i + 2))]) (rest := []) hF hA hKx hP hD hS (kX0_hitPlace l D g k _ S u hR hG (xs (i + 1)) (xs (i + 2))) q193 q194 q195 q28 q196 hdX0_hitPlace rfl rfl ⟨Nat.le_of_ble_eq_true rfl, Nat.le_of_ble_eq_true rfl⟩ rfl rfl rfl hl.1 rfl (Nat.le_of_ble_eq_true rfl) dL_law_286 ⟨Nat.le_of_ble_eq_true rfl, Nat.le_of_ble_eq_true rfl⟩ (fun r1 u1 H locs hq1 hP hD hS => ?_)
  obtain ⟨e1, hR1⟩ := hq1
  refine lv_aload_n hx hb dL_law_289 rfl (lv_at hl 2 rfl) ?_
  refine lv_aload_n hx hb dL_law_290 rfl (lv_at hl 0 rfl) ?_
  refine lv_iload_n hx hb dL_law_291 rfl (lv_at hl 3 rfl) ?_
  refine lv_iconst (v := 1) hx hb dL_law_292 (by decide) ?_
  refine lv_iadd hx hb dL_law_293 ?_
  refine tx (y := nI (i + 1)) (nI_add _ _) ?_
  refine n_sld hx hb hX hbl hbA hS hL (i + 1) rfl (by omega) dL_law_294 ?_
  refine lv_aload_n hx hb dL_law_295 rfl (lv_at hl 0 rfl) ?_
  refine lv_iload_n hx hb dL_law_296 rfl (lv_at hl 3 rfl) ?_
  refine lv_iconst (v := 2) hx hb dL_law_297 (by decide) ?_
  refine lv_iadd hx hb dL_law_298 ?_
  refine tx (y := nI (i + 2)) (nI_add _ _) ?_
  refine n_sld hx hb hX hbl hbA hS hL (i + 2) rfl (by omega) dL_law_299 ?_
  have hP := wP_sw hP
  have hD := wD_sw hD
  refine l_i (wf := mw g' k') (u := S) (wr := xw g k u1) (As := [.int (xs (i + 1)), .int (xs (i + 2))]) (rest := [.int r1]) hF hA hKm hP hD hS (kX1_hitPlace l D g' k' _ S hG (xs (i + 1)) (xs (i + 2))) q348 q349 q350 q29 q351 hdX1_hitPlace rfl rfl ⟨Nat.le_of_ble_eq_true rfl, Nat.le_of_ble_eq_true rfl⟩ rfl rfl rfl hl.1 rfl (Nat.le_of_ble_eq_true rfl) dL_law_300 ⟨Nat.le_of_ble_eq_true rfl, Nat.le_of_ble_eq_true rfl⟩ (fun r2 S1 H locs hq2 hP hD hS => ?_)
  obtain ⟨e2, rfl⟩ := hq2
  refine lv_icmp_eq (tgt := 528) hx hb dL_law_303 (by decide) (fun c_1 => ?_) (fun c_1 => ?_)
  · exact KK _ _ _ _ _ (hG.k_oHitP (xs (i + 1)) (xs (i + 2))).2 ⟨hR1, (hG.k_oHitP (xs (i + 1)) (xs (i + 2))).1, wP_sw hP, wD_sw hD, hS, hl⟩
  · exact absurd (e1.trans e2.symm) c_1

set_option maxHeartbeats 4000000 in
set_option maxRecDepth 100000 in
theorem law_c6 {p : Program} {l : Launch} {e : Env} {s : State} {m : MethodId} {below : List Frame} {meth : Method} {c : Code} {b L : Nat} {xs : Nat → Int32} {D : va_G} {g k g' k' : Nat → Nat} (hL : L ≤ 320) (C0 : lw_At p s m meth c b L xs) (hKx : va_K D vwCl (xt k) s) (hKm : va_K D vwCl (mt k') s) {i : Nat} (hi : i + 5 ≤ L) {S : MS} {u : XS} {H : Heap} {locs : List Loc} {ls : Array Slot} (h9 : ms9 S < 2 ^ 30) (st : LwSt D s g k g' k' b i S u H locs ls)
    (KK : ∀ (S' : MS) (u' : XS) (H' : Heap) (locs' : List Loc) (ls' : Array Slot), ms9 S' ≤ ms9 S + 100 → LwSt D s g k g' k' b i S' u' H' locs' ls' → W p l e room_1 s m #[Value.ref b] below meth c H' locs' 18 348 (lw_Z below #[Value.ref b] s) (F0 m 528 ls' [])) : W p l e room_1 s m #[Value.ref b] below meth c H locs 18 348 (lw_Z below #[Value.ref b] s) (F0 m 308 ls []) := by
  obtain ⟨hx, hb, hr, hml, hown, hts0, hX, hbl, hlocks, hgv⟩ := C0
  have hF : CallFix p m c code 4 s #[Value.ref b] lw_all R_law := ⟨hx, hb, hml, hown, fun w h => hts0 w (lw_all_tbl h)⟩
  have hA : ∀ q : Nat, s.heap.size ≤ q → LA s q := fun _ h => h
  have hbA : ¬ LA s b := Nat.not_le.mpr hbl
  obtain ⟨hR, hG, hP, hD, hS, hl⟩ := st
  refine lv_aload_n hx hb dL_law_308 rfl (lv_at hl 1 rfl) ?_
  refine lv_aload_n hx hb dL_law_309 rfl (lv_at hl 0 rfl) ?_
  refine lv_iload_n hx hb dL_law_310 rfl (lv_at hl 3 rfl) ?_
  refine lv_iconst (v := 1) hx hb dL_law_311 (by decide) ?_
  refine lv_iadd hx hb dL_law_312 ?_
  refine tx (y := nI (i + 1)) (nI_add _ _) ?_
  refine n_sld hx hb hX hbl hbA hS hL (i + 1) rfl (by omega) dL_law_313 ?_
  refine lv_aload_n hx hb dL_law_314 rfl (lv_at hl 0 rfl) ?_
  refine lv_iload_n hx hb dL_law_315 rfl (lv_at hl 3 rfl) ?_
  refine lv_iconst (v := 2) hx hb dL_law_316 (by decide) ?_
  refine lv_iadd hx hb dL_law_317 ?_
  refine tx (y := nI (i + 2)) (nI_add _ _) ?_
  refine n_sld hx hb hX hbl hbA hS hL (i + 2) rfl (by omega) dL_law_318 ?_
  refine l_i (wf := xw g k) (u := u) (wr := mw g' k' S) (As := [.int (xs (i + 1)), .int (xs (i + 2))]) (rest := []) hF hA hKx hP hD hS (kX0_hitWork l D g k _ S u hR hG (xs (i + 1)) (xs (i + 2))) q197 q198 q199 q28 q200 hdX0_hitWork rfl rfl ⟨Nat.le_of_ble_eq_true rfl, Nat.le_of_ble_eq_true rfl⟩ rfl rfl rfl hl.1 rfl (Nat.le_of_ble_eq_true rfl) dL_law_319 ⟨Nat.le_of_ble_eq_true rfl, Nat.le_of_ble_eq_true rfl⟩ (fun r1 u1 H locs hq1 hP hD hS => ?_)
  obtain ⟨e1, hR1⟩ := hq1
  refine lv_aload_n hx hb dL_law_322 rfl (lv_at hl 2 rfl) ?_
  refine lv_aload_n hx hb dL_law_323 rfl (lv_at hl 0 rfl) ?_
  refine lv_iload_n hx hb dL_law_324 rfl (lv_at hl 3 rfl) ?_
  refine lv_iconst (v := 1) hx hb dL_law_325 (by decide) ?_
  refine lv_iadd hx hb dL_law_326 ?_
  refine tx (y := nI (i + 1)) (nI_add _ _) ?_
  refine n_sld hx hb hX hbl hbA hS hL (i + 1) rfl (by omega) dL_law_327 ?_
  refine lv_aload_n hx hb dL_law_328 rfl (lv_at hl 0 rfl) ?_
  refine lv_iload_n hx hb dL_law_329 rfl (lv_at hl 3 rfl) ?_
  refine lv_iconst (v := 2) hx hb dL_law_330 (by decide) ?_
  refine lv_iadd hx hb dL_law_331 ?_
  refine tx (y := nI (i + 2)) (nI_add _ _) ?_
  refine n_sld hx hb hX hbl hbA hS hL (i + 2) rfl (by omega) dL_law_332 ?_
  have hP := wP_sw hP
  have hD := wD_sw hD
  refine l_i (wf := mw g' k') (u := S) (wr := xw g k u1) (As := [.int (xs (i + 1)), .int (xs (i + 2))]) (rest := [.int r1]) hF hA hKm hP hD hS (kX1_hitWork l D g' k' _ S hG (xs (i + 1)) (xs (i + 2))) q352 q353 q354 q29 q355 hdX1_hitWork rfl rfl ⟨Nat.le_of_ble_eq_true rfl, Nat.le_of_ble_eq_true rfl⟩ rfl rfl rfl hl.1 rfl (Nat.le_of_ble_eq_true rfl) dL_law_333 ⟨Nat.le_of_ble_eq_true rfl, Nat.le_of_ble_eq_true rfl⟩ (fun r2 S1 H locs hq2 hP hD hS => ?_)
  obtain ⟨e2, rfl⟩ := hq2
  refine lv_icmp_eq (tgt := 528) hx hb dL_law_336 (by decide) (fun c_1 => ?_) (fun c_1 => ?_)
  · exact KK _ _ _ _ _ (hG.k_oHitW (xs (i + 1)) (xs (i + 2))).2 ⟨hR1, (hG.k_oHitW (xs (i + 1)) (xs (i + 2))).1, wP_sw hP, wD_sw hD, hS, hl⟩
  · exact absurd (e1.trans e2.symm) c_1

set_option maxHeartbeats 4000000 in
set_option maxRecDepth 100000 in
theorem law_c7 {p : Program} {l : Launch} {e : Env} {s : State} {m : MethodId} {below : List Frame} {meth : Method} {c : Code} {b L : Nat} {xs : Nat → Int32} {D : va_G} {g k g' k' : Nat → Nat} (hL : L ≤ 320) (C0 : lw_At p s m meth c b L xs) (hKx : va_K D vwCl (xt k) s) (hKm : va_K D vwCl (mt k') s) {i : Nat} (hi : i + 5 ≤ L) {S : MS} {u : XS} {H : Heap} {locs : List Loc} {ls : Array Slot} (h9 : ms9 S < 2 ^ 30) (st : LwSt D s g k g' k' b i S u H locs ls)
    (KK : ∀ (S' : MS) (u' : XS) (H' : Heap) (locs' : List Loc) (ls' : Array Slot), ms9 S' ≤ ms9 S + 100 → LwSt D s g k g' k' b i S' u' H' locs' ls' → W p l e room_1 s m #[Value.ref b] below meth c H' locs' 18 348 (lw_Z below #[Value.ref b] s) (F0 m 528 ls' [])) : W p l e room_1 s m #[Value.ref b] below meth c H locs 18 348 (lw_Z below #[Value.ref b] s) (F0 m 341 ls []) := by
  obtain ⟨hx, hb, hr, hml, hown, hts0, hX, hbl, hlocks, hgv⟩ := C0
  have hF : CallFix p m c code 4 s #[Value.ref b] lw_all R_law := ⟨hx, hb, hml, hown, fun w h => hts0 w (lw_all_tbl h)⟩
  have hA : ∀ q : Nat, s.heap.size ≤ q → LA s q := fun _ h => h
  have hbA : ¬ LA s b := Nat.not_le.mpr hbl
  obtain ⟨hR, hG, hP, hD, hS, hl⟩ := st
  refine lv_aload_n hx hb dL_law_341 rfl (lv_at hl 1 rfl) ?_
  refine lv_aload_n hx hb dL_law_342 rfl (lv_at hl 0 rfl) ?_
  refine lv_iload_n hx hb dL_law_343 rfl (lv_at hl 3 rfl) ?_
  refine lv_iconst (v := 1) hx hb dL_law_344 (by decide) ?_
  refine lv_iadd hx hb dL_law_345 ?_
  refine tx (y := nI (i + 1)) (nI_add _ _) ?_
  refine n_sld hx hb hX hbl hbA hS hL (i + 1) rfl (by omega) dL_law_346 ?_
  refine lv_aload_n hx hb dL_law_347 rfl (lv_at hl 0 rfl) ?_
  refine lv_iload_n hx hb dL_law_348 rfl (lv_at hl 3 rfl) ?_
  refine lv_iconst (v := 2) hx hb dL_law_349 (by decide) ?_
  refine lv_iadd hx hb dL_law_350 ?_
  refine tx (y := nI (i + 2)) (nI_add _ _) ?_
  refine n_sld hx hb hX hbl hbA hS hL (i + 2) rfl (by omega) dL_law_351 ?_
  refine l_i (wf := xw g k) (u := u) (wr := mw g' k' S) (As := [.int (xs (i + 1)), .int (xs (i + 2))]) (rest := []) hF hA hKx hP hD hS (kX0_hitData l D g k _ S u hR hG (xs (i + 1)) (xs (i + 2))) q201 q202 q203 q28 q204 hdX0_hitData rfl rfl ⟨Nat.le_of_ble_eq_true rfl, Nat.le_of_ble_eq_true rfl⟩ rfl rfl rfl hl.1 rfl (Nat.le_of_ble_eq_true rfl) dL_law_352 ⟨Nat.le_of_ble_eq_true rfl, Nat.le_of_ble_eq_true rfl⟩ (fun r1 u1 H locs hq1 hP hD hS => ?_)
  obtain ⟨e1, hR1⟩ := hq1
  refine lv_aload_n hx hb dL_law_355 rfl (lv_at hl 2 rfl) ?_
  refine lv_aload_n hx hb dL_law_356 rfl (lv_at hl 0 rfl) ?_
  refine lv_iload_n hx hb dL_law_357 rfl (lv_at hl 3 rfl) ?_
  refine lv_iconst (v := 1) hx hb dL_law_358 (by decide) ?_
  refine lv_iadd hx hb dL_law_359 ?_
  refine tx (y := nI (i + 1)) (nI_add _ _) ?_
  refine n_sld hx hb hX hbl hbA hS hL (i + 1) rfl (by omega) dL_law_360 ?_
  refine lv_aload_n hx hb dL_law_361 rfl (lv_at hl 0 rfl) ?_
  refine lv_iload_n hx hb dL_law_362 rfl (lv_at hl 3 rfl) ?_
  refine lv_iconst (v := 2) hx hb dL_law_363 (by decide) ?_
  refine lv_iadd hx hb dL_law_364 ?_
  refine tx (y := nI (i + 2)) (nI_add _ _) ?_
  refine n_sld hx hb hX hbl hbA hS hL (i + 2) rfl (by omega) dL_law_365 ?_
  have hP := wP_sw hP
  have hD := wD_sw hD
  refine l_i (wf := mw g' k') (u := S) (wr := xw g k u1) (As := [.int (xs (i + 1)), .int (xs (i + 2))]) (rest := [.int r1]) hF hA hKm hP hD hS (kX1_hitData l D g' k' _ S hG (xs (i + 1)) (xs (i + 2))) q356 q357 q358 q29 q359 hdX1_hitData rfl rfl ⟨Nat.le_of_ble_eq_true rfl, Nat.le_of_ble_eq_true rfl⟩ rfl rfl rfl hl.1 rfl (Nat.le_of_ble_eq_true rfl) dL_law_366 ⟨Nat.le_of_ble_eq_true rfl, Nat.le_of_ble_eq_true rfl⟩ (fun r2 S1 H locs hq2 hP hD hS => ?_)
  obtain ⟨e2, rfl⟩ := hq2
  refine lv_icmp_eq (tgt := 528) hx hb dL_law_369 (by decide) (fun c_1 => ?_) (fun c_1 => ?_)
  · exact KK _ _ _ _ _ (hG.k_oHitD (xs (i + 1)) (xs (i + 2))).2 ⟨hR1, (hG.k_oHitD (xs (i + 1)) (xs (i + 2))).1, wP_sw hP, wD_sw hD, hS, hl⟩
  · exact absurd (e1.trans e2.symm) c_1

set_option maxHeartbeats 4000000 in
set_option maxRecDepth 100000 in
theorem law_c8 {p : Program} {l : Launch} {e : Env} {s : State} {m : MethodId} {below : List Frame} {meth : Method} {c : Code} {b L : Nat} {xs : Nat → Int32} {D : va_G} {g k g' k' : Nat → Nat} (hL : L ≤ 320) (C0 : lw_At p s m meth c b L xs) (hKx : va_K D vwCl (xt k) s) (hKm : va_K D vwCl (mt k') s) {i : Nat} (hi : i + 5 ≤ L) {S : MS} {u : XS} {H : Heap} {locs : List Loc} {ls : Array Slot} (h9 : ms9 S < 2 ^ 30) (st : LwSt D s g k g' k' b i S u H locs ls)
    (KK : ∀ (S' : MS) (u' : XS) (H' : Heap) (locs' : List Loc) (ls' : Array Slot), ms9 S' ≤ ms9 S + 100 → LwSt D s g k g' k' b i S' u' H' locs' ls' → W p l e room_1 s m #[Value.ref b] below meth c H' locs' 18 348 (lw_Z below #[Value.ref b] s) (F0 m 528 ls' [])) : W p l e room_1 s m #[Value.ref b] below meth c H locs 18 348 (lw_Z below #[Value.ref b] s) (F0 m 374 ls []) := by
  obtain ⟨hx, hb, hr, hml, hown, hts0, hX, hbl, hlocks, hgv⟩ := C0
  have hF : CallFix p m c code 4 s #[Value.ref b] lw_all R_law := ⟨hx, hb, hml, hown, fun w h => hts0 w (lw_all_tbl h)⟩
  have hA : ∀ q : Nat, s.heap.size ≤ q → LA s q := fun _ h => h
  have hbA : ¬ LA s b := Nat.not_le.mpr hbl
  obtain ⟨hR, hG, hP, hD, hS, hl⟩ := st
  refine lv_aload_n hx hb dL_law_374 rfl (lv_at hl 1 rfl) ?_
  refine lv_aload_n hx hb dL_law_375 rfl (lv_at hl 0 rfl) ?_
  refine lv_iload_n hx hb dL_law_376 rfl (lv_at hl 3 rfl) ?_
  refine lv_iconst (v := 1) hx hb dL_law_377 (by decide) ?_
  refine lv_iadd hx hb dL_law_378 ?_
  refine tx (y := nI (i + 1)) (nI_add _ _) ?_
  refine n_sld hx hb hX hbl hbA hS hL (i + 1) rfl (by omega) dL_law_379 ?_
  refine lv_aload_n hx hb dL_law_380 rfl (lv_at hl 0 rfl) ?_
  refine lv_iload_n hx hb dL_law_381 rfl (lv_at hl 3 rfl) ?_
  refine lv_iconst (v := 2) hx hb dL_law_382 (by decide) ?_
  refine lv_iadd hx hb dL_law_383 ?_
  refine tx (y := nI (i + 2)) (nI_add _ _) ?_
  refine n_sld hx hb hX hbl hbA hS hL (i + 2) rfl (by omega) dL_law_384 ?_
  refine l_i (wf := xw g k) (u := u) (wr := mw g' k' S) (As := [.int (xs (i + 1)), .int (xs (i + 2))]) (rest := []) hF hA hKx hP hD hS (kX0_hitProgram l D g k _ S u hR hG (xs (i + 1)) (xs (i + 2))) q209 q210 q211 q28 q212 hdX0_hitProgram rfl rfl ⟨Nat.le_of_ble_eq_true rfl, Nat.le_of_ble_eq_true rfl⟩ rfl rfl rfl hl.1 rfl (Nat.le_of_ble_eq_true rfl) dL_law_385 ⟨Nat.le_of_ble_eq_true rfl, Nat.le_of_ble_eq_true rfl⟩ (fun r1 u1 H locs hq1 hP hD hS => ?_)
  obtain ⟨e1, hR1⟩ := hq1
  refine lv_aload_n hx hb dL_law_388 rfl (lv_at hl 2 rfl) ?_
  refine lv_aload_n hx hb dL_law_389 rfl (lv_at hl 0 rfl) ?_
  refine lv_iload_n hx hb dL_law_390 rfl (lv_at hl 3 rfl) ?_
  refine lv_iconst (v := 1) hx hb dL_law_391 (by decide) ?_
  refine lv_iadd hx hb dL_law_392 ?_
  refine tx (y := nI (i + 1)) (nI_add _ _) ?_
  refine n_sld hx hb hX hbl hbA hS hL (i + 1) rfl (by omega) dL_law_393 ?_
  refine lv_aload_n hx hb dL_law_394 rfl (lv_at hl 0 rfl) ?_
  refine lv_iload_n hx hb dL_law_395 rfl (lv_at hl 3 rfl) ?_
  refine lv_iconst (v := 2) hx hb dL_law_396 (by decide) ?_
  refine lv_iadd hx hb dL_law_397 ?_
  refine tx (y := nI (i + 2)) (nI_add _ _) ?_
  refine n_sld hx hb hX hbl hbA hS hL (i + 2) rfl (by omega) dL_law_398 ?_
  have hP := wP_sw hP
  have hD := wD_sw hD
  refine l_i (wf := mw g' k') (u := S) (wr := xw g k u1) (As := [.int (xs (i + 1)), .int (xs (i + 2))]) (rest := [.int r1]) hF hA hKm hP hD hS (kX1_hitProgram l D g' k' _ S hG (xs (i + 1)) (xs (i + 2))) q364 q365 q366 q29 q367 hdX1_hitProgram rfl rfl ⟨Nat.le_of_ble_eq_true rfl, Nat.le_of_ble_eq_true rfl⟩ rfl rfl rfl hl.1 rfl (Nat.le_of_ble_eq_true rfl) dL_law_399 ⟨Nat.le_of_ble_eq_true rfl, Nat.le_of_ble_eq_true rfl⟩ (fun r2 S1 H locs hq2 hP hD hS => ?_)
  obtain ⟨e2, rfl⟩ := hq2
  refine lv_icmp_eq (tgt := 528) hx hb dL_law_402 (by decide) (fun c_1 => ?_) (fun c_1 => ?_)
  · exact KK _ _ _ _ _ (hG.k_oHitG (xs (i + 1)) (xs (i + 2))).2 ⟨hR1, (hG.k_oHitG (xs (i + 1)) (xs (i + 2))).1, wP_sw hP, wD_sw hD, hS, hl⟩
  · exact absurd (e1.trans e2.symm) c_1

set_option maxHeartbeats 4000000 in
set_option maxRecDepth 100000 in
theorem law_c9 {p : Program} {l : Launch} {e : Env} {s : State} {m : MethodId} {below : List Frame} {meth : Method} {c : Code} {b L : Nat} {xs : Nat → Int32} {D : va_G} {g k g' k' : Nat → Nat} (hL : L ≤ 320) (C0 : lw_At p s m meth c b L xs) (hKx : va_K D vwCl (xt k) s) (hKm : va_K D vwCl (mt k') s) {i : Nat} (hi : i + 5 ≤ L) {S : MS} {u : XS} {H : Heap} {locs : List Loc} {ls : Array Slot} (h9 : ms9 S < 2 ^ 30) (st : LwSt D s g k g' k' b i S u H locs ls)
    (KK : ∀ (S' : MS) (u' : XS) (H' : Heap) (locs' : List Loc) (ls' : Array Slot), ms9 S' ≤ ms9 S + 100 → LwSt D s g k g' k' b i S' u' H' locs' ls' → W p l e room_1 s m #[Value.ref b] below meth c H' locs' 18 348 (lw_Z below #[Value.ref b] s) (F0 m 528 ls' [])) : W p l e room_1 s m #[Value.ref b] below meth c H locs 18 348 (lw_Z below #[Value.ref b] s) (F0 m 407 ls []) := by
  obtain ⟨hx, hb, hr, hml, hown, hts0, hX, hbl, hlocks, hgv⟩ := C0
  have hF : CallFix p m c code 4 s #[Value.ref b] lw_all R_law := ⟨hx, hb, hml, hown, fun w h => hts0 w (lw_all_tbl h)⟩
  have hA : ∀ q : Nat, s.heap.size ≤ q → LA s q := fun _ h => h
  have hbA : ¬ LA s b := Nat.not_le.mpr hbl
  obtain ⟨hR, hG, hP, hD, hS, hl⟩ := st
  refine lv_aload_n hx hb dL_law_407 rfl (lv_at hl 1 rfl) ?_
  refine lv_aload_n hx hb dL_law_408 rfl (lv_at hl 0 rfl) ?_
  refine lv_iload_n hx hb dL_law_409 rfl (lv_at hl 3 rfl) ?_
  refine lv_iconst (v := 1) hx hb dL_law_410 (by decide) ?_
  refine lv_iadd hx hb dL_law_411 ?_
  refine tx (y := nI (i + 1)) (nI_add _ _) ?_
  refine n_sld hx hb hX hbl hbA hS hL (i + 1) rfl (by omega) dL_law_412 ?_
  refine l_i (wf := xw g k) (u := u) (wr := mw g' k' S) (As := [.int (xs (i + 1))]) (rest := []) hF hA hKx hP hD hS (kX0_register l D g k _ S u hR hG (xs (i + 1))) q213 q214 q215 q28 q216 hdX0_register rfl rfl ⟨Nat.le_of_ble_eq_true rfl, Nat.le_of_ble_eq_true rfl⟩ rfl rfl rfl hl.1 rfl (Nat.le_of_ble_eq_true rfl) dL_law_413 ⟨Nat.le_of_ble_eq_true rfl, Nat.le_of_ble_eq_true rfl⟩ (fun r1 u1 H locs hq1 hP hD hS => ?_)
  obtain ⟨e1, e1u⟩ := hq1
  rw [e1u] at hP hD
  refine lv_aload_n hx hb dL_law_416 rfl (lv_at hl 2 rfl) ?_
  refine lv_aload_n hx hb dL_law_417 rfl (lv_at hl 0 rfl) ?_
  refine lv_iload_n hx hb dL_law_418 rfl (lv_at hl 3 rfl) ?_
  refine lv_iconst (v := 1) hx hb dL_law_419 (by decide) ?_
  refine lv_iadd hx hb dL_law_420 ?_
  refine tx (y := nI (i + 1)) (nI_add _ _) ?_
  refine n_sld hx hb hX hbl hbA hS hL (i + 1) rfl (by omega) dL_law_421 ?_
  have hP := wP_sw hP
  have hD := wD_sw hD
  refine l_i (wf := mw g' k') (u := S) (wr := xw g k u) (As := [.int (xs (i + 1))]) (rest := [.int r1]) hF hA hKm hP hD hS (kX1_register l D g' k' _ S  (xs (i + 1))) q368 q369 q370 q29 q371 hdX1_register rfl rfl ⟨Nat.le_of_ble_eq_true rfl, Nat.le_of_ble_eq_true rfl⟩ rfl rfl rfl hl.1 rfl (Nat.le_of_ble_eq_true rfl) dL_law_422 ⟨Nat.le_of_ble_eq_true rfl, Nat.le_of_ble_eq_true rfl⟩ (fun r2 S1 H locs hq2 hP hD hS => ?_)
  obtain ⟨e2, e2u⟩ := hq2
  rw [e2u] at hP hD
  refine lv_icmp_eq (tgt := 528) hx hb dL_law_425 (by decide) (fun c_1 => ?_) (fun c_1 => ?_)
  · exact KK _ _ _ _ _ (Nat.le_add_right _ _) ⟨hR, hG, wP_sw hP, wD_sw hD, hS, hl⟩
  · exact absurd (e1.trans e2.symm) c_1

set_option maxHeartbeats 4000000 in
set_option maxRecDepth 100000 in
theorem law_c10 {p : Program} {l : Launch} {e : Env} {s : State} {m : MethodId} {below : List Frame} {meth : Method} {c : Code} {b L : Nat} {xs : Nat → Int32} {D : va_G} {g k g' k' : Nat → Nat} (hL : L ≤ 320) (C0 : lw_At p s m meth c b L xs) (hKx : va_K D vwCl (xt k) s) (hKm : va_K D vwCl (mt k') s) {i : Nat} (hi : i + 5 ≤ L) {S : MS} {u : XS} {H : Heap} {locs : List Loc} {ls : Array Slot} (h9 : ms9 S < 2 ^ 30) (st : LwSt D s g k g' k' b i S u H locs ls)
    (KK : ∀ (S' : MS) (u' : XS) (H' : Heap) (locs' : List Loc) (ls' : Array Slot), ms9 S' ≤ ms9 S + 100 → LwSt D s g k g' k' b i S' u' H' locs' ls' → W p l e room_1 s m #[Value.ref b] below meth c H' locs' 18 348 (lw_Z below #[Value.ref b] s) (F0 m 528 ls' [])) : W p l e room_1 s m #[Value.ref b] below meth c H locs 18 348 (lw_Z below #[Value.ref b] s) (F0 m 430 ls []) := by
  obtain ⟨hx, hb, hr, hml, hown, hts0, hX, hbl, hlocks, hgv⟩ := C0
  have hF : CallFix p m c code 4 s #[Value.ref b] lw_all R_law := ⟨hx, hb, hml, hown, fun w h => hts0 w (lw_all_tbl h)⟩
  have hA : ∀ q : Nat, s.heap.size ≤ q → LA s q := fun _ h => h
  have hbA : ¬ LA s b := Nat.not_le.mpr hbl
  obtain ⟨hR, hG, hP, hD, hS, hl⟩ := st
  refine lv_aload_n hx hb dL_law_430 rfl (lv_at hl 1 rfl) ?_
  refine l_i (wf := xw g k) (u := u) (wr := mw g' k' S) (As := []) (rest := []) hF hA hKx hP hD hS (kX0_place l D g k _ S u hR hG) q217 q218 q219 q28 q220 hdX0_place rfl rfl ⟨Nat.le_of_ble_eq_true rfl, Nat.le_of_ble_eq_true rfl⟩ rfl rfl rfl hl.1 rfl (Nat.le_of_ble_eq_true rfl) dL_law_431 ⟨Nat.le_of_ble_eq_true rfl, Nat.le_of_ble_eq_true rfl⟩ (fun r1 u1 H locs hq1 hP hD hS => ?_)
  obtain ⟨e1, e1u⟩ := hq1
  rw [e1u] at hP hD
  refine lv_aload_n hx hb dL_law_434 rfl (lv_at hl 2 rfl) ?_
  have hP := wP_sw hP
  have hD := wD_sw hD
  refine l_i (wf := mw g' k') (u := S) (wr := xw g k u) (As := []) (rest := [.int r1]) hF hA hKm hP hD hS (kX1_place l D g' k' _ S) q372 q373 q374 q29 q375 hdX1_place rfl rfl ⟨Nat.le_of_ble_eq_true rfl, Nat.le_of_ble_eq_true rfl⟩ rfl rfl rfl hl.1 rfl (Nat.le_of_ble_eq_true rfl) dL_law_435 ⟨Nat.le_of_ble_eq_true rfl, Nat.le_of_ble_eq_true rfl⟩ (fun r2 S1 H locs hq2 hP hD hS => ?_)
  obtain ⟨e2, e2u⟩ := hq2
  rw [e2u] at hP hD
  refine lv_icmp_eq (tgt := 528) hx hb dL_law_438 (by decide) (fun c_1 => ?_) (fun c_1 => ?_)
  · exact KK _ _ _ _ _ (Nat.le_add_right _ _) ⟨hR, hG, wP_sw hP, wD_sw hD, hS, hl⟩
  · exact absurd (e1.trans e2.symm) c_1

set_option maxHeartbeats 4000000 in
set_option maxRecDepth 100000 in
theorem law_c11 {p : Program} {l : Launch} {e : Env} {s : State} {m : MethodId} {below : List Frame} {meth : Method} {c : Code} {b L : Nat} {xs : Nat → Int32} {D : va_G} {g k g' k' : Nat → Nat} (hL : L ≤ 320) (C0 : lw_At p s m meth c b L xs) (hKx : va_K D vwCl (xt k) s) (hKm : va_K D vwCl (mt k') s) {i : Nat} (hi : i + 5 ≤ L) {S : MS} {u : XS} {H : Heap} {locs : List Loc} {ls : Array Slot} (h9 : ms9 S < 2 ^ 30) (st : LwSt D s g k g' k' b i S u H locs ls)
    (KK : ∀ (S' : MS) (u' : XS) (H' : Heap) (locs' : List Loc) (ls' : Array Slot), ms9 S' ≤ ms9 S + 100 → LwSt D s g k g' k' b i S' u' H' locs' ls' → W p l e room_1 s m #[Value.ref b] below meth c H' locs' 18 348 (lw_Z below #[Value.ref b] s) (F0 m 528 ls' [])) : W p l e room_1 s m #[Value.ref b] below meth c H locs 18 348 (lw_Z below #[Value.ref b] s) (F0 m 443 ls []) := by
  obtain ⟨hx, hb, hr, hml, hown, hts0, hX, hbl, hlocks, hgv⟩ := C0
  have hF : CallFix p m c code 4 s #[Value.ref b] lw_all R_law := ⟨hx, hb, hml, hown, fun w h => hts0 w (lw_all_tbl h)⟩
  have hA : ∀ q : Nat, s.heap.size ≤ q → LA s q := fun _ h => h
  have hbA : ¬ LA s b := Nat.not_le.mpr hbl
  obtain ⟨hR, hG, hP, hD, hS, hl⟩ := st
  refine lv_aload_n hx hb dL_law_443 rfl (lv_at hl 1 rfl) ?_
  refine lv_aload_n hx hb dL_law_444 rfl (lv_at hl 0 rfl) ?_
  refine lv_iload_n hx hb dL_law_445 rfl (lv_at hl 3 rfl) ?_
  refine lv_iconst (v := 1) hx hb dL_law_446 (by decide) ?_
  refine lv_iadd hx hb dL_law_447 ?_
  refine tx (y := nI (i + 1)) (nI_add _ _) ?_
  refine n_sld hx hb hX hbl hbA hS hL (i + 1) rfl (by omega) dL_law_448 ?_
  refine l_i (wf := xw g k) (u := u) (wr := mw g' k' S) (As := [.int (xs (i + 1))]) (rest := []) hF hA hKx hP hD hS (kX0_data l D g k _ S u hR hG (xs (i + 1))) q221 q222 q223 q28 q224 hdX0_data rfl rfl ⟨Nat.le_of_ble_eq_true rfl, Nat.le_of_ble_eq_true rfl⟩ rfl rfl rfl hl.1 rfl (Nat.le_of_ble_eq_true rfl) dL_law_449 ⟨Nat.le_of_ble_eq_true rfl, Nat.le_of_ble_eq_true rfl⟩ (fun r1 u1 H locs hq1 hP hD hS => ?_)
  obtain ⟨e1, e1u⟩ := hq1
  rw [e1u] at hP hD
  refine lv_aload_n hx hb dL_law_452 rfl (lv_at hl 2 rfl) ?_
  refine lv_aload_n hx hb dL_law_453 rfl (lv_at hl 0 rfl) ?_
  refine lv_iload_n hx hb dL_law_454 rfl (lv_at hl 3 rfl) ?_
  refine lv_iconst (v := 1) hx hb dL_law_455 (by decide) ?_
  refine lv_iadd hx hb dL_law_456 ?_
  refine tx (y := nI (i + 1)) (nI_add _ _) ?_
  refine n_sld hx hb hX hbl hbA hS hL (i + 1) rfl (by omega) dL_law_457 ?_
  have hP := wP_sw hP
  have hD := wD_sw hD
  refine l_i (wf := mw g' k') (u := S) (wr := xw g k u) (As := [.int (xs (i + 1))]) (rest := [.int r1]) hF hA hKm hP hD hS (kX1_data l D g' k' _ S  (xs (i + 1))) q376 q377 q378 q29 q379 hdX1_data rfl rfl ⟨Nat.le_of_ble_eq_true rfl, Nat.le_of_ble_eq_true rfl⟩ rfl rfl rfl hl.1 rfl (Nat.le_of_ble_eq_true rfl) dL_law_458 ⟨Nat.le_of_ble_eq_true rfl, Nat.le_of_ble_eq_true rfl⟩ (fun r2 S1 H locs hq2 hP hD hS => ?_)
  obtain ⟨e2, e2u⟩ := hq2
  rw [e2u] at hP hD
  refine lv_icmp_eq (tgt := 528) hx hb dL_law_461 (by decide) (fun c_1 => ?_) (fun c_1 => ?_)
  · exact KK _ _ _ _ _ (Nat.le_add_right _ _) ⟨hR, hG, wP_sw hP, wD_sw hD, hS, hl⟩
  · exact absurd (e1.trans e2.symm) c_1

set_option maxHeartbeats 4000000 in
set_option maxRecDepth 100000 in
theorem law_c12 {p : Program} {l : Launch} {e : Env} {s : State} {m : MethodId} {below : List Frame} {meth : Method} {c : Code} {b L : Nat} {xs : Nat → Int32} {D : va_G} {g k g' k' : Nat → Nat} (hL : L ≤ 320) (C0 : lw_At p s m meth c b L xs) (hKx : va_K D vwCl (xt k) s) (hKm : va_K D vwCl (mt k') s) {i : Nat} (hi : i + 5 ≤ L) {S : MS} {u : XS} {H : Heap} {locs : List Loc} {ls : Array Slot} (h9 : ms9 S < 2 ^ 30) (st : LwSt D s g k g' k' b i S u H locs ls)
    (KK : ∀ (S' : MS) (u' : XS) (H' : Heap) (locs' : List Loc) (ls' : Array Slot), ms9 S' ≤ ms9 S + 100 → LwSt D s g k g' k' b i S' u' H' locs' ls' → W p l e room_1 s m #[Value.ref b] below meth c H' locs' 18 348 (lw_Z below #[Value.ref b] s) (F0 m 528 ls' [])) : W p l e room_1 s m #[Value.ref b] below meth c H locs 18 348 (lw_Z below #[Value.ref b] s) (F0 m 466 ls []) := by
  obtain ⟨hx, hb, hr, hml, hown, hts0, hX, hbl, hlocks, hgv⟩ := C0
  have hF : CallFix p m c code 4 s #[Value.ref b] lw_all R_law := ⟨hx, hb, hml, hown, fun w h => hts0 w (lw_all_tbl h)⟩
  have hA : ∀ q : Nat, s.heap.size ≤ q → LA s q := fun _ h => h
  have hbA : ¬ LA s b := Nat.not_le.mpr hbl
  obtain ⟨hR, hG, hP, hD, hS, hl⟩ := st
  refine lv_aload_n hx hb dL_law_466 rfl (lv_at hl 1 rfl) ?_
  refine l_i (wf := xw g k) (u := u) (wr := mw g' k' S) (As := []) (rest := []) hF hA hKx hP hD hS (kX0_outs l D g k _ S u hR hG) q225 q226 q227 q28 q228 hdX0_outs rfl rfl ⟨Nat.le_of_ble_eq_true rfl, Nat.le_of_ble_eq_true rfl⟩ rfl rfl rfl hl.1 rfl (Nat.le_of_ble_eq_true rfl) dL_law_467 ⟨Nat.le_of_ble_eq_true rfl, Nat.le_of_ble_eq_true rfl⟩ (fun r1 u1 H locs hq1 hP hD hS => ?_)
  obtain ⟨e1, e1u⟩ := hq1
  rw [e1u] at hP hD
  refine lv_aload_n hx hb dL_law_470 rfl (lv_at hl 2 rfl) ?_
  have hP := wP_sw hP
  have hD := wD_sw hD
  refine l_i (wf := mw g' k') (u := S) (wr := xw g k u) (As := []) (rest := [.int r1]) hF hA hKm hP hD hS (kX1_outs l D g' k' _ S) q380 q381 q382 q29 q383 hdX1_outs rfl rfl ⟨Nat.le_of_ble_eq_true rfl, Nat.le_of_ble_eq_true rfl⟩ rfl rfl rfl hl.1 rfl (Nat.le_of_ble_eq_true rfl) dL_law_471 ⟨Nat.le_of_ble_eq_true rfl, Nat.le_of_ble_eq_true rfl⟩ (fun r2 S1 H locs hq2 hP hD hS => ?_)
  obtain ⟨e2, e2u⟩ := hq2
  rw [e2u] at hP hD
  refine lv_icmp_eq (tgt := 528) hx hb dL_law_474 (by decide) (fun c_1 => ?_) (fun c_1 => ?_)
  · exact KK _ _ _ _ _ (Nat.le_add_right _ _) ⟨hR, hG, wP_sw hP, wD_sw hD, hS, hl⟩
  · exact absurd (e1.trans e2.symm) c_1

set_option maxHeartbeats 4000000 in
set_option maxRecDepth 100000 in
theorem law_c13 {p : Program} {l : Launch} {e : Env} {s : State} {m : MethodId} {below : List Frame} {meth : Method} {c : Code} {b L : Nat} {xs : Nat → Int32} {D : va_G} {g k g' k' : Nat → Nat} (hL : L ≤ 320) (C0 : lw_At p s m meth c b L xs) (hKx : va_K D vwCl (xt k) s) (hKm : va_K D vwCl (mt k') s) {i : Nat} (hi : i + 5 ≤ L) {S : MS} {u : XS} {H : Heap} {locs : List Loc} {ls : Array Slot} (h9 : ms9 S < 2 ^ 30) (st : LwSt D s g k g' k' b i S u H locs ls)
    (KK : ∀ (S' : MS) (u' : XS) (H' : Heap) (locs' : List Loc) (ls' : Array Slot), ms9 S' ≤ ms9 S + 100 → LwSt D s g k g' k' b i S' u' H' locs' ls' → W p l e room_1 s m #[Value.ref b] below meth c H' locs' 18 348 (lw_Z below #[Value.ref b] s) (F0 m 528 ls' [])) : W p l e room_1 s m #[Value.ref b] below meth c H locs 18 348 (lw_Z below #[Value.ref b] s) (F0 m 479 ls []) := by
  obtain ⟨hx, hb, hr, hml, hown, hts0, hX, hbl, hlocks, hgv⟩ := C0
  have hF : CallFix p m c code 4 s #[Value.ref b] lw_all R_law := ⟨hx, hb, hml, hown, fun w h => hts0 w (lw_all_tbl h)⟩
  have hA : ∀ q : Nat, s.heap.size ≤ q → LA s q := fun _ h => h
  have hbA : ¬ LA s b := Nat.not_le.mpr hbl
  obtain ⟨hR, hG, hP, hD, hS, hl⟩ := st
  refine lv_aload_n hx hb dL_law_479 rfl (lv_at hl 1 rfl) ?_
  refine lv_aload_n hx hb dL_law_480 rfl (lv_at hl 0 rfl) ?_
  refine lv_iload_n hx hb dL_law_481 rfl (lv_at hl 3 rfl) ?_
  refine lv_iconst (v := 1) hx hb dL_law_482 (by decide) ?_
  refine lv_iadd hx hb dL_law_483 ?_
  refine tx (y := nI (i + 1)) (nI_add _ _) ?_
  refine n_sld hx hb hX hbl hbA hS hL (i + 1) rfl (by omega) dL_law_484 ?_
  refine l_i (wf := xw g k) (u := u) (wr := mw g' k' S) (As := [.int (xs (i + 1))]) (rest := []) hF hA hKx hP hD hS (kX0_out l D g k _ S u hR hG (xs (i + 1))) q229 q230 q231 q28 q232 hdX0_out rfl rfl ⟨Nat.le_of_ble_eq_true rfl, Nat.le_of_ble_eq_true rfl⟩ rfl rfl rfl hl.1 rfl (Nat.le_of_ble_eq_true rfl) dL_law_485 ⟨Nat.le_of_ble_eq_true rfl, Nat.le_of_ble_eq_true rfl⟩ (fun r1 u1 H locs hq1 hP hD hS => ?_)
  obtain ⟨e1, e1u⟩ := hq1
  rw [e1u] at hP hD
  refine lv_aload_n hx hb dL_law_488 rfl (lv_at hl 2 rfl) ?_
  refine lv_aload_n hx hb dL_law_489 rfl (lv_at hl 0 rfl) ?_
  refine lv_iload_n hx hb dL_law_490 rfl (lv_at hl 3 rfl) ?_
  refine lv_iconst (v := 1) hx hb dL_law_491 (by decide) ?_
  refine lv_iadd hx hb dL_law_492 ?_
  refine tx (y := nI (i + 1)) (nI_add _ _) ?_
  refine n_sld hx hb hX hbl hbA hS hL (i + 1) rfl (by omega) dL_law_493 ?_
  have hP := wP_sw hP
  have hD := wD_sw hD
  refine l_i (wf := mw g' k') (u := S) (wr := xw g k u) (As := [.int (xs (i + 1))]) (rest := [.int r1]) hF hA hKm hP hD hS (kX1_out l D g' k' _ S hG (xs (i + 1))) q384 q385 q386 q29 q387 hdX1_out rfl rfl ⟨Nat.le_of_ble_eq_true rfl, Nat.le_of_ble_eq_true rfl⟩ rfl rfl rfl hl.1 rfl (Nat.le_of_ble_eq_true rfl) dL_law_494 ⟨Nat.le_of_ble_eq_true rfl, Nat.le_of_ble_eq_true rfl⟩ (fun r2 S1 H locs hq2 hP hD hS => ?_)
  obtain ⟨e2, e2u⟩ := hq2
  rw [e2u] at hP hD
  refine lv_icmp_eq (tgt := 528) hx hb dL_law_497 (by decide) (fun c_1 => ?_) (fun c_1 => ?_)
  · exact KK _ _ _ _ _ (Nat.le_add_right _ _) ⟨hR, hG, wP_sw hP, wD_sw hD, hS, hl⟩
  · exact absurd (e1.trans e2.symm) c_1

set_option maxHeartbeats 4000000 in
set_option maxRecDepth 100000 in
theorem law_c14 {p : Program} {l : Launch} {e : Env} {s : State} {m : MethodId} {below : List Frame} {meth : Method} {c : Code} {b L : Nat} {xs : Nat → Int32} {D : va_G} {g k g' k' : Nat → Nat} (hL : L ≤ 320) (C0 : lw_At p s m meth c b L xs) (hKx : va_K D vwCl (xt k) s) (hKm : va_K D vwCl (mt k') s) {i : Nat} (hi : i + 5 ≤ L) {S : MS} {u : XS} {H : Heap} {locs : List Loc} {ls : Array Slot} (h9 : ms9 S < 2 ^ 30) (st : LwSt D s g k g' k' b i S u H locs ls)
    (KK : ∀ (S' : MS) (u' : XS) (H' : Heap) (locs' : List Loc) (ls' : Array Slot), ms9 S' ≤ ms9 S + 100 → LwSt D s g k g' k' b i S' u' H' locs' ls' → W p l e room_1 s m #[Value.ref b] below meth c H' locs' 18 348 (lw_Z below #[Value.ref b] s) (F0 m 528 ls' [])) : W p l e room_1 s m #[Value.ref b] below meth c H locs 18 348 (lw_Z below #[Value.ref b] s) (F0 m 502 ls []) := by
  obtain ⟨hx, hb, hr, hml, hown, hts0, hX, hbl, hlocks, hgv⟩ := C0
  have hF : CallFix p m c code 4 s #[Value.ref b] lw_all R_law := ⟨hx, hb, hml, hown, fun w h => hts0 w (lw_all_tbl h)⟩
  have hA : ∀ q : Nat, s.heap.size ≤ q → LA s q := fun _ h => h
  have hbA : ¬ LA s b := Nat.not_le.mpr hbl
  obtain ⟨hR, hG, hP, hD, hS, hl⟩ := st
  refine lv_aload_n hx hb dL_law_502 rfl (lv_at hl 1 rfl) ?_
  refine l_i (wf := xw g k) (u := u) (wr := mw g' k' S) (As := []) (rest := []) hF hA hKx hP hD hS (kX0_stopped l D g k _ S u hR hG) q233 q234 q235 q28 q236 hdX0_stopped rfl rfl ⟨Nat.le_of_ble_eq_true rfl, Nat.le_of_ble_eq_true rfl⟩ rfl rfl rfl hl.1 rfl (Nat.le_of_ble_eq_true rfl) dL_law_503 ⟨Nat.le_of_ble_eq_true rfl, Nat.le_of_ble_eq_true rfl⟩ (fun r1 u1 H locs hq1 hP hD hS => ?_)
  obtain ⟨e1, e1u⟩ := hq1
  rw [e1u] at hP hD
  refine lv_aload_n hx hb dL_law_506 rfl (lv_at hl 2 rfl) ?_
  have hP := wP_sw hP
  have hD := wD_sw hD
  refine l_i (wf := mw g' k') (u := S) (wr := xw g k u) (As := []) (rest := [.int r1]) hF hA hKm hP hD hS (kX1_stopped l D g' k' _ S hG) q388 q389 q390 q29 q391 hdX1_stopped rfl rfl ⟨Nat.le_of_ble_eq_true rfl, Nat.le_of_ble_eq_true rfl⟩ rfl rfl rfl hl.1 rfl (Nat.le_of_ble_eq_true rfl) dL_law_507 ⟨Nat.le_of_ble_eq_true rfl, Nat.le_of_ble_eq_true rfl⟩ (fun r2 S1 H locs hq2 hP hD hS => ?_)
  obtain ⟨e2, e2u⟩ := hq2
  rw [e2u] at hP hD
  refine lv_icmp_eq (tgt := 528) hx hb dL_law_510 (by decide) (fun c_1 => ?_) (fun c_1 => ?_)
  · exact KK _ _ _ _ _ (Nat.le_add_right _ _) ⟨hR, hG, wP_sw hP, wD_sw hD, hS, hl⟩
  · exact absurd (e1.trans e2.symm) c_1

set_option maxHeartbeats 4000000 in
set_option maxRecDepth 100000 in
theorem law_c15 {p : Program} {l : Launch} {e : Env} {s : State} {m : MethodId} {below : List Frame} {meth : Method} {c : Code} {b L : Nat} {xs : Nat → Int32} {D : va_G} {g k g' k' : Nat → Nat} (hL : L ≤ 320) (C0 : lw_At p s m meth c b L xs) (hKx : va_K D vwCl (xt k) s) (hKm : va_K D vwCl (mt k') s) {i : Nat} (hi : i + 5 ≤ L) {S : MS} {u : XS} {H : Heap} {locs : List Loc} {ls : Array Slot} (h9 : ms9 S < 2 ^ 30) (st : LwSt D s g k g' k' b i S u H locs ls)
    (KK : ∀ (S' : MS) (u' : XS) (H' : Heap) (locs' : List Loc) (ls' : Array Slot), ms9 S' ≤ ms9 S + 100 → LwSt D s g k g' k' b i S' u' H' locs' ls' → W p l e room_1 s m #[Value.ref b] below meth c H' locs' 18 348 (lw_Z below #[Value.ref b] s) (F0 m 528 ls' [])) : W p l e room_1 s m #[Value.ref b] below meth c H locs 18 348 (lw_Z below #[Value.ref b] s) (F0 m 515 ls []) := by
  obtain ⟨hx, hb, hr, hml, hown, hts0, hX, hbl, hlocks, hgv⟩ := C0
  have hF : CallFix p m c code 4 s #[Value.ref b] lw_all R_law := ⟨hx, hb, hml, hown, fun w h => hts0 w (lw_all_tbl h)⟩
  have hA : ∀ q : Nat, s.heap.size ≤ q → LA s q := fun _ h => h
  have hbA : ¬ LA s b := Nat.not_le.mpr hbl
  obtain ⟨hR, hG, hP, hD, hS, hl⟩ := st
  refine lv_aload_n hx hb dL_law_515 rfl (lv_at hl 1 rfl) ?_
  refine l_i (wf := xw g k) (u := u) (wr := mw g' k' S) (As := []) (rest := []) hF hA hKx hP hD hS (kX0_spoiled l D g k _ S u hR hG) q237 q238 q239 q28 q240 hdX0_spoiled rfl rfl ⟨Nat.le_of_ble_eq_true rfl, Nat.le_of_ble_eq_true rfl⟩ rfl rfl rfl hl.1 rfl (Nat.le_of_ble_eq_true rfl) dL_law_516 ⟨Nat.le_of_ble_eq_true rfl, Nat.le_of_ble_eq_true rfl⟩ (fun r1 u1 H locs hq1 hP hD hS => ?_)
  obtain ⟨e1, e1u⟩ := hq1
  rw [e1u] at hP hD
  refine lv_aload_n hx hb dL_law_519 rfl (lv_at hl 2 rfl) ?_
  have hP := wP_sw hP
  have hD := wD_sw hD
  refine l_i (wf := mw g' k') (u := S) (wr := xw g k u) (As := []) (rest := [.int r1]) hF hA hKm hP hD hS (kX1_spoiled l D g' k' _ S hG) q392 q393 q394 q29 q395 hdX1_spoiled rfl rfl ⟨Nat.le_of_ble_eq_true rfl, Nat.le_of_ble_eq_true rfl⟩ rfl rfl rfl hl.1 rfl (Nat.le_of_ble_eq_true rfl) dL_law_520 ⟨Nat.le_of_ble_eq_true rfl, Nat.le_of_ble_eq_true rfl⟩ (fun r2 S1 H locs hq2 hP hD hS => ?_)
  obtain ⟨e2, e2u⟩ := hq2
  rw [e2u] at hP hD
  refine lv_icmp_eq (tgt := 528) hx hb dL_law_523 (by decide) (fun c_1 => ?_) (fun c_1 => ?_)
  · exact KK _ _ _ _ _ (Nat.le_add_right _ _) ⟨hR, hG, wP_sw hP, wD_sw hD, hS, hl⟩
  · exact absurd (e1.trans e2.symm) c_1
end
section
/-! THE LAW: its loop and its start -/
set_option maxHeartbeats 4000000 in
set_option maxRecDepth 100000 in
theorem law_loop {p : Program} {l : Launch} {e : Env} {s : State} {m : MethodId} {below : List Frame} {meth : Method} {c : Code} {b L : Nat} {xs : Nat → Int32} {D : va_G} {g k g' k' : Nat → Nat} (hL : L ≤ 320) (C0 : lw_At p s m meth c b L xs) (hKx : va_K D vwCl (xt k) s) (hKm : va_K D vwCl (mt k') s) :
    ∀ (n i : Nat) (S : MS) (u : XS) (H : Heap) (locs : List Loc) (ls : Array Slot), i ≤ L → L + 1 ≤ i + n → ms9 S ≤ 100 * i → LwSt D s g k g' k' b i S u H locs ls → W p l e room_1 s m #[Value.ref b] below meth c H locs 18 348 (lw_Z below #[Value.ref b] s) (F0 m 18 ls []) := by
  obtain ⟨hx, hb, hr, hml, hown, hts0, hX, hbl, hlocks, hgv⟩ := id C0
  have hbA : ¬ LA s b := Nat.not_le.mpr hbl
  intro n
  induction n with
  | zero =>
    intro i S u H locs ls h1 h2
    exact absurd h2 (by omega)
  | succ n ih =>
    intro i S u H locs ls hi hin h9 st
    obtain ⟨hR, hG, hP, hD, hS, hl⟩ := id st
    refine lv_iload_n hx hb dL_law_18 rfl (lv_at hl 3 rfl) ?_
    refine lv_aload_n hx hb dL_law_19 rfl (lv_at hl 0 rfl) ?_
    refine va_slen hx hb hX hbl hbA hS dL_law_20 ?_
    refine lv_iconst (v := 5) hx hb dL_law_21 (by decide) ?_
    refine lv_isub hx hb dL_law_22 ?_
    refine lv_icmp_gt (tgt := 534) hx hb dL_law_23 (by decide) (fun c_1 => ?_) (fun c_1 => ?_)
    · refine lv_iconst (v := 1) hx hb dL_law_534 (by decide) ?_
      refine va_forget (fun q hq => hS.2.2 q hq) ?_
      refine W.widen (k := 600000) (n := 7290000) (by decide) (by decide) ?_
      exact lw_ret hx hb hr hlocks dL_law_535
    · have hlt : i + 5 ≤ L := law_in hL hi c_1
      refine lv_aload_n hx hb dL_law_26 rfl (lv_at hl 0 rfl) ?_
      refine lv_iload_n hx hb dL_law_27 rfl (lv_at hl 3 rfl) ?_
      refine n_sld hx hb hX hbl hbA hS hL i rfl (by omega) dL_law_28 ?_
      refine lv_bipush (v := 15) hx hb dL_law_29 (by decide) ?_
      refine lv_iand hx hb dL_law_31 ?_
      obtain ⟨j, hj, ej⟩ := sw16 (xs i)
      refine tx ej ?_
      have KK : ∀ (S' : MS) (u' : XS) (H' : Heap) (locs' : List Loc) (ls' : Array Slot), ms9 S' ≤ ms9 S + 100 → LwSt D s g k g' k' b i S' u' H' locs' ls' → W p l e room_1 s m #[Value.ref b] below meth c H' locs' 18 348 (lw_Z below #[Value.ref b] s) (F0 m 528 ls' []) := by
        intro S' u' H' locs' ls' h9' st'
        obtain ⟨hR, hG, hP, hD, hS, hl⟩ := st'
        refine lv_iinc (v := nI (i + 5)) (lv' := [(3, .int (nI (i + 5))), (0, .ref b), (1, .ref (g 0)), (2, .ref (g' 0))]) (k := 3) hx hb dL_law_528 hl rfl (nI_add _ 5) (by decide) rfl (fun ls hl => ?_)
        refine lv_goto (tgt := 18) hx hb dL_law_531 (by decide) ?_
        exact ih (i + 5) S' u' H' locs' ls hlt (by omega) (by omega) ⟨hR, hG, hP, hD, hS, lv_sub hl [1, 2, 3, 0] rfl⟩
      have h92 : ms9 S < 2 ^ 30 := by omega
      clear ih c_1 ej
      rcases (by omega : j = 0 ∨ j = 1 ∨ j = 2 ∨ j = 3 ∨ j = 4 ∨ j = 5 ∨ j = 6 ∨ j = 7 ∨ j = 8 ∨ j = 9 ∨ j = 10 ∨ j = 11 ∨ j = 12 ∨ j = 13 ∨ j = 14 ∨ j = 15) with rfl | rfl | rfl | rfl | rfl | rfl | rfl | rfl | rfl | rfl | rfl | rfl | rfl | rfl | rfl | rfl
      · refine lv_tableIn (tgt := 112) (off := 80) hx hb dL_law_32 (by decide) (by decide) (by decide) (by decide) ?_
        exact law_c0 hL C0 hKx hKm hlt h92 st KK
      · refine lv_tableIn (tgt := 165) (off := 133) hx hb dL_law_32 (by decide) (by decide) (by decide) (by decide) ?_
        exact law_c1 hL C0 hKx hKm hlt h92 st KK
      · refine lv_tableIn (tgt := 198) (off := 166) hx hb dL_law_32 (by decide) (by decide) (by decide) (by decide) ?_
        exact law_c2 hL C0 hKx hKm hlt h92 st KK
      · refine lv_tableIn (tgt := 221) (off := 189) hx hb dL_law_32 (by decide) (by decide) (by decide) (by decide) ?_
        exact law_c3 hL C0 hKx hKm hlt h92 st KK
      · refine lv_tableIn (tgt := 232) (off := 200) hx hb dL_law_32 (by decide) (by decide) (by decide) (by decide) ?_
        exact law_c4 hL C0 hKx hKm hlt h92 st KK
      · refine lv_tableIn (tgt := 275) (off := 243) hx hb dL_law_32 (by decide) (by decide) (by decide) (by decide) ?_
        exact law_c5 hL C0 hKx hKm hlt h92 st KK
      · refine lv_tableIn (tgt := 308) (off := 276) hx hb dL_law_32 (by decide) (by decide) (by decide) (by decide) ?_
        exact law_c6 hL C0 hKx hKm hlt h92 st KK
      · refine lv_tableIn (tgt := 341) (off := 309) hx hb dL_law_32 (by decide) (by decide) (by decide) (by decide) ?_
        exact law_c7 hL C0 hKx hKm hlt h92 st KK
      · refine lv_tableIn (tgt := 374) (off := 342) hx hb dL_law_32 (by decide) (by decide) (by decide) (by decide) ?_
        exact law_c8 hL C0 hKx hKm hlt h92 st KK
      · refine lv_tableIn (tgt := 407) (off := 375) hx hb dL_law_32 (by decide) (by decide) (by decide) (by decide) ?_
        exact law_c9 hL C0 hKx hKm hlt h92 st KK
      · refine lv_tableIn (tgt := 430) (off := 398) hx hb dL_law_32 (by decide) (by decide) (by decide) (by decide) ?_
        exact law_c10 hL C0 hKx hKm hlt h92 st KK
      · refine lv_tableIn (tgt := 443) (off := 411) hx hb dL_law_32 (by decide) (by decide) (by decide) (by decide) ?_
        exact law_c11 hL C0 hKx hKm hlt h92 st KK
      · refine lv_tableIn (tgt := 466) (off := 434) hx hb dL_law_32 (by decide) (by decide) (by decide) (by decide) ?_
        exact law_c12 hL C0 hKx hKm hlt h92 st KK
      · refine lv_tableIn (tgt := 479) (off := 447) hx hb dL_law_32 (by decide) (by decide) (by decide) (by decide) ?_
        exact law_c13 hL C0 hKx hKm hlt h92 st KK
      · refine lv_tableIn (tgt := 502) (off := 470) hx hb dL_law_32 (by decide) (by decide) (by decide) (by decide) ?_
        exact law_c14 hL C0 hKx hKm hlt h92 st KK
      · refine lv_tableIn (tgt := 515) (off := 483) hx hb dL_law_32 (by decide) (by decide) (by decide) (by decide) ?_
        exact law_c15 hL C0 hKx hKm hlt h92 st KK

set_option maxHeartbeats 4000000 in
set_option maxRecDepth 100000 in
theorem whole_start {p : Program} {e : Env} {s : State} {m : MethodId} {below : List Frame} {meth : Method} {c : Code} (l : Launch) {b L : Nat} {xs : Nat → Int32} (hL : L ≤ 320) (C0 : lw_At p s m meth c b L xs) : W p l e room_1 s m #[Value.ref b] below meth c s.heap [] 0 0 (lw_Z below #[Value.ref b] s) (entryFrame m ([Value.ref b] : List Value).toArray 4) := by
  obtain ⟨hx, hb, hr, hml, hown, hts0, hX, hbl, hlocks, hgv⟩ := id C0
  have hts : ∀ w ∈ lw_all, w.before #[Value.ref b] s = true := fun w h => hts0 w (lw_all_tbl h)
  have hF : CallFix p m c code 4 s #[Value.ref b] lw_all R_law := ⟨hx, hb, hml, hown, hts⟩
  have hA : ∀ q : Nat, s.heap.size ≤ q → LA s q := fun _ h => h
  obtain ⟨c0, iS0, hKn0⟩ := u_known (C := RX0) (T := TX0) (N := 13) (n := 13) hts in_X0 (hts _ q31)
  obtain ⟨c1, iS1, hKn1⟩ := u_known (C := RX1) (T := TX1) (N := 12) (n := 12) hts in_X1 (hts _ q242)
  obtain ⟨D, hKc⟩ : ∃ (D : va_G), ∀ (k : Nat) (q : vw_C), vwCl[k]? = some q → u_Kn s q.1 q.2.1 q.2.2 (D.1 k) (D.2 k) := by
    refine ⟨(fun k => if k = 0 then c0 else c1, fun k => if k = 0 then iS0 else iS1), ?_⟩
    intro k q hq
    match k, hq with
    | 0, hq => cases hq; exact hKn0
    | 1, hq => cases hq; exact hKn1
    | k + 2, hq => simp [vwCl] at hq
  have hS : va_S (LA s) s.heap s.heap [] := va_S.rf
  have hK : va_K D vwCl [] s := ⟨hKc, fun k q h => by simp at h⟩
  have hP : va_P D vwCl [] s.heap := fun k q h => by simp at h
  have hD : va_D (LA s) [] := ⟨fun i j p q h => by simp at h, fun k q h => by simp at h⟩
  have hl := lv_entry ([.ref b]) (n := 4) (Nat.le_of_ble_eq_true rfl)
  rw [lg_entry_eq]
  generalize (lg_sl ([.ref b]) ++ List.replicate (4 - (lg_sl ([.ref b])).length) Slot.unset).toArray = ls at hl ⊢
  have hl : lv_has ls 4 [(0, .ref b)] := hl
  refine va_new (ci := 0) (fs := bx0) (C := RX0) (T := TX0) (N := 13) hx hb hts in_X0 tyX0 tyX0_ok hown (hts _ q30) (hts _ q31) (hts _ q28) hK hP hD hS hA rfl (fun j hj => by rcases (show j = 0 ∨ j = 1 ∨ j = 2 ∨ j = 3 ∨ j = 4 ∨ j = 5 ∨ j = 6 ∨ j = 7 ∨ j = 8 ∨ j = 9 ∨ j = 10 ∨ j = 11 ∨ j = 12 by omega) with rfl | rfl | rfl | rfl | rfl | rfl | rfl | rfl | rfl | rfl | rfl | rfl | rfl <;> rfl) (Nat.le_of_ble_eq_true rfl) (Nat.le_of_ble_eq_true rfl) dL_law_0 (fun q0 H hP hD hS => ?_)
  refine W.widen (k := 1) (n := 13) (by decide) (by decide) ?_
  have hP : va_P D vwCl ([(q0, .inr (0, bx0))] ++ []) H := hP
  have hD : va_D (LA s) ([(q0, .inr (0, bx0))] ++ []) := hD
  refine lv_dup hx hb dL_law_3 rfl ?_
  refine l_new (wf := fun v : (Nat → Nat) × (Nat → Nat) × XS => xw v.1 v.2.1 v.2.2) (tf := fun v => xt v.2.1) (wc := [(q0, .inr (0, bx0))]) (wr := []) (rest := [.ref q0]) hF hA hK hP hD hS (kX0_init l D q0 H.size) q32 q33 q28 q34 rfl (by decide +kernel) rfl rfl ⟨Nat.le_of_ble_eq_true rfl, Nat.le_of_ble_eq_true rfl⟩ hl.1 rfl (Nat.le_of_ble_eq_true rfl) dL_law_4 ⟨Nat.le_of_ble_eq_true rfl, Nat.le_of_ble_eq_true rfl⟩ (fun u H locs hp hKx hP hD hS => ?_)
  obtain ⟨g, k, u⟩ := u
  obtain ⟨hg0, hR⟩ := hp
  have hg0 : g 0 = q0 := hg0
  have hR : RX zS u := hR
  have hKx : va_K D vwCl (xt k) s := hKx
  have hP : va_P D vwCl (xw g k u) H := hP
  have hD : va_D (LA s) (xw g k u) := hD
  refine W.widen (k := 9) (n := 150) (by decide) (by decide) ?_
  refine lv_astore_n (lv' := [(1, .ref q0), (0, .ref b)]) hx hb dL_law_7 rfl hl (by decide) rfl (fun ls hl => ?_)
  refine va_new (ci := 1) (fs := bm0) (C := RX1) (T := TX1) (N := 12) hx hb hts in_X1 tyX1 tyX1_ok hown (hts _ q241) (hts _ q242) (hts _ q29) hK hP hD hS hA rfl (fun j hj => by rcases (show j = 0 ∨ j = 1 ∨ j = 2 ∨ j = 3 ∨ j = 4 ∨ j = 5 ∨ j = 6 ∨ j = 7 ∨ j = 8 ∨ j = 9 ∨ j = 10 ∨ j = 11 by omega) with rfl | rfl | rfl | rfl | rfl | rfl | rfl | rfl | rfl | rfl | rfl | rfl <;> rfl) (Nat.le_of_ble_eq_true rfl) (Nat.le_of_ble_eq_true rfl) dL_law_8 (fun q1 H hP hD hS => ?_)
  refine W.widen (k := 10) (n := 162) (by decide) (by decide) ?_
  refine lv_dup hx hb dL_law_11 rfl ?_
  refine l_new (wf := fun v : (Nat → Nat) × (Nat → Nat) × MS => mw v.1 v.2.1 v.2.2) (tf := fun v => mt v.2.1) (wc := [(q1, .inr (1, bm0))]) (wr := xw g k u) (rest := [.ref q1]) hF hA hK (wP_sw hP) (wD_sw hD) hS (kX1_init l D q1 H.size) q243 q244 q29 q245 rfl (by decide +kernel) rfl rfl ⟨Nat.le_of_ble_eq_true rfl, Nat.le_of_ble_eq_true rfl⟩ hl.1 rfl (Nat.le_of_ble_eq_true rfl) dL_law_12 ⟨Nat.le_of_ble_eq_true rfl, Nat.le_of_ble_eq_true rfl⟩ (fun v H locs hp hKm hP hD hS => ?_)
  obtain ⟨g', k', S⟩ := v
  obtain ⟨hg1, hz⟩ := hp
  have hg1 : g' 0 = q1 := hg1
  have hz : S = zS := hz
  have hKm : va_K D vwCl (mt k') s := hKm
  have hP : va_P D vwCl (mw g' k' S ++ xw g k u) H := hP
  have hD : va_D (LA s) (mw g' k' S ++ xw g k u) := hD
  refine W.widen (k := 18) (n := 348) (by decide) (by decide) ?_
  refine lv_astore_n (lv' := [(2, .ref q1), (1, .ref q0), (0, .ref b)]) hx hb dL_law_15 rfl hl (by decide) rfl (fun ls hl => ?_)
  refine lv_iconst (v := 0) hx hb dL_law_16 (by decide) ?_
  refine lv_istore_n (lv' := [(3, .int 0), (2, .ref q1), (1, .ref q0), (0, .ref b)]) hx hb dL_law_17 rfl hl (by decide) rfl (fun ls hl => ?_)
  rw [← hz] at hR
  exact law_loop hL C0 hKx hKm (L + 1) 0 S u H locs ls (Nat.zero_le L) (by omega) (by rw [hz]; exact Nat.le_refl 0) ⟨hR, by rw [hz]; exact RG_z, wP_sw hP, wD_sw hD, hS, by rw [hg0, hg1]; exact lv_sub hl [3, 2, 1, 0] rfl⟩
end
section
set_option maxHeartbeats 4000000 in
theorem lw_walk (l : Launch) (b : Addr) (xs : List Int32) : MetFree l x (headSpec (Jvm.Cond.code x code maxLocals ret :: tables_1) room_1) (lw_P b xs) (fun _ _ _ _ _ => True) lw_Q := by
  refine MetFree.of_bodyS (code := code) (maxLocals := maxLocals) (ret := ret) (by decide) ?_ ?_
  · intro args s m h hn
    obtain ⟨meth, c, h1, h2, h3, h4, h5, h6, -, -⟩ := Cond.code_spec hn (atoms_spec (ws := Jvm.Cond.code x code maxLocals ret :: tables_1) h _ List.mem_cons_self)
    exact ⟨meth, c, h1, h2, h3, h4, h5, h6⟩
  · intro p e s m args below meth c s₁ B hml0 hP _
    obtain ⟨rfl, hx, hbd, hgv⟩ := hP
    obtain ⟨scr, harrAt, hlist, hof, hsmall⟩ := hx
    obtain ⟨hcb, hkn, -, -⟩ := State.arrayAt?_spec harrAt
    have hown : s.vm.findClass R_law = some m.cls := findClass_of_methodNamed B.named
    have hts0 : ∀ c ∈ (Jvm.Cond.code x code maxLocals ret :: tables_1), c.before #[Value.ref b] s = true := atoms_spec (ws := Jvm.Cond.code x code maxLocals ret :: tables_1) B.pre
    have hts : ∀ w ∈ lw_tbl, w.before #[Value.ref b] s = true := k2_hts_sels lw_privs (fun w hw => hts0 w (List.mem_cons_of_mem _ hw)) lw_privs_ok
    have hml : c.maxLocals = 4 := B.maxLocals_eq (hts0 _ List.mem_cons_self)
    have X₀ : Stand p l e room_1 s m #[Value.ref b] below meth c s₁ [] 0 0 := Stand.of_body B
    have hh0 : s₁.heap = s.heap := by rw [B.state]; rfl
    have hsz : scr.slots.size = xs.length := by rw [← Array.length_toList, hlist, List.length_map]
    have hval : ∀ j : Nat, j < xs.length → scr.slots[j]? = some (.int (xs.getD j 0)) := fun j hj => by
      rw [← Array.getElem?_toList, hlist]
      simp [hj]
    have hbl : b < s.heap.size := (Array.getElem?_eq_some_iff.mp hcb).1
    have hX : va_X b xs.length (fun j => xs.getD j 0) s s.heap := ⟨scr, hcb, hof, hkn, hsz, hval⟩
    have K : W p l e room_1 s m #[Value.ref b] below meth c s₁.heap [] 0 0 (lw_Z below #[Value.ref b] s) (entryFrame m ([Value.ref b] : List Value).toArray 4) := by
      rw [hh0]
      exact whole_start l hbd ⟨B.exec, B.bytes, B.returns, hml, hown, hts, hX, hbl, B.notSynchronized, hgv⟩
    obtain ⟨t, a1, o, b1, b2, b3⟩ := K s₁ rfl X₀
    exact ⟨t, o, a1, b1, b2, b3⟩
theorem lw_pre_spec {args : Array Value} {s : State} (h : (Jvm.Cond.and given_1 narrow_1).before args s = true) (hr : rest_1_c.before args s = true) : ∃ (b : Addr) (xs : List Int32), lw_P b xs args s := by
  have hs := flat_of_before _ h
  have hq := flat_of_before _ hr
  have hc : (Cond.count 1).before args s = true := hs _ (by decide +kernel)
  have harr : (Cond.arrayOf (.arg 0) .int).before args s = true := hs _ (by decide +kernel)
  have hle : (Cond.le (.length (.arg 0)) (.int 320)).before args s = true := hs _ (by decide +kernel)
  have hlen : (Cond.isInt (.length (.arg 0))).before args s = true := hq _ (by decide +kernel)
  have hall : (Cond.all (.arg 0) (.isInt (.elem (.arg 0) (.index 0)))).before args s = true := hq _ (by decide +kernel)
  obtain ⟨b, xs, hb, hx⟩ := State.ints_of_pre rfl harr hlen hall
  have hsm : xs.length < 2 ^ 31 := hx.choose_spec.2.2.2
  have hev : (Term.length (.arg 0)).eval args s none [] s = some (.int xs.length.toInt32) := hx.length_eval hb
  have hv := Cond.le_ints hev (show (Term.int 320).eval args s none [] s = some (.int 320) from rfl)
  have hd : xs.length.toInt32 ≤ 320 := by
    simpa [Cond.before, Cond.holds, hv] using hle
  have hN : xs.length ≤ 320 := (Int32.ofNat_le_ofNat hsm (by decide)).mp (show Int32.ofNat xs.length ≤ Int32.ofNat 320 from hd)
  exact ⟨b, xs, Cond.one_arg hc (show args[0]? = some (.ref b) from hb), hx, hN, h⟩
theorem lw_comes (l : Launch) : Comes l x (Jvm.Cond.code x code maxLocals ret :: tables_1) room_1 (fun tb e args s => Calls_1 tb e args s ∧ rest_1 tb e args s ∧ Pre_1 tb e args s)
    (fun _ _ args s o t => lw_Q args s o t) := by
  intro p e ha hc hk s m args below hf hfit hheap happ hpre
  obtain ⟨b, xs, hP⟩ := lw_pre_spec hpre.2.2 hpre.2.1
  obtain ⟨k, o, h1, h2, h3, hQ⟩ := lw_walk l b xs p e ha hc hk s m args below hf ((Spec.applies_iff_loose hf).mp happ).1 hP trivial
  exact ⟨k, o, h1, h2, h3, hQ⟩
theorem lw_frame {s t : State} {o : Outcome} {args : Array Value} (h : Framed s o t [] 600000 7290000) :
    Framed s o t (fieldLocs frame_1_writes args s ++ arrayLocs frame_1_arrays args s ++ staticLocs frame_1_statics s) 600000 7290000 := h
theorem lw_limb (L : Cond) (hL : ∀ (args : Array Value) (s t : State), L.after args s (.returned (some (.int 1))) t = true) :
    ArmFor flags0 classFile x code maxLocals ret World_1 tables_1 room_1 Calls_1 rest_1 Pre_1
      (fun tb e a s o t => postC L tb e a s o t ∧ Framed s o t (fieldLocs frame_1_writes a s ++ arrayLocs frame_1_arrays a s ++ staticLocs frame_1_statics s) 600000 7290000) := by
  intro l _ _ _ p e ha hc hk s m args below hf hfit hheap happ hpre
  obtain ⟨k, o, h1, h2, h3, rfl, hF⟩ := lw_comes l p e ha hc hk s m args below hf hfit hheap happ hpre
  exact ⟨k, _, h1, h2, h3, hL args s _, lw_frame hF⟩
theorem i_vc : Claimed_1_1 ∧ Claimed_1_2 := ⟨lw_limb limb_1_1 (fun args s t => by simp [limb_1_1, Cond.after, Cond.holds, Cond.value]), lw_limb limb_1_2 (fun args s t => Cond.after_iff.mpr (by
  first | (rw [show limb_1_2 = Cond.eq .result (.int 1) from rfl, Cond.eq_ints (x := 1) (y := 1) rfl rfl]; simp; done) | (simp [limb_1_2, Cond.value, Term.eval]; done)))⟩
end
