section
-- PART A of the skeleton (a starting text)
/-- a private method of a class that the tables say can be made, by its rows of tables_1 -/
def lw_okq (q : MethodName × Nat) : Prop := (q.1.cls ≠ "java/lang/invoke/MethodHandle" ∧ q.1.cls ≠ "java/lang/invoke/VarHandle") ∧ Cond.instantiable q.1.cls q.2 ∈ tables_1 ∧ Cond.privateMethod q.1 ∈ tables_1 ∧ Cond.instanceMethod q.1 ∈ tables_1
theorem lw_p0 : lw_okq (⟨"FileStatus", "opening", "(I)I"⟩, 13) := ⟨⟨by decide +kernel, by decide +kernel⟩, List.mem_of_getElem? (i := 5) (by decide +kernel), List.mem_of_getElem? (i := 93) (by decide +kernel), List.mem_of_getElem? (i := 94) (by decide +kernel)⟩
theorem lw_p1 : lw_okq (⟨"FileStatus", "told", "(II)I"⟩, 13) := ⟨⟨by decide +kernel, by decide +kernel⟩, List.mem_of_getElem? (i := 5) (by decide +kernel), List.mem_of_getElem? (i := 97) (by decide +kernel), List.mem_of_getElem? (i := 98) (by decide +kernel)⟩
theorem lw_p2 : lw_okq (⟨"FileStatus", "ahead", "(I)I"⟩, 13) := ⟨⟨by decide +kernel, by decide +kernel⟩, List.mem_of_getElem? (i := 5) (by decide +kernel), List.mem_of_getElem? (i := 105) (by decide +kernel), List.mem_of_getElem? (i := 106) (by decide +kernel)⟩
theorem lw_p3 : lw_okq (⟨"FileStatusModel", "opened", "(I)I"⟩, 13) := ⟨⟨by decide +kernel, by decide +kernel⟩, List.mem_of_getElem? (i := 162) (by decide +kernel), List.mem_of_getElem? (i := 216) (by decide +kernel), List.mem_of_getElem? (i := 217) (by decide +kernel)⟩
theorem lw_p4 : lw_okq (⟨"FileStatusModel", "told", "(II)I"⟩, 13) := ⟨⟨by decide +kernel, by decide +kernel⟩, List.mem_of_getElem? (i := 162) (by decide +kernel), List.mem_of_getElem? (i := 220) (by decide +kernel), List.mem_of_getElem? (i := 221) (by decide +kernel)⟩
theorem lw_p5 : lw_okq (⟨"FileStatusModel", "ahead", "(I)I"⟩, 13) := ⟨⟨by decide +kernel, by decide +kernel⟩, List.mem_of_getElem? (i := 162) (by decide +kernel), List.mem_of_getElem? (i := 228) (by decide +kernel), List.mem_of_getElem? (i := 229) (by decide +kernel)⟩
theorem lw_p6 : lw_okq (⟨"FileStatusModel", "reads", "()Z"⟩, 13) := ⟨⟨by decide +kernel, by decide +kernel⟩, List.mem_of_getElem? (i := 162) (by decide +kernel), List.mem_of_getElem? (i := 232) (by decide +kernel), List.mem_of_getElem? (i := 233) (by decide +kernel)⟩
theorem lw_p7 : lw_okq (⟨"FileStatusModel", "byOutcome", "(II)I"⟩, 13) := ⟨⟨by decide +kernel, by decide +kernel⟩, List.mem_of_getElem? (i := 162) (by decide +kernel), List.mem_of_getElem? (i := 236) (by decide +kernel), List.mem_of_getElem? (i := 237) (by decide +kernel)⟩
def lw_privs_1 : List (MethodName × Nat) := [(⟨"FileStatus", "opening", "(I)I"⟩, 13), (⟨"FileStatus", "told", "(II)I"⟩, 13), (⟨"FileStatus", "ahead", "(I)I"⟩, 13), (⟨"FileStatusModel", "opened", "(I)I"⟩, 13), (⟨"FileStatusModel", "told", "(II)I"⟩, 13), (⟨"FileStatusModel", "ahead", "(I)I"⟩, 13), (⟨"FileStatusModel", "reads", "()Z"⟩, 13), (⟨"FileStatusModel", "byOutcome", "(II)I"⟩, 13)]
theorem lw_r1 : ∀ q ∈ lw_privs_1, lw_okq q := List.forall_mem_cons.mpr ⟨lw_p0, List.forall_mem_cons.mpr ⟨lw_p1, List.forall_mem_cons.mpr ⟨lw_p2, List.forall_mem_cons.mpr ⟨lw_p3, List.forall_mem_cons.mpr ⟨lw_p4, List.forall_mem_cons.mpr ⟨lw_p5, List.forall_mem_cons.mpr ⟨lw_p6, List.forall_mem_cons.mpr ⟨lw_p7, fun _ h => absurd h List.not_mem_nil⟩⟩⟩⟩⟩⟩⟩⟩
def lw_privs : List (MethodName × Nat) := lw_privs_1
def lw_tbl : List Cond := k2_sels lw_privs ++ tables_1
theorem lw_privs_ok : ∀ q ∈ lw_privs, lw_okq q := lw_r1
-- ===== NAMES: fields in the order of the tables below (declaring class, name, descriptor, final), their types =====
def F_FS : u_T := fun k => match k with
  | 0 => ("FileStatus", "acts", "[LFileStatus$Act;", true)
  | 1 => ("FileStatus", "organisation", "I", true)
  | 2 => ("FileStatus", "mode", "I", false)
  | 3 => ("FileStatus", "next", "I", false)
  | 4 => ("FileStatus", "position", "I", false)
  | 5 => ("FileStatus", "latest", "I", false)
  | 6 => ("FileStatus", "act", "I", false)
  | 7 => ("FileStatus", "good", "I", false)
  | 8 => ("FileStatus", "bad", "I", false)
  | 9 => ("FileStatus", "optional", "Z", false)
  | 10 => ("FileStatus", "permit", "Z", false)
  | 11 => ("FileStatus", "empty", "Z", false)
  | _ => ("FileStatus", "declaratives", "[Z", true)
def t_FS : Nat → FieldType := fun k => match k with
  | 0 => .array (.object "FileStatus$Act")
  | 1 => .int
  | 2 => .int
  | 3 => .int
  | 4 => .int
  | 5 => .int
  | 6 => .int
  | 7 => .int
  | 8 => .int
  | 9 => .boolean
  | 10 => .boolean
  | 11 => .boolean
  | _ => .array .boolean
def F_AC : u_T := fun k => match k with
  | 0 => ("FileStatus$Act", "modes", "[I", true)
  | 1 => ("FileStatus$Act", "barred", "I", true)
  | _ => ("FileStatus$Act", "statuses", "[[I", true)
def t_AC : Nat → FieldType := fun k => match k with
  | 0 => .array .int
  | 1 => .int
  | _ => .array (.array .int)
def F_MD : u_T := fun k => match k with
  | 0 => ("FileStatusModel", "code", "I", false)
  | 1 => ("FileStatusModel", "organisation", "I", true)
  | 2 => ("FileStatusModel", "mode", "I", false)
  | 3 => ("FileStatusModel", "position", "I", false)
  | 4 => ("FileStatusModel", "latest", "I", false)
  | 5 => ("FileStatusModel", "act", "I", false)
  | 6 => ("FileStatusModel", "good", "I", false)
  | 7 => ("FileStatusModel", "bad", "I", false)
  | 8 => ("FileStatusModel", "isOpen", "Z", false)
  | 9 => ("FileStatusModel", "permit", "Z", false)
  | 10 => ("FileStatusModel", "optional", "Z", false)
  | 11 => ("FileStatusModel", "nothing", "Z", false)
  | _ => ("FileStatusModel", "declared", "[Z", true)
def t_MD : Nat → FieldType := fun k => match k with
  | 0 => .int
  | 1 => .int
  | 2 => .int
  | 3 => .int
  | 4 => .int
  | 5 => .int
  | 6 => .int
  | 7 => .int
  | 8 => .boolean
  | 9 => .boolean
  | 10 => .boolean
  | 11 => .boolean
  | _ => .array .boolean
abbrev classes : List vw_C := [("FileStatus", F_FS, 13), ("FileStatus$Act", F_AC, 3), ("FileStatusModel", F_MD, 13)]
theorem n_FS : ∀ a, a < 13 → ∀ b, b < 13 → a ≠ b → (F_FS a).2.1 ≠ (F_FS b).2.1 := by decide +kernel
theorem n_AC : ∀ a, a < 3 → ∀ b, b < 3 → a ≠ b → (F_AC a).2.1 ≠ (F_AC b).2.1 := by decide +kernel
theorem n_MD : ∀ a, a < 13 → ∀ b, b < 13 → a ≠ b → (F_MD a).2.1 ≠ (F_MD b).2.1 := by decide +kernel
theorem t_FS_ok : ∀ k, k < 13 → parseFieldDescriptor (F_FS k).2.2.1 = some (t_FS k) := by decide +kernel
theorem t_AC_ok : ∀ k, k < 3 → parseFieldDescriptor (F_AC k).2.2.1 = some (t_AC k) := by decide +kernel
theorem t_MD_ok : ∀ k, k < 13 → parseFieldDescriptor (F_MD k).2.2.1 = some (t_MD k) := by decide +kernel
-- the words that every method of ours takes along: all words of the tables that stay true
def tw : List Cond := lw_tbl.filter goodWord
theorem tw_good : ∀ w ∈ tw, (w.onTables && w.keeps) = true ∨ ∃ ty, w = .arrayClass ty := fun w h => good_of_word (List.mem_filter.mp h).2
theorem fz_mem {w : Cond} (i : Nat) (h : lw_tbl[i]? = some w) (hg : goodWord w = true) : w ∈ tw := List.mem_filter.mpr ⟨List.mem_of_getElem? h, hg⟩
theorem fz_tw {args : Array Value} {s : State} (h : ∀ w ∈ lw_tbl, w.before args s = true) : ∀ w ∈ tw, w.before args s = true := fun w hw => h w (List.mem_filter.mp hw).1
-- objects
abbrev FSo (qa qd : Nat) (og md nx ps lt ac gd bd op pm em : Int32) : va_E := .inr (0, [.ref qa, .int og, .int md, .int nx, .int ps, .int lt, .int ac, .int gd, .int bd, .int op, .int pm, .int em, .ref qd])
abbrev ACo (qm : Nat) (br : Int32) (qs : Nat) : va_E := .inr (1, [.ref qm, .int br, .ref qs])
abbrev MDo (qd : Nat) (cd og mo ps lt ac gd bd io pm op no : Int32) : va_E := .inr (2, [.int cd, .int og, .int mo, .int ps, .int lt, .int ac, .int gd, .int bd, .int io, .int pm, .int op, .int no, .ref qd])
abbrev ARi (cI : ClassId) (n : Nat) (f : Nat → Int32) : va_E := .inl (cI, n, .inl f)
abbrev ARq (cA : ClassId) (n : Nat) (f : Nat → Option Nat) : va_E := .inl (cA, n, .inr (.inr (.inr (.inr f))))
-- ===== what is known of the tables in every method =====
def ao_A (U : State) : Prop := (Cond.arrayOver (.array .int)).before #[] U = true
theorem ao_A.moved {u U : State} (hvm : u.vm.Alike U.vm) (h : ao_A u) : ao_A U := by
  obtain ⟨comp, c, k, h1, h2, h3, h4, h5⟩ := arrayOverA_spec h
  obtain ⟨k', hk', he⟩ := hvm.2.2 _ _ h3
  have hi : (U.vm.classes.findIdx? fun (x : Class) => match x.kind with | .array component _ => component == comp | _ => false) = some c := by
    rw [hvm.findIdx?_eq _ (fun _ => rfl)]
    exact h2
  have hkind : k'.kind = .array comp (.array .int) := by rw [he]; exact h4
  have f1 : U.vm.findClass (FieldType.array .int).toString = some comp := by rw [hvm.findClass]; exact h1
  have f2 : U.vm.findClass ("[" ++ (FieldType.array .int).toString) = some c := by rw [hvm.findClass]; exact h5
  unfold ao_A Cond.before Cond.holds
  simp only [Cond.value]
  rw [f1, Option.bind_some]
  refine (congrArg (fun o : Option Nat => (o.bind (fun c => (U.vm.classes[c]?).map fun (k : Class) => match k.kind with | .array _ ty => decide (ty = FieldType.array .int) && decide (U.vm.findClass ("[" ++ (FieldType.array .int).toString) = some c) | _ => false) == some true)) hi).trans ?_
  simp [hk', hkind, f2]
abbrev tyl (cI cZ cC cS : ClassId) : List (ClassId × FieldType) := [(cI, .int), (cZ, .boolean), (cC, .object "FileStatus$Act"), (cS, .array .int)]
def kK (dC : Nat → ClassId) (dI : Nat → Nat → Nat) (cI cZ cC cS : ClassId) (U : State) : Prop :=
  va_K (dC, dI) classes (tyl cI cZ cC cS) U ∧ (∃ kA kI : Class, U.vm.classes[cS]? = some kA ∧ kA.kind = .array cI (.array .int) ∧ U.vm.classes[cI]? = some kI) ∧ va_AO "FileStatus$Act" U ∧ ao_A U ∧ va_Nw (.fieldLinkNest "FileStatus" 83 "FileStatus$Act" "barred" "I" "FileStatus") U
theorem kK.warm {dC : Nat → ClassId} {dI : Nat → Nat → Nat} {cI cZ cC cS : ClassId} {s U : State} (hW : s.WarmedH U.vm) (h : kK dC dI cI cZ cC cS s) : kK dC dI cI cZ cC cS U := by
  obtain ⟨h1, ⟨kA, kI, a1, a2, a3⟩, h3, h4, h5⟩ := h
  obtain ⟨kA', b1, e1⟩ := hW.alike.2.2 _ _ a1
  obtain ⟨kI', b3, -⟩ := hW.alike.2.2 _ _ a3
  exact ⟨h1.moved hW.alike, ⟨kA', kI', b1, by rw [e1]; exact a2, b3⟩, h3.moved hW.alike, h4.moved hW.alike, va_Nw.warmF hW h5⟩
theorem kK.call {dC : Nat → ClassId} {dI : Nat → Nat → Nat} {cI cZ cC cS : ClassId} {U : State} {g : JFrame} {mk : MethodId} {a : Array Value} (h : kK dC dI cI cZ cC cS U) : kK dC dI cI cZ cC cS (U.calling g mk a) := kK.warm (U := U.calling g mk a) (State.WarmedH.refl U) h
/-- a method's start: the tables, and a world -/
def P0 (dC : Nat → ClassId) (dI : Nat → Nat → Nat) (cI cZ cC cS : ClassId) (ws : va_W) (U : State) : Prop := kK dC dI cI cZ cC cS U ∧ va_P (dC, dI) classes ws U.heap
/-- the same, and the heap's size: for methods that make cells -/
def P1 (dC : Nat → ClassId) (dI : Nat → Nat → Nat) (cI cZ cC cS : ClassId) (sz : Nat) (ws : va_W) (U : State) : Prop := U.heap.size = sz ∧ P0 dC dI cI cZ cC cS ws U
/-- a method's end: an int, and one cell new -/
abbrev QM (dC : Nat → ClassId) (dI : Nat → Nat → Nat) (a : Nat) (r : Int32) (e' : va_E) : Array Value → State → Outcome → State → Prop := va_Qi (fun r' (_ : Unit) => r' = r) (fun _ t => va_P (dC, dI) classes [(a, e')] t.heap) (fun q => q = a)
/-- two cells new -/
abbrev QM2 (dC : Nat → ClassId) (dI : Nat → Nat → Nat) (a b : Nat) (r : Int32) (e1 e2 : va_E) : Array Value → State → Outcome → State → Prop := va_Qi (fun r' (_ : Unit) => r' = r) (fun _ t => va_P (dC, dI) classes [(a, e1), (b, e2)] t.heap) (fun q => q = a ∨ q = b)
/-- nothing is answered, one cell new -/
abbrev QMv (dC : Nat → ClassId) (dI : Nat → Nat → Nat) (a : Nat) (e' : va_E) : Array Value → State → Outcome → State → Prop := va_Qv (fun (_ : Unit) => True) (fun _ t => va_P (dC, dI) classes [(a, e')] t.heap) (fun q => q = a)
/-- a new cell is answered -/
abbrev QN (dC : Nat → ClassId) (dI : Nat → Nat → Nat) (sz : Nat) (e' : va_E) : Array Value → State → Outcome → State → Prop := va_Qr (fun (_ : Unit) => True) (fun _ q t => va_P (dC, dI) classes [(q, e')] t.heap ∧ sz ≤ q) (fun q => sz ≤ q)
-- ===== worlds =====
theorem fz_one {D : va_G} {cl : List vw_C} {ws : va_W} {H : Heap} {q0 : Nat} {q : Nat × va_E} (hP : va_P D cl ws H) (hq : ws[q0]? = some q) : va_P D cl [q] H := by
  refine hP.sub [q0] ?_
  simp [hq]
theorem fz_D1 {a : Nat} {e : va_E} : va_D (fun q => q = a) [(a, e)] := by
  refine ⟨fun i j p q hi hj _ => ?_, fun k q hk => ?_⟩
  · have h1 := (List.getElem?_eq_some_iff.mp hi).1
    have h2 := (List.getElem?_eq_some_iff.mp hj).1
    simp at h1 h2
    omega
  · have h1 := (List.getElem?_eq_some_iff.mp hk).1
    simp at h1
    subst h1
    simp at hk
    rw [← hk]
theorem fz_D2 {a b : Nat} {e f : va_E} (h : a ≠ b) : va_D (fun q => q = a ∨ q = b) [(a, e), (b, f)] := by
  have key : ∀ (k : Nat) (q : Nat × va_E), [(a, e), (b, f)][k]? = some q → (k = 0 ∧ q.1 = a) ∨ (k = 1 ∧ q.1 = b) := by
    intro k q hk
    match k, hk with
    | 0, hk => simp at hk; subst hk; exact Or.inl ⟨rfl, rfl⟩
    | 1, hk => simp at hk; subst hk; exact Or.inr ⟨rfl, rfl⟩
    | k + 2, hk => simp at hk
  refine ⟨fun i j x y hi hj hxy => ?_, fun k q hk => ?_⟩
  · rcases key i x hi with ⟨i1, x1⟩ | ⟨i1, x1⟩ <;> rcases key j y hj with ⟨j1, y1⟩ | ⟨j1, y1⟩
    · omega
    · exact absurd (x1.symm.trans (hxy.trans y1)) h
    · exact absurd (x1.symm.trans (hxy.trans y1)).symm h
    · omega
  · rcases key k q hk with ⟨-, h1⟩ | ⟨-, h1⟩
    · exact Or.inl h1
    · exact Or.inr h1
theorem fz_set {D : va_G} {cl : List vw_C} {A : Nat → Prop} {q0 : Nat} {ws : va_W} {a : Nat} {e0 e : va_E} {H H1 : Heap} (hP : va_P D cl ws H) (hD : va_D A ws) (hp : ws[q0]? = some (a, e0)) (he : va_P D cl [(a, e)] H1) (oq : ∀ q : Nat, q < H.size → ¬ q = a → H1[q]? = H[q]?) : va_P D cl (ws.set q0 (a, e)) H1 := by
  have hl := (List.getElem?_eq_some_iff.mp hp).1
  intro k q hk
  by_cases hkp : k = q0
  · subst hkp
    rw [List.getElem?_set_self hl] at hk
    cases hk
    exact he 0 _ rfl
  · rw [List.getElem?_set_ne (Ne.symm hkp)] at hk
    exact (hP k q hk).kept (oq q.1 (hP k q hk).lt (fun z => hkp (hD.1 k q0 q (a, e0) hk hp z)))
theorem fz_push {D : va_G} {cl : List vw_C} {A : Nat → Prop} {ws : va_W} {a : Nat} {e : va_E} {H H1 : Heap} (hP : va_P D cl ws H) (hD : va_D A ws) (he : va_P D cl [(a, e)] H1) (ha : H.size ≤ a) (hA : A a) (oq : ∀ q : Nat, q < H.size → H1[q]? = H[q]?) : va_P D cl (ws ++ [(a, e)]) H1 ∧ va_D A (ws ++ [(a, e)]) := by
  refine ⟨va_P.app (fun k q hk => (hP k q hk).kept (oq q.1 (hP k q hk).lt)) he, va_D.app hD (fz_D1.weaken (fun k q _ h => by rw [h]; exact hA)) (fun i j p q hp hq => ?_)⟩
  have h1 := (hP i p hp).lt
  have h2 := (fz_D1 (a := a) (e := e)).2 j q hq
  intro h
  rw [h, h2] at h1
  omega
theorem fz_arr {D : va_G} {cl : List vw_C} {a : Nat} {cA : ClassId} {n : Nat} {f g : Nat → Int32} {H : Heap} (h : ∀ j, j < n → f j = g j) (hP : va_P D cl [(a, ARi cA n f)] H) : va_P D cl [(a, ARi cA n g)] H := by
  have h0 : H[a]? = some (vp_cell cA (n, .inl f)) := hP 0 _ rfl
  intro k q hk
  have h1 := (List.getElem?_eq_some_iff.mp hk).1
  simp at h1
  subst h1
  simp at hk
  subst hk
  show H[a]? = some (vp_cell cA (n, .inl g))
  rw [h0]
  have e : vp_cell cA (n, .inl f) = vp_cell cA (n, .inl g) := by
    show arrV cA n (fun j => .int (f j)) = arrV cA n (fun j => .int (g j))
    unfold arrV
    congr 1
    apply Array.ext
    · simp
    · intro i h1 h2
      simp at h1 ⊢
      exact h i h1
  rw [e]
theorem fz_self (vm : Vm) (k : ClassId) : vm.assignable k k = true := by
  show vm.assignableAux (255 + 1) k k = true
  rw [Vm.assignableAux]
  simp only [beq_self_eq_true, Bool.true_or]
section FZ
variable {p : Program} {l : Launch} {e : Env} {R : Room} {s : State} {m : MethodId} {args : Array Value} {below : List Frame} {meth : Method} {c : Code} {H : Heap} {locs : List Loc} {cells slots : Nat} {Q : State → Prop}
variable {cc : ByteArray} {pc : Nat} {ls : Array Slot} {rest st0 : List Value} {dC : Nat → ClassId} {dI : Nat → Nat → Nat} {cI cZ cC cS : ClassId} {A : Nat → Prop} {ws ws' : va_W} {H0 : Heap}
theorem fz_cut {g : JFrame} (g2 : JFrame) (h : W p l e R s m args below meth c H locs cells slots Q g2 → W p l e R s m args below meth c H locs cells slots Q g) (k : W p l e R s m args below meth c H locs cells slots Q g2) : W p l e R s m args below meth c H locs cells slots Q g := h k
theorem fz_top {x y : Int32} (h : x = y) (k : W p l e R s m args below meth c H locs cells slots Q (F0 m pc ls (.int x :: rest))) : W p l e R s m args below meth c H locs cells slots Q (F0 m pc ls (.int y :: rest)) := h ▸ k
-- ===== ends =====
theorem fz_retR {r v : Int32} (hx : p.tables.exec = Jvm.exec) (hb : c.code = cc) (hr : meth.sig.returnType = some .int) (hlk : meth.locks = false) (hv : v = r) (hdg : decode cc pc = .ok (.ireturn, 1)) :
    W p l e R s m args below meth c s.heap [] 0 0 (MQ below (QcRead r) args s 0 0 (fun _ => False)) (F0 m pc ls [.int v]) := by
  subst hv
  exact W.iret hx hb hr (fun t ht _ => ⟨rfl, ht⟩) (fun q h => by cases h) hdg hlk
theorem fz_retZ {r v : Int32} (hx : p.tables.exec = Jvm.exec) (hb : c.code = cc) (hr : meth.sig.returnType = some .boolean) (hlk : meth.locks = false) (hn : narrow .boolean (.int v) = .int v) (hv : v = r) (hdg : decode cc pc = .ok (.ireturn, 1)) :
    W p l e R s m args below meth c s.heap [] 0 0 (MQ below (QcRead r) args s 0 0 (fun _ => False)) (F0 m pc ls [.int v]) := by
  subst hv
  exact W.zret hx hb hr hn (fun t ht _ => ⟨rfl, ht⟩) (fun q h => by cases h) hdg hlk
theorem fz_retM {a q0 : Nat} {r v : Int32} {e1 e' : va_E} (hx : p.tables.exec = Jvm.exec) (hb : c.code = cc) (hr : meth.sig.returnType = some .int) (hlk : meth.locks = false) (hP : va_P (dC, dI) classes ws H) (hS : va_S (fun q => q = a) s.heap H locs) (hq : ws[q0]? = some (a, e1)) (he : e1 = e') (hv : v = r) (hdg : decode cc pc = .ok (.ireturn, 1)) :
    W p l e R s m args below meth c H locs 0 0 (MQ below (QM dC dI a r e') args s 0 0 (fun q => q = a)) (F0 m pc ls [.int v]) := by
  subst he; subst hv
  exact W.iret hx hb hr (fun t ht _ => ⟨⟨v, (), rfl, rfl, by show va_P _ _ _ t.heap; rw [ht]; exact fz_one hP hq⟩, hS.F ht⟩) hS.2.2 hdg hlk
theorem fz_retM2 {a b : Nat} {r v : Int32} {e1 e2 e1' e2' : va_E} (hx : p.tables.exec = Jvm.exec) (hb : c.code = cc) (hr : meth.sig.returnType = some .int) (hlk : meth.locks = false) (hP : va_P (dC, dI) classes [(a, e1), (b, e2)] H) (hS : va_S (fun q => q = a ∨ q = b) s.heap H locs) (he : e1 = e1') (hf : e2 = e2') (hv : v = r) (hdg : decode cc pc = .ok (.ireturn, 1)) :
    W p l e R s m args below meth c H locs 0 0 (MQ below (QM2 dC dI a b r e1' e2') args s 0 0 (fun q => q = a ∨ q = b)) (F0 m pc ls [.int v]) := by
  subst he; subst hf; subst hv
  exact W.iret hx hb hr (fun t ht _ => ⟨⟨v, (), rfl, rfl, by show va_P _ _ _ t.heap; rw [ht]; exact hP⟩, hS.F ht⟩) hS.2.2 hdg hlk
theorem fz_retV {a : Nat} {e1 e' : va_E} (hx : p.tables.exec = Jvm.exec) (hb : c.code = cc) (hr : meth.sig.returnType = none) (hlk : meth.locks = false) (hP : va_P (dC, dI) classes [(a, e1)] H) (hS : va_S (fun q => q = a) s.heap H locs) (he : e1 = e') (hdg : decode cc pc = .ok (.return_, 1)) :
    W p l e R s m args below meth c H locs 0 0 (MQ below (QMv dC dI a e') args s 0 0 (fun q => q = a)) (F0 m pc ls []) := by
  subst he
  exact W.vret hx hb hr (fun t ht _ => ⟨⟨(), rfl, trivial, by show va_P _ _ _ t.heap; rw [ht]; exact hP⟩, hS.F ht⟩) hS.2.2 hdg hlk
-- ===== calls =====
theorem fz_giV {own C : String} {idx : Nat} {y : MethodName} {bb : ByteArray} {ml : Nat} {rt : Option FieldType} (h1 : Cond.methodLink own idx y ∈ tw) (h2 : Cond.instanceMethod y ∈ tw) (h3 : Cond.selects C y y ∈ tw) (h4 : Cond.initialized C ∈ tw) (h5 : Cond.code y bb ml rt ∈ tw) : GoodIn tw (wsV own idx C y (.code y bb ml rt :: tw)) := by
  have key : ∀ w ∈ wsV own idx C y (.code y bb ml rt :: tw), w ∈ tw := by
    intro w hw
    simp only [wsV, List.cons_append, List.nil_append, List.mem_cons] at hw
    rcases hw with rfl | rfl | rfl | rfl | rfl | hw
    · exact h1
    · exact h2
    · exact h3
    · exact h4
    · exact h5
    · exact hw
  exact fun w hw => ⟨key w hw, tw_good w (key w hw)⟩
theorem fz_giS {own : String} {idx : Nat} {y : MethodName} {bb : ByteArray} {ml : Nat} {rt : Option FieldType} (h1 : Cond.methodLink own idx y ∈ tw) (h2 : Cond.static y ∈ tw) (h4 : Cond.initialized own ∈ tw) (h5 : Cond.code y bb ml rt ∈ tw) : GoodIn tw (wsS own idx y (.code y bb ml rt :: tw)) := by
  have key : ∀ w ∈ wsS own idx y (.code y bb ml rt :: tw), w ∈ tw := by
    intro w hw
    simp only [wsS, List.cons_append, List.nil_append, List.mem_cons] at hw
    rcases hw with rfl | rfl | rfl | rfl | hw
    · exact h1
    · exact h2
    · exact h4
    · exact h5
    · exact hw
  exact fun w hw => ⟨key w hw, tw_good w (key w hw)⟩
theorem fz_giI {y : MethodName} {bb : ByteArray} {ml : Nat} {rt : Option FieldType} (h5 : Cond.code y bb ml rt ∈ tw) : GoodIn tw (.code y bb ml rt :: tw) := by
  have key : ∀ w ∈ (Cond.code y bb ml rt :: tw), w ∈ tw := by
    intro w hw
    rcases List.mem_cons.mp hw with rfl | hw
    · exact h5
    · exact hw
  exact fun w hw => ⟨key w hw, tw_good w (key w hw)⟩
theorem fz_blind0 {av : List Value} {ws : va_W} : FrameBlind (va_Pc av (P0 dC dI cI cZ cC cS ws)) := fun a U g mk q => ⟨q.1, q.2.1.call, q.2.2⟩
theorem fz_blind1 {av : List Value} {ws : va_W} {sz : Nat} : FrameBlind (va_Pc av (P1 dC dI cI cZ cC cS sz ws)) := fun a U g mk q => ⟨q.1, q.2.1, q.2.2.1.call, q.2.2.2⟩
theorem fz_pre0 {av : List Value} {wc : va_W} (hK : kK dC dI cI cZ cC cS s) (hP : va_P (dC, dI) classes wc H) : PreS s H (va_Pc av (P0 dC dI cI cZ cC cS wc)) av := ⟨fz_blind0, fun U hU hW => ⟨rfl, hK.warm hW, by rw [hU]; exact hP⟩⟩
theorem fz_pre1 {av : List Value} {wc : va_W} (hK : kK dC dI cI cZ cC cS s) (hP : va_P (dC, dI) classes wc H) : PreS s H (va_Pc av (P1 dC dI cI cZ cC cS H.size wc)) av := ⟨fz_blind1, fun U hU hW => ⟨rfl, by rw [hU], hK.warm hW, by rw [hU]; exact hP⟩⟩
theorem fz_preV {b q0 : Nat} {As : List Value} {C : String} {T : u_T} {N ci : Nat} {fs : List Value} {wc : va_W} (hK : kK dC dI cI cZ cC cS s) (hP0 : va_P (dC, dI) classes ws H) (hc : classes[ci]? = some (C, T, N)) (he : ws[q0]? = some (b, .inr (ci, fs))) (hP : va_P (dC, dI) classes wc H) : PreV s H C b (va_Pc (.ref b :: As) (P0 dC dI cI cZ cC cS wc)) As :=
  ⟨fz_blind0, va_recv hK.1 hP0 hc he, fun U hU hW => ⟨rfl, hK.warm hW, by rw [hU]; exact hP⟩⟩
variable {y : MethodName} {bytes : ByteArray} {maxL nL mc ms n index : Nat} {ret : Option FieldType} {wds : List Cond} {rm : Room} {Pc : Array Value → State → Prop} {own C : String} {b : Addr} {As : List Value}
/-- a call that changes nothing, of an object's method -/
theorem fz_rV {r : Int32} (S : CallFix p m c cc nL s args tw own) (hM : Met l y wds rm Pc (QcRead r) 0 0 (fun _ => False)) (cw : CallW R s args own C index y bytes maxL ret wds rm 0 0 n) (hp : PreV s H C b Pc As)
    (hn : As.length = n) (hl : ls.size = nL) (hst : st0 = As.reverse ++ .ref b :: rest) (hW : (rest.map fun v => v.category).sum ≤ 8) (hdg : decode cc pc = .ok (.invokevirtual index, 3)) (hf : cells + 0 ≤ R.cells ∧ slots + 0 ≤ R.slots)
    (kk : W p l e R s m args below meth c H locs cells slots Q (F0 m (pc + 3) ls (.int r :: rest))) : W p l e R s m args below meth c H locs cells slots Q (F0 m pc ls st0) :=
  W.callR (W.runV (g := F0 m pc ls st0) (rest := rest) S hM cw hp rfl hn hl hst (lv_room hW) hdg hf) kk
/-- a call that changes nothing, static -/
theorem fz_rS {r : Int32} (S : CallFix p m c cc nL s args tw own) (hM : Met l y wds rm Pc (QcRead r) 0 0 (fun _ => False)) (cw : CallB R s args own index y bytes maxL ret wds rm 0 0 n ∧ (Cond.static y).before args s = true) (hp : PreS s H Pc As)
    (hn : As.length = n) (hl : ls.size = nL) (hst : st0 = As.reverse ++ rest) (hW : (rest.map fun v => v.category).sum ≤ 8) (hdg : decode cc pc = .ok (.invokestatic index, 3)) (hf : cells + 0 ≤ R.cells ∧ slots + 0 ≤ R.slots)
    (kk : W p l e R s m args below meth c H locs cells slots Q (F0 m (pc + 3) ls (.int r :: rest))) : W p l e R s m args below meth c H locs cells slots Q (F0 m pc ls st0) :=
  W.callR (W.runS (g := F0 m pc ls st0) (rest := rest) S hM cw hp rfl hn hl hst (lv_room hW) hdg hf) kk
/-- a call that makes one cell new: as if by a putfield -/
theorem fz_cM {r : Int32} {a q0 : Nat} {e0 e' : va_E} (S : CallFix p m c cc nL s args tw own) (hM : Met l y wds rm Pc (QM dC dI a r e') 0 0 (fun q => q = a)) (cw : CallW R s args own C index y bytes maxL ret wds rm 0 0 n) (hp : PreV s H C b Pc As)
    (hn : As.length = n) (hl : ls.size = nL) (hst : st0 = As.reverse ++ .ref b :: rest) (hW : (rest.map fun v => v.category).sum ≤ 8) (hdg : decode cc pc = .ok (.invokevirtual index, 3)) (hf : cells + 0 ≤ R.cells ∧ slots + 0 ≤ R.slots)
    (hP : va_P (dC, dI) classes ws H) (hD : va_D A ws) (hS : va_S A H0 H locs) (he : ws[q0]? = some (a, e0)) (hw : ws.set q0 (a, e') = ws')
    (kk : ∀ (H1 : Heap) (locs1 : List Loc), va_P (dC, dI) classes ws' H1 → va_D A ws' → va_S A H0 H1 locs1 → W p l e R s m args below meth c H1 locs1 cells slots Q (F0 m (pc + 3) ls (.int r :: rest))) : W p l e R s m args below meth c H locs cells slots Q (F0 m pc ls st0) := by
  have hAa : A a := hD.2 q0 _ he
  refine va_calli (va_runV (rest := rest) S hM cw hp rfl hn hl hst (lv_room hW) hdg hf) hS (fun q _ h => by rw [h]; exact hAa) (fun q h => by rw [h]; exact hAa) (fun r' u t H1 locs1 ht hvm hpost hB hz hk hS1 => ?_)
  subst hpost
  subst hw
  rw [ht] at hB
  exact kk H1 locs1 (fz_set hP hD he hB hk) (hD.set he) hS1
/-- a call that makes two cells new -/
theorem fz_cM2 {r : Int32} {a1 a2 q1 q2 : Nat} {e1 e2 e1' e2' : va_E} (S : CallFix p m c cc nL s args tw own) (hM : Met l y wds rm Pc (QM2 dC dI a1 a2 r e1' e2') 0 0 (fun q => q = a1 ∨ q = a2)) (cw : CallW R s args own C index y bytes maxL ret wds rm 0 0 n) (hp : PreV s H C b Pc As)
    (hn : As.length = n) (hl : ls.size = nL) (hst : st0 = As.reverse ++ .ref b :: rest) (hW : (rest.map fun v => v.category).sum ≤ 8) (hdg : decode cc pc = .ok (.invokevirtual index, 3)) (hf : cells + 0 ≤ R.cells ∧ slots + 0 ≤ R.slots)
    (hP : va_P (dC, dI) classes ws H) (hD : va_D A ws) (hS : va_S A H0 H locs) (h12 : q1 ≠ q2) (he : ws[q1]? = some (a1, e1)) (he2 : ws[q2]? = some (a2, e2)) (hw : (ws.set q1 (a1, e1')).set q2 (a2, e2') = ws')
    (kk : ∀ (H1 : Heap) (locs1 : List Loc), va_P (dC, dI) classes ws' H1 → va_D A ws' → va_S A H0 H1 locs1 → W p l e R s m args below meth c H1 locs1 cells slots Q (F0 m (pc + 3) ls (.int r :: rest))) : W p l e R s m args below meth c H locs cells slots Q (F0 m pc ls st0) := by
  have hA1 : A a1 := hD.2 q1 _ he
  have hA2 : A a2 := hD.2 q2 _ he2
  refine va_calli (va_runV (rest := rest) S hM cw hp rfl hn hl hst (lv_room hW) hdg hf) hS (fun q _ h => by rcases h with h | h <;> rw [h] <;> assumption) (fun q h => by rcases h with h | h <;> rw [h] <;> assumption) (fun r' u t H1 locs1 ht hvm hpost hB hz hk hS1 => ?_)
  subst hpost
  subst hw
  rw [ht] at hB
  have hne : (ws.set q1 (a1, e1'))[q2]? = some (a2, e2) := by rw [List.getElem?_set_ne h12]; exact he2
  refine kk H1 locs1 ?_ ((hD.set he).set hne) hS1
  have l1 := (List.getElem?_eq_some_iff.mp he).1
  have l2 := (List.getElem?_eq_some_iff.mp he2).1
  intro k q hk2
  by_cases k2 : k = q2
  · subst k2
    rw [List.getElem?_set_self (by simpa using l2)] at hk2
    cases hk2
    exact hB 1 _ rfl
  · rw [List.getElem?_set_ne (Ne.symm k2)] at hk2
    by_cases k1 : k = q1
    · subst k1
      rw [List.getElem?_set_self l1] at hk2
      cases hk2
      exact hB 0 _ rfl
    · rw [List.getElem?_set_ne (Ne.symm k1)] at hk2
      refine (hP k q hk2).kept (hk q.1 (hP k q hk2).lt (fun z => ?_))
      rcases z with z | z
      · exact k1 (hD.1 k q1 q (a1, e1) hk2 he z)
      · exact k2 (hD.1 k q2 q (a2, e2) hk2 he2 z)
/-- a constructor that makes one cell new -/
theorem fz_cI {a q0 : Nat} {e0 e' : va_E} (S : CallFix p m c cc nL s args tw own) (hM : Met l y wds rm Pc (QMv dC dI a e') 0 0 (fun q => q = a)) (cw : CallB R s args own index y bytes maxL none wds rm 0 0 n ∧ y.name = "<init>" ∧ (Cond.instanceMethod y).before args s = true) (hp : PreS s H Pc (.ref a :: As))
    (hn : As.length = n) (hl : ls.size = nL) (hst : st0 = As.reverse ++ .ref a :: rest) (hW : (rest.map fun v => v.category).sum ≤ 8) (hdg : decode cc pc = .ok (.invokespecial index, 3)) (hf : cells + 0 ≤ R.cells ∧ slots + 0 ≤ R.slots)
    (hP : va_P (dC, dI) classes ws H) (hD : va_D A ws) (hS : va_S A H0 H locs) (he : ws[q0]? = some (a, e0)) (hw : ws.set q0 (a, e') = ws')
    (kk : ∀ (H1 : Heap) (locs1 : List Loc), va_P (dC, dI) classes ws' H1 → va_D A ws' → va_S A H0 H1 locs1 → W p l e R s m args below meth c H1 locs1 cells slots Q (F0 m (pc + 3) ls rest)) : W p l e R s m args below meth c H locs cells slots Q (F0 m pc ls st0) := by
  have hAa : A a := hD.2 q0 _ he
  refine va_callv (va_runI (rest := rest) S hM cw hp rfl hn hl hst (lv_room hW) hdg hf) hS (fun q _ h => by rw [h]; exact hAa) (fun q h => by rw [h]; exact hAa) (fun u t H1 locs1 ht hvm hpost hB hz hk hS1 => ?_)
  subst hw
  rw [ht] at hB
  exact kk H1 locs1 (fz_set hP hD he hB hk) (hD.set he) hS1
/-- a static call over a deep operand stack (up to Wd words below the arguments) -/
theorem fz_runS {Wd : Nat} {Qc : Array Value → State → Outcome → State → Prop} {free : Addr → Prop} {g : JFrame} (S : CallFix p m c cc nL s args tw own) (hM : Met l y wds rm Pc Qc mc ms free) (cw : CallB R s args own index y bytes maxL ret wds rm mc ms n ∧ (Cond.static y).before args s = true) (hlo : Wd + (maxL + 11) + rm.locals ≤ R.locals) (hp : PreS s H Pc As)
    (hg : g.method = m) (hn : As.length = n) (hsize : g.locals.size = nL) (hstack : g.stack = As.reverse ++ rest) (hW : 2 * g.monitorRoom + (rest.map fun v => v.category).sum ≤ Wd) (hdg : decode cc g.pc = .ok (.invokestatic index, 3)) (hf : cells + mc ≤ R.cells ∧ slots + ms ≤ R.slots) :
    va_Run p l e R s m args below meth c H locs cells slots mc ms g rest (Qc As.toArray) (free) := by
  have hK : Back l R p e below s args y 3 Wd (PreOf R mc ms Pc) (PostOf Qc mc ms free) := by
    obtain ⟨⟨hrc, hrs, hfr, -, hws, hcw, -, hini, -⟩, -⟩ := cw
    exact back_of (bytes := bytes) (maxL := maxL) (ret := ret) hM hp.1 hrc hrs hfr hlo hws hcw (fun a' U hW => word_at hW (Or.inl (by first | rfl | simp [Cond.onTables, Cond.keeps, Cond.steady])) hini)
  obtain ⟨⟨-, -, -, -, -, -, hcode, hini, hy, hlen, hl⟩, hstt⟩ := cw
  obtain ⟨hx, hb, hml, ho, -⟩ := S
  intro T hT X
  obtain ⟨v, vm₁, ⟨U', l2, c2, s2⟩, hW₁, X', ⟨g', mk, t, L, e1, e2, hq, h1, hL, h2, h3⟩, st⟩ := callS X hx (bytes := bytes) (maxL := maxL) (ret := ret) ho hl hstt hini hcode hy hK hg (hsize.trans hml.symm) (argsL := As) (rest := rest) (fun sig h => hn.trans (hlen sig h)) hstack hW (by rw [hb]; exact hdg)
    (fun vm₁ hW₁ => ⟨hf.1, hf.2, hp.2 (T.setVm vm₁) hT hW₁⟩)
  dsimp only [Pt.U, Pt.locs, Pt.cells, Pt.slots] at X' e1 e2 h1 h2 h3 st
  subst h1; subst h2; subst h3
  exact ⟨v, (T.setVm vm₁).calling g' mk As.toArray, t, U', L, hT, X', hL, e1, e2, hq, st⟩
/-- a static call that makes a cell and answers it -/
theorem fz_cN {e' : va_E} (S : CallFix p m c cc nL s args tw own) (hM : Met l y wds rm Pc (QN dC dI H.size e') mc ms (fun q => H.size ≤ q)) (cw : CallB R s args own index y bytes maxL ret wds rm mc ms n ∧ (Cond.static y).before args s = true) (hlo : 12 + (maxL + 11) + rm.locals ≤ R.locals) (hp : PreS s H Pc As)
    (hn : As.length = n) (hl : ls.size = nL) (hst : st0 = As.reverse ++ rest) (hW : (rest.map fun v => v.category).sum ≤ 12) (hdg : decode cc pc = .ok (.invokestatic index, 3)) (hf : cells + mc ≤ R.cells ∧ slots + ms ≤ R.slots)
    (hP : va_P (dC, dI) classes ws H) (hD : va_D A ws) (hS : va_S A H0 H locs) (hA : ∀ q, H0.size ≤ q → A q)
    (kk : ∀ (q : Nat) (H1 : Heap) (locs1 : List Loc), va_P (dC, dI) classes (ws ++ [(q, e')]) H1 → va_D A (ws ++ [(q, e')]) → va_S A H0 H1 locs1 → W p l e R s m args below meth c H1 locs1 (cells + mc) (slots + ms) Q (F0 m (pc + 3) ls (.ref q :: rest))) : W p l e R s m args below meth c H locs cells slots Q (F0 m pc ls st0) := by
  have hAa : ∀ q, H.size ≤ q → A q := fun q h => hA q (Nat.le_trans hS.1 h)
  refine va_callr (fz_runS (Wd := 12) (g := F0 m pc ls st0) (rest := rest) S hM cw hlo hp rfl hn hl hst (by show 2 * 0 + _ ≤ 12; omega) hdg hf) hS (fun q _ h => hAa q h) (fun q h => hAa q h) (fun u ra t H1 locs1 ht hvm hpost hB hz hk hS1 => ?_)
  rw [ht] at hB
  obtain ⟨h1, h2⟩ := fz_push hP hD hB.1 hB.2 (hAa _ hB.2) (fun q hq => hk q hq (by omega))
  exact kk ra H1 locs1 h1 h2 hS1
-- ===== arrays =====
theorem fz_clsI {cA : ClassId} (hK : kK dC dI cI cZ cC cS s) (h : va_RA s cA .int) : cA = cI := Option.some.inj (Eq.trans (Eq.symm h) (hK.1.2 0 _ rfl).2)
theorem fz_clsZ {cA : ClassId} (hK : kK dC dI cI cZ cC cS s) (h : va_RA s cA .boolean) : cA = cZ := Option.some.inj (Eq.trans (Eq.symm h) (hK.1.2 1 _ rfl).2)
/-- newarray int -/
theorem fz_newI (hx : p.tables.exec = Jvm.exec) (hb : c.code = cc) (harr : (Cond.arrayClass .int).before args s = true) (hK : kK dC dI cI cZ cC cS s) (hP : va_P (dC, dI) classes ws H) (hD : va_D A ws) (hS : va_S A H0 H locs) (hA : ∀ q, H0.size ≤ q → A q)
    {k : Int32} {N' : Nat} (hn : ¬ k < 0) (hN : k.toNatClampNeg = N') (hbytes : N' * 4 ≤ 536870912) (hcells : cells + 1 ≤ R.cells) (hslots : slots + N' ≤ R.slots) (hdg : decode cc pc = .ok (.newarray .int, 2))
    (kk : ∀ (q : Nat) (H1 : Heap), va_P (dC, dI) classes (ws ++ [(q, ARi cI N' (fun _ => 0))]) H1 → va_D A (ws ++ [(q, ARi cI N' (fun _ => 0))]) → va_S A H0 H1 locs →
      W p l e R s m args below meth c H1 locs (cells + 1) (slots + N') Q (F0 m (pc + 2) ls (.ref q :: rest))) : W p l e R s m args below meth c H locs cells slots Q (F0 m pc ls (.int k :: rest)) := by
  refine va_newa (atype := .int) (ty := .int) (a0 := (N', .inl (fun _ => 0))) hx hb harr rfl hK.1 hP hD hS hA (fun cA => rfl) hn hN hbytes hcells hslots hdg (fun q cA H1 hK1 hP1 hD1 hS1 => ?_)
  have e : cA = cI := fz_clsI hK (hK1.2 4 _ rfl).2
  subst e
  exact kk q H1 hP1 hD1 hS1
theorem fz_newZ (hx : p.tables.exec = Jvm.exec) (hb : c.code = cc) (harr : (Cond.arrayClass .boolean).before args s = true) (hK : kK dC dI cI cZ cC cS s) (hP : va_P (dC, dI) classes ws H) (hD : va_D A ws) (hS : va_S A H0 H locs) (hA : ∀ q, H0.size ≤ q → A q)
    {k : Int32} {N' : Nat} (hn : ¬ k < 0) (hN : k.toNatClampNeg = N') (hbytes : N' * 1 ≤ 536870912) (hcells : cells + 1 ≤ R.cells) (hslots : slots + N' ≤ R.slots) (hdg : decode cc pc = .ok (.newarray .boolean, 2))
    (kk : ∀ (q : Nat) (H1 : Heap), va_P (dC, dI) classes (ws ++ [(q, ARi cZ N' (fun _ => 0))]) H1 → va_D A (ws ++ [(q, ARi cZ N' (fun _ => 0))]) → va_S A H0 H1 locs →
      W p l e R s m args below meth c H1 locs (cells + 1) (slots + N') Q (F0 m (pc + 2) ls (.ref q :: rest))) : W p l e R s m args below meth c H locs cells slots Q (F0 m pc ls (.int k :: rest)) := by
  refine va_newa (atype := .boolean) (ty := .boolean) (a0 := (N', .inl (fun _ => 0))) hx hb harr rfl hK.1 hP hD hS hA (fun cA => rfl) hn hN hbytes hcells hslots hdg (fun q cA H1 hK1 hP1 hD1 hS1 => ?_)
  have e : cA = cZ := fz_clsZ hK (hK1.2 4 _ rfl).2
  subst e
  exact kk q H1 hP1 hD1 hS1
/-- new Act[] -/
theorem fz_newC (hx : p.tables.exec = Jvm.exec) (hb : c.code = cc) {index : Nat} (hown : s.vm.findClass own = some m.cls) (hclink : (Cond.classLink own index "FileStatus$Act").before args s = true) (hK : kK dC dI cI cZ cC cS s) (hP : va_P (dC, dI) classes ws H) (hD : va_D A ws) (hS : va_S A H0 H locs) (hA : ∀ q, H0.size ≤ q → A q)
    {k : Int32} {N' : Nat} (hn : ¬ k < 0) (hN : k.toNatClampNeg = N') (hbytes : N' * 4 ≤ 536870912) (hcells : cells + 1 ≤ R.cells) (hslots : slots + N' ≤ R.slots) (hdg : decode cc pc = .ok (.anewarray index, 3))
    (kk : ∀ (q : Nat) (H1 : Heap), va_P (dC, dI) classes (ws ++ [(q, ARq cC N' (fun _ => none))]) H1 → va_D A (ws ++ [(q, ARq cC N' (fun _ => none))]) → va_S A H0 H1 locs →
      W p l e R s m args below meth c H1 locs (cells + 1) (slots + N') Q (F0 m (pc + 3) ls (.ref q :: rest))) : W p l e R s m args below meth c H locs cells slots Q (F0 m pc ls (.int k :: rest)) := by
  refine va_newq hx hb hown hclink hK.2.2.1 hK.1 hP hD hS hA hn hN hbytes hcells hslots hdg (fun q cA H1 hK1 hP1 hD1 hS1 => ?_)
  have e : cA = cC := by
    obtain ⟨-, -, -, -, -, a1⟩ := (hK1.2 4 _ rfl).2
    obtain ⟨-, -, -, -, -, a2⟩ := (hK.1.2 2 _ rfl).2
    exact Option.some.inj (a1.symm.trans a2)
  subst e
  exact kk q H1 hP1 hD1 hS1
/-- new int[][] -/
theorem fz_newS (hx : p.tables.exec = Jvm.exec) (hb : c.code = cc) {index : Nat} (hown : s.vm.findClass own = some m.cls) (hclink : (Cond.classLink own index "[I").before args s = true) (hK : kK dC dI cI cZ cC cS s) (hP : va_P (dC, dI) classes ws H) (hD : va_D A ws) (hS : va_S A H0 H locs) (hA : ∀ q, H0.size ≤ q → A q)
    {k : Int32} {N' : Nat} (hn : ¬ k < 0) (hN : k.toNatClampNeg = N') (hbytes : N' * 4 ≤ 536870912) (hcells : cells + 1 ≤ R.cells) (hslots : slots + N' ≤ R.slots) (hdg : decode cc pc = .ok (.anewarray index, 3))
    (kk : ∀ (q : Nat) (H1 : Heap), va_P (dC, dI) classes (ws ++ [(q, ARq cS N' (fun _ => none))]) H1 → va_D A (ws ++ [(q, ARq cS N' (fun _ => none))]) → va_S A H0 H1 locs →
      W p l e R s m args below meth c H1 locs (cells + 1) (slots + N') Q (F0 m (pc + 3) ls (.ref q :: rest))) : W p l e R s m args below meth c H locs cells slots Q (F0 m pc ls (.int k :: rest)) := by
  subst hN
  refine W.anewA (t := .int) hx hb hown hclink hK.2.2.2.1 rfl hdg rfl hn hbytes hcells hslots fun cA kA comp f1 f2 f3 f4 => ?_
  have e : cA = cS := Option.some.inj (f1.symm.trans (hK.1.2 3 _ rfl).2)
  subst e
  generalize hH1 : H.push ({ cls := cA, slots := Array.replicate k.toNatClampNeg .null, vm := .none } : Cell) = H1
  have z1 : H1.size = H.size + 1 := by rw [← hH1, Array.size_push]
  have e1 : H1[H.size]? = some (arrV cA k.toNatClampNeg (fun _ => .null)) := by rw [← hH1, Array.getElem?_push_size, ← arrV_new]
  have o1 : ∀ q : Nat, q < H.size → H1[q]? = H[q]? := fun q hq => by rw [← hH1, Array.getElem?_push, if_neg (Nat.ne_of_lt hq)]
  have he : va_P (dC, dI) classes [(H.size, ARq cA k.toNatClampNeg (fun _ => none))] H1 := by
    intro j x hx
    have hz : j < 1 := (List.getElem?_eq_some_iff.mp hx).1
    rw [show j = 0 by omega] at hx
    cases hx
    show H1[H.size]? = some (vp_cell _ _)
    rw [vp_cell_q]
    exact e1
  obtain ⟨h1, h2⟩ := fz_push hP hD he (Nat.le_refl _) (hA _ hS.1) o1
  exact kk H.size H1 h1 h2 ⟨Nat.le_trans hS.1 (by omega), fun x h1 h2 => (o1 x (Nat.lt_of_lt_of_le h1 hS.1)).trans (hS.2.1 x h1 h2), hS.2.2⟩
/-- int[][]: a row is stored -/
theorem fz_stS {a v q0 qk : Nat} (hx : p.tables.exec = Jvm.exec) (hb : c.code = cc) (hK : kK dC dI cI cZ cC cS s) (hP : va_P (dC, dI) classes ws H) (hD : va_D A ws) (hS : va_S A H0 H locs) {n nv : Nat} {f : Nat → Option Nat} {fv : Nat → Int32} (ha : ws[q0]? = some (a, ARq cS n f)) (hv : ws[qk]? = some (v, ARi cI nv fv)) {i : Int32} (hin : vp_in i n) (hw : ws.set q0 (a, ARq cS n (va_up f i.toNatClampNeg (some v))) = ws') (hdg : decode cc pc = .ok (.aastore, 1))
    (kk : ∀ (H1 : Heap) (locs1 : List Loc), va_P (dC, dI) classes ws' H1 → va_D A ws' → va_S A H0 H1 locs1 → W p l e R s m args below meth c H1 locs1 cells slots Q (F0 m (pc + 1) ls rest)) : W p l e R s m args below meth c H locs cells slots Q (F0 m pc ls (.ref v :: .int i :: .ref a :: rest)) := by
  subst hw
  have hlt : i.toNatClampNeg < n := Nat.not_le.mp fun q => hin (Or.inr q)
  have h0 : ¬ i < 0 := fun q => hin (Or.inl q)
  have g1 : H[v]? = some (vp_cell cI (nv, .inl fv)) := hP qk _ hv
  obtain ⟨-, ⟨kA, kI, k1, k2, k3⟩, -⟩ := hK
  refine W.aast hx hb (hP q0 _ ha) (fun q h => by cases h) (fun h => by cases h) k1 k2 rfl k3 ⟨h0, by show _ < (arrV _ _ _).slots.size; rw [arrV_size]; exact hlt⟩ g1 (fun q h => by cases h) k3 (fz_self _ cI) rfl rfl hdg fun H1 e z oq => ?_
  refine kk H1 _ (hP.set hD ha ?_ oq) (hD.set ha) (hS.put z oq (hD.2 q0 _ ha))
  show H1[a]? = some (vp_cell _ _)
  rw [e]
  rw [vp_cell_q, vp_cell_q, arrV_store]
  congr 2
  funext q
  by_cases hq : q = i.toNatClampNeg
  · subst hq
    simp [updV, va_up, va_rf]
  · simp [updV, va_up, hq]
/-- int[][]: a row is read -/
theorem fz_ldS {a q0 v : Nat} (hx : p.tables.exec = Jvm.exec) (hb : c.code = cc) (hK : kK dC dI cI cZ cC cS s) (hP : va_P (dC, dI) classes ws H) {n : Nat} {f : Nat → Option Nat} (ha : ws[q0]? = some (a, ARq cS n f)) {i : Int32} (hin : vp_in i n) (hf : f i.toNatClampNeg = some v) (hdg : decode cc pc = .ok (.aaload, 1))
    (kk : W p l e R s m args below meth c H locs cells slots Q (F0 m (pc + 1) ls (.ref v :: rest))) : W p l e R s m args below meth c H locs cells slots Q (F0 m pc ls (.int i :: .ref a :: rest)) := by
  have hlt : i.toNatClampNeg < n := Nat.not_le.mp fun q => hin (Or.inr q)
  exact W.aald (v := .ref v) (ty := .array .int) hx hb (hP q0 _ ha) ((hK.1.2 3 _ rfl).1 n (fun j => va_rf (f j))) rfl (fun q => by cases q) (by show ¬ (i < 0 ∨ (arrV _ _ _).slots.size ≤ _); rw [arrV_size]; exact hin) (by show (arrV _ _ _).slots[_]? = _; rw [arrV_read _ _ hlt, hf]; rfl) rfl rfl hdg kk
/-- Act[]: an act is read -/
theorem fz_ldC {a q0 v : Nat} (hx : p.tables.exec = Jvm.exec) (hb : c.code = cc) (hK : kK dC dI cI cZ cC cS s) (hP : va_P (dC, dI) classes ws H) {n : Nat} {f : Nat → Option Nat} (ha : ws[q0]? = some (a, ARq cC n f)) {i : Int32} (hin : vp_in i n) (hf : f i.toNatClampNeg = some v) (hdg : decode cc pc = .ok (.aaload, 1))
    (kk : W p l e R s m args below meth c H locs cells slots Q (F0 m (pc + 1) ls (.ref v :: rest))) : W p l e R s m args below meth c H locs cells slots Q (F0 m pc ls (.int i :: .ref a :: rest)) := by
  refine va_aldq hx hb hK.1 hP q0 2 ha rfl hin hdg ?_
  rw [hf]
  exact kk
/-- Act[]: an act is stored -/
theorem fz_stC {a v q0 qk : Nat} (hx : p.tables.exec = Jvm.exec) (hb : c.code = cc) (hK : kK dC dI cI cZ cC cS s) (hP : va_P (dC, dI) classes ws H) (hD : va_D A ws) (hS : va_S A H0 H locs) {n : Nat} {f : Nat → Option Nat} {vs : List Value} (ha : ws[q0]? = some (a, ARq cC n f)) (hv : ws[qk]? = some (v, .inr (1, vs))) {i : Int32} (hin : vp_in i n) (hw : ws.set q0 (a, ARq cC n (va_up f i.toNatClampNeg (some v))) = ws') (hdg : decode cc pc = .ok (.aastore, 1))
    (kk : ∀ (H1 : Heap) (locs1 : List Loc), va_P (dC, dI) classes ws' H1 → va_D A ws' → va_S A H0 H1 locs1 → W p l e R s m args below meth c H1 locs1 cells slots Q (F0 m (pc + 1) ls rest)) : W p l e R s m args below meth c H locs cells slots Q (F0 m pc ls (.ref v :: .int i :: .ref a :: rest)) := by
  subst hw
  exact va_astq (r := ("FileStatus$Act", F_AC, 3)) hx hb hK.1 hP hD hS q0 2 qk 1 ha rfl hv rfl hin hdg kk
/-- int[]: an int is stored -/
theorem fz_stI {a q0 : Nat} (hx : p.tables.exec = Jvm.exec) (hb : c.code = cc) (hK : kK dC dI cI cZ cC cS s) (hP : va_P (dC, dI) classes ws H) (hD : va_D A ws) (hS : va_S A H0 H locs) {n : Nat} {f : Nat → Int32} (ha : ws[q0]? = some (a, ARi cI n f)) {i x : Int32} (hin : vp_in i n) (hw : ws.set q0 (a, ARi cI n (upd f i.toNatClampNeg x)) = ws') (hdg : decode cc pc = .ok (.iastore, 1))
    (kk : ∀ (H1 : Heap) (locs1 : List Loc), va_P (dC, dI) classes ws' H1 → va_D A ws' → va_S A H0 H1 locs1 → W p l e R s m args below meth c H1 locs1 cells slots Q (F0 m (pc + 1) ls rest)) : W p l e R s m args below meth c H locs cells slots Q (F0 m pc ls (.int x :: .int i :: .ref a :: rest)) := by
  subst hw
  exact va_iast hx hb hK.1 hP hD hS q0 0 ha rfl hin hdg kk
/-- boolean[]: a boolean is stored -/
theorem fz_stZ {a q0 : Nat} (hx : p.tables.exec = Jvm.exec) (hb : c.code = cc) (hK : kK dC dI cI cZ cC cS s) (hP : va_P (dC, dI) classes ws H) (hD : va_D A ws) (hS : va_S A H0 H locs) {n : Nat} {f : Nat → Int32} (ha : ws[q0]? = some (a, ARi cZ n f)) {i x : Int32} (hin : vp_in i n) (hz : vp_nar .boolean x = x) (hw : ws.set q0 (a, ARi cZ n (upd f i.toNatClampNeg x)) = ws') (hdg : decode cc pc = .ok (.bastore, 1))
    (kk : ∀ (H1 : Heap) (locs1 : List Loc), va_P (dC, dI) classes ws' H1 → va_D A ws' → va_S A H0 H1 locs1 → W p l e R s m args below meth c H1 locs1 cells slots Q (F0 m (pc + 1) ls rest)) : W p l e R s m args below meth c H locs cells slots Q (F0 m pc ls (.int x :: .int i :: .ref a :: rest)) := by
  subst hw
  refine va_zast hx hb hK.1 hP hD hS q0 1 ha rfl hin hdg ?_
  rw [hz]
  exact kk
theorem fz_ldI {a q0 : Nat} (hx : p.tables.exec = Jvm.exec) (hb : c.code = cc) (hK : kK dC dI cI cZ cC cS s) (hP : va_P (dC, dI) classes ws H) {n : Nat} {f : Nat → Int32} (ha : ws[q0]? = some (a, ARi cI n f)) {i : Int32} (hin : vp_in i n) (hdg : decode cc pc = .ok (.iaload, 1))
    (kk : W p l e R s m args below meth c H locs cells slots Q (F0 m (pc + 1) ls (.int (f i.toNatClampNeg) :: rest))) : W p l e R s m args below meth c H locs cells slots Q (F0 m pc ls (.int i :: .ref a :: rest)) := va_iald hx hb hK.1 hP q0 0 ha rfl hin hdg kk
theorem fz_ldZ {a q0 : Nat} (hx : p.tables.exec = Jvm.exec) (hb : c.code = cc) (hK : kK dC dI cI cZ cC cS s) (hP : va_P (dC, dI) classes ws H) {n : Nat} {f : Nat → Int32} (ha : ws[q0]? = some (a, ARi cZ n f)) {i : Int32} (hin : vp_in i n) (hdg : decode cc pc = .ok (.baload, 1))
    (kk : W p l e R s m args below meth c H locs cells slots Q (F0 m (pc + 1) ls (.int (f i.toNatClampNeg) :: rest))) : W p l e R s m args below meth c H locs cells slots Q (F0 m pc ls (.int i :: .ref a :: rest)) := va_zald hx hb hK.1 hP q0 1 ha rfl hin hdg kk
end FZ
end
section
-- methods: code and name
abbrev b_FS_init : ByteArray := prog_1_method_3_code
def y_FS_init : MethodName := ⟨"FileStatus", "<init>", "(I)V"⟩
abbrev rm_FS_init : Room := { frames := 2, cells := 44, slots := 266, locals := 53 }
abbrev b_FS_row : ByteArray := prog_1_method_1_code
def y_FS_row : MethodName := ⟨"FileStatus", "row", "(IIIIIII)[I"⟩
abbrev rm_FS_row : Room := { frames := 0, cells := 1, slots := 9, locals := 0 }
abbrev b_AC_init : ByteArray := prog_2_method_1_code
def y_AC_init : MethodName := ⟨"FileStatus$Act", "<init>", "([II[[I)V"⟩
abbrev rm_AC_init : Room := { frames := 1, cells := 0, slots := 0, locals := 12 }
abbrev b_FS_nothing : ByteArray := prog_1_method_2_code
def y_FS_nothing : MethodName := ⟨"FileStatus", "nothing", "()[I"⟩
abbrev rm_FS_nothing : Room := { frames := 1, cells := 1, slots := 9, locals := 30 }
abbrev b_FS_mode : ByteArray := prog_1_method_4_code
def y_FS_mode : MethodName := ⟨"FileStatus", "mode", "(I)I"⟩
abbrev rm_FS_mode : Room := { frames := 0, cells := 0, slots := 0, locals := 0 }
abbrev b_FS_optional : ByteArray := prog_1_method_5_code
def y_FS_optional : MethodName := ⟨"FileStatus", "optional", "(Z)I"⟩
abbrev rm_FS_optional : Room := { frames := 0, cells := 0, slots := 0, locals := 0 }
abbrev b_FS_open : ByteArray := prog_1_method_8_code
def y_FS_open : MethodName := ⟨"FileStatus", "open", "(I)I"⟩
abbrev rm_FS_open : Room := { frames := 1, cells := 0, slots := 0, locals := 22 }
abbrev b_FS_opening : ByteArray := prog_1_method_7_code
def y_FS_opening : MethodName := ⟨"FileStatus", "opening", "(I)I"⟩
abbrev rm_FS_opening : Room := { frames := 0, cells := 0, slots := 0, locals := 0 }
abbrev b_FS_told : ByteArray := prog_1_method_6_code
def y_FS_told : MethodName := ⟨"FileStatus", "told", "(II)I"⟩
abbrev rm_FS_told : Room := { frames := 0, cells := 0, slots := 0, locals := 0 }
abbrev b_FS_act : ByteArray := prog_1_method_10_code
def y_FS_act : MethodName := ⟨"FileStatus", "act", "(II)I"⟩
abbrev rm_FS_act : Room := { frames := 2, cells := 0, slots := 0, locals := 44 }
abbrev b_FS_ahead : ByteArray := prog_1_method_9_code
def y_FS_ahead : MethodName := ⟨"FileStatus", "ahead", "(I)I"⟩
abbrev rm_FS_ahead : Room := { frames := 1, cells := 0, slots := 0, locals := 22 }
abbrev b_AC_isFor : ByteArray := prog_2_method_2_code
def y_AC_isFor : MethodName := ⟨"FileStatus$Act", "isFor", "(I)Z"⟩
abbrev rm_AC_isFor : Room := { frames := 0, cells := 0, slots := 0, locals := 0 }
abbrev b_AC_isIn : ByteArray := prog_2_method_3_code
def y_AC_isIn : MethodName := ⟨"FileStatus$Act", "isIn", "(II)Z"⟩
abbrev rm_AC_isIn : Room := { frames := 0, cells := 0, slots := 0, locals := 0 }
abbrev b_AC_status : ByteArray := prog_2_method_4_code
def y_AC_status : MethodName := ⟨"FileStatus$Act", "status", "(II)I"⟩
abbrev rm_AC_status : Room := { frames := 0, cells := 0, slots := 0, locals := 0 }
abbrev b_FS_position : ByteArray := prog_1_method_15_code
def y_FS_position : MethodName := ⟨"FileStatus", "position", "(I)I"⟩
abbrev rm_FS_position : Room := { frames := 1, cells := 0, slots := 0, locals := 20 }
abbrev b_FS_isStatus : ByteArray := prog_1_method_11_code
def y_FS_isStatus : MethodName := ⟨"FileStatus", "isStatus", "(I)Z"⟩
abbrev rm_FS_isStatus : Room := { frames := 0, cells := 0, slots := 0, locals := 0 }
abbrev b_FS_area : ByteArray := prog_1_method_18_code
def y_FS_area : MethodName := ⟨"FileStatus", "area", "(I)I"⟩
abbrev rm_FS_area : Room := { frames := 1, cells := 0, slots := 0, locals := 20 }
abbrev b_FS_exception : ByteArray := prog_1_method_12_code
def y_FS_exception : MethodName := ⟨"FileStatus", "exception", "(I)I"⟩
abbrev rm_FS_exception : Room := { frames := 1, cells := 0, slots := 0, locals := 20 }
abbrev b_FS_phrase : ByteArray := prog_1_method_13_code
def y_FS_phrase : MethodName := ⟨"FileStatus", "phrase", "(Z)I"⟩
abbrev rm_FS_phrase : Room := { frames := 2, cells := 0, slots := 0, locals := 42 }
abbrev b_FS_declarative : ByteArray := prog_1_method_14_code
def y_FS_declarative : MethodName := ⟨"FileStatus", "declarative", "(IZ)I"⟩
abbrev rm_FS_declarative : Room := { frames := 0, cells := 0, slots := 0, locals := 0 }
abbrev b_FS_both : ByteArray := prog_1_method_16_code
def y_FS_both : MethodName := ⟨"FileStatus", "both", "(II)I"⟩
abbrev rm_FS_both : Room := { frames := 2, cells := 0, slots := 0, locals := 42 }
abbrev b_FS_extended : ByteArray := prog_1_method_17_code
def y_FS_extended : MethodName := ⟨"FileStatus", "extended", "(I)I"⟩
abbrev rm_FS_extended : Room := { frames := 1, cells := 0, slots := 0, locals := 20 }
abbrev b_FS_count : ByteArray := prog_1_method_19_code
def y_FS_count : MethodName := ⟨"FileStatus", "count", "(I)I"⟩
abbrev rm_FS_count : Room := { frames := 0, cells := 0, slots := 0, locals := 0 }
abbrev b_LW_cell : ByteArray := method_2_code
def y_LW_cell : MethodName := ⟨"FileStatusLaw", "cell", "([II)I"⟩
abbrev rm_LW_cell : Room := { frames := 0, cells := 0, slots := 0, locals := 0 }
abbrev b_MD_init : ByteArray := prog_4_method_1_code
def y_MD_init : MethodName := ⟨"FileStatusModel", "<init>", "(I)V"⟩
abbrev rm_MD_init : Room := { frames := 1, cells := 1, slots := 7, locals := 12 }
abbrev b_MD_mode : ByteArray := prog_4_method_3_code
def y_MD_mode : MethodName := ⟨"FileStatusModel", "mode", "(I)I"⟩
abbrev rm_MD_mode : Room := { frames := 0, cells := 0, slots := 0, locals := 0 }
abbrev b_MD_open : ByteArray := prog_4_method_5_code
def y_MD_open : MethodName := ⟨"FileStatusModel", "open", "(I)I"⟩
abbrev rm_MD_open : Room := { frames := 1, cells := 0, slots := 0, locals := 22 }
abbrev b_MD_opened : ByteArray := prog_4_method_6_code
def y_MD_opened : MethodName := ⟨"FileStatusModel", "opened", "(I)I"⟩
abbrev rm_MD_opened : Room := { frames := 0, cells := 0, slots := 0, locals := 0 }
abbrev b_MD_told : ByteArray := prog_4_method_4_code
def y_MD_told : MethodName := ⟨"FileStatusModel", "told", "(II)I"⟩
abbrev rm_MD_told : Room := { frames := 0, cells := 0, slots := 0, locals := 0 }
abbrev b_MD_act : ByteArray := prog_4_method_10_code
def y_MD_act : MethodName := ⟨"FileStatusModel", "act", "(II)I"⟩
abbrev rm_MD_act : Room := { frames := 2, cells := 0, slots := 0, locals := 41 }
abbrev b_MD_ahead : ByteArray := prog_4_method_8_code
def y_MD_ahead : MethodName := ⟨"FileStatusModel", "ahead", "(I)I"⟩
abbrev rm_MD_ahead : Room := { frames := 1, cells := 0, slots := 0, locals := 20 }
abbrev b_MD_reads : ByteArray := prog_4_method_7_code
def y_MD_reads : MethodName := ⟨"FileStatusModel", "reads", "()Z"⟩
abbrev rm_MD_reads : Room := { frames := 0, cells := 0, slots := 0, locals := 0 }
abbrev b_MD_byOutcome : ByteArray := prog_4_method_9_code
def y_MD_byOutcome : MethodName := ⟨"FileStatusModel", "byOutcome", "(II)I"⟩
abbrev rm_MD_byOutcome : Room := { frames := 0, cells := 0, slots := 0, locals := 0 }
abbrev b_MD_moved : ByteArray := prog_4_method_11_code
def y_MD_moved : MethodName := ⟨"FileStatusModel", "moved", "(I)I"⟩
abbrev rm_MD_moved : Room := { frames := 0, cells := 0, slots := 0, locals := 0 }
abbrev b_MD_exception : ByteArray := prog_4_method_14_code
def y_MD_exception : MethodName := ⟨"FileStatusModel", "exception", "(I)I"⟩
abbrev rm_MD_exception : Room := { frames := 1, cells := 0, slots := 0, locals := 21 }
abbrev b_MD_isStatus : ByteArray := prog_4_method_12_code
def y_MD_isStatus : MethodName := ⟨"FileStatusModel", "isStatus", "(I)Z"⟩
abbrev rm_MD_isStatus : Room := { frames := 0, cells := 0, slots := 0, locals := 0 }
abbrev b_MD_kindOf : ByteArray := prog_4_method_13_code
def y_MD_kindOf : MethodName := ⟨"FileStatusModel", "kindOf", "(I)I"⟩
abbrev rm_MD_kindOf : Room := { frames := 0, cells := 0, slots := 0, locals := 0 }
abbrev b_MD_phrase : ByteArray := prog_4_method_15_code
def y_MD_phrase : MethodName := ⟨"FileStatusModel", "phrase", "(Z)I"⟩
abbrev rm_MD_phrase : Room := { frames := 1, cells := 0, slots := 0, locals := 21 }
abbrev b_MD_declarative : ByteArray := prog_4_method_16_code
def y_MD_declarative : MethodName := ⟨"FileStatusModel", "declarative", "(IZ)I"⟩
abbrev rm_MD_declarative : Room := { frames := 0, cells := 0, slots := 0, locals := 0 }
abbrev b_MD_position : ByteArray := prog_4_method_17_code
def y_MD_position : MethodName := ⟨"FileStatusModel", "position", "(I)I"⟩
abbrev rm_MD_position : Room := { frames := 1, cells := 0, slots := 0, locals := 20 }
abbrev b_MD_optional : ByteArray := prog_4_method_18_code
def y_MD_optional : MethodName := ⟨"FileStatusModel", "optional", "(Z)I"⟩
abbrev rm_MD_optional : Room := { frames := 0, cells := 0, slots := 0, locals := 0 }
abbrev b_MD_both : ByteArray := prog_4_method_19_code
def y_MD_both : MethodName := ⟨"FileStatusModel", "both", "(II)I"⟩
abbrev rm_MD_both : Room := { frames := 1, cells := 0, slots := 0, locals := 21 }
abbrev b_MD_extended : ByteArray := prog_4_method_20_code
def y_MD_extended : MethodName := ⟨"FileStatusModel", "extended", "(I)I"⟩
abbrev rm_MD_extended : Room := { frames := 1, cells := 0, slots := 0, locals := 20 }
abbrev b_MD_area : ByteArray := prog_4_method_21_code
def y_MD_area : MethodName := ⟨"FileStatusModel", "area", "(I)I"⟩
abbrev rm_MD_area : Room := { frames := 1, cells := 0, slots := 0, locals := 20 }
abbrev b_MD_count : ByteArray := prog_4_method_22_code
def y_MD_count : MethodName := ⟨"FileStatusModel", "count", "(I)I"⟩
abbrev rm_MD_count : Room := { frames := 0, cells := 0, slots := 0, locals := 0 }
-- words of the tables, by their place
theorem k_0 : Cond.initialized "FileStatusLaw" ∈ tw := fz_mem 8 (by decide +kernel) rfl
theorem k_1 : Cond.initialized "FileStatus" ∈ tw := fz_mem 9 (by decide +kernel) rfl
theorem k_2 : Cond.initialized "FileStatus$Act" ∈ tw := fz_mem 10 (by decide +kernel) rfl
theorem k_3 : Cond.initialized "FileStatusModel" ∈ tw := fz_mem 11 (by decide +kernel) rfl
theorem k_4 : Cond.classLink "FileStatusLaw" 7 "FileStatus" ∈ tw := fz_mem 12 (by decide +kernel) rfl
theorem k_5 : Cond.instantiable "FileStatus" 13 ∈ tw := fz_mem 13 (by decide +kernel) rfl
theorem k_6 : Cond.methodLink "FileStatusLaw" 15 y_FS_init ∈ tw := fz_mem 14 (by decide +kernel) rfl
theorem k_7 : Cond.instanceMethod y_FS_init ∈ tw := fz_mem 15 (by decide +kernel) rfl
set_option maxRecDepth 20000 in
theorem k_8 : Cond.code y_FS_init b_FS_init 2 none ∈ tw := fz_mem 16 rfl rfl
theorem k_9 : Cond.methodLink "FileStatus" 7 objectInit ∈ tw := fz_mem 17 (by decide +kernel) rfl
theorem k_10 : Cond.instanceMethod objectInit ∈ tw := fz_mem 18 (by decide +kernel) rfl
set_option maxRecDepth 20000 in
theorem k_11 : Cond.code objectInit ⟨#[0xb1]⟩ 1 none ∈ tw := fz_mem 19 rfl rfl
theorem k_12 : Cond.classLink "FileStatus" 13 "FileStatus$Act" ∈ tw := fz_mem 20 (by decide +kernel) rfl
theorem k_14 : Cond.instantiable "FileStatus$Act" 3 ∈ tw := fz_mem 22 (by decide +kernel) rfl
theorem k_15 : Cond.classLink "FileStatus" 15 "[I" ∈ tw := fz_mem 23 (by decide +kernel) rfl
theorem k_17 : Cond.methodLink "FileStatus" 3 y_FS_row ∈ tw := fz_mem 25 (by decide +kernel) rfl
theorem k_18 : Cond.static y_FS_row ∈ tw := fz_mem 26 (by decide +kernel) rfl
set_option maxRecDepth 20000 in
theorem k_19 : Cond.code y_FS_row b_FS_row 7 (some (FieldType.array FieldType.int)) ∈ tw := fz_mem 27 rfl rfl
theorem k_20 : Cond.methodLink "FileStatus" 17 y_AC_init ∈ tw := fz_mem 28 (by decide +kernel) rfl
theorem k_21 : Cond.instanceMethod y_AC_init ∈ tw := fz_mem 29 (by decide +kernel) rfl
set_option maxRecDepth 20000 in
theorem k_22 : Cond.code y_AC_init b_AC_init 4 none ∈ tw := fz_mem 30 rfl rfl
theorem k_23 : Cond.methodLink "FileStatus$Act" 3 objectInit ∈ tw := fz_mem 31 (by decide +kernel) rfl
theorem k_24 : Cond.fieldLink "FileStatus$Act" 9 "FileStatus$Act" "modes" "[I" ∈ tw := fz_mem 32 (by decide +kernel) rfl
theorem k_25 : Cond.fieldLink "FileStatus$Act" 15 "FileStatus$Act" "barred" "I" ∈ tw := fz_mem 33 (by decide +kernel) rfl
theorem k_27 : Cond.fieldLink "FileStatus$Act" 19 "FileStatus$Act" "statuses" "[[I" ∈ tw := fz_mem 35 (by decide +kernel) rfl
theorem k_35 : Cond.arrayClass FieldType.int ∈ tw := fz_mem 43 (by decide +kernel) rfl
theorem k_36 : Cond.methodLink "FileStatus" 20 y_FS_nothing ∈ tw := fz_mem 44 (by decide +kernel) rfl
theorem k_37 : Cond.static y_FS_nothing ∈ tw := fz_mem 45 (by decide +kernel) rfl
set_option maxRecDepth 20000 in
theorem k_38 : Cond.code y_FS_nothing b_FS_nothing 0 (some (FieldType.array FieldType.int)) ∈ tw := fz_mem 46 rfl rfl
theorem k_39 : Cond.fieldLink "FileStatus" 24 "FileStatus" "acts" "[LFileStatus$Act;" ∈ tw := fz_mem 47 (by decide +kernel) rfl
theorem k_40 : Cond.fieldLink "FileStatus" 39 "FileStatus" "organisation" "I" ∈ tw := fz_mem 48 (by decide +kernel) rfl
theorem k_41 : Cond.fieldLink "FileStatus" 28 "FileStatus" "mode" "I" ∈ tw := fz_mem 49 (by decide +kernel) rfl
theorem k_42 : Cond.fieldLink "FileStatus" 42 "FileStatus" "next" "I" ∈ tw := fz_mem 50 (by decide +kernel) rfl
theorem k_43 : Cond.fieldLink "FileStatus" 65 "FileStatus" "position" "I" ∈ tw := fz_mem 51 (by decide +kernel) rfl
theorem k_44 : Cond.fieldLink "FileStatus" 49 "FileStatus" "latest" "I" ∈ tw := fz_mem 52 (by decide +kernel) rfl
theorem k_45 : Cond.fieldLink "FileStatus" 32 "FileStatus" "act" "I" ∈ tw := fz_mem 53 (by decide +kernel) rfl
theorem k_46 : Cond.fieldLink "FileStatus" 55 "FileStatus" "good" "I" ∈ tw := fz_mem 54 (by decide +kernel) rfl
theorem k_47 : Cond.fieldLink "FileStatus" 52 "FileStatus" "bad" "I" ∈ tw := fz_mem 55 (by decide +kernel) rfl
theorem k_48 : Cond.fieldLink "FileStatus" 45 "FileStatus" "optional" "Z" ∈ tw := fz_mem 56 (by decide +kernel) rfl
theorem k_49 : Cond.fieldLink "FileStatus" 62 "FileStatus" "permit" "Z" ∈ tw := fz_mem 57 (by decide +kernel) rfl
theorem k_50 : Cond.fieldLink "FileStatus" 68 "FileStatus" "empty" "Z" ∈ tw := fz_mem 58 (by decide +kernel) rfl
theorem k_51 : Cond.fieldLink "FileStatus" 35 "FileStatus" "declaratives" "[Z" ∈ tw := fz_mem 59 (by decide +kernel) rfl
theorem k_79 : Cond.arrayClass FieldType.boolean ∈ tw := fz_mem 87 (by decide +kernel) rfl
theorem k_80 : Cond.methodLink "FileStatusLaw" 21 y_FS_mode ∈ tw := fz_mem 88 (by decide +kernel) rfl
theorem k_81 : Cond.instanceMethod y_FS_mode ∈ tw := fz_mem 89 (by decide +kernel) rfl
theorem k_82 : Cond.selects "FileStatus" y_FS_mode y_FS_mode ∈ tw := fz_mem 90 (by decide +kernel) rfl
set_option maxRecDepth 20000 in
theorem k_83 : Cond.code y_FS_mode b_FS_mode 3 (some FieldType.int) ∈ tw := fz_mem 91 rfl rfl
theorem k_84 : Cond.methodLink "FileStatusLaw" 53 y_FS_optional ∈ tw := fz_mem 92 (by decide +kernel) rfl
theorem k_85 : Cond.instanceMethod y_FS_optional ∈ tw := fz_mem 93 (by decide +kernel) rfl
theorem k_86 : Cond.selects "FileStatus" y_FS_optional y_FS_optional ∈ tw := fz_mem 94 (by decide +kernel) rfl
set_option maxRecDepth 20000 in
theorem k_87 : Cond.code y_FS_optional b_FS_optional 3 (some FieldType.int) ∈ tw := fz_mem 95 rfl rfl
theorem k_88 : Cond.methodLink "FileStatusLaw" 26 y_FS_open ∈ tw := fz_mem 96 (by decide +kernel) rfl
theorem k_89 : Cond.instanceMethod y_FS_open ∈ tw := fz_mem 97 (by decide +kernel) rfl
theorem k_90 : Cond.selects "FileStatus" y_FS_open y_FS_open ∈ tw := fz_mem 98 (by decide +kernel) rfl
set_option maxRecDepth 20000 in
theorem k_91 : Cond.code y_FS_open b_FS_open 3 (some FieldType.int) ∈ tw := fz_mem 99 rfl rfl
theorem k_92 : Cond.methodLink "FileStatus" 58 y_FS_opening ∈ tw := fz_mem 100 (by decide +kernel) rfl
theorem k_94 : Cond.instanceMethod y_FS_opening ∈ tw := fz_mem 102 (by decide +kernel) rfl
set_option maxRecDepth 20000 in
theorem k_95 : Cond.code y_FS_opening b_FS_opening 2 (some FieldType.int) ∈ tw := fz_mem 103 rfl rfl
theorem k_96 : Cond.methodLink "FileStatus" 71 y_FS_told ∈ tw := fz_mem 104 (by decide +kernel) rfl
theorem k_98 : Cond.instanceMethod y_FS_told ∈ tw := fz_mem 106 (by decide +kernel) rfl
set_option maxRecDepth 20000 in
theorem k_99 : Cond.code y_FS_told b_FS_told 3 (some FieldType.int) ∈ tw := fz_mem 107 rfl rfl
theorem k_100 : Cond.methodLink "FileStatusLaw" 30 y_FS_act ∈ tw := fz_mem 108 (by decide +kernel) rfl
theorem k_101 : Cond.instanceMethod y_FS_act ∈ tw := fz_mem 109 (by decide +kernel) rfl
theorem k_102 : Cond.selects "FileStatus" y_FS_act y_FS_act ∈ tw := fz_mem 110 (by decide +kernel) rfl
set_option maxRecDepth 20000 in
theorem k_103 : Cond.code y_FS_act b_FS_act 6 (some FieldType.int) ∈ tw := fz_mem 111 rfl rfl
theorem k_104 : Cond.methodLink "FileStatus" 86 y_FS_ahead ∈ tw := fz_mem 112 (by decide +kernel) rfl
theorem k_106 : Cond.instanceMethod y_FS_ahead ∈ tw := fz_mem 114 (by decide +kernel) rfl
set_option maxRecDepth 20000 in
theorem k_107 : Cond.code y_FS_ahead b_FS_ahead 3 (some FieldType.int) ∈ tw := fz_mem 115 rfl rfl
theorem k_108 : Cond.methodLink "FileStatus" 75 y_AC_isFor ∈ tw := fz_mem 116 (by decide +kernel) rfl
theorem k_109 : Cond.instanceMethod y_AC_isFor ∈ tw := fz_mem 117 (by decide +kernel) rfl
theorem k_110 : Cond.selects "FileStatus$Act" y_AC_isFor y_AC_isFor ∈ tw := fz_mem 118 (by decide +kernel) rfl
set_option maxRecDepth 20000 in
theorem k_111 : Cond.code y_AC_isFor b_AC_isFor 2 (some FieldType.boolean) ∈ tw := fz_mem 119 rfl rfl
theorem k_112 : Cond.methodLink "FileStatus" 79 y_AC_isIn ∈ tw := fz_mem 120 (by decide +kernel) rfl
theorem k_113 : Cond.instanceMethod y_AC_isIn ∈ tw := fz_mem 121 (by decide +kernel) rfl
theorem k_114 : Cond.selects "FileStatus$Act" y_AC_isIn y_AC_isIn ∈ tw := fz_mem 122 (by decide +kernel) rfl
set_option maxRecDepth 20000 in
theorem k_115 : Cond.code y_AC_isIn b_AC_isIn 3 (some FieldType.boolean) ∈ tw := fz_mem 123 rfl rfl
theorem k_116 : Cond.methodLink "FileStatus" 89 y_AC_status ∈ tw := fz_mem 124 (by decide +kernel) rfl
theorem k_117 : Cond.instanceMethod y_AC_status ∈ tw := fz_mem 125 (by decide +kernel) rfl
theorem k_118 : Cond.selects "FileStatus$Act" y_AC_status y_AC_status ∈ tw := fz_mem 126 (by decide +kernel) rfl
set_option maxRecDepth 20000 in
theorem k_119 : Cond.code y_AC_status b_AC_status 3 (some FieldType.int) ∈ tw := fz_mem 127 rfl rfl
theorem k_120 : Cond.methodLink "FileStatus" 92 y_FS_position ∈ tw := fz_mem 128 (by decide +kernel) rfl
theorem k_121 : Cond.instanceMethod y_FS_position ∈ tw := fz_mem 129 (by decide +kernel) rfl
theorem k_122 : Cond.selects "FileStatus" y_FS_position y_FS_position ∈ tw := fz_mem 130 (by decide +kernel) rfl
set_option maxRecDepth 20000 in
theorem k_123 : Cond.code y_FS_position b_FS_position 2 (some FieldType.int) ∈ tw := fz_mem 131 rfl rfl
theorem k_124 : Cond.methodLink "FileStatus" 97 y_FS_isStatus ∈ tw := fz_mem 132 (by decide +kernel) rfl
theorem k_125 : Cond.static y_FS_isStatus ∈ tw := fz_mem 133 (by decide +kernel) rfl
set_option maxRecDepth 20000 in
theorem k_126 : Cond.code y_FS_isStatus b_FS_isStatus 1 (some FieldType.boolean) ∈ tw := fz_mem 134 rfl rfl
theorem k_127 : Cond.methodLink "FileStatus" 94 y_FS_area ∈ tw := fz_mem 135 (by decide +kernel) rfl
theorem k_128 : Cond.instanceMethod y_FS_area ∈ tw := fz_mem 136 (by decide +kernel) rfl
theorem k_129 : Cond.selects "FileStatus" y_FS_area y_FS_area ∈ tw := fz_mem 137 (by decide +kernel) rfl
set_option maxRecDepth 20000 in
theorem k_130 : Cond.code y_FS_area b_FS_area 2 (some FieldType.int) ∈ tw := fz_mem 138 rfl rfl
theorem k_131 : Cond.methodLink "FileStatusLaw" 35 y_FS_exception ∈ tw := fz_mem 139 (by decide +kernel) rfl
theorem k_132 : Cond.instanceMethod y_FS_exception ∈ tw := fz_mem 140 (by decide +kernel) rfl
theorem k_133 : Cond.selects "FileStatus" y_FS_exception y_FS_exception ∈ tw := fz_mem 141 (by decide +kernel) rfl
set_option maxRecDepth 20000 in
theorem k_134 : Cond.code y_FS_exception b_FS_exception 3 (some FieldType.int) ∈ tw := fz_mem 142 rfl rfl
theorem k_135 : Cond.methodLink "FileStatusLaw" 39 y_FS_phrase ∈ tw := fz_mem 143 (by decide +kernel) rfl
theorem k_136 : Cond.instanceMethod y_FS_phrase ∈ tw := fz_mem 144 (by decide +kernel) rfl
theorem k_137 : Cond.selects "FileStatus" y_FS_phrase y_FS_phrase ∈ tw := fz_mem 145 (by decide +kernel) rfl
set_option maxRecDepth 20000 in
theorem k_138 : Cond.code y_FS_phrase b_FS_phrase 3 (some FieldType.int) ∈ tw := fz_mem 146 rfl rfl
theorem k_139 : Cond.methodLink "FileStatus" 100 y_FS_exception ∈ tw := fz_mem 147 (by decide +kernel) rfl
theorem k_140 : Cond.methodLink "FileStatusLaw" 44 y_FS_declarative ∈ tw := fz_mem 148 (by decide +kernel) rfl
theorem k_141 : Cond.instanceMethod y_FS_declarative ∈ tw := fz_mem 149 (by decide +kernel) rfl
theorem k_142 : Cond.selects "FileStatus" y_FS_declarative y_FS_declarative ∈ tw := fz_mem 150 (by decide +kernel) rfl
set_option maxRecDepth 20000 in
theorem k_143 : Cond.code y_FS_declarative b_FS_declarative 4 (some FieldType.int) ∈ tw := fz_mem 151 rfl rfl
theorem k_144 : Cond.methodLink "FileStatusLaw" 49 y_FS_position ∈ tw := fz_mem 152 (by decide +kernel) rfl
theorem k_145 : Cond.methodLink "FileStatusLaw" 57 y_FS_both ∈ tw := fz_mem 153 (by decide +kernel) rfl
theorem k_146 : Cond.instanceMethod y_FS_both ∈ tw := fz_mem 154 (by decide +kernel) rfl
theorem k_147 : Cond.selects "FileStatus" y_FS_both y_FS_both ∈ tw := fz_mem 155 (by decide +kernel) rfl
set_option maxRecDepth 20000 in
theorem k_148 : Cond.code y_FS_both b_FS_both 4 (some FieldType.int) ∈ tw := fz_mem 156 rfl rfl
theorem k_149 : Cond.methodLink "FileStatusLaw" 61 y_FS_extended ∈ tw := fz_mem 157 (by decide +kernel) rfl
theorem k_150 : Cond.instanceMethod y_FS_extended ∈ tw := fz_mem 158 (by decide +kernel) rfl
theorem k_151 : Cond.selects "FileStatus" y_FS_extended y_FS_extended ∈ tw := fz_mem 159 (by decide +kernel) rfl
set_option maxRecDepth 20000 in
theorem k_152 : Cond.code y_FS_extended b_FS_extended 2 (some FieldType.int) ∈ tw := fz_mem 160 rfl rfl
theorem k_153 : Cond.methodLink "FileStatusLaw" 65 y_FS_area ∈ tw := fz_mem 161 (by decide +kernel) rfl
theorem k_154 : Cond.methodLink "FileStatusLaw" 69 y_FS_count ∈ tw := fz_mem 162 (by decide +kernel) rfl
theorem k_155 : Cond.instanceMethod y_FS_count ∈ tw := fz_mem 163 (by decide +kernel) rfl
theorem k_156 : Cond.selects "FileStatus" y_FS_count y_FS_count ∈ tw := fz_mem 164 (by decide +kernel) rfl
set_option maxRecDepth 20000 in
theorem k_157 : Cond.code y_FS_count b_FS_count 2 (some FieldType.int) ∈ tw := fz_mem 165 rfl rfl
theorem k_158 : Cond.methodLink "FileStatusLaw" 9 y_LW_cell ∈ tw := fz_mem 166 (by decide +kernel) rfl
theorem k_159 : Cond.static y_LW_cell ∈ tw := fz_mem 167 (by decide +kernel) rfl
set_option maxRecDepth 20000 in
theorem k_160 : Cond.code y_LW_cell b_LW_cell 2 (some FieldType.int) ∈ tw := fz_mem 168 rfl rfl
theorem k_161 : Cond.classLink "FileStatusLaw" 18 "FileStatusModel" ∈ tw := fz_mem 169 (by decide +kernel) rfl
theorem k_162 : Cond.instantiable "FileStatusModel" 13 ∈ tw := fz_mem 170 (by decide +kernel) rfl
theorem k_163 : Cond.methodLink "FileStatusLaw" 20 y_MD_init ∈ tw := fz_mem 171 (by decide +kernel) rfl
theorem k_164 : Cond.instanceMethod y_MD_init ∈ tw := fz_mem 172 (by decide +kernel) rfl
set_option maxRecDepth 20000 in
theorem k_165 : Cond.code y_MD_init b_MD_init 2 none ∈ tw := fz_mem 173 rfl rfl
theorem k_166 : Cond.methodLink "FileStatusModel" 1 objectInit ∈ tw := fz_mem 174 (by decide +kernel) rfl
theorem k_167 : Cond.fieldLink "FileStatusModel" 20 "FileStatusModel" "code" "I" ∈ tw := fz_mem 175 (by decide +kernel) rfl
theorem k_168 : Cond.fieldLink "FileStatusModel" 17 "FileStatusModel" "organisation" "I" ∈ tw := fz_mem 176 (by decide +kernel) rfl
theorem k_169 : Cond.fieldLink "FileStatusModel" 27 "FileStatusModel" "mode" "I" ∈ tw := fz_mem 177 (by decide +kernel) rfl
theorem k_170 : Cond.fieldLink "FileStatusModel" 50 "FileStatusModel" "position" "I" ∈ tw := fz_mem 178 (by decide +kernel) rfl
theorem k_171 : Cond.fieldLink "FileStatusModel" 30 "FileStatusModel" "latest" "I" ∈ tw := fz_mem 179 (by decide +kernel) rfl
theorem k_172 : Cond.fieldLink "FileStatusModel" 7 "FileStatusModel" "act" "I" ∈ tw := fz_mem 180 (by decide +kernel) rfl
theorem k_173 : Cond.fieldLink "FileStatusModel" 33 "FileStatusModel" "good" "I" ∈ tw := fz_mem 181 (by decide +kernel) rfl
theorem k_174 : Cond.fieldLink "FileStatusModel" 36 "FileStatusModel" "bad" "I" ∈ tw := fz_mem 182 (by decide +kernel) rfl
theorem k_175 : Cond.fieldLink "FileStatusModel" 23 "FileStatusModel" "isOpen" "Z" ∈ tw := fz_mem 183 (by decide +kernel) rfl
theorem k_176 : Cond.fieldLink "FileStatusModel" 47 "FileStatusModel" "permit" "Z" ∈ tw := fz_mem 184 (by decide +kernel) rfl
theorem k_177 : Cond.fieldLink "FileStatusModel" 56 "FileStatusModel" "optional" "Z" ∈ tw := fz_mem 185 (by decide +kernel) rfl
theorem k_178 : Cond.fieldLink "FileStatusModel" 53 "FileStatusModel" "nothing" "Z" ∈ tw := fz_mem 186 (by decide +kernel) rfl
theorem k_179 : Cond.fieldLink "FileStatusModel" 13 "FileStatusModel" "declared" "[Z" ∈ tw := fz_mem 187 (by decide +kernel) rfl
theorem k_207 : Cond.methodLink "FileStatusLaw" 25 y_MD_mode ∈ tw := fz_mem 215 (by decide +kernel) rfl
theorem k_208 : Cond.instanceMethod y_MD_mode ∈ tw := fz_mem 216 (by decide +kernel) rfl
theorem k_209 : Cond.selects "FileStatusModel" y_MD_mode y_MD_mode ∈ tw := fz_mem 217 (by decide +kernel) rfl
set_option maxRecDepth 20000 in
theorem k_210 : Cond.code y_MD_mode b_MD_mode 3 (some FieldType.int) ∈ tw := fz_mem 218 rfl rfl
theorem k_211 : Cond.methodLink "FileStatusLaw" 29 y_MD_open ∈ tw := fz_mem 219 (by decide +kernel) rfl
theorem k_212 : Cond.instanceMethod y_MD_open ∈ tw := fz_mem 220 (by decide +kernel) rfl
theorem k_213 : Cond.selects "FileStatusModel" y_MD_open y_MD_open ∈ tw := fz_mem 221 (by decide +kernel) rfl
set_option maxRecDepth 20000 in
theorem k_214 : Cond.code y_MD_open b_MD_open 4 (some FieldType.int) ∈ tw := fz_mem 222 rfl rfl
theorem k_215 : Cond.methodLink "FileStatusModel" 39 y_MD_opened ∈ tw := fz_mem 223 (by decide +kernel) rfl
theorem k_217 : Cond.instanceMethod y_MD_opened ∈ tw := fz_mem 225 (by decide +kernel) rfl
set_option maxRecDepth 20000 in
theorem k_218 : Cond.code y_MD_opened b_MD_opened 2 (some FieldType.int) ∈ tw := fz_mem 226 rfl rfl
theorem k_219 : Cond.methodLink "FileStatusModel" 43 y_MD_told ∈ tw := fz_mem 227 (by decide +kernel) rfl
theorem k_221 : Cond.instanceMethod y_MD_told ∈ tw := fz_mem 229 (by decide +kernel) rfl
set_option maxRecDepth 20000 in
theorem k_222 : Cond.code y_MD_told b_MD_told 3 (some FieldType.int) ∈ tw := fz_mem 230 rfl rfl
theorem k_223 : Cond.methodLink "FileStatusLaw" 34 y_MD_act ∈ tw := fz_mem 231 (by decide +kernel) rfl
theorem k_224 : Cond.instanceMethod y_MD_act ∈ tw := fz_mem 232 (by decide +kernel) rfl
theorem k_225 : Cond.selects "FileStatusModel" y_MD_act y_MD_act ∈ tw := fz_mem 233 (by decide +kernel) rfl
set_option maxRecDepth 20000 in
theorem k_226 : Cond.code y_MD_act b_MD_act 6 (some FieldType.int) ∈ tw := fz_mem 234 rfl rfl
theorem k_227 : Cond.methodLink "FileStatusModel" 63 y_MD_ahead ∈ tw := fz_mem 235 (by decide +kernel) rfl
theorem k_229 : Cond.instanceMethod y_MD_ahead ∈ tw := fz_mem 237 (by decide +kernel) rfl
set_option maxRecDepth 20000 in
theorem k_230 : Cond.code y_MD_ahead b_MD_ahead 2 (some FieldType.int) ∈ tw := fz_mem 238 rfl rfl
theorem k_231 : Cond.methodLink "FileStatusModel" 59 y_MD_reads ∈ tw := fz_mem 239 (by decide +kernel) rfl
theorem k_233 : Cond.instanceMethod y_MD_reads ∈ tw := fz_mem 241 (by decide +kernel) rfl
set_option maxRecDepth 20000 in
theorem k_234 : Cond.code y_MD_reads b_MD_reads 1 (some FieldType.boolean) ∈ tw := fz_mem 242 rfl rfl
theorem k_235 : Cond.methodLink "FileStatusModel" 66 y_MD_byOutcome ∈ tw := fz_mem 243 (by decide +kernel) rfl
theorem k_237 : Cond.instanceMethod y_MD_byOutcome ∈ tw := fz_mem 245 (by decide +kernel) rfl
set_option maxRecDepth 20000 in
theorem k_238 : Cond.code y_MD_byOutcome b_MD_byOutcome 5 (some FieldType.int) ∈ tw := fz_mem 246 rfl rfl
theorem k_239 : Cond.methodLink "FileStatusModel" 69 y_MD_moved ∈ tw := fz_mem 247 (by decide +kernel) rfl
theorem k_240 : Cond.static y_MD_moved ∈ tw := fz_mem 248 (by decide +kernel) rfl
set_option maxRecDepth 20000 in
theorem k_241 : Cond.code y_MD_moved b_MD_moved 1 (some FieldType.int) ∈ tw := fz_mem 249 rfl rfl
theorem k_242 : Cond.methodLink "FileStatusLaw" 38 y_MD_exception ∈ tw := fz_mem 250 (by decide +kernel) rfl
theorem k_243 : Cond.instanceMethod y_MD_exception ∈ tw := fz_mem 251 (by decide +kernel) rfl
theorem k_244 : Cond.selects "FileStatusModel" y_MD_exception y_MD_exception ∈ tw := fz_mem 252 (by decide +kernel) rfl
set_option maxRecDepth 20000 in
theorem k_245 : Cond.code y_MD_exception b_MD_exception 2 (some FieldType.int) ∈ tw := fz_mem 253 rfl rfl
theorem k_246 : Cond.methodLink "FileStatusModel" 72 y_MD_isStatus ∈ tw := fz_mem 254 (by decide +kernel) rfl
theorem k_247 : Cond.static y_MD_isStatus ∈ tw := fz_mem 255 (by decide +kernel) rfl
set_option maxRecDepth 20000 in
theorem k_248 : Cond.code y_MD_isStatus b_MD_isStatus 1 (some FieldType.boolean) ∈ tw := fz_mem 256 rfl rfl
theorem k_249 : Cond.methodLink "FileStatusModel" 76 y_MD_kindOf ∈ tw := fz_mem 257 (by decide +kernel) rfl
theorem k_250 : Cond.static y_MD_kindOf ∈ tw := fz_mem 258 (by decide +kernel) rfl
set_option maxRecDepth 20000 in
theorem k_251 : Cond.code y_MD_kindOf b_MD_kindOf 2 (some FieldType.int) ∈ tw := fz_mem 259 rfl rfl
theorem k_252 : Cond.methodLink "FileStatusLaw" 43 y_MD_phrase ∈ tw := fz_mem 260 (by decide +kernel) rfl
theorem k_253 : Cond.instanceMethod y_MD_phrase ∈ tw := fz_mem 261 (by decide +kernel) rfl
theorem k_254 : Cond.selects "FileStatusModel" y_MD_phrase y_MD_phrase ∈ tw := fz_mem 262 (by decide +kernel) rfl
set_option maxRecDepth 20000 in
theorem k_255 : Cond.code y_MD_phrase b_MD_phrase 3 (some FieldType.int) ∈ tw := fz_mem 263 rfl rfl
theorem k_256 : Cond.methodLink "FileStatusLaw" 48 y_MD_declarative ∈ tw := fz_mem 264 (by decide +kernel) rfl
theorem k_257 : Cond.instanceMethod y_MD_declarative ∈ tw := fz_mem 265 (by decide +kernel) rfl
theorem k_258 : Cond.selects "FileStatusModel" y_MD_declarative y_MD_declarative ∈ tw := fz_mem 266 (by decide +kernel) rfl
set_option maxRecDepth 20000 in
theorem k_259 : Cond.code y_MD_declarative b_MD_declarative 4 (some FieldType.int) ∈ tw := fz_mem 267 rfl rfl
theorem k_260 : Cond.methodLink "FileStatusLaw" 52 y_MD_position ∈ tw := fz_mem 268 (by decide +kernel) rfl
theorem k_261 : Cond.instanceMethod y_MD_position ∈ tw := fz_mem 269 (by decide +kernel) rfl
theorem k_262 : Cond.selects "FileStatusModel" y_MD_position y_MD_position ∈ tw := fz_mem 270 (by decide +kernel) rfl
set_option maxRecDepth 20000 in
theorem k_263 : Cond.code y_MD_position b_MD_position 2 (some FieldType.int) ∈ tw := fz_mem 271 rfl rfl
theorem k_264 : Cond.methodLink "FileStatusLaw" 56 y_MD_optional ∈ tw := fz_mem 272 (by decide +kernel) rfl
theorem k_265 : Cond.instanceMethod y_MD_optional ∈ tw := fz_mem 273 (by decide +kernel) rfl
theorem k_266 : Cond.selects "FileStatusModel" y_MD_optional y_MD_optional ∈ tw := fz_mem 274 (by decide +kernel) rfl
set_option maxRecDepth 20000 in
theorem k_267 : Cond.code y_MD_optional b_MD_optional 3 (some FieldType.int) ∈ tw := fz_mem 275 rfl rfl
theorem k_268 : Cond.methodLink "FileStatusLaw" 60 y_MD_both ∈ tw := fz_mem 276 (by decide +kernel) rfl
theorem k_269 : Cond.instanceMethod y_MD_both ∈ tw := fz_mem 277 (by decide +kernel) rfl
theorem k_270 : Cond.selects "FileStatusModel" y_MD_both y_MD_both ∈ tw := fz_mem 278 (by decide +kernel) rfl
set_option maxRecDepth 20000 in
theorem k_271 : Cond.code y_MD_both b_MD_both 3 (some FieldType.int) ∈ tw := fz_mem 279 rfl rfl
theorem k_272 : Cond.methodLink "FileStatusLaw" 64 y_MD_extended ∈ tw := fz_mem 280 (by decide +kernel) rfl
theorem k_273 : Cond.instanceMethod y_MD_extended ∈ tw := fz_mem 281 (by decide +kernel) rfl
theorem k_274 : Cond.selects "FileStatusModel" y_MD_extended y_MD_extended ∈ tw := fz_mem 282 (by decide +kernel) rfl
set_option maxRecDepth 20000 in
theorem k_275 : Cond.code y_MD_extended b_MD_extended 2 (some FieldType.int) ∈ tw := fz_mem 283 rfl rfl
theorem k_276 : Cond.methodLink "FileStatusLaw" 68 y_MD_area ∈ tw := fz_mem 284 (by decide +kernel) rfl
theorem k_277 : Cond.instanceMethod y_MD_area ∈ tw := fz_mem 285 (by decide +kernel) rfl
theorem k_278 : Cond.selects "FileStatusModel" y_MD_area y_MD_area ∈ tw := fz_mem 286 (by decide +kernel) rfl
set_option maxRecDepth 20000 in
theorem k_279 : Cond.code y_MD_area b_MD_area 2 (some FieldType.int) ∈ tw := fz_mem 287 rfl rfl
theorem k_280 : Cond.methodLink "FileStatusLaw" 72 y_MD_count ∈ tw := fz_mem 288 (by decide +kernel) rfl
theorem k_281 : Cond.instanceMethod y_MD_count ∈ tw := fz_mem 289 (by decide +kernel) rfl
theorem k_282 : Cond.selects "FileStatusModel" y_MD_count y_MD_count ∈ tw := fz_mem 290 (by decide +kernel) rfl
set_option maxRecDepth 20000 in
theorem k_283 : Cond.code y_MD_count b_MD_count 2 (some FieldType.int) ∈ tw := fz_mem 291 rfl rfl
theorem s_0 : Cond.selects "FileStatus" y_FS_opening y_FS_opening ∈ tw := fz_mem 0 (by decide +kernel) rfl
theorem s_1 : Cond.selects "FileStatus" y_FS_told y_FS_told ∈ tw := fz_mem 1 (by decide +kernel) rfl
theorem s_2 : Cond.selects "FileStatus" y_FS_ahead y_FS_ahead ∈ tw := fz_mem 2 (by decide +kernel) rfl
theorem s_3 : Cond.selects "FileStatusModel" y_MD_opened y_MD_opened ∈ tw := fz_mem 3 (by decide +kernel) rfl
theorem s_4 : Cond.selects "FileStatusModel" y_MD_told y_MD_told ∈ tw := fz_mem 4 (by decide +kernel) rfl
theorem s_5 : Cond.selects "FileStatusModel" y_MD_ahead y_MD_ahead ∈ tw := fz_mem 5 (by decide +kernel) rfl
theorem s_6 : Cond.selects "FileStatusModel" y_MD_reads y_MD_reads ∈ tw := fz_mem 6 (by decide +kernel) rfl
theorem s_7 : Cond.selects "FileStatusModel" y_MD_byOutcome y_MD_byOutcome ∈ tw := fz_mem 7 (by decide +kernel) rfl
theorem i_FS : ∀ w ∈ u_ws "FileStatus" F_FS 13, w ∈ tw := by decide +kernel
theorem i_AC : ∀ w ∈ u_ws "FileStatus$Act" F_AC 3, w ∈ tw := by decide +kernel
theorem i_MD : ∀ w ∈ u_ws "FileStatusModel" F_MD 13, w ∈ tw := by decide +kernel
end
section
theorem fz_bz {x : Int32} (h : x = 0 ∨ x = 1) : narrow .boolean (.int x) = .int x ∧ fits .boolean (.int x) = true ∧ vp_nar .boolean x = x := by
  rcases h with rfl | rfl <;> exact ⟨rfl, rfl, rfl⟩
section FLD
variable {p : Program} {l : Launch} {e : Env} {R : Room} {s : State} {m : MethodId} {args : Array Value} {below : List Frame} {meth : Method} {c : Code} {H : Heap} {locs : List Loc} {cells slots : Nat} {Q : State → Prop}
variable {cc : ByteArray} {pc : Nat} {ls : Array Slot} {rest st0 : List Value} {dC : Nat → ClassId} {dI : Nat → Nat → Nat} {cI cZ cC cS : ClassId} {A : Nat → Prop} {ws ws' : va_W} {H0 : Heap}
theorem gt_AC_modes {a : Nat} {fs : List Value} {v : Value} (hx : p.tables.exec = Jvm.exec) (hb : c.code = cc) (hts : ∀ w ∈ tw, w.before args s = true) (hown : s.vm.findClass "FileStatus$Act" = some m.cls) (hK : kK dC dI cI cZ cC cS s) (hP : va_P (dC, dI) classes ws H) (q0 : Nat) (he : ws[q0]? = some (a, .inr (1, fs))) (hv : fs[0]? = some v) (hdg : decode cc pc = .ok (.getfield 9, 3)) (kk : W p l e R s m args below meth c H locs cells slots Q (F0 m (pc + 3) ls (v :: rest))) : W p l e R s m args below meth c H locs cells slots Q (F0 m pc ls (.ref a :: rest)) :=
  va_get (C := "FileStatus$Act") (T := F_AC) (N := 3) (ci := 1) hx hb hts i_AC hown hK.1 hP q0 he rfl 0 (by decide) (hts _ k_24) (fun _ h => h) hv hdg kk
theorem pt_AC_modes {a : Nat} {fs : List Value} {v : Nat} (hx : p.tables.exec = Jvm.exec) (hb : c.code = cc) (hts : ∀ w ∈ tw, w.before args s = true) (hown : s.vm.findClass "FileStatus$Act" = some m.cls) (hK : kK dC dI cI cZ cC cS s) (hP : va_P (dC, dI) classes ws H) (hD : va_D A ws) (hS : va_S A H0 H locs) (hin : meth.name = "<init>") (q0 : Nat) (he : ws[q0]? = some (a, .inr (1, fs))) (hl : 0 < fs.length) (hw : ws.set q0 (a, .inr (1, fs.set 0 (.ref v))) = ws') (hdg : decode cc pc = .ok (.putfield 9, 3)) (kk : ∀ (H1 : Heap) (locs1 : List Loc), va_P (dC, dI) classes ws' H1 → va_D A ws' → va_S A H0 H1 locs1 → W p l e R s m args below meth c H1 locs1 cells slots Q (F0 m (pc + 3) ls rest)) : W p l e R s m args below meth c H locs cells slots Q (F0 m pc ls (.ref v :: .ref a :: rest)) := by
  subst hw
  exact va_putF (C := "FileStatus$Act") (T := F_AC) (N := 3) (ci := 1) (ty := .array .int) hx hb hts i_AC t_AC t_AC_ok n_AC hown hK.1 hP hD hS q0 he rfl 0 (by decide) (hts _ k_24) (fun _ h => h) rfl hin rfl (t_AC_ok 0 (by decide)) rfl rfl hl hdg kk
theorem gt_AC_barred {a : Nat} {fs : List Value} {v : Value} (hx : p.tables.exec = Jvm.exec) (hb : c.code = cc) (hts : ∀ w ∈ tw, w.before args s = true) (hown : s.vm.findClass "FileStatus$Act" = some m.cls) (hK : kK dC dI cI cZ cC cS s) (hP : va_P (dC, dI) classes ws H) (q0 : Nat) (he : ws[q0]? = some (a, .inr (1, fs))) (hv : fs[1]? = some v) (hdg : decode cc pc = .ok (.getfield 15, 3)) (kk : W p l e R s m args below meth c H locs cells slots Q (F0 m (pc + 3) ls (v :: rest))) : W p l e R s m args below meth c H locs cells slots Q (F0 m pc ls (.ref a :: rest)) :=
  va_get (C := "FileStatus$Act") (T := F_AC) (N := 3) (ci := 1) hx hb hts i_AC hown hK.1 hP q0 he rfl 1 (by decide) (hts _ k_25) (fun _ h => h) hv hdg kk
theorem pt_AC_barred {a : Nat} {fs : List Value} {v : Int32} (hx : p.tables.exec = Jvm.exec) (hb : c.code = cc) (hts : ∀ w ∈ tw, w.before args s = true) (hown : s.vm.findClass "FileStatus$Act" = some m.cls) (hK : kK dC dI cI cZ cC cS s) (hP : va_P (dC, dI) classes ws H) (hD : va_D A ws) (hS : va_S A H0 H locs) (hin : meth.name = "<init>") (q0 : Nat) (he : ws[q0]? = some (a, .inr (1, fs))) (hl : 1 < fs.length) (hw : ws.set q0 (a, .inr (1, fs.set 1 (.int v))) = ws') (hdg : decode cc pc = .ok (.putfield 15, 3)) (kk : ∀ (H1 : Heap) (locs1 : List Loc), va_P (dC, dI) classes ws' H1 → va_D A ws' → va_S A H0 H1 locs1 → W p l e R s m args below meth c H1 locs1 cells slots Q (F0 m (pc + 3) ls rest)) : W p l e R s m args below meth c H locs cells slots Q (F0 m pc ls (.int v :: .ref a :: rest)) := by
  subst hw
  exact va_putF (C := "FileStatus$Act") (T := F_AC) (N := 3) (ci := 1) (ty := .int) hx hb hts i_AC t_AC t_AC_ok n_AC hown hK.1 hP hD hS q0 he rfl 1 (by decide) (hts _ k_25) (fun _ h => h) rfl hin rfl (t_AC_ok 1 (by decide)) rfl rfl hl hdg kk
theorem gt_AC_barred_N {a : Nat} {fs : List Value} {v : Value} (hx : p.tables.exec = Jvm.exec) (hb : c.code = cc) (hts : ∀ w ∈ tw, w.before args s = true) (hown : s.vm.findClass "FileStatus" = some m.cls) (hK : kK dC dI cI cZ cC cS s) (hP : va_P (dC, dI) classes ws H) (q0 : Nat) (he : ws[q0]? = some (a, .inr (1, fs))) (hv : fs[1]? = some v) (hdg : decode cc pc = .ok (.getfield 83, 3)) (kk : W p l e R s m args below meth c H locs cells slots Q (F0 m (pc + 3) ls (v :: rest))) : W p l e R s m args below meth c H locs cells slots Q (F0 m pc ls (.ref a :: rest)) :=
  va_getN (C := "FileStatus$Act") (T := F_AC) (N := 3) (ci := 1) hx hb hts i_AC hown hK.1 hP q0 he rfl 1 (by decide) (va_Nw.use rfl hK.2.2.2.2) (fun _ h => h) hv hdg kk
theorem gt_AC_statuses {a : Nat} {fs : List Value} {v : Value} (hx : p.tables.exec = Jvm.exec) (hb : c.code = cc) (hts : ∀ w ∈ tw, w.before args s = true) (hown : s.vm.findClass "FileStatus$Act" = some m.cls) (hK : kK dC dI cI cZ cC cS s) (hP : va_P (dC, dI) classes ws H) (q0 : Nat) (he : ws[q0]? = some (a, .inr (1, fs))) (hv : fs[2]? = some v) (hdg : decode cc pc = .ok (.getfield 19, 3)) (kk : W p l e R s m args below meth c H locs cells slots Q (F0 m (pc + 3) ls (v :: rest))) : W p l e R s m args below meth c H locs cells slots Q (F0 m pc ls (.ref a :: rest)) :=
  va_get (C := "FileStatus$Act") (T := F_AC) (N := 3) (ci := 1) hx hb hts i_AC hown hK.1 hP q0 he rfl 2 (by decide) (hts _ k_27) (fun _ h => h) hv hdg kk
theorem pt_AC_statuses {a : Nat} {fs : List Value} {v : Nat} (hx : p.tables.exec = Jvm.exec) (hb : c.code = cc) (hts : ∀ w ∈ tw, w.before args s = true) (hown : s.vm.findClass "FileStatus$Act" = some m.cls) (hK : kK dC dI cI cZ cC cS s) (hP : va_P (dC, dI) classes ws H) (hD : va_D A ws) (hS : va_S A H0 H locs) (hin : meth.name = "<init>") (q0 : Nat) (he : ws[q0]? = some (a, .inr (1, fs))) (hl : 2 < fs.length) (hw : ws.set q0 (a, .inr (1, fs.set 2 (.ref v))) = ws') (hdg : decode cc pc = .ok (.putfield 19, 3)) (kk : ∀ (H1 : Heap) (locs1 : List Loc), va_P (dC, dI) classes ws' H1 → va_D A ws' → va_S A H0 H1 locs1 → W p l e R s m args below meth c H1 locs1 cells slots Q (F0 m (pc + 3) ls rest)) : W p l e R s m args below meth c H locs cells slots Q (F0 m pc ls (.ref v :: .ref a :: rest)) := by
  subst hw
  exact va_putF (C := "FileStatus$Act") (T := F_AC) (N := 3) (ci := 1) (ty := .array (.array .int)) hx hb hts i_AC t_AC t_AC_ok n_AC hown hK.1 hP hD hS q0 he rfl 2 (by decide) (hts _ k_27) (fun _ h => h) rfl hin rfl (t_AC_ok 2 (by decide)) rfl rfl hl hdg kk
theorem gt_FS_acts {a : Nat} {fs : List Value} {v : Value} (hx : p.tables.exec = Jvm.exec) (hb : c.code = cc) (hts : ∀ w ∈ tw, w.before args s = true) (hown : s.vm.findClass "FileStatus" = some m.cls) (hK : kK dC dI cI cZ cC cS s) (hP : va_P (dC, dI) classes ws H) (q0 : Nat) (he : ws[q0]? = some (a, .inr (0, fs))) (hv : fs[0]? = some v) (hdg : decode cc pc = .ok (.getfield 24, 3)) (kk : W p l e R s m args below meth c H locs cells slots Q (F0 m (pc + 3) ls (v :: rest))) : W p l e R s m args below meth c H locs cells slots Q (F0 m pc ls (.ref a :: rest)) :=
  va_get (C := "FileStatus") (T := F_FS) (N := 13) (ci := 0) hx hb hts i_FS hown hK.1 hP q0 he rfl 0 (by decide) (hts _ k_39) (fun _ h => h) hv hdg kk
theorem pt_FS_acts {a : Nat} {fs : List Value} {v : Nat} (hx : p.tables.exec = Jvm.exec) (hb : c.code = cc) (hts : ∀ w ∈ tw, w.before args s = true) (hown : s.vm.findClass "FileStatus" = some m.cls) (hK : kK dC dI cI cZ cC cS s) (hP : va_P (dC, dI) classes ws H) (hD : va_D A ws) (hS : va_S A H0 H locs) (hin : meth.name = "<init>") (q0 : Nat) (he : ws[q0]? = some (a, .inr (0, fs))) (hl : 0 < fs.length) (hw : ws.set q0 (a, .inr (0, fs.set 0 (.ref v))) = ws') (hdg : decode cc pc = .ok (.putfield 24, 3)) (kk : ∀ (H1 : Heap) (locs1 : List Loc), va_P (dC, dI) classes ws' H1 → va_D A ws' → va_S A H0 H1 locs1 → W p l e R s m args below meth c H1 locs1 cells slots Q (F0 m (pc + 3) ls rest)) : W p l e R s m args below meth c H locs cells slots Q (F0 m pc ls (.ref v :: .ref a :: rest)) := by
  subst hw
  exact va_putF (C := "FileStatus") (T := F_FS) (N := 13) (ci := 0) (ty := .array (.object "FileStatus$Act")) hx hb hts i_FS t_FS t_FS_ok n_FS hown hK.1 hP hD hS q0 he rfl 0 (by decide) (hts _ k_39) (fun _ h => h) rfl hin rfl (t_FS_ok 0 (by decide)) rfl rfl hl hdg kk
theorem gt_FS_organisation {a : Nat} {fs : List Value} {v : Value} (hx : p.tables.exec = Jvm.exec) (hb : c.code = cc) (hts : ∀ w ∈ tw, w.before args s = true) (hown : s.vm.findClass "FileStatus" = some m.cls) (hK : kK dC dI cI cZ cC cS s) (hP : va_P (dC, dI) classes ws H) (q0 : Nat) (he : ws[q0]? = some (a, .inr (0, fs))) (hv : fs[1]? = some v) (hdg : decode cc pc = .ok (.getfield 39, 3)) (kk : W p l e R s m args below meth c H locs cells slots Q (F0 m (pc + 3) ls (v :: rest))) : W p l e R s m args below meth c H locs cells slots Q (F0 m pc ls (.ref a :: rest)) :=
  va_get (C := "FileStatus") (T := F_FS) (N := 13) (ci := 0) hx hb hts i_FS hown hK.1 hP q0 he rfl 1 (by decide) (hts _ k_40) (fun _ h => h) hv hdg kk
theorem pt_FS_organisation {a : Nat} {fs : List Value} {v : Int32} (hx : p.tables.exec = Jvm.exec) (hb : c.code = cc) (hts : ∀ w ∈ tw, w.before args s = true) (hown : s.vm.findClass "FileStatus" = some m.cls) (hK : kK dC dI cI cZ cC cS s) (hP : va_P (dC, dI) classes ws H) (hD : va_D A ws) (hS : va_S A H0 H locs) (hin : meth.name = "<init>") (q0 : Nat) (he : ws[q0]? = some (a, .inr (0, fs))) (hl : 1 < fs.length) (hw : ws.set q0 (a, .inr (0, fs.set 1 (.int v))) = ws') (hdg : decode cc pc = .ok (.putfield 39, 3)) (kk : ∀ (H1 : Heap) (locs1 : List Loc), va_P (dC, dI) classes ws' H1 → va_D A ws' → va_S A H0 H1 locs1 → W p l e R s m args below meth c H1 locs1 cells slots Q (F0 m (pc + 3) ls rest)) : W p l e R s m args below meth c H locs cells slots Q (F0 m pc ls (.int v :: .ref a :: rest)) := by
  subst hw
  exact va_putF (C := "FileStatus") (T := F_FS) (N := 13) (ci := 0) (ty := .int) hx hb hts i_FS t_FS t_FS_ok n_FS hown hK.1 hP hD hS q0 he rfl 1 (by decide) (hts _ k_40) (fun _ h => h) rfl hin rfl (t_FS_ok 1 (by decide)) rfl rfl hl hdg kk
theorem gt_FS_mode {a : Nat} {fs : List Value} {v : Value} (hx : p.tables.exec = Jvm.exec) (hb : c.code = cc) (hts : ∀ w ∈ tw, w.before args s = true) (hown : s.vm.findClass "FileStatus" = some m.cls) (hK : kK dC dI cI cZ cC cS s) (hP : va_P (dC, dI) classes ws H) (q0 : Nat) (he : ws[q0]? = some (a, .inr (0, fs))) (hv : fs[2]? = some v) (hdg : decode cc pc = .ok (.getfield 28, 3)) (kk : W p l e R s m args below meth c H locs cells slots Q (F0 m (pc + 3) ls (v :: rest))) : W p l e R s m args below meth c H locs cells slots Q (F0 m pc ls (.ref a :: rest)) :=
  va_get (C := "FileStatus") (T := F_FS) (N := 13) (ci := 0) hx hb hts i_FS hown hK.1 hP q0 he rfl 2 (by decide) (hts _ k_41) (fun _ h => h) hv hdg kk
theorem pt_FS_mode {a : Nat} {fs : List Value} {v : Int32} (hx : p.tables.exec = Jvm.exec) (hb : c.code = cc) (hts : ∀ w ∈ tw, w.before args s = true) (hown : s.vm.findClass "FileStatus" = some m.cls) (hK : kK dC dI cI cZ cC cS s) (hP : va_P (dC, dI) classes ws H) (hD : va_D A ws) (hS : va_S A H0 H locs) (q0 : Nat) (he : ws[q0]? = some (a, .inr (0, fs))) (hl : 2 < fs.length) (hw : ws.set q0 (a, .inr (0, fs.set 2 (.int v))) = ws') (hdg : decode cc pc = .ok (.putfield 28, 3)) (kk : ∀ (H1 : Heap) (locs1 : List Loc), va_P (dC, dI) classes ws' H1 → va_D A ws' → va_S A H0 H1 locs1 → W p l e R s m args below meth c H1 locs1 cells slots Q (F0 m (pc + 3) ls rest)) : W p l e R s m args below meth c H locs cells slots Q (F0 m pc ls (.int v :: .ref a :: rest)) := by
  subst hw
  exact va_put (C := "FileStatus") (T := F_FS) (N := 13) (ci := 0) (ty := .int) hx hb hts i_FS t_FS t_FS_ok n_FS hown hK.1 hP hD hS q0 he rfl 2 (by decide) (hts _ k_41) (fun _ h => h) rfl (t_FS_ok 2 (by decide)) rfl rfl hl hdg kk
theorem gt_FS_next {a : Nat} {fs : List Value} {v : Value} (hx : p.tables.exec = Jvm.exec) (hb : c.code = cc) (hts : ∀ w ∈ tw, w.before args s = true) (hown : s.vm.findClass "FileStatus" = some m.cls) (hK : kK dC dI cI cZ cC cS s) (hP : va_P (dC, dI) classes ws H) (q0 : Nat) (he : ws[q0]? = some (a, .inr (0, fs))) (hv : fs[3]? = some v) (hdg : decode cc pc = .ok (.getfield 42, 3)) (kk : W p l e R s m args below meth c H locs cells slots Q (F0 m (pc + 3) ls (v :: rest))) : W p l e R s m args below meth c H locs cells slots Q (F0 m pc ls (.ref a :: rest)) :=
  va_get (C := "FileStatus") (T := F_FS) (N := 13) (ci := 0) hx hb hts i_FS hown hK.1 hP q0 he rfl 3 (by decide) (hts _ k_42) (fun _ h => h) hv hdg kk
theorem pt_FS_next {a : Nat} {fs : List Value} {v : Int32} (hx : p.tables.exec = Jvm.exec) (hb : c.code = cc) (hts : ∀ w ∈ tw, w.before args s = true) (hown : s.vm.findClass "FileStatus" = some m.cls) (hK : kK dC dI cI cZ cC cS s) (hP : va_P (dC, dI) classes ws H) (hD : va_D A ws) (hS : va_S A H0 H locs) (q0 : Nat) (he : ws[q0]? = some (a, .inr (0, fs))) (hl : 3 < fs.length) (hw : ws.set q0 (a, .inr (0, fs.set 3 (.int v))) = ws') (hdg : decode cc pc = .ok (.putfield 42, 3)) (kk : ∀ (H1 : Heap) (locs1 : List Loc), va_P (dC, dI) classes ws' H1 → va_D A ws' → va_S A H0 H1 locs1 → W p l e R s m args below meth c H1 locs1 cells slots Q (F0 m (pc + 3) ls rest)) : W p l e R s m args below meth c H locs cells slots Q (F0 m pc ls (.int v :: .ref a :: rest)) := by
  subst hw
  exact va_put (C := "FileStatus") (T := F_FS) (N := 13) (ci := 0) (ty := .int) hx hb hts i_FS t_FS t_FS_ok n_FS hown hK.1 hP hD hS q0 he rfl 3 (by decide) (hts _ k_42) (fun _ h => h) rfl (t_FS_ok 3 (by decide)) rfl rfl hl hdg kk
theorem gt_FS_position {a : Nat} {fs : List Value} {v : Value} (hx : p.tables.exec = Jvm.exec) (hb : c.code = cc) (hts : ∀ w ∈ tw, w.before args s = true) (hown : s.vm.findClass "FileStatus" = some m.cls) (hK : kK dC dI cI cZ cC cS s) (hP : va_P (dC, dI) classes ws H) (q0 : Nat) (he : ws[q0]? = some (a, .inr (0, fs))) (hv : fs[4]? = some v) (hdg : decode cc pc = .ok (.getfield 65, 3)) (kk : W p l e R s m args below meth c H locs cells slots Q (F0 m (pc + 3) ls (v :: rest))) : W p l e R s m args below meth c H locs cells slots Q (F0 m pc ls (.ref a :: rest)) :=
  va_get (C := "FileStatus") (T := F_FS) (N := 13) (ci := 0) hx hb hts i_FS hown hK.1 hP q0 he rfl 4 (by decide) (hts _ k_43) (fun _ h => h) hv hdg kk
theorem pt_FS_position {a : Nat} {fs : List Value} {v : Int32} (hx : p.tables.exec = Jvm.exec) (hb : c.code = cc) (hts : ∀ w ∈ tw, w.before args s = true) (hown : s.vm.findClass "FileStatus" = some m.cls) (hK : kK dC dI cI cZ cC cS s) (hP : va_P (dC, dI) classes ws H) (hD : va_D A ws) (hS : va_S A H0 H locs) (q0 : Nat) (he : ws[q0]? = some (a, .inr (0, fs))) (hl : 4 < fs.length) (hw : ws.set q0 (a, .inr (0, fs.set 4 (.int v))) = ws') (hdg : decode cc pc = .ok (.putfield 65, 3)) (kk : ∀ (H1 : Heap) (locs1 : List Loc), va_P (dC, dI) classes ws' H1 → va_D A ws' → va_S A H0 H1 locs1 → W p l e R s m args below meth c H1 locs1 cells slots Q (F0 m (pc + 3) ls rest)) : W p l e R s m args below meth c H locs cells slots Q (F0 m pc ls (.int v :: .ref a :: rest)) := by
  subst hw
  exact va_put (C := "FileStatus") (T := F_FS) (N := 13) (ci := 0) (ty := .int) hx hb hts i_FS t_FS t_FS_ok n_FS hown hK.1 hP hD hS q0 he rfl 4 (by decide) (hts _ k_43) (fun _ h => h) rfl (t_FS_ok 4 (by decide)) rfl rfl hl hdg kk
theorem gt_FS_latest {a : Nat} {fs : List Value} {v : Value} (hx : p.tables.exec = Jvm.exec) (hb : c.code = cc) (hts : ∀ w ∈ tw, w.before args s = true) (hown : s.vm.findClass "FileStatus" = some m.cls) (hK : kK dC dI cI cZ cC cS s) (hP : va_P (dC, dI) classes ws H) (q0 : Nat) (he : ws[q0]? = some (a, .inr (0, fs))) (hv : fs[5]? = some v) (hdg : decode cc pc = .ok (.getfield 49, 3)) (kk : W p l e R s m args below meth c H locs cells slots Q (F0 m (pc + 3) ls (v :: rest))) : W p l e R s m args below meth c H locs cells slots Q (F0 m pc ls (.ref a :: rest)) :=
  va_get (C := "FileStatus") (T := F_FS) (N := 13) (ci := 0) hx hb hts i_FS hown hK.1 hP q0 he rfl 5 (by decide) (hts _ k_44) (fun _ h => h) hv hdg kk
theorem pt_FS_latest {a : Nat} {fs : List Value} {v : Int32} (hx : p.tables.exec = Jvm.exec) (hb : c.code = cc) (hts : ∀ w ∈ tw, w.before args s = true) (hown : s.vm.findClass "FileStatus" = some m.cls) (hK : kK dC dI cI cZ cC cS s) (hP : va_P (dC, dI) classes ws H) (hD : va_D A ws) (hS : va_S A H0 H locs) (q0 : Nat) (he : ws[q0]? = some (a, .inr (0, fs))) (hl : 5 < fs.length) (hw : ws.set q0 (a, .inr (0, fs.set 5 (.int v))) = ws') (hdg : decode cc pc = .ok (.putfield 49, 3)) (kk : ∀ (H1 : Heap) (locs1 : List Loc), va_P (dC, dI) classes ws' H1 → va_D A ws' → va_S A H0 H1 locs1 → W p l e R s m args below meth c H1 locs1 cells slots Q (F0 m (pc + 3) ls rest)) : W p l e R s m args below meth c H locs cells slots Q (F0 m pc ls (.int v :: .ref a :: rest)) := by
  subst hw
  exact va_put (C := "FileStatus") (T := F_FS) (N := 13) (ci := 0) (ty := .int) hx hb hts i_FS t_FS t_FS_ok n_FS hown hK.1 hP hD hS q0 he rfl 5 (by decide) (hts _ k_44) (fun _ h => h) rfl (t_FS_ok 5 (by decide)) rfl rfl hl hdg kk
theorem gt_FS_act {a : Nat} {fs : List Value} {v : Value} (hx : p.tables.exec = Jvm.exec) (hb : c.code = cc) (hts : ∀ w ∈ tw, w.before args s = true) (hown : s.vm.findClass "FileStatus" = some m.cls) (hK : kK dC dI cI cZ cC cS s) (hP : va_P (dC, dI) classes ws H) (q0 : Nat) (he : ws[q0]? = some (a, .inr (0, fs))) (hv : fs[6]? = some v) (hdg : decode cc pc = .ok (.getfield 32, 3)) (kk : W p l e R s m args below meth c H locs cells slots Q (F0 m (pc + 3) ls (v :: rest))) : W p l e R s m args below meth c H locs cells slots Q (F0 m pc ls (.ref a :: rest)) :=
  va_get (C := "FileStatus") (T := F_FS) (N := 13) (ci := 0) hx hb hts i_FS hown hK.1 hP q0 he rfl 6 (by decide) (hts _ k_45) (fun _ h => h) hv hdg kk
theorem pt_FS_act {a : Nat} {fs : List Value} {v : Int32} (hx : p.tables.exec = Jvm.exec) (hb : c.code = cc) (hts : ∀ w ∈ tw, w.before args s = true) (hown : s.vm.findClass "FileStatus" = some m.cls) (hK : kK dC dI cI cZ cC cS s) (hP : va_P (dC, dI) classes ws H) (hD : va_D A ws) (hS : va_S A H0 H locs) (q0 : Nat) (he : ws[q0]? = some (a, .inr (0, fs))) (hl : 6 < fs.length) (hw : ws.set q0 (a, .inr (0, fs.set 6 (.int v))) = ws') (hdg : decode cc pc = .ok (.putfield 32, 3)) (kk : ∀ (H1 : Heap) (locs1 : List Loc), va_P (dC, dI) classes ws' H1 → va_D A ws' → va_S A H0 H1 locs1 → W p l e R s m args below meth c H1 locs1 cells slots Q (F0 m (pc + 3) ls rest)) : W p l e R s m args below meth c H locs cells slots Q (F0 m pc ls (.int v :: .ref a :: rest)) := by
  subst hw
  exact va_put (C := "FileStatus") (T := F_FS) (N := 13) (ci := 0) (ty := .int) hx hb hts i_FS t_FS t_FS_ok n_FS hown hK.1 hP hD hS q0 he rfl 6 (by decide) (hts _ k_45) (fun _ h => h) rfl (t_FS_ok 6 (by decide)) rfl rfl hl hdg kk
theorem gt_FS_good {a : Nat} {fs : List Value} {v : Value} (hx : p.tables.exec = Jvm.exec) (hb : c.code = cc) (hts : ∀ w ∈ tw, w.before args s = true) (hown : s.vm.findClass "FileStatus" = some m.cls) (hK : kK dC dI cI cZ cC cS s) (hP : va_P (dC, dI) classes ws H) (q0 : Nat) (he : ws[q0]? = some (a, .inr (0, fs))) (hv : fs[7]? = some v) (hdg : decode cc pc = .ok (.getfield 55, 3)) (kk : W p l e R s m args below meth c H locs cells slots Q (F0 m (pc + 3) ls (v :: rest))) : W p l e R s m args below meth c H locs cells slots Q (F0 m pc ls (.ref a :: rest)) :=
  va_get (C := "FileStatus") (T := F_FS) (N := 13) (ci := 0) hx hb hts i_FS hown hK.1 hP q0 he rfl 7 (by decide) (hts _ k_46) (fun _ h => h) hv hdg kk
theorem pt_FS_good {a : Nat} {fs : List Value} {v : Int32} (hx : p.tables.exec = Jvm.exec) (hb : c.code = cc) (hts : ∀ w ∈ tw, w.before args s = true) (hown : s.vm.findClass "FileStatus" = some m.cls) (hK : kK dC dI cI cZ cC cS s) (hP : va_P (dC, dI) classes ws H) (hD : va_D A ws) (hS : va_S A H0 H locs) (q0 : Nat) (he : ws[q0]? = some (a, .inr (0, fs))) (hl : 7 < fs.length) (hw : ws.set q0 (a, .inr (0, fs.set 7 (.int v))) = ws') (hdg : decode cc pc = .ok (.putfield 55, 3)) (kk : ∀ (H1 : Heap) (locs1 : List Loc), va_P (dC, dI) classes ws' H1 → va_D A ws' → va_S A H0 H1 locs1 → W p l e R s m args below meth c H1 locs1 cells slots Q (F0 m (pc + 3) ls rest)) : W p l e R s m args below meth c H locs cells slots Q (F0 m pc ls (.int v :: .ref a :: rest)) := by
  subst hw
  exact va_put (C := "FileStatus") (T := F_FS) (N := 13) (ci := 0) (ty := .int) hx hb hts i_FS t_FS t_FS_ok n_FS hown hK.1 hP hD hS q0 he rfl 7 (by decide) (hts _ k_46) (fun _ h => h) rfl (t_FS_ok 7 (by decide)) rfl rfl hl hdg kk
theorem gt_FS_bad {a : Nat} {fs : List Value} {v : Value} (hx : p.tables.exec = Jvm.exec) (hb : c.code = cc) (hts : ∀ w ∈ tw, w.before args s = true) (hown : s.vm.findClass "FileStatus" = some m.cls) (hK : kK dC dI cI cZ cC cS s) (hP : va_P (dC, dI) classes ws H) (q0 : Nat) (he : ws[q0]? = some (a, .inr (0, fs))) (hv : fs[8]? = some v) (hdg : decode cc pc = .ok (.getfield 52, 3)) (kk : W p l e R s m args below meth c H locs cells slots Q (F0 m (pc + 3) ls (v :: rest))) : W p l e R s m args below meth c H locs cells slots Q (F0 m pc ls (.ref a :: rest)) :=
  va_get (C := "FileStatus") (T := F_FS) (N := 13) (ci := 0) hx hb hts i_FS hown hK.1 hP q0 he rfl 8 (by decide) (hts _ k_47) (fun _ h => h) hv hdg kk
theorem pt_FS_bad {a : Nat} {fs : List Value} {v : Int32} (hx : p.tables.exec = Jvm.exec) (hb : c.code = cc) (hts : ∀ w ∈ tw, w.before args s = true) (hown : s.vm.findClass "FileStatus" = some m.cls) (hK : kK dC dI cI cZ cC cS s) (hP : va_P (dC, dI) classes ws H) (hD : va_D A ws) (hS : va_S A H0 H locs) (q0 : Nat) (he : ws[q0]? = some (a, .inr (0, fs))) (hl : 8 < fs.length) (hw : ws.set q0 (a, .inr (0, fs.set 8 (.int v))) = ws') (hdg : decode cc pc = .ok (.putfield 52, 3)) (kk : ∀ (H1 : Heap) (locs1 : List Loc), va_P (dC, dI) classes ws' H1 → va_D A ws' → va_S A H0 H1 locs1 → W p l e R s m args below meth c H1 locs1 cells slots Q (F0 m (pc + 3) ls rest)) : W p l e R s m args below meth c H locs cells slots Q (F0 m pc ls (.int v :: .ref a :: rest)) := by
  subst hw
  exact va_put (C := "FileStatus") (T := F_FS) (N := 13) (ci := 0) (ty := .int) hx hb hts i_FS t_FS t_FS_ok n_FS hown hK.1 hP hD hS q0 he rfl 8 (by decide) (hts _ k_47) (fun _ h => h) rfl (t_FS_ok 8 (by decide)) rfl rfl hl hdg kk
theorem gt_FS_optional {a : Nat} {fs : List Value} {v : Value} (hx : p.tables.exec = Jvm.exec) (hb : c.code = cc) (hts : ∀ w ∈ tw, w.before args s = true) (hown : s.vm.findClass "FileStatus" = some m.cls) (hK : kK dC dI cI cZ cC cS s) (hP : va_P (dC, dI) classes ws H) (q0 : Nat) (he : ws[q0]? = some (a, .inr (0, fs))) (hv : fs[9]? = some v) (hdg : decode cc pc = .ok (.getfield 45, 3)) (kk : W p l e R s m args below meth c H locs cells slots Q (F0 m (pc + 3) ls (v :: rest))) : W p l e R s m args below meth c H locs cells slots Q (F0 m pc ls (.ref a :: rest)) :=
  va_get (C := "FileStatus") (T := F_FS) (N := 13) (ci := 0) hx hb hts i_FS hown hK.1 hP q0 he rfl 9 (by decide) (hts _ k_48) (fun _ h => h) hv hdg kk
theorem pt_FS_optional {a : Nat} {fs : List Value} {v : Int32} (hx : p.tables.exec = Jvm.exec) (hb : c.code = cc) (hts : ∀ w ∈ tw, w.before args s = true) (hown : s.vm.findClass "FileStatus" = some m.cls) (hK : kK dC dI cI cZ cC cS s) (hP : va_P (dC, dI) classes ws H) (hD : va_D A ws) (hS : va_S A H0 H locs) (q0 : Nat) (he : ws[q0]? = some (a, .inr (0, fs))) (hl : 9 < fs.length) (hw : ws.set q0 (a, .inr (0, fs.set 9 (.int v))) = ws') (hz : v = 0 ∨ v = 1) (hdg : decode cc pc = .ok (.putfield 45, 3)) (kk : ∀ (H1 : Heap) (locs1 : List Loc), va_P (dC, dI) classes ws' H1 → va_D A ws' → va_S A H0 H1 locs1 → W p l e R s m args below meth c H1 locs1 cells slots Q (F0 m (pc + 3) ls rest)) : W p l e R s m args below meth c H locs cells slots Q (F0 m pc ls (.int v :: .ref a :: rest)) := by
  subst hw
  exact va_put (C := "FileStatus") (T := F_FS) (N := 13) (ci := 0) (ty := .boolean) hx hb hts i_FS t_FS t_FS_ok n_FS hown hK.1 hP hD hS q0 he rfl 9 (by decide) (hts _ k_48) (fun _ h => h) rfl (t_FS_ok 9 (by decide)) (fz_bz hz).1 (fz_bz hz).2.1 hl hdg kk
theorem gt_FS_permit {a : Nat} {fs : List Value} {v : Value} (hx : p.tables.exec = Jvm.exec) (hb : c.code = cc) (hts : ∀ w ∈ tw, w.before args s = true) (hown : s.vm.findClass "FileStatus" = some m.cls) (hK : kK dC dI cI cZ cC cS s) (hP : va_P (dC, dI) classes ws H) (q0 : Nat) (he : ws[q0]? = some (a, .inr (0, fs))) (hv : fs[10]? = some v) (hdg : decode cc pc = .ok (.getfield 62, 3)) (kk : W p l e R s m args below meth c H locs cells slots Q (F0 m (pc + 3) ls (v :: rest))) : W p l e R s m args below meth c H locs cells slots Q (F0 m pc ls (.ref a :: rest)) :=
  va_get (C := "FileStatus") (T := F_FS) (N := 13) (ci := 0) hx hb hts i_FS hown hK.1 hP q0 he rfl 10 (by decide) (hts _ k_49) (fun _ h => h) hv hdg kk
theorem pt_FS_permit {a : Nat} {fs : List Value} {v : Int32} (hx : p.tables.exec = Jvm.exec) (hb : c.code = cc) (hts : ∀ w ∈ tw, w.before args s = true) (hown : s.vm.findClass "FileStatus" = some m.cls) (hK : kK dC dI cI cZ cC cS s) (hP : va_P (dC, dI) classes ws H) (hD : va_D A ws) (hS : va_S A H0 H locs) (q0 : Nat) (he : ws[q0]? = some (a, .inr (0, fs))) (hl : 10 < fs.length) (hw : ws.set q0 (a, .inr (0, fs.set 10 (.int v))) = ws') (hz : v = 0 ∨ v = 1) (hdg : decode cc pc = .ok (.putfield 62, 3)) (kk : ∀ (H1 : Heap) (locs1 : List Loc), va_P (dC, dI) classes ws' H1 → va_D A ws' → va_S A H0 H1 locs1 → W p l e R s m args below meth c H1 locs1 cells slots Q (F0 m (pc + 3) ls rest)) : W p l e R s m args below meth c H locs cells slots Q (F0 m pc ls (.int v :: .ref a :: rest)) := by
  subst hw
  exact va_put (C := "FileStatus") (T := F_FS) (N := 13) (ci := 0) (ty := .boolean) hx hb hts i_FS t_FS t_FS_ok n_FS hown hK.1 hP hD hS q0 he rfl 10 (by decide) (hts _ k_49) (fun _ h => h) rfl (t_FS_ok 10 (by decide)) (fz_bz hz).1 (fz_bz hz).2.1 hl hdg kk
theorem gt_FS_empty {a : Nat} {fs : List Value} {v : Value} (hx : p.tables.exec = Jvm.exec) (hb : c.code = cc) (hts : ∀ w ∈ tw, w.before args s = true) (hown : s.vm.findClass "FileStatus" = some m.cls) (hK : kK dC dI cI cZ cC cS s) (hP : va_P (dC, dI) classes ws H) (q0 : Nat) (he : ws[q0]? = some (a, .inr (0, fs))) (hv : fs[11]? = some v) (hdg : decode cc pc = .ok (.getfield 68, 3)) (kk : W p l e R s m args below meth c H locs cells slots Q (F0 m (pc + 3) ls (v :: rest))) : W p l e R s m args below meth c H locs cells slots Q (F0 m pc ls (.ref a :: rest)) :=
  va_get (C := "FileStatus") (T := F_FS) (N := 13) (ci := 0) hx hb hts i_FS hown hK.1 hP q0 he rfl 11 (by decide) (hts _ k_50) (fun _ h => h) hv hdg kk
theorem pt_FS_empty {a : Nat} {fs : List Value} {v : Int32} (hx : p.tables.exec = Jvm.exec) (hb : c.code = cc) (hts : ∀ w ∈ tw, w.before args s = true) (hown : s.vm.findClass "FileStatus" = some m.cls) (hK : kK dC dI cI cZ cC cS s) (hP : va_P (dC, dI) classes ws H) (hD : va_D A ws) (hS : va_S A H0 H locs) (q0 : Nat) (he : ws[q0]? = some (a, .inr (0, fs))) (hl : 11 < fs.length) (hw : ws.set q0 (a, .inr (0, fs.set 11 (.int v))) = ws') (hz : v = 0 ∨ v = 1) (hdg : decode cc pc = .ok (.putfield 68, 3)) (kk : ∀ (H1 : Heap) (locs1 : List Loc), va_P (dC, dI) classes ws' H1 → va_D A ws' → va_S A H0 H1 locs1 → W p l e R s m args below meth c H1 locs1 cells slots Q (F0 m (pc + 3) ls rest)) : W p l e R s m args below meth c H locs cells slots Q (F0 m pc ls (.int v :: .ref a :: rest)) := by
  subst hw
  exact va_put (C := "FileStatus") (T := F_FS) (N := 13) (ci := 0) (ty := .boolean) hx hb hts i_FS t_FS t_FS_ok n_FS hown hK.1 hP hD hS q0 he rfl 11 (by decide) (hts _ k_50) (fun _ h => h) rfl (t_FS_ok 11 (by decide)) (fz_bz hz).1 (fz_bz hz).2.1 hl hdg kk
theorem gt_FS_declaratives {a : Nat} {fs : List Value} {v : Value} (hx : p.tables.exec = Jvm.exec) (hb : c.code = cc) (hts : ∀ w ∈ tw, w.before args s = true) (hown : s.vm.findClass "FileStatus" = some m.cls) (hK : kK dC dI cI cZ cC cS s) (hP : va_P (dC, dI) classes ws H) (q0 : Nat) (he : ws[q0]? = some (a, .inr (0, fs))) (hv : fs[12]? = some v) (hdg : decode cc pc = .ok (.getfield 35, 3)) (kk : W p l e R s m args below meth c H locs cells slots Q (F0 m (pc + 3) ls (v :: rest))) : W p l e R s m args below meth c H locs cells slots Q (F0 m pc ls (.ref a :: rest)) :=
  va_get (C := "FileStatus") (T := F_FS) (N := 13) (ci := 0) hx hb hts i_FS hown hK.1 hP q0 he rfl 12 (by decide) (hts _ k_51) (fun _ h => h) hv hdg kk
theorem pt_FS_declaratives {a : Nat} {fs : List Value} {v : Nat} (hx : p.tables.exec = Jvm.exec) (hb : c.code = cc) (hts : ∀ w ∈ tw, w.before args s = true) (hown : s.vm.findClass "FileStatus" = some m.cls) (hK : kK dC dI cI cZ cC cS s) (hP : va_P (dC, dI) classes ws H) (hD : va_D A ws) (hS : va_S A H0 H locs) (hin : meth.name = "<init>") (q0 : Nat) (he : ws[q0]? = some (a, .inr (0, fs))) (hl : 12 < fs.length) (hw : ws.set q0 (a, .inr (0, fs.set 12 (.ref v))) = ws') (hdg : decode cc pc = .ok (.putfield 35, 3)) (kk : ∀ (H1 : Heap) (locs1 : List Loc), va_P (dC, dI) classes ws' H1 → va_D A ws' → va_S A H0 H1 locs1 → W p l e R s m args below meth c H1 locs1 cells slots Q (F0 m (pc + 3) ls rest)) : W p l e R s m args below meth c H locs cells slots Q (F0 m pc ls (.ref v :: .ref a :: rest)) := by
  subst hw
  exact va_putF (C := "FileStatus") (T := F_FS) (N := 13) (ci := 0) (ty := .array .boolean) hx hb hts i_FS t_FS t_FS_ok n_FS hown hK.1 hP hD hS q0 he rfl 12 (by decide) (hts _ k_51) (fun _ h => h) rfl hin rfl (t_FS_ok 12 (by decide)) rfl rfl hl hdg kk
theorem gt_MD_code {a : Nat} {fs : List Value} {v : Value} (hx : p.tables.exec = Jvm.exec) (hb : c.code = cc) (hts : ∀ w ∈ tw, w.before args s = true) (hown : s.vm.findClass "FileStatusModel" = some m.cls) (hK : kK dC dI cI cZ cC cS s) (hP : va_P (dC, dI) classes ws H) (q0 : Nat) (he : ws[q0]? = some (a, .inr (2, fs))) (hv : fs[0]? = some v) (hdg : decode cc pc = .ok (.getfield 20, 3)) (kk : W p l e R s m args below meth c H locs cells slots Q (F0 m (pc + 3) ls (v :: rest))) : W p l e R s m args below meth c H locs cells slots Q (F0 m pc ls (.ref a :: rest)) :=
  va_get (C := "FileStatusModel") (T := F_MD) (N := 13) (ci := 2) hx hb hts i_MD hown hK.1 hP q0 he rfl 0 (by decide) (hts _ k_167) (fun _ h => h) hv hdg kk
theorem pt_MD_code {a : Nat} {fs : List Value} {v : Int32} (hx : p.tables.exec = Jvm.exec) (hb : c.code = cc) (hts : ∀ w ∈ tw, w.before args s = true) (hown : s.vm.findClass "FileStatusModel" = some m.cls) (hK : kK dC dI cI cZ cC cS s) (hP : va_P (dC, dI) classes ws H) (hD : va_D A ws) (hS : va_S A H0 H locs) (q0 : Nat) (he : ws[q0]? = some (a, .inr (2, fs))) (hl : 0 < fs.length) (hw : ws.set q0 (a, .inr (2, fs.set 0 (.int v))) = ws') (hdg : decode cc pc = .ok (.putfield 20, 3)) (kk : ∀ (H1 : Heap) (locs1 : List Loc), va_P (dC, dI) classes ws' H1 → va_D A ws' → va_S A H0 H1 locs1 → W p l e R s m args below meth c H1 locs1 cells slots Q (F0 m (pc + 3) ls rest)) : W p l e R s m args below meth c H locs cells slots Q (F0 m pc ls (.int v :: .ref a :: rest)) := by
  subst hw
  exact va_put (C := "FileStatusModel") (T := F_MD) (N := 13) (ci := 2) (ty := .int) hx hb hts i_MD t_MD t_MD_ok n_MD hown hK.1 hP hD hS q0 he rfl 0 (by decide) (hts _ k_167) (fun _ h => h) rfl (t_MD_ok 0 (by decide)) rfl rfl hl hdg kk
theorem gt_MD_organisation {a : Nat} {fs : List Value} {v : Value} (hx : p.tables.exec = Jvm.exec) (hb : c.code = cc) (hts : ∀ w ∈ tw, w.before args s = true) (hown : s.vm.findClass "FileStatusModel" = some m.cls) (hK : kK dC dI cI cZ cC cS s) (hP : va_P (dC, dI) classes ws H) (q0 : Nat) (he : ws[q0]? = some (a, .inr (2, fs))) (hv : fs[1]? = some v) (hdg : decode cc pc = .ok (.getfield 17, 3)) (kk : W p l e R s m args below meth c H locs cells slots Q (F0 m (pc + 3) ls (v :: rest))) : W p l e R s m args below meth c H locs cells slots Q (F0 m pc ls (.ref a :: rest)) :=
  va_get (C := "FileStatusModel") (T := F_MD) (N := 13) (ci := 2) hx hb hts i_MD hown hK.1 hP q0 he rfl 1 (by decide) (hts _ k_168) (fun _ h => h) hv hdg kk
theorem pt_MD_organisation {a : Nat} {fs : List Value} {v : Int32} (hx : p.tables.exec = Jvm.exec) (hb : c.code = cc) (hts : ∀ w ∈ tw, w.before args s = true) (hown : s.vm.findClass "FileStatusModel" = some m.cls) (hK : kK dC dI cI cZ cC cS s) (hP : va_P (dC, dI) classes ws H) (hD : va_D A ws) (hS : va_S A H0 H locs) (hin : meth.name = "<init>") (q0 : Nat) (he : ws[q0]? = some (a, .inr (2, fs))) (hl : 1 < fs.length) (hw : ws.set q0 (a, .inr (2, fs.set 1 (.int v))) = ws') (hdg : decode cc pc = .ok (.putfield 17, 3)) (kk : ∀ (H1 : Heap) (locs1 : List Loc), va_P (dC, dI) classes ws' H1 → va_D A ws' → va_S A H0 H1 locs1 → W p l e R s m args below meth c H1 locs1 cells slots Q (F0 m (pc + 3) ls rest)) : W p l e R s m args below meth c H locs cells slots Q (F0 m pc ls (.int v :: .ref a :: rest)) := by
  subst hw
  exact va_putF (C := "FileStatusModel") (T := F_MD) (N := 13) (ci := 2) (ty := .int) hx hb hts i_MD t_MD t_MD_ok n_MD hown hK.1 hP hD hS q0 he rfl 1 (by decide) (hts _ k_168) (fun _ h => h) rfl hin rfl (t_MD_ok 1 (by decide)) rfl rfl hl hdg kk
theorem gt_MD_mode {a : Nat} {fs : List Value} {v : Value} (hx : p.tables.exec = Jvm.exec) (hb : c.code = cc) (hts : ∀ w ∈ tw, w.before args s = true) (hown : s.vm.findClass "FileStatusModel" = some m.cls) (hK : kK dC dI cI cZ cC cS s) (hP : va_P (dC, dI) classes ws H) (q0 : Nat) (he : ws[q0]? = some (a, .inr (2, fs))) (hv : fs[2]? = some v) (hdg : decode cc pc = .ok (.getfield 27, 3)) (kk : W p l e R s m args below meth c H locs cells slots Q (F0 m (pc + 3) ls (v :: rest))) : W p l e R s m args below meth c H locs cells slots Q (F0 m pc ls (.ref a :: rest)) :=
  va_get (C := "FileStatusModel") (T := F_MD) (N := 13) (ci := 2) hx hb hts i_MD hown hK.1 hP q0 he rfl 2 (by decide) (hts _ k_169) (fun _ h => h) hv hdg kk
theorem pt_MD_mode {a : Nat} {fs : List Value} {v : Int32} (hx : p.tables.exec = Jvm.exec) (hb : c.code = cc) (hts : ∀ w ∈ tw, w.before args s = true) (hown : s.vm.findClass "FileStatusModel" = some m.cls) (hK : kK dC dI cI cZ cC cS s) (hP : va_P (dC, dI) classes ws H) (hD : va_D A ws) (hS : va_S A H0 H locs) (q0 : Nat) (he : ws[q0]? = some (a, .inr (2, fs))) (hl : 2 < fs.length) (hw : ws.set q0 (a, .inr (2, fs.set 2 (.int v))) = ws') (hdg : decode cc pc = .ok (.putfield 27, 3)) (kk : ∀ (H1 : Heap) (locs1 : List Loc), va_P (dC, dI) classes ws' H1 → va_D A ws' → va_S A H0 H1 locs1 → W p l e R s m args below meth c H1 locs1 cells slots Q (F0 m (pc + 3) ls rest)) : W p l e R s m args below meth c H locs cells slots Q (F0 m pc ls (.int v :: .ref a :: rest)) := by
  subst hw
  exact va_put (C := "FileStatusModel") (T := F_MD) (N := 13) (ci := 2) (ty := .int) hx hb hts i_MD t_MD t_MD_ok n_MD hown hK.1 hP hD hS q0 he rfl 2 (by decide) (hts _ k_169) (fun _ h => h) rfl (t_MD_ok 2 (by decide)) rfl rfl hl hdg kk
theorem gt_MD_position {a : Nat} {fs : List Value} {v : Value} (hx : p.tables.exec = Jvm.exec) (hb : c.code = cc) (hts : ∀ w ∈ tw, w.before args s = true) (hown : s.vm.findClass "FileStatusModel" = some m.cls) (hK : kK dC dI cI cZ cC cS s) (hP : va_P (dC, dI) classes ws H) (q0 : Nat) (he : ws[q0]? = some (a, .inr (2, fs))) (hv : fs[3]? = some v) (hdg : decode cc pc = .ok (.getfield 50, 3)) (kk : W p l e R s m args below meth c H locs cells slots Q (F0 m (pc + 3) ls (v :: rest))) : W p l e R s m args below meth c H locs cells slots Q (F0 m pc ls (.ref a :: rest)) :=
  va_get (C := "FileStatusModel") (T := F_MD) (N := 13) (ci := 2) hx hb hts i_MD hown hK.1 hP q0 he rfl 3 (by decide) (hts _ k_170) (fun _ h => h) hv hdg kk
theorem pt_MD_position {a : Nat} {fs : List Value} {v : Int32} (hx : p.tables.exec = Jvm.exec) (hb : c.code = cc) (hts : ∀ w ∈ tw, w.before args s = true) (hown : s.vm.findClass "FileStatusModel" = some m.cls) (hK : kK dC dI cI cZ cC cS s) (hP : va_P (dC, dI) classes ws H) (hD : va_D A ws) (hS : va_S A H0 H locs) (q0 : Nat) (he : ws[q0]? = some (a, .inr (2, fs))) (hl : 3 < fs.length) (hw : ws.set q0 (a, .inr (2, fs.set 3 (.int v))) = ws') (hdg : decode cc pc = .ok (.putfield 50, 3)) (kk : ∀ (H1 : Heap) (locs1 : List Loc), va_P (dC, dI) classes ws' H1 → va_D A ws' → va_S A H0 H1 locs1 → W p l e R s m args below meth c H1 locs1 cells slots Q (F0 m (pc + 3) ls rest)) : W p l e R s m args below meth c H locs cells slots Q (F0 m pc ls (.int v :: .ref a :: rest)) := by
  subst hw
  exact va_put (C := "FileStatusModel") (T := F_MD) (N := 13) (ci := 2) (ty := .int) hx hb hts i_MD t_MD t_MD_ok n_MD hown hK.1 hP hD hS q0 he rfl 3 (by decide) (hts _ k_170) (fun _ h => h) rfl (t_MD_ok 3 (by decide)) rfl rfl hl hdg kk
theorem gt_MD_latest {a : Nat} {fs : List Value} {v : Value} (hx : p.tables.exec = Jvm.exec) (hb : c.code = cc) (hts : ∀ w ∈ tw, w.before args s = true) (hown : s.vm.findClass "FileStatusModel" = some m.cls) (hK : kK dC dI cI cZ cC cS s) (hP : va_P (dC, dI) classes ws H) (q0 : Nat) (he : ws[q0]? = some (a, .inr (2, fs))) (hv : fs[4]? = some v) (hdg : decode cc pc = .ok (.getfield 30, 3)) (kk : W p l e R s m args below meth c H locs cells slots Q (F0 m (pc + 3) ls (v :: rest))) : W p l e R s m args below meth c H locs cells slots Q (F0 m pc ls (.ref a :: rest)) :=
  va_get (C := "FileStatusModel") (T := F_MD) (N := 13) (ci := 2) hx hb hts i_MD hown hK.1 hP q0 he rfl 4 (by decide) (hts _ k_171) (fun _ h => h) hv hdg kk
theorem pt_MD_latest {a : Nat} {fs : List Value} {v : Int32} (hx : p.tables.exec = Jvm.exec) (hb : c.code = cc) (hts : ∀ w ∈ tw, w.before args s = true) (hown : s.vm.findClass "FileStatusModel" = some m.cls) (hK : kK dC dI cI cZ cC cS s) (hP : va_P (dC, dI) classes ws H) (hD : va_D A ws) (hS : va_S A H0 H locs) (q0 : Nat) (he : ws[q0]? = some (a, .inr (2, fs))) (hl : 4 < fs.length) (hw : ws.set q0 (a, .inr (2, fs.set 4 (.int v))) = ws') (hdg : decode cc pc = .ok (.putfield 30, 3)) (kk : ∀ (H1 : Heap) (locs1 : List Loc), va_P (dC, dI) classes ws' H1 → va_D A ws' → va_S A H0 H1 locs1 → W p l e R s m args below meth c H1 locs1 cells slots Q (F0 m (pc + 3) ls rest)) : W p l e R s m args below meth c H locs cells slots Q (F0 m pc ls (.int v :: .ref a :: rest)) := by
  subst hw
  exact va_put (C := "FileStatusModel") (T := F_MD) (N := 13) (ci := 2) (ty := .int) hx hb hts i_MD t_MD t_MD_ok n_MD hown hK.1 hP hD hS q0 he rfl 4 (by decide) (hts _ k_171) (fun _ h => h) rfl (t_MD_ok 4 (by decide)) rfl rfl hl hdg kk
theorem gt_MD_act {a : Nat} {fs : List Value} {v : Value} (hx : p.tables.exec = Jvm.exec) (hb : c.code = cc) (hts : ∀ w ∈ tw, w.before args s = true) (hown : s.vm.findClass "FileStatusModel" = some m.cls) (hK : kK dC dI cI cZ cC cS s) (hP : va_P (dC, dI) classes ws H) (q0 : Nat) (he : ws[q0]? = some (a, .inr (2, fs))) (hv : fs[5]? = some v) (hdg : decode cc pc = .ok (.getfield 7, 3)) (kk : W p l e R s m args below meth c H locs cells slots Q (F0 m (pc + 3) ls (v :: rest))) : W p l e R s m args below meth c H locs cells slots Q (F0 m pc ls (.ref a :: rest)) :=
  va_get (C := "FileStatusModel") (T := F_MD) (N := 13) (ci := 2) hx hb hts i_MD hown hK.1 hP q0 he rfl 5 (by decide) (hts _ k_172) (fun _ h => h) hv hdg kk
theorem pt_MD_act {a : Nat} {fs : List Value} {v : Int32} (hx : p.tables.exec = Jvm.exec) (hb : c.code = cc) (hts : ∀ w ∈ tw, w.before args s = true) (hown : s.vm.findClass "FileStatusModel" = some m.cls) (hK : kK dC dI cI cZ cC cS s) (hP : va_P (dC, dI) classes ws H) (hD : va_D A ws) (hS : va_S A H0 H locs) (q0 : Nat) (he : ws[q0]? = some (a, .inr (2, fs))) (hl : 5 < fs.length) (hw : ws.set q0 (a, .inr (2, fs.set 5 (.int v))) = ws') (hdg : decode cc pc = .ok (.putfield 7, 3)) (kk : ∀ (H1 : Heap) (locs1 : List Loc), va_P (dC, dI) classes ws' H1 → va_D A ws' → va_S A H0 H1 locs1 → W p l e R s m args below meth c H1 locs1 cells slots Q (F0 m (pc + 3) ls rest)) : W p l e R s m args below meth c H locs cells slots Q (F0 m pc ls (.int v :: .ref a :: rest)) := by
  subst hw
  exact va_put (C := "FileStatusModel") (T := F_MD) (N := 13) (ci := 2) (ty := .int) hx hb hts i_MD t_MD t_MD_ok n_MD hown hK.1 hP hD hS q0 he rfl 5 (by decide) (hts _ k_172) (fun _ h => h) rfl (t_MD_ok 5 (by decide)) rfl rfl hl hdg kk
theorem gt_MD_good {a : Nat} {fs : List Value} {v : Value} (hx : p.tables.exec = Jvm.exec) (hb : c.code = cc) (hts : ∀ w ∈ tw, w.before args s = true) (hown : s.vm.findClass "FileStatusModel" = some m.cls) (hK : kK dC dI cI cZ cC cS s) (hP : va_P (dC, dI) classes ws H) (q0 : Nat) (he : ws[q0]? = some (a, .inr (2, fs))) (hv : fs[6]? = some v) (hdg : decode cc pc = .ok (.getfield 33, 3)) (kk : W p l e R s m args below meth c H locs cells slots Q (F0 m (pc + 3) ls (v :: rest))) : W p l e R s m args below meth c H locs cells slots Q (F0 m pc ls (.ref a :: rest)) :=
  va_get (C := "FileStatusModel") (T := F_MD) (N := 13) (ci := 2) hx hb hts i_MD hown hK.1 hP q0 he rfl 6 (by decide) (hts _ k_173) (fun _ h => h) hv hdg kk
theorem pt_MD_good {a : Nat} {fs : List Value} {v : Int32} (hx : p.tables.exec = Jvm.exec) (hb : c.code = cc) (hts : ∀ w ∈ tw, w.before args s = true) (hown : s.vm.findClass "FileStatusModel" = some m.cls) (hK : kK dC dI cI cZ cC cS s) (hP : va_P (dC, dI) classes ws H) (hD : va_D A ws) (hS : va_S A H0 H locs) (q0 : Nat) (he : ws[q0]? = some (a, .inr (2, fs))) (hl : 6 < fs.length) (hw : ws.set q0 (a, .inr (2, fs.set 6 (.int v))) = ws') (hdg : decode cc pc = .ok (.putfield 33, 3)) (kk : ∀ (H1 : Heap) (locs1 : List Loc), va_P (dC, dI) classes ws' H1 → va_D A ws' → va_S A H0 H1 locs1 → W p l e R s m args below meth c H1 locs1 cells slots Q (F0 m (pc + 3) ls rest)) : W p l e R s m args below meth c H locs cells slots Q (F0 m pc ls (.int v :: .ref a :: rest)) := by
  subst hw
  exact va_put (C := "FileStatusModel") (T := F_MD) (N := 13) (ci := 2) (ty := .int) hx hb hts i_MD t_MD t_MD_ok n_MD hown hK.1 hP hD hS q0 he rfl 6 (by decide) (hts _ k_173) (fun _ h => h) rfl (t_MD_ok 6 (by decide)) rfl rfl hl hdg kk
theorem gt_MD_bad {a : Nat} {fs : List Value} {v : Value} (hx : p.tables.exec = Jvm.exec) (hb : c.code = cc) (hts : ∀ w ∈ tw, w.before args s = true) (hown : s.vm.findClass "FileStatusModel" = some m.cls) (hK : kK dC dI cI cZ cC cS s) (hP : va_P (dC, dI) classes ws H) (q0 : Nat) (he : ws[q0]? = some (a, .inr (2, fs))) (hv : fs[7]? = some v) (hdg : decode cc pc = .ok (.getfield 36, 3)) (kk : W p l e R s m args below meth c H locs cells slots Q (F0 m (pc + 3) ls (v :: rest))) : W p l e R s m args below meth c H locs cells slots Q (F0 m pc ls (.ref a :: rest)) :=
  va_get (C := "FileStatusModel") (T := F_MD) (N := 13) (ci := 2) hx hb hts i_MD hown hK.1 hP q0 he rfl 7 (by decide) (hts _ k_174) (fun _ h => h) hv hdg kk
theorem pt_MD_bad {a : Nat} {fs : List Value} {v : Int32} (hx : p.tables.exec = Jvm.exec) (hb : c.code = cc) (hts : ∀ w ∈ tw, w.before args s = true) (hown : s.vm.findClass "FileStatusModel" = some m.cls) (hK : kK dC dI cI cZ cC cS s) (hP : va_P (dC, dI) classes ws H) (hD : va_D A ws) (hS : va_S A H0 H locs) (q0 : Nat) (he : ws[q0]? = some (a, .inr (2, fs))) (hl : 7 < fs.length) (hw : ws.set q0 (a, .inr (2, fs.set 7 (.int v))) = ws') (hdg : decode cc pc = .ok (.putfield 36, 3)) (kk : ∀ (H1 : Heap) (locs1 : List Loc), va_P (dC, dI) classes ws' H1 → va_D A ws' → va_S A H0 H1 locs1 → W p l e R s m args below meth c H1 locs1 cells slots Q (F0 m (pc + 3) ls rest)) : W p l e R s m args below meth c H locs cells slots Q (F0 m pc ls (.int v :: .ref a :: rest)) := by
  subst hw
  exact va_put (C := "FileStatusModel") (T := F_MD) (N := 13) (ci := 2) (ty := .int) hx hb hts i_MD t_MD t_MD_ok n_MD hown hK.1 hP hD hS q0 he rfl 7 (by decide) (hts _ k_174) (fun _ h => h) rfl (t_MD_ok 7 (by decide)) rfl rfl hl hdg kk
theorem gt_MD_isOpen {a : Nat} {fs : List Value} {v : Value} (hx : p.tables.exec = Jvm.exec) (hb : c.code = cc) (hts : ∀ w ∈ tw, w.before args s = true) (hown : s.vm.findClass "FileStatusModel" = some m.cls) (hK : kK dC dI cI cZ cC cS s) (hP : va_P (dC, dI) classes ws H) (q0 : Nat) (he : ws[q0]? = some (a, .inr (2, fs))) (hv : fs[8]? = some v) (hdg : decode cc pc = .ok (.getfield 23, 3)) (kk : W p l e R s m args below meth c H locs cells slots Q (F0 m (pc + 3) ls (v :: rest))) : W p l e R s m args below meth c H locs cells slots Q (F0 m pc ls (.ref a :: rest)) :=
  va_get (C := "FileStatusModel") (T := F_MD) (N := 13) (ci := 2) hx hb hts i_MD hown hK.1 hP q0 he rfl 8 (by decide) (hts _ k_175) (fun _ h => h) hv hdg kk
theorem pt_MD_isOpen {a : Nat} {fs : List Value} {v : Int32} (hx : p.tables.exec = Jvm.exec) (hb : c.code = cc) (hts : ∀ w ∈ tw, w.before args s = true) (hown : s.vm.findClass "FileStatusModel" = some m.cls) (hK : kK dC dI cI cZ cC cS s) (hP : va_P (dC, dI) classes ws H) (hD : va_D A ws) (hS : va_S A H0 H locs) (q0 : Nat) (he : ws[q0]? = some (a, .inr (2, fs))) (hl : 8 < fs.length) (hw : ws.set q0 (a, .inr (2, fs.set 8 (.int v))) = ws') (hz : v = 0 ∨ v = 1) (hdg : decode cc pc = .ok (.putfield 23, 3)) (kk : ∀ (H1 : Heap) (locs1 : List Loc), va_P (dC, dI) classes ws' H1 → va_D A ws' → va_S A H0 H1 locs1 → W p l e R s m args below meth c H1 locs1 cells slots Q (F0 m (pc + 3) ls rest)) : W p l e R s m args below meth c H locs cells slots Q (F0 m pc ls (.int v :: .ref a :: rest)) := by
  subst hw
  exact va_put (C := "FileStatusModel") (T := F_MD) (N := 13) (ci := 2) (ty := .boolean) hx hb hts i_MD t_MD t_MD_ok n_MD hown hK.1 hP hD hS q0 he rfl 8 (by decide) (hts _ k_175) (fun _ h => h) rfl (t_MD_ok 8 (by decide)) (fz_bz hz).1 (fz_bz hz).2.1 hl hdg kk
theorem gt_MD_permit {a : Nat} {fs : List Value} {v : Value} (hx : p.tables.exec = Jvm.exec) (hb : c.code = cc) (hts : ∀ w ∈ tw, w.before args s = true) (hown : s.vm.findClass "FileStatusModel" = some m.cls) (hK : kK dC dI cI cZ cC cS s) (hP : va_P (dC, dI) classes ws H) (q0 : Nat) (he : ws[q0]? = some (a, .inr (2, fs))) (hv : fs[9]? = some v) (hdg : decode cc pc = .ok (.getfield 47, 3)) (kk : W p l e R s m args below meth c H locs cells slots Q (F0 m (pc + 3) ls (v :: rest))) : W p l e R s m args below meth c H locs cells slots Q (F0 m pc ls (.ref a :: rest)) :=
  va_get (C := "FileStatusModel") (T := F_MD) (N := 13) (ci := 2) hx hb hts i_MD hown hK.1 hP q0 he rfl 9 (by decide) (hts _ k_176) (fun _ h => h) hv hdg kk
theorem pt_MD_permit {a : Nat} {fs : List Value} {v : Int32} (hx : p.tables.exec = Jvm.exec) (hb : c.code = cc) (hts : ∀ w ∈ tw, w.before args s = true) (hown : s.vm.findClass "FileStatusModel" = some m.cls) (hK : kK dC dI cI cZ cC cS s) (hP : va_P (dC, dI) classes ws H) (hD : va_D A ws) (hS : va_S A H0 H locs) (q0 : Nat) (he : ws[q0]? = some (a, .inr (2, fs))) (hl : 9 < fs.length) (hw : ws.set q0 (a, .inr (2, fs.set 9 (.int v))) = ws') (hz : v = 0 ∨ v = 1) (hdg : decode cc pc = .ok (.putfield 47, 3)) (kk : ∀ (H1 : Heap) (locs1 : List Loc), va_P (dC, dI) classes ws' H1 → va_D A ws' → va_S A H0 H1 locs1 → W p l e R s m args below meth c H1 locs1 cells slots Q (F0 m (pc + 3) ls rest)) : W p l e R s m args below meth c H locs cells slots Q (F0 m pc ls (.int v :: .ref a :: rest)) := by
  subst hw
  exact va_put (C := "FileStatusModel") (T := F_MD) (N := 13) (ci := 2) (ty := .boolean) hx hb hts i_MD t_MD t_MD_ok n_MD hown hK.1 hP hD hS q0 he rfl 9 (by decide) (hts _ k_176) (fun _ h => h) rfl (t_MD_ok 9 (by decide)) (fz_bz hz).1 (fz_bz hz).2.1 hl hdg kk
theorem gt_MD_optional {a : Nat} {fs : List Value} {v : Value} (hx : p.tables.exec = Jvm.exec) (hb : c.code = cc) (hts : ∀ w ∈ tw, w.before args s = true) (hown : s.vm.findClass "FileStatusModel" = some m.cls) (hK : kK dC dI cI cZ cC cS s) (hP : va_P (dC, dI) classes ws H) (q0 : Nat) (he : ws[q0]? = some (a, .inr (2, fs))) (hv : fs[10]? = some v) (hdg : decode cc pc = .ok (.getfield 56, 3)) (kk : W p l e R s m args below meth c H locs cells slots Q (F0 m (pc + 3) ls (v :: rest))) : W p l e R s m args below meth c H locs cells slots Q (F0 m pc ls (.ref a :: rest)) :=
  va_get (C := "FileStatusModel") (T := F_MD) (N := 13) (ci := 2) hx hb hts i_MD hown hK.1 hP q0 he rfl 10 (by decide) (hts _ k_177) (fun _ h => h) hv hdg kk
theorem pt_MD_optional {a : Nat} {fs : List Value} {v : Int32} (hx : p.tables.exec = Jvm.exec) (hb : c.code = cc) (hts : ∀ w ∈ tw, w.before args s = true) (hown : s.vm.findClass "FileStatusModel" = some m.cls) (hK : kK dC dI cI cZ cC cS s) (hP : va_P (dC, dI) classes ws H) (hD : va_D A ws) (hS : va_S A H0 H locs) (q0 : Nat) (he : ws[q0]? = some (a, .inr (2, fs))) (hl : 10 < fs.length) (hw : ws.set q0 (a, .inr (2, fs.set 10 (.int v))) = ws') (hz : v = 0 ∨ v = 1) (hdg : decode cc pc = .ok (.putfield 56, 3)) (kk : ∀ (H1 : Heap) (locs1 : List Loc), va_P (dC, dI) classes ws' H1 → va_D A ws' → va_S A H0 H1 locs1 → W p l e R s m args below meth c H1 locs1 cells slots Q (F0 m (pc + 3) ls rest)) : W p l e R s m args below meth c H locs cells slots Q (F0 m pc ls (.int v :: .ref a :: rest)) := by
  subst hw
  exact va_put (C := "FileStatusModel") (T := F_MD) (N := 13) (ci := 2) (ty := .boolean) hx hb hts i_MD t_MD t_MD_ok n_MD hown hK.1 hP hD hS q0 he rfl 10 (by decide) (hts _ k_177) (fun _ h => h) rfl (t_MD_ok 10 (by decide)) (fz_bz hz).1 (fz_bz hz).2.1 hl hdg kk
theorem gt_MD_nothing {a : Nat} {fs : List Value} {v : Value} (hx : p.tables.exec = Jvm.exec) (hb : c.code = cc) (hts : ∀ w ∈ tw, w.before args s = true) (hown : s.vm.findClass "FileStatusModel" = some m.cls) (hK : kK dC dI cI cZ cC cS s) (hP : va_P (dC, dI) classes ws H) (q0 : Nat) (he : ws[q0]? = some (a, .inr (2, fs))) (hv : fs[11]? = some v) (hdg : decode cc pc = .ok (.getfield 53, 3)) (kk : W p l e R s m args below meth c H locs cells slots Q (F0 m (pc + 3) ls (v :: rest))) : W p l e R s m args below meth c H locs cells slots Q (F0 m pc ls (.ref a :: rest)) :=
  va_get (C := "FileStatusModel") (T := F_MD) (N := 13) (ci := 2) hx hb hts i_MD hown hK.1 hP q0 he rfl 11 (by decide) (hts _ k_178) (fun _ h => h) hv hdg kk
theorem pt_MD_nothing {a : Nat} {fs : List Value} {v : Int32} (hx : p.tables.exec = Jvm.exec) (hb : c.code = cc) (hts : ∀ w ∈ tw, w.before args s = true) (hown : s.vm.findClass "FileStatusModel" = some m.cls) (hK : kK dC dI cI cZ cC cS s) (hP : va_P (dC, dI) classes ws H) (hD : va_D A ws) (hS : va_S A H0 H locs) (q0 : Nat) (he : ws[q0]? = some (a, .inr (2, fs))) (hl : 11 < fs.length) (hw : ws.set q0 (a, .inr (2, fs.set 11 (.int v))) = ws') (hz : v = 0 ∨ v = 1) (hdg : decode cc pc = .ok (.putfield 53, 3)) (kk : ∀ (H1 : Heap) (locs1 : List Loc), va_P (dC, dI) classes ws' H1 → va_D A ws' → va_S A H0 H1 locs1 → W p l e R s m args below meth c H1 locs1 cells slots Q (F0 m (pc + 3) ls rest)) : W p l e R s m args below meth c H locs cells slots Q (F0 m pc ls (.int v :: .ref a :: rest)) := by
  subst hw
  exact va_put (C := "FileStatusModel") (T := F_MD) (N := 13) (ci := 2) (ty := .boolean) hx hb hts i_MD t_MD t_MD_ok n_MD hown hK.1 hP hD hS q0 he rfl 11 (by decide) (hts _ k_178) (fun _ h => h) rfl (t_MD_ok 11 (by decide)) (fz_bz hz).1 (fz_bz hz).2.1 hl hdg kk
theorem gt_MD_declared {a : Nat} {fs : List Value} {v : Value} (hx : p.tables.exec = Jvm.exec) (hb : c.code = cc) (hts : ∀ w ∈ tw, w.before args s = true) (hown : s.vm.findClass "FileStatusModel" = some m.cls) (hK : kK dC dI cI cZ cC cS s) (hP : va_P (dC, dI) classes ws H) (q0 : Nat) (he : ws[q0]? = some (a, .inr (2, fs))) (hv : fs[12]? = some v) (hdg : decode cc pc = .ok (.getfield 13, 3)) (kk : W p l e R s m args below meth c H locs cells slots Q (F0 m (pc + 3) ls (v :: rest))) : W p l e R s m args below meth c H locs cells slots Q (F0 m pc ls (.ref a :: rest)) :=
  va_get (C := "FileStatusModel") (T := F_MD) (N := 13) (ci := 2) hx hb hts i_MD hown hK.1 hP q0 he rfl 12 (by decide) (hts _ k_179) (fun _ h => h) hv hdg kk
theorem pt_MD_declared {a : Nat} {fs : List Value} {v : Nat} (hx : p.tables.exec = Jvm.exec) (hb : c.code = cc) (hts : ∀ w ∈ tw, w.before args s = true) (hown : s.vm.findClass "FileStatusModel" = some m.cls) (hK : kK dC dI cI cZ cC cS s) (hP : va_P (dC, dI) classes ws H) (hD : va_D A ws) (hS : va_S A H0 H locs) (hin : meth.name = "<init>") (q0 : Nat) (he : ws[q0]? = some (a, .inr (2, fs))) (hl : 12 < fs.length) (hw : ws.set q0 (a, .inr (2, fs.set 12 (.ref v))) = ws') (hdg : decode cc pc = .ok (.putfield 13, 3)) (kk : ∀ (H1 : Heap) (locs1 : List Loc), va_P (dC, dI) classes ws' H1 → va_D A ws' → va_S A H0 H1 locs1 → W p l e R s m args below meth c H1 locs1 cells slots Q (F0 m (pc + 3) ls rest)) : W p l e R s m args below meth c H locs cells slots Q (F0 m pc ls (.ref v :: .ref a :: rest)) := by
  subst hw
  exact va_putF (C := "FileStatusModel") (T := F_MD) (N := 13) (ci := 2) (ty := .array .boolean) hx hb hts i_MD t_MD t_MD_ok n_MD hown hK.1 hP hD hS q0 he rfl 12 (by decide) (hts _ k_179) (fun _ h => h) rfl hin rfl (t_MD_ok 12 (by decide)) rfl rfl hl hdg kk
end FLD
-- call sites
theorem h_FS_init : y_FS_init.cls = "FileStatus" ∧ y_FS_init.cls ≠ "java/lang/invoke/MethodHandle" ∧ y_FS_init.cls ≠ "java/lang/invoke/VarHandle" ∧ (parseMethodDescriptor y_FS_init.desc).map (fun d => d.parameters.length) = some 1 := by decide +kernel
theorem h_FS_row : y_FS_row.cls = "FileStatus" ∧ y_FS_row.cls ≠ "java/lang/invoke/MethodHandle" ∧ y_FS_row.cls ≠ "java/lang/invoke/VarHandle" ∧ (parseMethodDescriptor y_FS_row.desc).map (fun d => d.parameters.length) = some 7 := by decide +kernel
theorem h_AC_init : y_AC_init.cls = "FileStatus$Act" ∧ y_AC_init.cls ≠ "java/lang/invoke/MethodHandle" ∧ y_AC_init.cls ≠ "java/lang/invoke/VarHandle" ∧ (parseMethodDescriptor y_AC_init.desc).map (fun d => d.parameters.length) = some 3 := by decide +kernel
theorem h_FS_nothing : y_FS_nothing.cls = "FileStatus" ∧ y_FS_nothing.cls ≠ "java/lang/invoke/MethodHandle" ∧ y_FS_nothing.cls ≠ "java/lang/invoke/VarHandle" ∧ (parseMethodDescriptor y_FS_nothing.desc).map (fun d => d.parameters.length) = some 0 := by decide +kernel
theorem h_FS_mode : y_FS_mode.cls = "FileStatus" ∧ y_FS_mode.cls ≠ "java/lang/invoke/MethodHandle" ∧ y_FS_mode.cls ≠ "java/lang/invoke/VarHandle" ∧ (parseMethodDescriptor y_FS_mode.desc).map (fun d => d.parameters.length) = some 1 := by decide +kernel
theorem h_FS_optional : y_FS_optional.cls = "FileStatus" ∧ y_FS_optional.cls ≠ "java/lang/invoke/MethodHandle" ∧ y_FS_optional.cls ≠ "java/lang/invoke/VarHandle" ∧ (parseMethodDescriptor y_FS_optional.desc).map (fun d => d.parameters.length) = some 1 := by decide +kernel
theorem h_FS_open : y_FS_open.cls = "FileStatus" ∧ y_FS_open.cls ≠ "java/lang/invoke/MethodHandle" ∧ y_FS_open.cls ≠ "java/lang/invoke/VarHandle" ∧ (parseMethodDescriptor y_FS_open.desc).map (fun d => d.parameters.length) = some 1 := by decide +kernel
theorem h_FS_opening : y_FS_opening.cls = "FileStatus" ∧ y_FS_opening.cls ≠ "java/lang/invoke/MethodHandle" ∧ y_FS_opening.cls ≠ "java/lang/invoke/VarHandle" ∧ (parseMethodDescriptor y_FS_opening.desc).map (fun d => d.parameters.length) = some 1 := by decide +kernel
theorem h_FS_told : y_FS_told.cls = "FileStatus" ∧ y_FS_told.cls ≠ "java/lang/invoke/MethodHandle" ∧ y_FS_told.cls ≠ "java/lang/invoke/VarHandle" ∧ (parseMethodDescriptor y_FS_told.desc).map (fun d => d.parameters.length) = some 2 := by decide +kernel
theorem h_FS_act : y_FS_act.cls = "FileStatus" ∧ y_FS_act.cls ≠ "java/lang/invoke/MethodHandle" ∧ y_FS_act.cls ≠ "java/lang/invoke/VarHandle" ∧ (parseMethodDescriptor y_FS_act.desc).map (fun d => d.parameters.length) = some 2 := by decide +kernel
theorem h_FS_ahead : y_FS_ahead.cls = "FileStatus" ∧ y_FS_ahead.cls ≠ "java/lang/invoke/MethodHandle" ∧ y_FS_ahead.cls ≠ "java/lang/invoke/VarHandle" ∧ (parseMethodDescriptor y_FS_ahead.desc).map (fun d => d.parameters.length) = some 1 := by decide +kernel
theorem h_AC_isFor : y_AC_isFor.cls = "FileStatus$Act" ∧ y_AC_isFor.cls ≠ "java/lang/invoke/MethodHandle" ∧ y_AC_isFor.cls ≠ "java/lang/invoke/VarHandle" ∧ (parseMethodDescriptor y_AC_isFor.desc).map (fun d => d.parameters.length) = some 1 := by decide +kernel
theorem h_AC_isIn : y_AC_isIn.cls = "FileStatus$Act" ∧ y_AC_isIn.cls ≠ "java/lang/invoke/MethodHandle" ∧ y_AC_isIn.cls ≠ "java/lang/invoke/VarHandle" ∧ (parseMethodDescriptor y_AC_isIn.desc).map (fun d => d.parameters.length) = some 2 := by decide +kernel
theorem h_AC_status : y_AC_status.cls = "FileStatus$Act" ∧ y_AC_status.cls ≠ "java/lang/invoke/MethodHandle" ∧ y_AC_status.cls ≠ "java/lang/invoke/VarHandle" ∧ (parseMethodDescriptor y_AC_status.desc).map (fun d => d.parameters.length) = some 2 := by decide +kernel
theorem h_FS_position : y_FS_position.cls = "FileStatus" ∧ y_FS_position.cls ≠ "java/lang/invoke/MethodHandle" ∧ y_FS_position.cls ≠ "java/lang/invoke/VarHandle" ∧ (parseMethodDescriptor y_FS_position.desc).map (fun d => d.parameters.length) = some 1 := by decide +kernel
theorem h_FS_isStatus : y_FS_isStatus.cls = "FileStatus" ∧ y_FS_isStatus.cls ≠ "java/lang/invoke/MethodHandle" ∧ y_FS_isStatus.cls ≠ "java/lang/invoke/VarHandle" ∧ (parseMethodDescriptor y_FS_isStatus.desc).map (fun d => d.parameters.length) = some 1 := by decide +kernel
theorem h_FS_area : y_FS_area.cls = "FileStatus" ∧ y_FS_area.cls ≠ "java/lang/invoke/MethodHandle" ∧ y_FS_area.cls ≠ "java/lang/invoke/VarHandle" ∧ (parseMethodDescriptor y_FS_area.desc).map (fun d => d.parameters.length) = some 1 := by decide +kernel
theorem h_FS_exception : y_FS_exception.cls = "FileStatus" ∧ y_FS_exception.cls ≠ "java/lang/invoke/MethodHandle" ∧ y_FS_exception.cls ≠ "java/lang/invoke/VarHandle" ∧ (parseMethodDescriptor y_FS_exception.desc).map (fun d => d.parameters.length) = some 1 := by decide +kernel
theorem h_FS_phrase : y_FS_phrase.cls = "FileStatus" ∧ y_FS_phrase.cls ≠ "java/lang/invoke/MethodHandle" ∧ y_FS_phrase.cls ≠ "java/lang/invoke/VarHandle" ∧ (parseMethodDescriptor y_FS_phrase.desc).map (fun d => d.parameters.length) = some 1 := by decide +kernel
theorem h_FS_declarative : y_FS_declarative.cls = "FileStatus" ∧ y_FS_declarative.cls ≠ "java/lang/invoke/MethodHandle" ∧ y_FS_declarative.cls ≠ "java/lang/invoke/VarHandle" ∧ (parseMethodDescriptor y_FS_declarative.desc).map (fun d => d.parameters.length) = some 2 := by decide +kernel
theorem h_FS_both : y_FS_both.cls = "FileStatus" ∧ y_FS_both.cls ≠ "java/lang/invoke/MethodHandle" ∧ y_FS_both.cls ≠ "java/lang/invoke/VarHandle" ∧ (parseMethodDescriptor y_FS_both.desc).map (fun d => d.parameters.length) = some 2 := by decide +kernel
theorem h_FS_extended : y_FS_extended.cls = "FileStatus" ∧ y_FS_extended.cls ≠ "java/lang/invoke/MethodHandle" ∧ y_FS_extended.cls ≠ "java/lang/invoke/VarHandle" ∧ (parseMethodDescriptor y_FS_extended.desc).map (fun d => d.parameters.length) = some 1 := by decide +kernel
theorem h_FS_count : y_FS_count.cls = "FileStatus" ∧ y_FS_count.cls ≠ "java/lang/invoke/MethodHandle" ∧ y_FS_count.cls ≠ "java/lang/invoke/VarHandle" ∧ (parseMethodDescriptor y_FS_count.desc).map (fun d => d.parameters.length) = some 1 := by decide +kernel
theorem h_LW_cell : y_LW_cell.cls = "FileStatusLaw" ∧ y_LW_cell.cls ≠ "java/lang/invoke/MethodHandle" ∧ y_LW_cell.cls ≠ "java/lang/invoke/VarHandle" ∧ (parseMethodDescriptor y_LW_cell.desc).map (fun d => d.parameters.length) = some 2 := by decide +kernel
theorem h_MD_init : y_MD_init.cls = "FileStatusModel" ∧ y_MD_init.cls ≠ "java/lang/invoke/MethodHandle" ∧ y_MD_init.cls ≠ "java/lang/invoke/VarHandle" ∧ (parseMethodDescriptor y_MD_init.desc).map (fun d => d.parameters.length) = some 1 := by decide +kernel
theorem h_MD_mode : y_MD_mode.cls = "FileStatusModel" ∧ y_MD_mode.cls ≠ "java/lang/invoke/MethodHandle" ∧ y_MD_mode.cls ≠ "java/lang/invoke/VarHandle" ∧ (parseMethodDescriptor y_MD_mode.desc).map (fun d => d.parameters.length) = some 1 := by decide +kernel
theorem h_MD_open : y_MD_open.cls = "FileStatusModel" ∧ y_MD_open.cls ≠ "java/lang/invoke/MethodHandle" ∧ y_MD_open.cls ≠ "java/lang/invoke/VarHandle" ∧ (parseMethodDescriptor y_MD_open.desc).map (fun d => d.parameters.length) = some 1 := by decide +kernel
theorem h_MD_opened : y_MD_opened.cls = "FileStatusModel" ∧ y_MD_opened.cls ≠ "java/lang/invoke/MethodHandle" ∧ y_MD_opened.cls ≠ "java/lang/invoke/VarHandle" ∧ (parseMethodDescriptor y_MD_opened.desc).map (fun d => d.parameters.length) = some 1 := by decide +kernel
theorem h_MD_told : y_MD_told.cls = "FileStatusModel" ∧ y_MD_told.cls ≠ "java/lang/invoke/MethodHandle" ∧ y_MD_told.cls ≠ "java/lang/invoke/VarHandle" ∧ (parseMethodDescriptor y_MD_told.desc).map (fun d => d.parameters.length) = some 2 := by decide +kernel
theorem h_MD_act : y_MD_act.cls = "FileStatusModel" ∧ y_MD_act.cls ≠ "java/lang/invoke/MethodHandle" ∧ y_MD_act.cls ≠ "java/lang/invoke/VarHandle" ∧ (parseMethodDescriptor y_MD_act.desc).map (fun d => d.parameters.length) = some 2 := by decide +kernel
theorem h_MD_ahead : y_MD_ahead.cls = "FileStatusModel" ∧ y_MD_ahead.cls ≠ "java/lang/invoke/MethodHandle" ∧ y_MD_ahead.cls ≠ "java/lang/invoke/VarHandle" ∧ (parseMethodDescriptor y_MD_ahead.desc).map (fun d => d.parameters.length) = some 1 := by decide +kernel
theorem h_MD_reads : y_MD_reads.cls = "FileStatusModel" ∧ y_MD_reads.cls ≠ "java/lang/invoke/MethodHandle" ∧ y_MD_reads.cls ≠ "java/lang/invoke/VarHandle" ∧ (parseMethodDescriptor y_MD_reads.desc).map (fun d => d.parameters.length) = some 0 := by decide +kernel
theorem h_MD_byOutcome : y_MD_byOutcome.cls = "FileStatusModel" ∧ y_MD_byOutcome.cls ≠ "java/lang/invoke/MethodHandle" ∧ y_MD_byOutcome.cls ≠ "java/lang/invoke/VarHandle" ∧ (parseMethodDescriptor y_MD_byOutcome.desc).map (fun d => d.parameters.length) = some 2 := by decide +kernel
theorem h_MD_moved : y_MD_moved.cls = "FileStatusModel" ∧ y_MD_moved.cls ≠ "java/lang/invoke/MethodHandle" ∧ y_MD_moved.cls ≠ "java/lang/invoke/VarHandle" ∧ (parseMethodDescriptor y_MD_moved.desc).map (fun d => d.parameters.length) = some 1 := by decide +kernel
theorem h_MD_exception : y_MD_exception.cls = "FileStatusModel" ∧ y_MD_exception.cls ≠ "java/lang/invoke/MethodHandle" ∧ y_MD_exception.cls ≠ "java/lang/invoke/VarHandle" ∧ (parseMethodDescriptor y_MD_exception.desc).map (fun d => d.parameters.length) = some 1 := by decide +kernel
theorem h_MD_isStatus : y_MD_isStatus.cls = "FileStatusModel" ∧ y_MD_isStatus.cls ≠ "java/lang/invoke/MethodHandle" ∧ y_MD_isStatus.cls ≠ "java/lang/invoke/VarHandle" ∧ (parseMethodDescriptor y_MD_isStatus.desc).map (fun d => d.parameters.length) = some 1 := by decide +kernel
theorem h_MD_kindOf : y_MD_kindOf.cls = "FileStatusModel" ∧ y_MD_kindOf.cls ≠ "java/lang/invoke/MethodHandle" ∧ y_MD_kindOf.cls ≠ "java/lang/invoke/VarHandle" ∧ (parseMethodDescriptor y_MD_kindOf.desc).map (fun d => d.parameters.length) = some 1 := by decide +kernel
theorem h_MD_phrase : y_MD_phrase.cls = "FileStatusModel" ∧ y_MD_phrase.cls ≠ "java/lang/invoke/MethodHandle" ∧ y_MD_phrase.cls ≠ "java/lang/invoke/VarHandle" ∧ (parseMethodDescriptor y_MD_phrase.desc).map (fun d => d.parameters.length) = some 1 := by decide +kernel
theorem h_MD_declarative : y_MD_declarative.cls = "FileStatusModel" ∧ y_MD_declarative.cls ≠ "java/lang/invoke/MethodHandle" ∧ y_MD_declarative.cls ≠ "java/lang/invoke/VarHandle" ∧ (parseMethodDescriptor y_MD_declarative.desc).map (fun d => d.parameters.length) = some 2 := by decide +kernel
theorem h_MD_position : y_MD_position.cls = "FileStatusModel" ∧ y_MD_position.cls ≠ "java/lang/invoke/MethodHandle" ∧ y_MD_position.cls ≠ "java/lang/invoke/VarHandle" ∧ (parseMethodDescriptor y_MD_position.desc).map (fun d => d.parameters.length) = some 1 := by decide +kernel
theorem h_MD_optional : y_MD_optional.cls = "FileStatusModel" ∧ y_MD_optional.cls ≠ "java/lang/invoke/MethodHandle" ∧ y_MD_optional.cls ≠ "java/lang/invoke/VarHandle" ∧ (parseMethodDescriptor y_MD_optional.desc).map (fun d => d.parameters.length) = some 1 := by decide +kernel
theorem h_MD_both : y_MD_both.cls = "FileStatusModel" ∧ y_MD_both.cls ≠ "java/lang/invoke/MethodHandle" ∧ y_MD_both.cls ≠ "java/lang/invoke/VarHandle" ∧ (parseMethodDescriptor y_MD_both.desc).map (fun d => d.parameters.length) = some 2 := by decide +kernel
theorem h_MD_extended : y_MD_extended.cls = "FileStatusModel" ∧ y_MD_extended.cls ≠ "java/lang/invoke/MethodHandle" ∧ y_MD_extended.cls ≠ "java/lang/invoke/VarHandle" ∧ (parseMethodDescriptor y_MD_extended.desc).map (fun d => d.parameters.length) = some 1 := by decide +kernel
theorem h_MD_area : y_MD_area.cls = "FileStatusModel" ∧ y_MD_area.cls ≠ "java/lang/invoke/MethodHandle" ∧ y_MD_area.cls ≠ "java/lang/invoke/VarHandle" ∧ (parseMethodDescriptor y_MD_area.desc).map (fun d => d.parameters.length) = some 1 := by decide +kernel
theorem h_MD_count : y_MD_count.cls = "FileStatusModel" ∧ y_MD_count.cls ≠ "java/lang/invoke/MethodHandle" ∧ y_MD_count.cls ≠ "java/lang/invoke/VarHandle" ∧ (parseMethodDescriptor y_MD_count.desc).map (fun d => d.parameters.length) = some 1 := by decide +kernel
theorem cs_LW_15 {R : Room} {s : State} {args : Array Value} (hts : ∀ w ∈ tw, w.before args s = true) (hR : rm_FS_init.frames + 1 ≤ R.frames ∧ 8 + (2 + 11) + rm_FS_init.locals ≤ R.locals) : CallB R s args "FileStatusLaw" 15 y_FS_init b_FS_init 2 (none) (.code y_FS_init b_FS_init 2 (none) :: tw) rm_FS_init 44 266 1 ∧ y_FS_init.name = "<init>" ∧ (Cond.instanceMethod y_FS_init).before args s = true := cwI 1 hts (fz_giI k_8) rfl rfl rfl (hts _ k_1) (hts _ k_6) (hts _ k_7) rfl h_FS_init.2 hR
theorem cs_FS_3 {R : Room} {s : State} {args : Array Value} (hts : ∀ w ∈ tw, w.before args s = true) (hR : rm_FS_row.frames + 1 ≤ R.frames ∧ 8 + (7 + 11) + rm_FS_row.locals ≤ R.locals) : CallB R s args "FileStatus" 3 y_FS_row b_FS_row 7 ((some (.array .int))) (.code y_FS_row b_FS_row 7 ((some (.array .int))) :: tw) rm_FS_row 1 9 7 ∧ (Cond.static y_FS_row).before args s = true := cwS 7 hts (fz_giS k_17 k_18 k_1 k_19) rfl rfl rfl h_FS_row hR
theorem cs_FS_17 {R : Room} {s : State} {args : Array Value} (hts : ∀ w ∈ tw, w.before args s = true) (hR : rm_AC_init.frames + 1 ≤ R.frames ∧ 8 + (4 + 11) + rm_AC_init.locals ≤ R.locals) : CallB R s args "FileStatus" 17 y_AC_init b_AC_init 4 (none) (.code y_AC_init b_AC_init 4 (none) :: tw) rm_AC_init 0 0 3 ∧ y_AC_init.name = "<init>" ∧ (Cond.instanceMethod y_AC_init).before args s = true := cwI 3 hts (fz_giI k_22) rfl rfl rfl (hts _ k_2) (hts _ k_20) (hts _ k_21) rfl h_AC_init.2 hR
theorem cs_FS_20 {R : Room} {s : State} {args : Array Value} (hts : ∀ w ∈ tw, w.before args s = true) (hR : rm_FS_nothing.frames + 1 ≤ R.frames ∧ 8 + (0 + 11) + rm_FS_nothing.locals ≤ R.locals) : CallB R s args "FileStatus" 20 y_FS_nothing b_FS_nothing 0 ((some (.array .int))) (.code y_FS_nothing b_FS_nothing 0 ((some (.array .int))) :: tw) rm_FS_nothing 1 9 0 ∧ (Cond.static y_FS_nothing).before args s = true := cwS 0 hts (fz_giS k_36 k_37 k_1 k_38) rfl rfl rfl h_FS_nothing hR
theorem cs_LW_21 {R : Room} {s : State} {args : Array Value} (hts : ∀ w ∈ tw, w.before args s = true) (hR : rm_FS_mode.frames + 1 ≤ R.frames ∧ 8 + (3 + 11) + rm_FS_mode.locals ≤ R.locals) : CallW R s args "FileStatusLaw" "FileStatus" 21 y_FS_mode b_FS_mode 3 ((some .int)) (.code y_FS_mode b_FS_mode 3 ((some .int)) :: tw) rm_FS_mode 0 0 1 := cwV 1 hts (fz_giV k_80 k_81 k_82 k_1 k_83) rfl rfl rfl h_FS_mode hR
theorem cs_LW_53 {R : Room} {s : State} {args : Array Value} (hts : ∀ w ∈ tw, w.before args s = true) (hR : rm_FS_optional.frames + 1 ≤ R.frames ∧ 8 + (3 + 11) + rm_FS_optional.locals ≤ R.locals) : CallW R s args "FileStatusLaw" "FileStatus" 53 y_FS_optional b_FS_optional 3 ((some .int)) (.code y_FS_optional b_FS_optional 3 ((some .int)) :: tw) rm_FS_optional 0 0 1 := cwV 1 hts (fz_giV k_84 k_85 k_86 k_1 k_87) rfl rfl rfl h_FS_optional hR
theorem cs_LW_26 {R : Room} {s : State} {args : Array Value} (hts : ∀ w ∈ tw, w.before args s = true) (hR : rm_FS_open.frames + 1 ≤ R.frames ∧ 8 + (3 + 11) + rm_FS_open.locals ≤ R.locals) : CallW R s args "FileStatusLaw" "FileStatus" 26 y_FS_open b_FS_open 3 ((some .int)) (.code y_FS_open b_FS_open 3 ((some .int)) :: tw) rm_FS_open 0 0 1 := cwV 1 hts (fz_giV k_88 k_89 k_90 k_1 k_91) rfl rfl rfl h_FS_open hR
theorem cs_FS_58 {R : Room} {s : State} {args : Array Value} (hts : ∀ w ∈ tw, w.before args s = true) (hR : rm_FS_opening.frames + 1 ≤ R.frames ∧ 8 + (2 + 11) + rm_FS_opening.locals ≤ R.locals) : CallW R s args "FileStatus" "FileStatus" 58 y_FS_opening b_FS_opening 2 ((some .int)) (.code y_FS_opening b_FS_opening 2 ((some .int)) :: tw) rm_FS_opening 0 0 1 := cwV 1 hts (fz_giV k_92 k_94 s_0 k_1 k_95) rfl rfl rfl h_FS_opening hR
theorem cs_FS_71 {R : Room} {s : State} {args : Array Value} (hts : ∀ w ∈ tw, w.before args s = true) (hR : rm_FS_told.frames + 1 ≤ R.frames ∧ 8 + (3 + 11) + rm_FS_told.locals ≤ R.locals) : CallW R s args "FileStatus" "FileStatus" 71 y_FS_told b_FS_told 3 ((some .int)) (.code y_FS_told b_FS_told 3 ((some .int)) :: tw) rm_FS_told 0 0 2 := cwV 2 hts (fz_giV k_96 k_98 s_1 k_1 k_99) rfl rfl rfl h_FS_told hR
theorem cs_LW_30 {R : Room} {s : State} {args : Array Value} (hts : ∀ w ∈ tw, w.before args s = true) (hR : rm_FS_act.frames + 1 ≤ R.frames ∧ 8 + (6 + 11) + rm_FS_act.locals ≤ R.locals) : CallW R s args "FileStatusLaw" "FileStatus" 30 y_FS_act b_FS_act 6 ((some .int)) (.code y_FS_act b_FS_act 6 ((some .int)) :: tw) rm_FS_act 0 0 2 := cwV 2 hts (fz_giV k_100 k_101 k_102 k_1 k_103) rfl rfl rfl h_FS_act hR
theorem cs_FS_86 {R : Room} {s : State} {args : Array Value} (hts : ∀ w ∈ tw, w.before args s = true) (hR : rm_FS_ahead.frames + 1 ≤ R.frames ∧ 8 + (3 + 11) + rm_FS_ahead.locals ≤ R.locals) : CallW R s args "FileStatus" "FileStatus" 86 y_FS_ahead b_FS_ahead 3 ((some .int)) (.code y_FS_ahead b_FS_ahead 3 ((some .int)) :: tw) rm_FS_ahead 0 0 1 := cwV 1 hts (fz_giV k_104 k_106 s_2 k_1 k_107) rfl rfl rfl h_FS_ahead hR
theorem cs_FS_75 {R : Room} {s : State} {args : Array Value} (hts : ∀ w ∈ tw, w.before args s = true) (hR : rm_AC_isFor.frames + 1 ≤ R.frames ∧ 8 + (2 + 11) + rm_AC_isFor.locals ≤ R.locals) : CallW R s args "FileStatus" "FileStatus$Act" 75 y_AC_isFor b_AC_isFor 2 ((some .boolean)) (.code y_AC_isFor b_AC_isFor 2 ((some .boolean)) :: tw) rm_AC_isFor 0 0 1 := cwV 1 hts (fz_giV k_108 k_109 k_110 k_2 k_111) rfl rfl rfl h_AC_isFor hR
theorem cs_FS_79 {R : Room} {s : State} {args : Array Value} (hts : ∀ w ∈ tw, w.before args s = true) (hR : rm_AC_isIn.frames + 1 ≤ R.frames ∧ 8 + (3 + 11) + rm_AC_isIn.locals ≤ R.locals) : CallW R s args "FileStatus" "FileStatus$Act" 79 y_AC_isIn b_AC_isIn 3 ((some .boolean)) (.code y_AC_isIn b_AC_isIn 3 ((some .boolean)) :: tw) rm_AC_isIn 0 0 2 := cwV 2 hts (fz_giV k_112 k_113 k_114 k_2 k_115) rfl rfl rfl h_AC_isIn hR
theorem cs_FS_89 {R : Room} {s : State} {args : Array Value} (hts : ∀ w ∈ tw, w.before args s = true) (hR : rm_AC_status.frames + 1 ≤ R.frames ∧ 8 + (3 + 11) + rm_AC_status.locals ≤ R.locals) : CallW R s args "FileStatus" "FileStatus$Act" 89 y_AC_status b_AC_status 3 ((some .int)) (.code y_AC_status b_AC_status 3 ((some .int)) :: tw) rm_AC_status 0 0 2 := cwV 2 hts (fz_giV k_116 k_117 k_118 k_2 k_119) rfl rfl rfl h_AC_status hR
theorem cs_FS_92 {R : Room} {s : State} {args : Array Value} (hts : ∀ w ∈ tw, w.before args s = true) (hR : rm_FS_position.frames + 1 ≤ R.frames ∧ 8 + (2 + 11) + rm_FS_position.locals ≤ R.locals) : CallW R s args "FileStatus" "FileStatus" 92 y_FS_position b_FS_position 2 ((some .int)) (.code y_FS_position b_FS_position 2 ((some .int)) :: tw) rm_FS_position 0 0 1 := cwV 1 hts (fz_giV k_120 k_121 k_122 k_1 k_123) rfl rfl rfl h_FS_position hR
theorem cs_FS_97 {R : Room} {s : State} {args : Array Value} (hts : ∀ w ∈ tw, w.before args s = true) (hR : rm_FS_isStatus.frames + 1 ≤ R.frames ∧ 8 + (1 + 11) + rm_FS_isStatus.locals ≤ R.locals) : CallB R s args "FileStatus" 97 y_FS_isStatus b_FS_isStatus 1 ((some .boolean)) (.code y_FS_isStatus b_FS_isStatus 1 ((some .boolean)) :: tw) rm_FS_isStatus 0 0 1 ∧ (Cond.static y_FS_isStatus).before args s = true := cwS 1 hts (fz_giS k_124 k_125 k_1 k_126) rfl rfl rfl h_FS_isStatus hR
theorem cs_FS_94 {R : Room} {s : State} {args : Array Value} (hts : ∀ w ∈ tw, w.before args s = true) (hR : rm_FS_area.frames + 1 ≤ R.frames ∧ 8 + (2 + 11) + rm_FS_area.locals ≤ R.locals) : CallW R s args "FileStatus" "FileStatus" 94 y_FS_area b_FS_area 2 ((some .int)) (.code y_FS_area b_FS_area 2 ((some .int)) :: tw) rm_FS_area 0 0 1 := cwV 1 hts (fz_giV k_127 k_128 k_129 k_1 k_130) rfl rfl rfl h_FS_area hR
theorem cs_LW_35 {R : Room} {s : State} {args : Array Value} (hts : ∀ w ∈ tw, w.before args s = true) (hR : rm_FS_exception.frames + 1 ≤ R.frames ∧ 8 + (3 + 11) + rm_FS_exception.locals ≤ R.locals) : CallW R s args "FileStatusLaw" "FileStatus" 35 y_FS_exception b_FS_exception 3 ((some .int)) (.code y_FS_exception b_FS_exception 3 ((some .int)) :: tw) rm_FS_exception 0 0 1 := cwV 1 hts (fz_giV k_131 k_132 k_133 k_1 k_134) rfl rfl rfl h_FS_exception hR
theorem cs_LW_39 {R : Room} {s : State} {args : Array Value} (hts : ∀ w ∈ tw, w.before args s = true) (hR : rm_FS_phrase.frames + 1 ≤ R.frames ∧ 8 + (3 + 11) + rm_FS_phrase.locals ≤ R.locals) : CallW R s args "FileStatusLaw" "FileStatus" 39 y_FS_phrase b_FS_phrase 3 ((some .int)) (.code y_FS_phrase b_FS_phrase 3 ((some .int)) :: tw) rm_FS_phrase 0 0 1 := cwV 1 hts (fz_giV k_135 k_136 k_137 k_1 k_138) rfl rfl rfl h_FS_phrase hR
theorem cs_FS_100 {R : Room} {s : State} {args : Array Value} (hts : ∀ w ∈ tw, w.before args s = true) (hR : rm_FS_exception.frames + 1 ≤ R.frames ∧ 8 + (3 + 11) + rm_FS_exception.locals ≤ R.locals) : CallW R s args "FileStatus" "FileStatus" 100 y_FS_exception b_FS_exception 3 ((some .int)) (.code y_FS_exception b_FS_exception 3 ((some .int)) :: tw) rm_FS_exception 0 0 1 := cwV 1 hts (fz_giV k_139 k_132 k_133 k_1 k_134) rfl rfl rfl h_FS_exception hR
theorem cs_LW_44 {R : Room} {s : State} {args : Array Value} (hts : ∀ w ∈ tw, w.before args s = true) (hR : rm_FS_declarative.frames + 1 ≤ R.frames ∧ 8 + (4 + 11) + rm_FS_declarative.locals ≤ R.locals) : CallW R s args "FileStatusLaw" "FileStatus" 44 y_FS_declarative b_FS_declarative 4 ((some .int)) (.code y_FS_declarative b_FS_declarative 4 ((some .int)) :: tw) rm_FS_declarative 0 0 2 := cwV 2 hts (fz_giV k_140 k_141 k_142 k_1 k_143) rfl rfl rfl h_FS_declarative hR
theorem cs_LW_49 {R : Room} {s : State} {args : Array Value} (hts : ∀ w ∈ tw, w.before args s = true) (hR : rm_FS_position.frames + 1 ≤ R.frames ∧ 8 + (2 + 11) + rm_FS_position.locals ≤ R.locals) : CallW R s args "FileStatusLaw" "FileStatus" 49 y_FS_position b_FS_position 2 ((some .int)) (.code y_FS_position b_FS_position 2 ((some .int)) :: tw) rm_FS_position 0 0 1 := cwV 1 hts (fz_giV k_144 k_121 k_122 k_1 k_123) rfl rfl rfl h_FS_position hR
theorem cs_LW_57 {R : Room} {s : State} {args : Array Value} (hts : ∀ w ∈ tw, w.before args s = true) (hR : rm_FS_both.frames + 1 ≤ R.frames ∧ 8 + (4 + 11) + rm_FS_both.locals ≤ R.locals) : CallW R s args "FileStatusLaw" "FileStatus" 57 y_FS_both b_FS_both 4 ((some .int)) (.code y_FS_both b_FS_both 4 ((some .int)) :: tw) rm_FS_both 0 0 2 := cwV 2 hts (fz_giV k_145 k_146 k_147 k_1 k_148) rfl rfl rfl h_FS_both hR
theorem cs_LW_61 {R : Room} {s : State} {args : Array Value} (hts : ∀ w ∈ tw, w.before args s = true) (hR : rm_FS_extended.frames + 1 ≤ R.frames ∧ 8 + (2 + 11) + rm_FS_extended.locals ≤ R.locals) : CallW R s args "FileStatusLaw" "FileStatus" 61 y_FS_extended b_FS_extended 2 ((some .int)) (.code y_FS_extended b_FS_extended 2 ((some .int)) :: tw) rm_FS_extended 0 0 1 := cwV 1 hts (fz_giV k_149 k_150 k_151 k_1 k_152) rfl rfl rfl h_FS_extended hR
theorem cs_LW_65 {R : Room} {s : State} {args : Array Value} (hts : ∀ w ∈ tw, w.before args s = true) (hR : rm_FS_area.frames + 1 ≤ R.frames ∧ 8 + (2 + 11) + rm_FS_area.locals ≤ R.locals) : CallW R s args "FileStatusLaw" "FileStatus" 65 y_FS_area b_FS_area 2 ((some .int)) (.code y_FS_area b_FS_area 2 ((some .int)) :: tw) rm_FS_area 0 0 1 := cwV 1 hts (fz_giV k_153 k_128 k_129 k_1 k_130) rfl rfl rfl h_FS_area hR
theorem cs_LW_69 {R : Room} {s : State} {args : Array Value} (hts : ∀ w ∈ tw, w.before args s = true) (hR : rm_FS_count.frames + 1 ≤ R.frames ∧ 8 + (2 + 11) + rm_FS_count.locals ≤ R.locals) : CallW R s args "FileStatusLaw" "FileStatus" 69 y_FS_count b_FS_count 2 ((some .int)) (.code y_FS_count b_FS_count 2 ((some .int)) :: tw) rm_FS_count 0 0 1 := cwV 1 hts (fz_giV k_154 k_155 k_156 k_1 k_157) rfl rfl rfl h_FS_count hR
theorem cs_LW_9 {R : Room} {s : State} {args : Array Value} (hts : ∀ w ∈ tw, w.before args s = true) (hR : rm_LW_cell.frames + 1 ≤ R.frames ∧ 8 + (2 + 11) + rm_LW_cell.locals ≤ R.locals) : CallB R s args "FileStatusLaw" 9 y_LW_cell b_LW_cell 2 ((some .int)) (.code y_LW_cell b_LW_cell 2 ((some .int)) :: tw) rm_LW_cell 0 0 2 ∧ (Cond.static y_LW_cell).before args s = true := cwS 2 hts (fz_giS k_158 k_159 k_0 k_160) rfl rfl rfl h_LW_cell hR
theorem cs_LW_20 {R : Room} {s : State} {args : Array Value} (hts : ∀ w ∈ tw, w.before args s = true) (hR : rm_MD_init.frames + 1 ≤ R.frames ∧ 8 + (2 + 11) + rm_MD_init.locals ≤ R.locals) : CallB R s args "FileStatusLaw" 20 y_MD_init b_MD_init 2 (none) (.code y_MD_init b_MD_init 2 (none) :: tw) rm_MD_init 1 7 1 ∧ y_MD_init.name = "<init>" ∧ (Cond.instanceMethod y_MD_init).before args s = true := cwI 1 hts (fz_giI k_165) rfl rfl rfl (hts _ k_3) (hts _ k_163) (hts _ k_164) rfl h_MD_init.2 hR
theorem cs_LW_25 {R : Room} {s : State} {args : Array Value} (hts : ∀ w ∈ tw, w.before args s = true) (hR : rm_MD_mode.frames + 1 ≤ R.frames ∧ 8 + (3 + 11) + rm_MD_mode.locals ≤ R.locals) : CallW R s args "FileStatusLaw" "FileStatusModel" 25 y_MD_mode b_MD_mode 3 ((some .int)) (.code y_MD_mode b_MD_mode 3 ((some .int)) :: tw) rm_MD_mode 0 0 1 := cwV 1 hts (fz_giV k_207 k_208 k_209 k_3 k_210) rfl rfl rfl h_MD_mode hR
theorem cs_LW_29 {R : Room} {s : State} {args : Array Value} (hts : ∀ w ∈ tw, w.before args s = true) (hR : rm_MD_open.frames + 1 ≤ R.frames ∧ 8 + (4 + 11) + rm_MD_open.locals ≤ R.locals) : CallW R s args "FileStatusLaw" "FileStatusModel" 29 y_MD_open b_MD_open 4 ((some .int)) (.code y_MD_open b_MD_open 4 ((some .int)) :: tw) rm_MD_open 0 0 1 := cwV 1 hts (fz_giV k_211 k_212 k_213 k_3 k_214) rfl rfl rfl h_MD_open hR
theorem cs_MD_39 {R : Room} {s : State} {args : Array Value} (hts : ∀ w ∈ tw, w.before args s = true) (hR : rm_MD_opened.frames + 1 ≤ R.frames ∧ 8 + (2 + 11) + rm_MD_opened.locals ≤ R.locals) : CallW R s args "FileStatusModel" "FileStatusModel" 39 y_MD_opened b_MD_opened 2 ((some .int)) (.code y_MD_opened b_MD_opened 2 ((some .int)) :: tw) rm_MD_opened 0 0 1 := cwV 1 hts (fz_giV k_215 k_217 s_3 k_3 k_218) rfl rfl rfl h_MD_opened hR
theorem cs_MD_43 {R : Room} {s : State} {args : Array Value} (hts : ∀ w ∈ tw, w.before args s = true) (hR : rm_MD_told.frames + 1 ≤ R.frames ∧ 8 + (3 + 11) + rm_MD_told.locals ≤ R.locals) : CallW R s args "FileStatusModel" "FileStatusModel" 43 y_MD_told b_MD_told 3 ((some .int)) (.code y_MD_told b_MD_told 3 ((some .int)) :: tw) rm_MD_told 0 0 2 := cwV 2 hts (fz_giV k_219 k_221 s_4 k_3 k_222) rfl rfl rfl h_MD_told hR
theorem cs_LW_34 {R : Room} {s : State} {args : Array Value} (hts : ∀ w ∈ tw, w.before args s = true) (hR : rm_MD_act.frames + 1 ≤ R.frames ∧ 8 + (6 + 11) + rm_MD_act.locals ≤ R.locals) : CallW R s args "FileStatusLaw" "FileStatusModel" 34 y_MD_act b_MD_act 6 ((some .int)) (.code y_MD_act b_MD_act 6 ((some .int)) :: tw) rm_MD_act 0 0 2 := cwV 2 hts (fz_giV k_223 k_224 k_225 k_3 k_226) rfl rfl rfl h_MD_act hR
theorem cs_MD_63 {R : Room} {s : State} {args : Array Value} (hts : ∀ w ∈ tw, w.before args s = true) (hR : rm_MD_ahead.frames + 1 ≤ R.frames ∧ 8 + (2 + 11) + rm_MD_ahead.locals ≤ R.locals) : CallW R s args "FileStatusModel" "FileStatusModel" 63 y_MD_ahead b_MD_ahead 2 ((some .int)) (.code y_MD_ahead b_MD_ahead 2 ((some .int)) :: tw) rm_MD_ahead 0 0 1 := cwV 1 hts (fz_giV k_227 k_229 s_5 k_3 k_230) rfl rfl rfl h_MD_ahead hR
theorem cs_MD_59 {R : Room} {s : State} {args : Array Value} (hts : ∀ w ∈ tw, w.before args s = true) (hR : rm_MD_reads.frames + 1 ≤ R.frames ∧ 8 + (1 + 11) + rm_MD_reads.locals ≤ R.locals) : CallW R s args "FileStatusModel" "FileStatusModel" 59 y_MD_reads b_MD_reads 1 ((some .boolean)) (.code y_MD_reads b_MD_reads 1 ((some .boolean)) :: tw) rm_MD_reads 0 0 0 := cwV 0 hts (fz_giV k_231 k_233 s_6 k_3 k_234) rfl rfl rfl h_MD_reads hR
theorem cs_MD_66 {R : Room} {s : State} {args : Array Value} (hts : ∀ w ∈ tw, w.before args s = true) (hR : rm_MD_byOutcome.frames + 1 ≤ R.frames ∧ 8 + (5 + 11) + rm_MD_byOutcome.locals ≤ R.locals) : CallW R s args "FileStatusModel" "FileStatusModel" 66 y_MD_byOutcome b_MD_byOutcome 5 ((some .int)) (.code y_MD_byOutcome b_MD_byOutcome 5 ((some .int)) :: tw) rm_MD_byOutcome 0 0 2 := cwV 2 hts (fz_giV k_235 k_237 s_7 k_3 k_238) rfl rfl rfl h_MD_byOutcome hR
theorem cs_MD_69 {R : Room} {s : State} {args : Array Value} (hts : ∀ w ∈ tw, w.before args s = true) (hR : rm_MD_moved.frames + 1 ≤ R.frames ∧ 8 + (1 + 11) + rm_MD_moved.locals ≤ R.locals) : CallB R s args "FileStatusModel" 69 y_MD_moved b_MD_moved 1 ((some .int)) (.code y_MD_moved b_MD_moved 1 ((some .int)) :: tw) rm_MD_moved 0 0 1 ∧ (Cond.static y_MD_moved).before args s = true := cwS 1 hts (fz_giS k_239 k_240 k_3 k_241) rfl rfl rfl h_MD_moved hR
theorem cs_LW_38 {R : Room} {s : State} {args : Array Value} (hts : ∀ w ∈ tw, w.before args s = true) (hR : rm_MD_exception.frames + 1 ≤ R.frames ∧ 8 + (2 + 11) + rm_MD_exception.locals ≤ R.locals) : CallW R s args "FileStatusLaw" "FileStatusModel" 38 y_MD_exception b_MD_exception 2 ((some .int)) (.code y_MD_exception b_MD_exception 2 ((some .int)) :: tw) rm_MD_exception 0 0 1 := cwV 1 hts (fz_giV k_242 k_243 k_244 k_3 k_245) rfl rfl rfl h_MD_exception hR
theorem cs_MD_72 {R : Room} {s : State} {args : Array Value} (hts : ∀ w ∈ tw, w.before args s = true) (hR : rm_MD_isStatus.frames + 1 ≤ R.frames ∧ 8 + (1 + 11) + rm_MD_isStatus.locals ≤ R.locals) : CallB R s args "FileStatusModel" 72 y_MD_isStatus b_MD_isStatus 1 ((some .boolean)) (.code y_MD_isStatus b_MD_isStatus 1 ((some .boolean)) :: tw) rm_MD_isStatus 0 0 1 ∧ (Cond.static y_MD_isStatus).before args s = true := cwS 1 hts (fz_giS k_246 k_247 k_3 k_248) rfl rfl rfl h_MD_isStatus hR
theorem cs_MD_76 {R : Room} {s : State} {args : Array Value} (hts : ∀ w ∈ tw, w.before args s = true) (hR : rm_MD_kindOf.frames + 1 ≤ R.frames ∧ 8 + (2 + 11) + rm_MD_kindOf.locals ≤ R.locals) : CallB R s args "FileStatusModel" 76 y_MD_kindOf b_MD_kindOf 2 ((some .int)) (.code y_MD_kindOf b_MD_kindOf 2 ((some .int)) :: tw) rm_MD_kindOf 0 0 1 ∧ (Cond.static y_MD_kindOf).before args s = true := cwS 1 hts (fz_giS k_249 k_250 k_3 k_251) rfl rfl rfl h_MD_kindOf hR
theorem cs_LW_43 {R : Room} {s : State} {args : Array Value} (hts : ∀ w ∈ tw, w.before args s = true) (hR : rm_MD_phrase.frames + 1 ≤ R.frames ∧ 8 + (3 + 11) + rm_MD_phrase.locals ≤ R.locals) : CallW R s args "FileStatusLaw" "FileStatusModel" 43 y_MD_phrase b_MD_phrase 3 ((some .int)) (.code y_MD_phrase b_MD_phrase 3 ((some .int)) :: tw) rm_MD_phrase 0 0 1 := cwV 1 hts (fz_giV k_252 k_253 k_254 k_3 k_255) rfl rfl rfl h_MD_phrase hR
theorem cs_LW_48 {R : Room} {s : State} {args : Array Value} (hts : ∀ w ∈ tw, w.before args s = true) (hR : rm_MD_declarative.frames + 1 ≤ R.frames ∧ 8 + (4 + 11) + rm_MD_declarative.locals ≤ R.locals) : CallW R s args "FileStatusLaw" "FileStatusModel" 48 y_MD_declarative b_MD_declarative 4 ((some .int)) (.code y_MD_declarative b_MD_declarative 4 ((some .int)) :: tw) rm_MD_declarative 0 0 2 := cwV 2 hts (fz_giV k_256 k_257 k_258 k_3 k_259) rfl rfl rfl h_MD_declarative hR
theorem cs_LW_52 {R : Room} {s : State} {args : Array Value} (hts : ∀ w ∈ tw, w.before args s = true) (hR : rm_MD_position.frames + 1 ≤ R.frames ∧ 8 + (2 + 11) + rm_MD_position.locals ≤ R.locals) : CallW R s args "FileStatusLaw" "FileStatusModel" 52 y_MD_position b_MD_position 2 ((some .int)) (.code y_MD_position b_MD_position 2 ((some .int)) :: tw) rm_MD_position 0 0 1 := cwV 1 hts (fz_giV k_260 k_261 k_262 k_3 k_263) rfl rfl rfl h_MD_position hR
theorem cs_LW_56 {R : Room} {s : State} {args : Array Value} (hts : ∀ w ∈ tw, w.before args s = true) (hR : rm_MD_optional.frames + 1 ≤ R.frames ∧ 8 + (3 + 11) + rm_MD_optional.locals ≤ R.locals) : CallW R s args "FileStatusLaw" "FileStatusModel" 56 y_MD_optional b_MD_optional 3 ((some .int)) (.code y_MD_optional b_MD_optional 3 ((some .int)) :: tw) rm_MD_optional 0 0 1 := cwV 1 hts (fz_giV k_264 k_265 k_266 k_3 k_267) rfl rfl rfl h_MD_optional hR
theorem cs_LW_60 {R : Room} {s : State} {args : Array Value} (hts : ∀ w ∈ tw, w.before args s = true) (hR : rm_MD_both.frames + 1 ≤ R.frames ∧ 8 + (3 + 11) + rm_MD_both.locals ≤ R.locals) : CallW R s args "FileStatusLaw" "FileStatusModel" 60 y_MD_both b_MD_both 3 ((some .int)) (.code y_MD_both b_MD_both 3 ((some .int)) :: tw) rm_MD_both 0 0 2 := cwV 2 hts (fz_giV k_268 k_269 k_270 k_3 k_271) rfl rfl rfl h_MD_both hR
theorem cs_LW_64 {R : Room} {s : State} {args : Array Value} (hts : ∀ w ∈ tw, w.before args s = true) (hR : rm_MD_extended.frames + 1 ≤ R.frames ∧ 8 + (2 + 11) + rm_MD_extended.locals ≤ R.locals) : CallW R s args "FileStatusLaw" "FileStatusModel" 64 y_MD_extended b_MD_extended 2 ((some .int)) (.code y_MD_extended b_MD_extended 2 ((some .int)) :: tw) rm_MD_extended 0 0 1 := cwV 1 hts (fz_giV k_272 k_273 k_274 k_3 k_275) rfl rfl rfl h_MD_extended hR
theorem cs_LW_68 {R : Room} {s : State} {args : Array Value} (hts : ∀ w ∈ tw, w.before args s = true) (hR : rm_MD_area.frames + 1 ≤ R.frames ∧ 8 + (2 + 11) + rm_MD_area.locals ≤ R.locals) : CallW R s args "FileStatusLaw" "FileStatusModel" 68 y_MD_area b_MD_area 2 ((some .int)) (.code y_MD_area b_MD_area 2 ((some .int)) :: tw) rm_MD_area 0 0 1 := cwV 1 hts (fz_giV k_276 k_277 k_278 k_3 k_279) rfl rfl rfl h_MD_area hR
theorem cs_LW_72 {R : Room} {s : State} {args : Array Value} (hts : ∀ w ∈ tw, w.before args s = true) (hR : rm_MD_count.frames + 1 ≤ R.frames ∧ 8 + (2 + 11) + rm_MD_count.locals ≤ R.locals) : CallW R s args "FileStatusLaw" "FileStatusModel" 72 y_MD_count b_MD_count 2 ((some .int)) (.code y_MD_count b_MD_count 2 ((some .int)) :: tw) rm_MD_count 0 0 1 := cwV 1 hts (fz_giV k_280 k_281 k_282 k_3 k_283) rfl rfl rfl h_MD_count hR
end
section
theorem d_FS_row_0 : decode b_FS_row 0 = .ok (.bipush 9, 2) := by decide +kernel
theorem d_FS_row_2 : decode b_FS_row 2 = .ok (.newarray .int, 2) := by decide +kernel
theorem d_FS_row_4 : decode b_FS_row 4 = .ok (.dup, 1) := by decide +kernel
theorem d_FS_row_5 : decode b_FS_row 5 = .ok (.iconst 0, 1) := by decide +kernel
theorem d_FS_row_6 : decode b_FS_row 6 = .ok (.iconst 0, 1) := by decide +kernel
theorem d_FS_row_7 : decode b_FS_row 7 = .ok (.iastore, 1) := by decide +kernel
theorem d_FS_row_8 : decode b_FS_row 8 = .ok (.dup, 1) := by decide +kernel
theorem d_FS_row_9 : decode b_FS_row 9 = .ok (.iconst 1, 1) := by decide +kernel
theorem d_FS_row_10 : decode b_FS_row 10 = .ok (.iload_n 0, 1) := by decide +kernel
theorem d_FS_row_11 : decode b_FS_row 11 = .ok (.iastore, 1) := by decide +kernel
theorem d_FS_row_12 : decode b_FS_row 12 = .ok (.dup, 1) := by decide +kernel
theorem d_FS_row_13 : decode b_FS_row 13 = .ok (.iconst 2, 1) := by decide +kernel
theorem d_FS_row_14 : decode b_FS_row 14 = .ok (.iload_n 1, 1) := by decide +kernel
theorem d_FS_row_15 : decode b_FS_row 15 = .ok (.iastore, 1) := by decide +kernel
theorem d_FS_row_16 : decode b_FS_row 16 = .ok (.dup, 1) := by decide +kernel
theorem d_FS_row_17 : decode b_FS_row 17 = .ok (.iconst 3, 1) := by decide +kernel
theorem d_FS_row_18 : decode b_FS_row 18 = .ok (.iload_n 2, 1) := by decide +kernel
theorem d_FS_row_19 : decode b_FS_row 19 = .ok (.iastore, 1) := by decide +kernel
theorem d_FS_row_20 : decode b_FS_row 20 = .ok (.dup, 1) := by decide +kernel
theorem d_FS_row_21 : decode b_FS_row 21 = .ok (.iconst 4, 1) := by decide +kernel
theorem d_FS_row_22 : decode b_FS_row 22 = .ok (.iload_n 3, 1) := by decide +kernel
theorem d_FS_row_23 : decode b_FS_row 23 = .ok (.iastore, 1) := by decide +kernel
theorem d_FS_row_24 : decode b_FS_row 24 = .ok (.dup, 1) := by decide +kernel
theorem d_FS_row_25 : decode b_FS_row 25 = .ok (.iconst 5, 1) := by decide +kernel
theorem d_FS_row_26 : decode b_FS_row 26 = .ok (.bipush 30, 2) := by decide +kernel
theorem d_FS_row_28 : decode b_FS_row 28 = .ok (.iastore, 1) := by decide +kernel
theorem d_FS_row_29 : decode b_FS_row 29 = .ok (.dup, 1) := by decide +kernel
theorem d_FS_row_30 : decode b_FS_row 30 = .ok (.bipush 6, 2) := by decide +kernel
theorem d_FS_row_32 : decode b_FS_row 32 = .ok (.iload 4, 2) := by decide +kernel
theorem d_FS_row_34 : decode b_FS_row 34 = .ok (.iastore, 1) := by decide +kernel
theorem d_FS_row_35 : decode b_FS_row 35 = .ok (.dup, 1) := by decide +kernel
theorem d_FS_row_36 : decode b_FS_row 36 = .ok (.bipush 7, 2) := by decide +kernel
theorem d_FS_row_38 : decode b_FS_row 38 = .ok (.iload 5, 2) := by decide +kernel
theorem d_FS_row_40 : decode b_FS_row 40 = .ok (.iastore, 1) := by decide +kernel
theorem d_FS_row_41 : decode b_FS_row 41 = .ok (.dup, 1) := by decide +kernel
theorem d_FS_row_42 : decode b_FS_row 42 = .ok (.bipush 8, 2) := by decide +kernel
theorem d_FS_row_44 : decode b_FS_row 44 = .ok (.iload 6, 2) := by decide +kernel
theorem d_FS_row_46 : decode b_FS_row 46 = .ok (.iastore, 1) := by decide +kernel
theorem d_FS_row_47 : decode b_FS_row 47 = .ok (.areturn, 1) := by decide +kernel
theorem d_FS_nothing_0 : decode b_FS_nothing 0 = .ok (.bipush 90, 2) := by decide +kernel
theorem d_FS_nothing_2 : decode b_FS_nothing 2 = .ok (.bipush 90, 2) := by decide +kernel
theorem d_FS_nothing_4 : decode b_FS_nothing 4 = .ok (.bipush 90, 2) := by decide +kernel
theorem d_FS_nothing_6 : decode b_FS_nothing 6 = .ok (.bipush 90, 2) := by decide +kernel
theorem d_FS_nothing_8 : decode b_FS_nothing 8 = .ok (.bipush 90, 2) := by decide +kernel
theorem d_FS_nothing_10 : decode b_FS_nothing 10 = .ok (.bipush 90, 2) := by decide +kernel
theorem d_FS_nothing_12 : decode b_FS_nothing 12 = .ok (.bipush 90, 2) := by decide +kernel
theorem d_FS_nothing_14 : decode b_FS_nothing 14 = .ok (.invokestatic 3, 3) := by decide +kernel
theorem d_FS_nothing_17 : decode b_FS_nothing 17 = .ok (.areturn, 1) := by decide +kernel
theorem d_FS_mode_0 : decode b_FS_mode 0 = .ok (.aload_n 0, 1) := by decide +kernel
theorem d_FS_mode_1 : decode b_FS_mode 1 = .ok (.getfield 28, 3) := by decide +kernel
theorem d_FS_mode_4 : decode b_FS_mode 4 = .ok (.iconst (-1), 1) := by decide +kernel
theorem d_FS_mode_5 : decode b_FS_mode 5 = .ok (.if_icmp .eq 6, 3) := by decide +kernel
theorem d_FS_mode_8 : decode b_FS_mode 8 = .ok (.bipush (-5), 2) := by decide +kernel
theorem d_FS_mode_10 : decode b_FS_mode 10 = .ok (.ireturn, 1) := by decide +kernel
theorem d_FS_mode_11 : decode b_FS_mode 11 = .ok (.iload_n 1, 1) := by decide +kernel
theorem d_FS_mode_12 : decode b_FS_mode 12 = .ok (.ifCond .lt 8, 3) := by decide +kernel
theorem d_FS_mode_15 : decode b_FS_mode 15 = .ok (.iload_n 1, 1) := by decide +kernel
theorem d_FS_mode_16 : decode b_FS_mode 16 = .ok (.iconst 3, 1) := by decide +kernel
theorem d_FS_mode_17 : decode b_FS_mode 17 = .ok (.if_icmp .le 6, 3) := by decide +kernel
theorem d_FS_mode_20 : decode b_FS_mode 20 = .ok (.bipush (-4), 2) := by decide +kernel
theorem d_FS_mode_22 : decode b_FS_mode 22 = .ok (.ireturn, 1) := by decide +kernel
theorem d_FS_mode_23 : decode b_FS_mode 23 = .ok (.aload_n 0, 1) := by decide +kernel
theorem d_FS_mode_24 : decode b_FS_mode 24 = .ok (.getfield 42, 3) := by decide +kernel
theorem d_FS_mode_27 : decode b_FS_mode 27 = .ok (.istore_n 2, 1) := by decide +kernel
theorem d_FS_mode_28 : decode b_FS_mode 28 = .ok (.aload_n 0, 1) := by decide +kernel
theorem d_FS_mode_29 : decode b_FS_mode 29 = .ok (.iload_n 1, 1) := by decide +kernel
theorem d_FS_mode_30 : decode b_FS_mode 30 = .ok (.putfield 42, 3) := by decide +kernel
theorem d_FS_mode_33 : decode b_FS_mode 33 = .ok (.iload_n 2, 1) := by decide +kernel
theorem d_FS_mode_34 : decode b_FS_mode 34 = .ok (.ireturn, 1) := by decide +kernel
theorem d_FS_optional_0 : decode b_FS_optional 0 = .ok (.aload_n 0, 1) := by decide +kernel
theorem d_FS_optional_1 : decode b_FS_optional 1 = .ok (.getfield 28, 3) := by decide +kernel
theorem d_FS_optional_4 : decode b_FS_optional 4 = .ok (.iconst (-1), 1) := by decide +kernel
theorem d_FS_optional_5 : decode b_FS_optional 5 = .ok (.if_icmp .eq 6, 3) := by decide +kernel
theorem d_FS_optional_8 : decode b_FS_optional 8 = .ok (.bipush (-5), 2) := by decide +kernel
theorem d_FS_optional_10 : decode b_FS_optional 10 = .ok (.ireturn, 1) := by decide +kernel
theorem d_FS_optional_11 : decode b_FS_optional 11 = .ok (.aload_n 0, 1) := by decide +kernel
theorem d_FS_optional_12 : decode b_FS_optional 12 = .ok (.getfield 45, 3) := by decide +kernel
theorem d_FS_optional_15 : decode b_FS_optional 15 = .ok (.ifCond .eq 7, 3) := by decide +kernel
theorem d_FS_optional_18 : decode b_FS_optional 18 = .ok (.iconst 1, 1) := by decide +kernel
theorem d_FS_optional_19 : decode b_FS_optional 19 = .ok (.goto 4, 3) := by decide +kernel
theorem d_FS_optional_22 : decode b_FS_optional 22 = .ok (.iconst 0, 1) := by decide +kernel
theorem d_FS_optional_23 : decode b_FS_optional 23 = .ok (.istore_n 2, 1) := by decide +kernel
theorem d_FS_optional_24 : decode b_FS_optional 24 = .ok (.aload_n 0, 1) := by decide +kernel
theorem d_FS_optional_25 : decode b_FS_optional 25 = .ok (.iload_n 1, 1) := by decide +kernel
theorem d_FS_optional_26 : decode b_FS_optional 26 = .ok (.putfield 45, 3) := by decide +kernel
theorem d_FS_optional_29 : decode b_FS_optional 29 = .ok (.iload_n 2, 1) := by decide +kernel
theorem d_FS_optional_30 : decode b_FS_optional 30 = .ok (.ireturn, 1) := by decide +kernel
theorem d_FS_open_0 : decode b_FS_open 0 = .ok (.aload_n 0, 1) := by decide +kernel
theorem d_FS_open_1 : decode b_FS_open 1 = .ok (.iload_n 1, 1) := by decide +kernel
theorem d_FS_open_2 : decode b_FS_open 2 = .ok (.invokevirtual 58, 3) := by decide +kernel
theorem d_FS_open_5 : decode b_FS_open 5 = .ok (.istore_n 2, 1) := by decide +kernel
theorem d_FS_open_6 : decode b_FS_open 6 = .ok (.aload_n 0, 1) := by decide +kernel
theorem d_FS_open_7 : decode b_FS_open 7 = .ok (.iconst 0, 1) := by decide +kernel
theorem d_FS_open_8 : decode b_FS_open 8 = .ok (.putfield 62, 3) := by decide +kernel
theorem d_FS_open_11 : decode b_FS_open 11 = .ok (.iload_n 2, 1) := by decide +kernel
theorem d_FS_open_12 : decode b_FS_open 12 = .ok (.bipush 10, 2) := by decide +kernel
theorem d_FS_open_14 : decode b_FS_open 14 = .ok (.if_icmp .ge 45, 3) := by decide +kernel
theorem d_FS_open_17 : decode b_FS_open 17 = .ok (.aload_n 0, 1) := by decide +kernel
theorem d_FS_open_18 : decode b_FS_open 18 = .ok (.aload_n 0, 1) := by decide +kernel
theorem d_FS_open_19 : decode b_FS_open 19 = .ok (.getfield 42, 3) := by decide +kernel
theorem d_FS_open_22 : decode b_FS_open 22 = .ok (.putfield 28, 3) := by decide +kernel
theorem d_FS_open_25 : decode b_FS_open 25 = .ok (.aload_n 0, 1) := by decide +kernel
theorem d_FS_open_26 : decode b_FS_open 26 = .ok (.iconst 0, 1) := by decide +kernel
theorem d_FS_open_27 : decode b_FS_open 27 = .ok (.putfield 65, 3) := by decide +kernel
theorem d_FS_open_30 : decode b_FS_open 30 = .ok (.aload_n 0, 1) := by decide +kernel
theorem d_FS_open_31 : decode b_FS_open 31 = .ok (.iload_n 2, 1) := by decide +kernel
theorem d_FS_open_32 : decode b_FS_open 32 = .ok (.iconst 5, 1) := by decide +kernel
theorem d_FS_open_33 : decode b_FS_open 33 = .ok (.if_icmp .ne 22, 3) := by decide +kernel
theorem d_FS_open_36 : decode b_FS_open 36 = .ok (.aload_n 0, 1) := by decide +kernel
theorem d_FS_open_37 : decode b_FS_open 37 = .ok (.getfield 28, 3) := by decide +kernel
theorem d_FS_open_40 : decode b_FS_open 40 = .ok (.ifCond .eq 11, 3) := by decide +kernel
theorem d_FS_open_43 : decode b_FS_open 43 = .ok (.aload_n 0, 1) := by decide +kernel
theorem d_FS_open_44 : decode b_FS_open 44 = .ok (.getfield 28, 3) := by decide +kernel
theorem d_FS_open_47 : decode b_FS_open 47 = .ok (.iconst 2, 1) := by decide +kernel
theorem d_FS_open_48 : decode b_FS_open 48 = .ok (.if_icmp .ne 7, 3) := by decide +kernel
theorem d_FS_open_51 : decode b_FS_open 51 = .ok (.iconst 1, 1) := by decide +kernel
theorem d_FS_open_52 : decode b_FS_open 52 = .ok (.goto 4, 3) := by decide +kernel
theorem d_FS_open_55 : decode b_FS_open 55 = .ok (.iconst 0, 1) := by decide +kernel
theorem d_FS_open_56 : decode b_FS_open 56 = .ok (.putfield 68, 3) := by decide +kernel
theorem d_FS_open_59 : decode b_FS_open 59 = .ok (.aload_n 0, 1) := by decide +kernel
theorem d_FS_open_60 : decode b_FS_open 60 = .ok (.iload_n 2, 1) := by decide +kernel
theorem d_FS_open_61 : decode b_FS_open 61 = .ok (.bipush 7, 2) := by decide +kernel
theorem d_FS_open_63 : decode b_FS_open 63 = .ok (.invokevirtual 71, 3) := by decide +kernel
theorem d_FS_open_66 : decode b_FS_open 66 = .ok (.ireturn, 1) := by decide +kernel
theorem d_FS_opening_0 : decode b_FS_opening 0 = .ok (.aload_n 0, 1) := by decide +kernel
theorem d_FS_opening_1 : decode b_FS_opening 1 = .ok (.getfield 28, 3) := by decide +kernel
theorem d_FS_opening_4 : decode b_FS_opening 4 = .ok (.iconst (-1), 1) := by decide +kernel
theorem d_FS_opening_5 : decode b_FS_opening 5 = .ok (.if_icmp .eq 6, 3) := by decide +kernel
theorem d_FS_opening_8 : decode b_FS_opening 8 = .ok (.bipush 41, 2) := by decide +kernel
theorem d_FS_opening_10 : decode b_FS_opening 10 = .ok (.ireturn, 1) := by decide +kernel
theorem d_FS_opening_11 : decode b_FS_opening 11 = .ok (.iload_n 1, 1) := by decide +kernel
theorem d_FS_opening_12 : decode b_FS_opening 12 = .ok (.tableswitch 87 0 6 #[44, 46, 72, 75, 78, 81, 84], 44) := by decide +kernel
theorem d_FS_opening_56 : decode b_FS_opening 56 = .ok (.iconst 0, 1) := by decide +kernel
theorem d_FS_opening_57 : decode b_FS_opening 57 = .ok (.ireturn, 1) := by decide +kernel
theorem d_FS_opening_58 : decode b_FS_opening 58 = .ok (.aload_n 0, 1) := by decide +kernel
theorem d_FS_opening_59 : decode b_FS_opening 59 = .ok (.getfield 42, 3) := by decide +kernel
theorem d_FS_opening_62 : decode b_FS_opening 62 = .ok (.iconst 1, 1) := by decide +kernel
theorem d_FS_opening_63 : decode b_FS_opening 63 = .ok (.if_icmp .ne 7, 3) := by decide +kernel
theorem d_FS_opening_66 : decode b_FS_opening 66 = .ok (.iconst 0, 1) := by decide +kernel
theorem d_FS_opening_67 : decode b_FS_opening 67 = .ok (.goto 16, 3) := by decide +kernel
theorem d_FS_opening_70 : decode b_FS_opening 70 = .ok (.aload_n 0, 1) := by decide +kernel
theorem d_FS_opening_71 : decode b_FS_opening 71 = .ok (.getfield 45, 3) := by decide +kernel
theorem d_FS_opening_74 : decode b_FS_opening 74 = .ok (.ifCond .eq 7, 3) := by decide +kernel
theorem d_FS_opening_77 : decode b_FS_opening 77 = .ok (.iconst 5, 1) := by decide +kernel
theorem d_FS_opening_78 : decode b_FS_opening 78 = .ok (.goto 5, 3) := by decide +kernel
theorem d_FS_opening_81 : decode b_FS_opening 81 = .ok (.bipush 35, 2) := by decide +kernel
theorem d_FS_opening_83 : decode b_FS_opening 83 = .ok (.ireturn, 1) := by decide +kernel
theorem d_FS_opening_84 : decode b_FS_opening 84 = .ok (.bipush 37, 2) := by decide +kernel
theorem d_FS_opening_86 : decode b_FS_opening 86 = .ok (.ireturn, 1) := by decide +kernel
theorem d_FS_opening_87 : decode b_FS_opening 87 = .ok (.bipush 39, 2) := by decide +kernel
theorem d_FS_opening_89 : decode b_FS_opening 89 = .ok (.ireturn, 1) := by decide +kernel
theorem d_FS_opening_90 : decode b_FS_opening 90 = .ok (.bipush 38, 2) := by decide +kernel
theorem d_FS_opening_92 : decode b_FS_opening 92 = .ok (.ireturn, 1) := by decide +kernel
theorem d_FS_opening_93 : decode b_FS_opening 93 = .ok (.bipush 30, 2) := by decide +kernel
theorem d_FS_opening_95 : decode b_FS_opening 95 = .ok (.ireturn, 1) := by decide +kernel
theorem d_FS_opening_96 : decode b_FS_opening 96 = .ok (.bipush 61, 2) := by decide +kernel
theorem d_FS_opening_98 : decode b_FS_opening 98 = .ok (.ireturn, 1) := by decide +kernel
theorem d_FS_opening_99 : decode b_FS_opening 99 = .ok (.bipush 90, 2) := by decide +kernel
theorem d_FS_opening_101 : decode b_FS_opening 101 = .ok (.ireturn, 1) := by decide +kernel
theorem d_FS_told_0 : decode b_FS_told 0 = .ok (.aload_n 0, 1) := by decide +kernel
theorem d_FS_told_1 : decode b_FS_told 1 = .ok (.iload_n 1, 1) := by decide +kernel
theorem d_FS_told_2 : decode b_FS_told 2 = .ok (.putfield 49, 3) := by decide +kernel
theorem d_FS_told_5 : decode b_FS_told 5 = .ok (.aload_n 0, 1) := by decide +kernel
theorem d_FS_told_6 : decode b_FS_told 6 = .ok (.iload_n 2, 1) := by decide +kernel
theorem d_FS_told_7 : decode b_FS_told 7 = .ok (.putfield 32, 3) := by decide +kernel
theorem d_FS_told_10 : decode b_FS_told 10 = .ok (.iload_n 1, 1) := by decide +kernel
theorem d_FS_told_11 : decode b_FS_told 11 = .ok (.bipush 10, 2) := by decide +kernel
theorem d_FS_told_13 : decode b_FS_told 13 = .ok (.if_icmp .lt 16, 3) := by decide +kernel
theorem d_FS_told_16 : decode b_FS_told 16 = .ok (.aload_n 0, 1) := by decide +kernel
theorem d_FS_told_17 : decode b_FS_told 17 = .ok (.dup, 1) := by decide +kernel
theorem d_FS_told_18 : decode b_FS_told 18 = .ok (.getfield 52, 3) := by decide +kernel
theorem d_FS_told_21 : decode b_FS_told 21 = .ok (.iconst 1, 1) := by decide +kernel
theorem d_FS_told_22 : decode b_FS_told 22 = .ok (.iadd, 1) := by decide +kernel
theorem d_FS_told_23 : decode b_FS_told 23 = .ok (.putfield 52, 3) := by decide +kernel
theorem d_FS_told_26 : decode b_FS_told 26 = .ok (.goto 19, 3) := by decide +kernel
theorem d_FS_told_29 : decode b_FS_told 29 = .ok (.iload_n 2, 1) := by decide +kernel
theorem d_FS_told_30 : decode b_FS_told 30 = .ok (.bipush 7, 2) := by decide +kernel
theorem d_FS_told_32 : decode b_FS_told 32 = .ok (.if_icmp .eq 13, 3) := by decide +kernel
theorem d_FS_told_35 : decode b_FS_told 35 = .ok (.aload_n 0, 1) := by decide +kernel
theorem d_FS_told_36 : decode b_FS_told 36 = .ok (.dup, 1) := by decide +kernel
theorem d_FS_told_37 : decode b_FS_told 37 = .ok (.getfield 55, 3) := by decide +kernel
theorem d_FS_told_40 : decode b_FS_told 40 = .ok (.iconst 1, 1) := by decide +kernel
theorem d_FS_told_41 : decode b_FS_told 41 = .ok (.iadd, 1) := by decide +kernel
theorem d_FS_told_42 : decode b_FS_told 42 = .ok (.putfield 55, 3) := by decide +kernel
theorem d_FS_told_45 : decode b_FS_told 45 = .ok (.iload_n 1, 1) := by decide +kernel
theorem d_FS_told_46 : decode b_FS_told 46 = .ok (.ireturn, 1) := by decide +kernel
theorem d_FS_act_0 : decode b_FS_act 0 = .ok (.iload_n 1, 1) := by decide +kernel
theorem d_FS_act_1 : decode b_FS_act 1 = .ok (.ifCond .lt 12, 3) := by decide +kernel
theorem d_FS_act_4 : decode b_FS_act 4 = .ok (.iload_n 1, 1) := by decide +kernel
theorem d_FS_act_5 : decode b_FS_act 5 = .ok (.aload_n 0, 1) := by decide +kernel
theorem d_FS_act_6 : decode b_FS_act 6 = .ok (.getfield 24, 3) := by decide +kernel
theorem d_FS_act_9 : decode b_FS_act 9 = .ok (.arraylength, 1) := by decide +kernel
theorem d_FS_act_10 : decode b_FS_act 10 = .ok (.if_icmp .lt 6, 3) := by decide +kernel
theorem d_FS_act_13 : decode b_FS_act 13 = .ok (.bipush (-4), 2) := by decide +kernel
theorem d_FS_act_15 : decode b_FS_act 15 = .ok (.ireturn, 1) := by decide +kernel
theorem d_FS_act_16 : decode b_FS_act 16 = .ok (.aload_n 0, 1) := by decide +kernel
theorem d_FS_act_17 : decode b_FS_act 17 = .ok (.iload_n 1, 1) := by decide +kernel
theorem d_FS_act_18 : decode b_FS_act 18 = .ok (.invokevirtual 86, 3) := by decide +kernel
theorem d_FS_act_21 : decode b_FS_act 21 = .ok (.istore_n 3, 1) := by decide +kernel
theorem d_FS_act_22 : decode b_FS_act 22 = .ok (.iload_n 3, 1) := by decide +kernel
theorem d_FS_act_23 : decode b_FS_act 23 = .ok (.iconst (-1), 1) := by decide +kernel
theorem d_FS_act_24 : decode b_FS_act 24 = .ok (.if_icmp .ne 54, 3) := by decide +kernel
theorem d_FS_act_27 : decode b_FS_act 27 = .ok (.iload_n 1, 1) := by decide +kernel
theorem d_FS_act_28 : decode b_FS_act 28 = .ok (.ifCond .ne 15, 3) := by decide +kernel
theorem d_FS_act_31 : decode b_FS_act 31 = .ok (.aload_n 0, 1) := by decide +kernel
theorem d_FS_act_32 : decode b_FS_act 32 = .ok (.getfield 68, 3) := by decide +kernel
theorem d_FS_act_35 : decode b_FS_act 35 = .ok (.ifCond .eq 8, 3) := by decide +kernel
theorem d_FS_act_38 : decode b_FS_act 38 = .ok (.bipush 10, 2) := by decide +kernel
theorem d_FS_act_40 : decode b_FS_act 40 = .ok (.goto 17, 3) := by decide +kernel
theorem d_FS_act_43 : decode b_FS_act 43 = .ok (.aload_n 0, 1) := by decide +kernel
theorem d_FS_act_44 : decode b_FS_act 44 = .ok (.getfield 24, 3) := by decide +kernel
theorem d_FS_act_47 : decode b_FS_act 47 = .ok (.iload_n 1, 1) := by decide +kernel
theorem d_FS_act_48 : decode b_FS_act 48 = .ok (.aaload, 1) := by decide +kernel
theorem d_FS_act_49 : decode b_FS_act 49 = .ok (.aload_n 0, 1) := by decide +kernel
theorem d_FS_act_50 : decode b_FS_act 50 = .ok (.getfield 39, 3) := by decide +kernel
theorem d_FS_act_53 : decode b_FS_act 53 = .ok (.iload_n 2, 1) := by decide +kernel
theorem d_FS_act_54 : decode b_FS_act 54 = .ok (.invokevirtual 89, 3) := by decide +kernel
theorem d_FS_act_57 : decode b_FS_act 57 = .ok (.istore_n 3, 1) := by decide +kernel
theorem d_FS_act_58 : decode b_FS_act 58 = .ok (.aload_n 0, 1) := by decide +kernel
theorem d_FS_act_59 : decode b_FS_act 59 = .ok (.aload_n 0, 1) := by decide +kernel
theorem d_FS_act_60 : decode b_FS_act 60 = .ok (.getfield 68, 3) := by decide +kernel
theorem d_FS_act_63 : decode b_FS_act 63 = .ok (.ifCond .eq 11, 3) := by decide +kernel
theorem d_FS_act_66 : decode b_FS_act 66 = .ok (.iload_n 1, 1) := by decide +kernel
theorem d_FS_act_67 : decode b_FS_act 67 = .ok (.ifCond .eq 7, 3) := by decide +kernel
theorem d_FS_act_70 : decode b_FS_act 70 = .ok (.iconst 1, 1) := by decide +kernel
theorem d_FS_act_71 : decode b_FS_act 71 = .ok (.goto 4, 3) := by decide +kernel
theorem d_FS_act_74 : decode b_FS_act 74 = .ok (.iconst 0, 1) := by decide +kernel
theorem d_FS_act_75 : decode b_FS_act 75 = .ok (.putfield 68, 3) := by decide +kernel
theorem d_FS_act_78 : decode b_FS_act 78 = .ok (.iload_n 1, 1) := by decide +kernel
theorem d_FS_act_79 : decode b_FS_act 79 = .ok (.ifCond .eq 13, 3) := by decide +kernel
theorem d_FS_act_82 : decode b_FS_act 82 = .ok (.iload_n 1, 1) := by decide +kernel
theorem d_FS_act_83 : decode b_FS_act 83 = .ok (.iconst 1, 1) := by decide +kernel
theorem d_FS_act_84 : decode b_FS_act 84 = .ok (.if_icmp .eq 8, 3) := by decide +kernel
theorem d_FS_act_87 : decode b_FS_act 87 = .ok (.iload_n 1, 1) := by decide +kernel
theorem d_FS_act_88 : decode b_FS_act 88 = .ok (.iconst 5, 1) := by decide +kernel
theorem d_FS_act_89 : decode b_FS_act 89 = .ok (.if_icmp .ne 7, 3) := by decide +kernel
theorem d_FS_act_92 : decode b_FS_act 92 = .ok (.iconst 1, 1) := by decide +kernel
theorem d_FS_act_93 : decode b_FS_act 93 = .ok (.goto 4, 3) := by decide +kernel
theorem d_FS_act_96 : decode b_FS_act 96 = .ok (.iconst 0, 1) := by decide +kernel
theorem d_FS_act_97 : decode b_FS_act 97 = .ok (.istore 4, 2) := by decide +kernel
theorem d_FS_act_99 : decode b_FS_act 99 = .ok (.iload 4, 2) := by decide +kernel
theorem d_FS_act_101 : decode b_FS_act 101 = .ok (.ifCond .eq 11, 3) := by decide +kernel
theorem d_FS_act_104 : decode b_FS_act 104 = .ok (.aload_n 0, 1) := by decide +kernel
theorem d_FS_act_105 : decode b_FS_act 105 = .ok (.iload_n 3, 1) := by decide +kernel
theorem d_FS_act_106 : decode b_FS_act 106 = .ok (.invokevirtual 92, 3) := by decide +kernel
theorem d_FS_act_109 : decode b_FS_act 109 = .ok (.goto 4, 3) := by decide +kernel
theorem d_FS_act_112 : decode b_FS_act 112 = .ok (.iconst 0, 1) := by decide +kernel
theorem d_FS_act_113 : decode b_FS_act 113 = .ok (.istore 5, 2) := by decide +kernel
theorem d_FS_act_115 : decode b_FS_act 115 = .ok (.aload_n 0, 1) := by decide +kernel
theorem d_FS_act_116 : decode b_FS_act 116 = .ok (.iload 5, 2) := by decide +kernel
theorem d_FS_act_118 : decode b_FS_act 118 = .ok (.ifCond .le 8, 3) := by decide +kernel
theorem d_FS_act_121 : decode b_FS_act 121 = .ok (.iload 5, 2) := by decide +kernel
theorem d_FS_act_123 : decode b_FS_act 123 = .ok (.goto 7, 3) := by decide +kernel
theorem d_FS_act_126 : decode b_FS_act 126 = .ok (.aload_n 0, 1) := by decide +kernel
theorem d_FS_act_127 : decode b_FS_act 127 = .ok (.getfield 65, 3) := by decide +kernel
theorem d_FS_act_130 : decode b_FS_act 130 = .ok (.putfield 65, 3) := by decide +kernel
theorem d_FS_act_133 : decode b_FS_act 133 = .ok (.aload_n 0, 1) := by decide +kernel
theorem d_FS_act_134 : decode b_FS_act 134 = .ok (.iload_n 1, 1) := by decide +kernel
theorem d_FS_act_135 : decode b_FS_act 135 = .ok (.iconst 2, 1) := by decide +kernel
theorem d_FS_act_136 : decode b_FS_act 136 = .ok (.if_icmp .ge 15, 3) := by decide +kernel
theorem d_FS_act_139 : decode b_FS_act 139 = .ok (.aload_n 0, 1) := by decide +kernel
theorem d_FS_act_140 : decode b_FS_act 140 = .ok (.iload_n 3, 1) := by decide +kernel
theorem d_FS_act_141 : decode b_FS_act 141 = .ok (.invokevirtual 94, 3) := by decide +kernel
theorem d_FS_act_144 : decode b_FS_act 144 = .ok (.ifCond .le 7, 3) := by decide +kernel
theorem d_FS_act_147 : decode b_FS_act 147 = .ok (.iconst 1, 1) := by decide +kernel
theorem d_FS_act_148 : decode b_FS_act 148 = .ok (.goto 4, 3) := by decide +kernel
theorem d_FS_act_151 : decode b_FS_act 151 = .ok (.iconst 0, 1) := by decide +kernel
theorem d_FS_act_152 : decode b_FS_act 152 = .ok (.putfield 62, 3) := by decide +kernel
theorem d_FS_act_155 : decode b_FS_act 155 = .ok (.iload_n 1, 1) := by decide +kernel
theorem d_FS_act_156 : decode b_FS_act 156 = .ok (.bipush 6, 2) := by decide +kernel
theorem d_FS_act_158 : decode b_FS_act 158 = .ok (.if_icmp .ne 12, 3) := by decide +kernel
theorem d_FS_act_161 : decode b_FS_act 161 = .ok (.iload_n 3, 1) := by decide +kernel
theorem d_FS_act_162 : decode b_FS_act 162 = .ok (.ifCond .ne 8, 3) := by decide +kernel
theorem d_FS_act_165 : decode b_FS_act 165 = .ok (.aload_n 0, 1) := by decide +kernel
theorem d_FS_act_166 : decode b_FS_act 166 = .ok (.iconst (-1), 1) := by decide +kernel
theorem d_FS_act_167 : decode b_FS_act 167 = .ok (.putfield 28, 3) := by decide +kernel
theorem d_FS_act_170 : decode b_FS_act 170 = .ok (.aload_n 0, 1) := by decide +kernel
theorem d_FS_act_171 : decode b_FS_act 171 = .ok (.iload_n 3, 1) := by decide +kernel
theorem d_FS_act_172 : decode b_FS_act 172 = .ok (.iload_n 1, 1) := by decide +kernel
theorem d_FS_act_173 : decode b_FS_act 173 = .ok (.invokevirtual 71, 3) := by decide +kernel
theorem d_FS_act_176 : decode b_FS_act 176 = .ok (.ireturn, 1) := by decide +kernel
theorem d_FS_ahead_0 : decode b_FS_ahead 0 = .ok (.aload_n 0, 1) := by decide +kernel
theorem d_FS_ahead_1 : decode b_FS_ahead 1 = .ok (.getfield 24, 3) := by decide +kernel
theorem d_FS_ahead_4 : decode b_FS_ahead 4 = .ok (.iload_n 1, 1) := by decide +kernel
theorem d_FS_ahead_5 : decode b_FS_ahead 5 = .ok (.aaload, 1) := by decide +kernel
theorem d_FS_ahead_6 : decode b_FS_ahead 6 = .ok (.astore_n 2, 1) := by decide +kernel
theorem d_FS_ahead_7 : decode b_FS_ahead 7 = .ok (.aload_n 0, 1) := by decide +kernel
theorem d_FS_ahead_8 : decode b_FS_ahead 8 = .ok (.getfield 28, 3) := by decide +kernel
theorem d_FS_ahead_11 : decode b_FS_ahead 11 = .ok (.iconst (-1), 1) := by decide +kernel
theorem d_FS_ahead_12 : decode b_FS_ahead 12 = .ok (.if_icmp .ne 6, 3) := by decide +kernel
theorem d_FS_ahead_15 : decode b_FS_ahead 15 = .ok (.bipush 42, 2) := by decide +kernel
theorem d_FS_ahead_17 : decode b_FS_ahead 17 = .ok (.ireturn, 1) := by decide +kernel
theorem d_FS_ahead_18 : decode b_FS_ahead 18 = .ok (.aload_n 2, 1) := by decide +kernel
theorem d_FS_ahead_19 : decode b_FS_ahead 19 = .ok (.aload_n 0, 1) := by decide +kernel
theorem d_FS_ahead_20 : decode b_FS_ahead 20 = .ok (.getfield 39, 3) := by decide +kernel
theorem d_FS_ahead_23 : decode b_FS_ahead 23 = .ok (.invokevirtual 75, 3) := by decide +kernel
theorem d_FS_ahead_26 : decode b_FS_ahead 26 = .ok (.ifCond .ne 6, 3) := by decide +kernel
theorem d_FS_ahead_29 : decode b_FS_ahead 29 = .ok (.bipush 90, 2) := by decide +kernel
theorem d_FS_ahead_31 : decode b_FS_ahead 31 = .ok (.ireturn, 1) := by decide +kernel
theorem d_FS_ahead_32 : decode b_FS_ahead 32 = .ok (.aload_n 2, 1) := by decide +kernel
theorem d_FS_ahead_33 : decode b_FS_ahead 33 = .ok (.aload_n 0, 1) := by decide +kernel
theorem d_FS_ahead_34 : decode b_FS_ahead 34 = .ok (.getfield 39, 3) := by decide +kernel
theorem d_FS_ahead_37 : decode b_FS_ahead 37 = .ok (.aload_n 0, 1) := by decide +kernel
theorem d_FS_ahead_38 : decode b_FS_ahead 38 = .ok (.getfield 28, 3) := by decide +kernel
theorem d_FS_ahead_41 : decode b_FS_ahead 41 = .ok (.invokevirtual 79, 3) := by decide +kernel
theorem d_FS_ahead_44 : decode b_FS_ahead 44 = .ok (.ifCond .ne 8, 3) := by decide +kernel
theorem d_FS_ahead_47 : decode b_FS_ahead 47 = .ok (.aload_n 2, 1) := by decide +kernel
theorem d_FS_ahead_48 : decode b_FS_ahead 48 = .ok (.getfield 83, 3) := by decide +kernel
theorem d_FS_ahead_51 : decode b_FS_ahead 51 = .ok (.ireturn, 1) := by decide +kernel
theorem d_FS_ahead_52 : decode b_FS_ahead 52 = .ok (.iload_n 1, 1) := by decide +kernel
theorem d_FS_ahead_53 : decode b_FS_ahead 53 = .ok (.iconst 3, 1) := by decide +kernel
theorem d_FS_ahead_54 : decode b_FS_ahead 54 = .ok (.if_icmp .ne 20, 3) := by decide +kernel
theorem d_FS_ahead_57 : decode b_FS_ahead 57 = .ok (.aload_n 0, 1) := by decide +kernel
theorem d_FS_ahead_58 : decode b_FS_ahead 58 = .ok (.getfield 39, 3) := by decide +kernel
theorem d_FS_ahead_61 : decode b_FS_ahead 61 = .ok (.ifCond .ne 13, 3) := by decide +kernel
theorem d_FS_ahead_64 : decode b_FS_ahead 64 = .ok (.aload_n 0, 1) := by decide +kernel
theorem d_FS_ahead_65 : decode b_FS_ahead 65 = .ok (.getfield 62, 3) := by decide +kernel
theorem d_FS_ahead_68 : decode b_FS_ahead 68 = .ok (.ifCond .ne 6, 3) := by decide +kernel
theorem d_FS_ahead_71 : decode b_FS_ahead 71 = .ok (.bipush 43, 2) := by decide +kernel
theorem d_FS_ahead_73 : decode b_FS_ahead 73 = .ok (.ireturn, 1) := by decide +kernel
theorem d_FS_ahead_74 : decode b_FS_ahead 74 = .ok (.iload_n 1, 1) := by decide +kernel
theorem d_FS_ahead_75 : decode b_FS_ahead 75 = .ok (.ifCond .ne 16, 3) := by decide +kernel
theorem d_FS_ahead_78 : decode b_FS_ahead 78 = .ok (.aload_n 0, 1) := by decide +kernel
theorem d_FS_ahead_79 : decode b_FS_ahead 79 = .ok (.getfield 65, 3) := by decide +kernel
theorem d_FS_ahead_82 : decode b_FS_ahead 82 = .ok (.iconst 2, 1) := by decide +kernel
theorem d_FS_ahead_83 : decode b_FS_ahead 83 = .ok (.if_icmp .lt 8, 3) := by decide +kernel
theorem d_FS_ahead_86 : decode b_FS_ahead 86 = .ok (.bipush 46, 2) := by decide +kernel
theorem d_FS_ahead_88 : decode b_FS_ahead 88 = .ok (.goto 4, 3) := by decide +kernel
theorem d_FS_ahead_91 : decode b_FS_ahead 91 = .ok (.iconst (-1), 1) := by decide +kernel
theorem d_FS_ahead_92 : decode b_FS_ahead 92 = .ok (.ireturn, 1) := by decide +kernel
theorem d_FS_position_0 : decode b_FS_position 0 = .ok (.iload_n 1, 1) := by decide +kernel
theorem d_FS_position_1 : decode b_FS_position 1 = .ok (.invokestatic 97, 3) := by decide +kernel
theorem d_FS_position_4 : decode b_FS_position 4 = .ok (.ifCond .ne 5, 3) := by decide +kernel
theorem d_FS_position_7 : decode b_FS_position 7 = .ok (.iconst (-1), 1) := by decide +kernel
theorem d_FS_position_8 : decode b_FS_position 8 = .ok (.ireturn, 1) := by decide +kernel
theorem d_FS_position_9 : decode b_FS_position 9 = .ok (.iload_n 1, 1) := by decide +kernel
theorem d_FS_position_10 : decode b_FS_position 10 = .ok (.lookupswitch 72 #[(0, 66), (2, 66), (4, 66), (10, 68), (14, 70), (23, 70), (46, 70)], 66) := by decide +kernel
theorem d_FS_position_76 : decode b_FS_position 76 = .ok (.iconst 1, 1) := by decide +kernel
theorem d_FS_position_77 : decode b_FS_position 77 = .ok (.ireturn, 1) := by decide +kernel
theorem d_FS_position_78 : decode b_FS_position 78 = .ok (.iconst 2, 1) := by decide +kernel
theorem d_FS_position_79 : decode b_FS_position 79 = .ok (.ireturn, 1) := by decide +kernel
theorem d_FS_position_80 : decode b_FS_position 80 = .ok (.iconst 3, 1) := by decide +kernel
theorem d_FS_position_81 : decode b_FS_position 81 = .ok (.ireturn, 1) := by decide +kernel
theorem d_FS_position_82 : decode b_FS_position 82 = .ok (.iconst 0, 1) := by decide +kernel
theorem d_FS_position_83 : decode b_FS_position 83 = .ok (.ireturn, 1) := by decide +kernel
theorem d_FS_isStatus_0 : decode b_FS_isStatus 0 = .ok (.iload_n 0, 1) := by decide +kernel
theorem d_FS_isStatus_1 : decode b_FS_isStatus 1 = .ok (.ifCond .lt 13, 3) := by decide +kernel
theorem d_FS_isStatus_4 : decode b_FS_isStatus 4 = .ok (.iload_n 0, 1) := by decide +kernel
theorem d_FS_isStatus_5 : decode b_FS_isStatus 5 = .ok (.bipush 100, 2) := by decide +kernel
theorem d_FS_isStatus_7 : decode b_FS_isStatus 7 = .ok (.if_icmp .ge 7, 3) := by decide +kernel
theorem d_FS_isStatus_10 : decode b_FS_isStatus 10 = .ok (.iconst 1, 1) := by decide +kernel
theorem d_FS_isStatus_11 : decode b_FS_isStatus 11 = .ok (.goto 4, 3) := by decide +kernel
theorem d_FS_isStatus_14 : decode b_FS_isStatus 14 = .ok (.iconst 0, 1) := by decide +kernel
theorem d_FS_isStatus_15 : decode b_FS_isStatus 15 = .ok (.ireturn, 1) := by decide +kernel
theorem d_FS_area_0 : decode b_FS_area 0 = .ok (.iload_n 1, 1) := by decide +kernel
theorem d_FS_area_1 : decode b_FS_area 1 = .ok (.invokestatic 97, 3) := by decide +kernel
theorem d_FS_area_4 : decode b_FS_area 4 = .ok (.ifCond .ne 7, 3) := by decide +kernel
theorem d_FS_area_7 : decode b_FS_area 7 = .ok (.iconst (-1), 1) := by decide +kernel
theorem d_FS_area_8 : decode b_FS_area 8 = .ok (.goto 26, 3) := by decide +kernel
theorem d_FS_area_11 : decode b_FS_area 11 = .ok (.iload_n 1, 1) := by decide +kernel
theorem d_FS_area_12 : decode b_FS_area 12 = .ok (.ifCond .eq 8, 3) := by decide +kernel
theorem d_FS_area_15 : decode b_FS_area 15 = .ok (.iload_n 1, 1) := by decide +kernel
theorem d_FS_area_16 : decode b_FS_area 16 = .ok (.iconst 2, 1) := by decide +kernel
theorem d_FS_area_17 : decode b_FS_area 17 = .ok (.if_icmp .ne 7, 3) := by decide +kernel
theorem d_FS_area_20 : decode b_FS_area 20 = .ok (.iconst 1, 1) := by decide +kernel
theorem d_FS_area_21 : decode b_FS_area 21 = .ok (.goto 13, 3) := by decide +kernel
theorem d_FS_area_24 : decode b_FS_area 24 = .ok (.iload_n 1, 1) := by decide +kernel
theorem d_FS_area_25 : decode b_FS_area 25 = .ok (.iconst 4, 1) := by decide +kernel
theorem d_FS_area_26 : decode b_FS_area 26 = .ok (.if_icmp .ne 7, 3) := by decide +kernel
theorem d_FS_area_29 : decode b_FS_area 29 = .ok (.iconst 2, 1) := by decide +kernel
theorem d_FS_area_30 : decode b_FS_area 30 = .ok (.goto 4, 3) := by decide +kernel
theorem d_FS_area_33 : decode b_FS_area 33 = .ok (.iconst 0, 1) := by decide +kernel
theorem d_FS_area_34 : decode b_FS_area 34 = .ok (.ireturn, 1) := by decide +kernel
theorem d_FS_exception_0 : decode b_FS_exception 0 = .ok (.iload_n 1, 1) := by decide +kernel
theorem d_FS_exception_1 : decode b_FS_exception 1 = .ok (.invokestatic 97, 3) := by decide +kernel
theorem d_FS_exception_4 : decode b_FS_exception 4 = .ok (.ifCond .ne 5, 3) := by decide +kernel
theorem d_FS_exception_7 : decode b_FS_exception 7 = .ok (.iconst (-1), 1) := by decide +kernel
theorem d_FS_exception_8 : decode b_FS_exception 8 = .ok (.ireturn, 1) := by decide +kernel
theorem d_FS_exception_9 : decode b_FS_exception 9 = .ok (.iload_n 1, 1) := by decide +kernel
theorem d_FS_exception_10 : decode b_FS_exception 10 = .ok (.bipush 10, 2) := by decide +kernel
theorem d_FS_exception_12 : decode b_FS_exception 12 = .ok (.idiv, 1) := by decide +kernel
theorem d_FS_exception_13 : decode b_FS_exception 13 = .ok (.istore_n 2, 1) := by decide +kernel
theorem d_FS_exception_14 : decode b_FS_exception 14 = .ok (.iload_n 2, 1) := by decide +kernel
theorem d_FS_exception_15 : decode b_FS_exception 15 = .ok (.bipush 6, 2) := by decide +kernel
theorem d_FS_exception_17 : decode b_FS_exception 17 = .ok (.if_icmp .ge 7, 3) := by decide +kernel
theorem d_FS_exception_20 : decode b_FS_exception 20 = .ok (.iload_n 2, 1) := by decide +kernel
theorem d_FS_exception_21 : decode b_FS_exception 21 = .ok (.goto 15, 3) := by decide +kernel
theorem d_FS_exception_24 : decode b_FS_exception 24 = .ok (.iload_n 2, 1) := by decide +kernel
theorem d_FS_exception_25 : decode b_FS_exception 25 = .ok (.bipush 6, 2) := by decide +kernel
theorem d_FS_exception_27 : decode b_FS_exception 27 = .ok (.if_icmp .ne 7, 3) := by decide +kernel
theorem d_FS_exception_30 : decode b_FS_exception 30 = .ok (.iconst 5, 1) := by decide +kernel
theorem d_FS_exception_31 : decode b_FS_exception 31 = .ok (.goto 5, 3) := by decide +kernel
theorem d_FS_exception_34 : decode b_FS_exception 34 = .ok (.bipush 6, 2) := by decide +kernel
theorem d_FS_exception_36 : decode b_FS_exception 36 = .ok (.ireturn, 1) := by decide +kernel
theorem d_FS_phrase_0 : decode b_FS_phrase 0 = .ok (.aload_n 0, 1) := by decide +kernel
theorem d_FS_phrase_1 : decode b_FS_phrase 1 = .ok (.aload_n 0, 1) := by decide +kernel
theorem d_FS_phrase_2 : decode b_FS_phrase 2 = .ok (.getfield 49, 3) := by decide +kernel
theorem d_FS_phrase_5 : decode b_FS_phrase 5 = .ok (.invokevirtual 100, 3) := by decide +kernel
theorem d_FS_phrase_8 : decode b_FS_phrase 8 = .ok (.istore_n 2, 1) := by decide +kernel
theorem d_FS_phrase_9 : decode b_FS_phrase 9 = .ok (.iload_n 2, 1) := by decide +kernel
theorem d_FS_phrase_10 : decode b_FS_phrase 10 = .ok (.ifCond .ne 5, 3) := by decide +kernel
theorem d_FS_phrase_13 : decode b_FS_phrase 13 = .ok (.iconst 0, 1) := by decide +kernel
theorem d_FS_phrase_14 : decode b_FS_phrase 14 = .ok (.ireturn, 1) := by decide +kernel
theorem d_FS_phrase_15 : decode b_FS_phrase 15 = .ok (.iload_n 2, 1) := by decide +kernel
theorem d_FS_phrase_16 : decode b_FS_phrase 16 = .ok (.iconst 3, 1) := by decide +kernel
theorem d_FS_phrase_17 : decode b_FS_phrase 17 = .ok (.if_icmp .ge 9, 3) := by decide +kernel
theorem d_FS_phrase_20 : decode b_FS_phrase 20 = .ok (.iload_n 1, 1) := by decide +kernel
theorem d_FS_phrase_21 : decode b_FS_phrase 21 = .ok (.ifCond .eq 5, 3) := by decide +kernel
theorem d_FS_phrase_24 : decode b_FS_phrase 24 = .ok (.iconst 1, 1) := by decide +kernel
theorem d_FS_phrase_25 : decode b_FS_phrase 25 = .ok (.ireturn, 1) := by decide +kernel
theorem d_FS_phrase_26 : decode b_FS_phrase 26 = .ok (.aload_n 0, 1) := by decide +kernel
theorem d_FS_phrase_27 : decode b_FS_phrase 27 = .ok (.getfield 35, 3) := by decide +kernel
theorem d_FS_phrase_30 : decode b_FS_phrase 30 = .ok (.iload_n 2, 1) := by decide +kernel
theorem d_FS_phrase_31 : decode b_FS_phrase 31 = .ok (.baload, 1) := by decide +kernel
theorem d_FS_phrase_32 : decode b_FS_phrase 32 = .ok (.ifCond .eq 5, 3) := by decide +kernel
theorem d_FS_phrase_35 : decode b_FS_phrase 35 = .ok (.iconst 2, 1) := by decide +kernel
theorem d_FS_phrase_36 : decode b_FS_phrase 36 = .ok (.ireturn, 1) := by decide +kernel
theorem d_FS_phrase_37 : decode b_FS_phrase 37 = .ok (.iload_n 2, 1) := by decide +kernel
theorem d_FS_phrase_38 : decode b_FS_phrase 38 = .ok (.iconst 3, 1) := by decide +kernel
theorem d_FS_phrase_39 : decode b_FS_phrase 39 = .ok (.if_icmp .ge 7, 3) := by decide +kernel
theorem d_FS_phrase_42 : decode b_FS_phrase 42 = .ok (.iconst 4, 1) := by decide +kernel
theorem d_FS_phrase_43 : decode b_FS_phrase 43 = .ok (.goto 4, 3) := by decide +kernel
theorem d_FS_phrase_46 : decode b_FS_phrase 46 = .ok (.iconst 3, 1) := by decide +kernel
theorem d_FS_phrase_47 : decode b_FS_phrase 47 = .ok (.ireturn, 1) := by decide +kernel
theorem d_FS_declarative_0 : decode b_FS_declarative 0 = .ok (.iload_n 1, 1) := by decide +kernel
theorem d_FS_declarative_1 : decode b_FS_declarative 1 = .ok (.iconst 1, 1) := by decide +kernel
theorem d_FS_declarative_2 : decode b_FS_declarative 2 = .ok (.if_icmp .lt 9, 3) := by decide +kernel
theorem d_FS_declarative_5 : decode b_FS_declarative 5 = .ok (.iload_n 1, 1) := by decide +kernel
theorem d_FS_declarative_6 : decode b_FS_declarative 6 = .ok (.bipush 6, 2) := by decide +kernel
theorem d_FS_declarative_8 : decode b_FS_declarative 8 = .ok (.if_icmp .le 6, 3) := by decide +kernel
theorem d_FS_declarative_11 : decode b_FS_declarative 11 = .ok (.bipush (-4), 2) := by decide +kernel
theorem d_FS_declarative_13 : decode b_FS_declarative 13 = .ok (.ireturn, 1) := by decide +kernel
theorem d_FS_declarative_14 : decode b_FS_declarative 14 = .ok (.aload_n 0, 1) := by decide +kernel
theorem d_FS_declarative_15 : decode b_FS_declarative 15 = .ok (.getfield 35, 3) := by decide +kernel
theorem d_FS_declarative_18 : decode b_FS_declarative 18 = .ok (.iload_n 1, 1) := by decide +kernel
theorem d_FS_declarative_19 : decode b_FS_declarative 19 = .ok (.baload, 1) := by decide +kernel
theorem d_FS_declarative_20 : decode b_FS_declarative 20 = .ok (.ifCond .eq 7, 3) := by decide +kernel
theorem d_FS_declarative_23 : decode b_FS_declarative 23 = .ok (.iconst 1, 1) := by decide +kernel
theorem d_FS_declarative_24 : decode b_FS_declarative 24 = .ok (.goto 4, 3) := by decide +kernel
theorem d_FS_declarative_27 : decode b_FS_declarative 27 = .ok (.iconst 0, 1) := by decide +kernel
theorem d_FS_declarative_28 : decode b_FS_declarative 28 = .ok (.istore_n 3, 1) := by decide +kernel
theorem d_FS_declarative_29 : decode b_FS_declarative 29 = .ok (.aload_n 0, 1) := by decide +kernel
theorem d_FS_declarative_30 : decode b_FS_declarative 30 = .ok (.getfield 35, 3) := by decide +kernel
theorem d_FS_declarative_33 : decode b_FS_declarative 33 = .ok (.iload_n 1, 1) := by decide +kernel
theorem d_FS_declarative_34 : decode b_FS_declarative 34 = .ok (.iload_n 2, 1) := by decide +kernel
theorem d_FS_declarative_35 : decode b_FS_declarative 35 = .ok (.bastore, 1) := by decide +kernel
theorem d_FS_declarative_36 : decode b_FS_declarative 36 = .ok (.iload_n 3, 1) := by decide +kernel
theorem d_FS_declarative_37 : decode b_FS_declarative 37 = .ok (.ireturn, 1) := by decide +kernel
theorem d_FS_both_0 : decode b_FS_both 0 = .ok (.iload_n 1, 1) := by decide +kernel
theorem d_FS_both_1 : decode b_FS_both 1 = .ok (.invokestatic 97, 3) := by decide +kernel
theorem d_FS_both_4 : decode b_FS_both 4 = .ok (.ifCond .eq 10, 3) := by decide +kernel
theorem d_FS_both_7 : decode b_FS_both 7 = .ok (.iload_n 2, 1) := by decide +kernel
theorem d_FS_both_8 : decode b_FS_both 8 = .ok (.invokestatic 97, 3) := by decide +kernel
theorem d_FS_both_11 : decode b_FS_both 11 = .ok (.ifCond .ne 5, 3) := by decide +kernel
theorem d_FS_both_14 : decode b_FS_both 14 = .ok (.iconst (-1), 1) := by decide +kernel
theorem d_FS_both_15 : decode b_FS_both 15 = .ok (.ireturn, 1) := by decide +kernel
theorem d_FS_both_16 : decode b_FS_both 16 = .ok (.aload_n 0, 1) := by decide +kernel
theorem d_FS_both_17 : decode b_FS_both 17 = .ok (.iload_n 1, 1) := by decide +kernel
theorem d_FS_both_18 : decode b_FS_both 18 = .ok (.invokevirtual 100, 3) := by decide +kernel
theorem d_FS_both_21 : decode b_FS_both 21 = .ok (.aload_n 0, 1) := by decide +kernel
theorem d_FS_both_22 : decode b_FS_both 22 = .ok (.iload_n 2, 1) := by decide +kernel
theorem d_FS_both_23 : decode b_FS_both 23 = .ok (.invokevirtual 100, 3) := by decide +kernel
theorem d_FS_both_26 : decode b_FS_both 26 = .ok (.isub, 1) := by decide +kernel
theorem d_FS_both_27 : decode b_FS_both 27 = .ok (.istore_n 3, 1) := by decide +kernel
theorem d_FS_both_28 : decode b_FS_both 28 = .ok (.iload_n 3, 1) := by decide +kernel
theorem d_FS_both_29 : decode b_FS_both 29 = .ok (.ifCond .eq 15, 3) := by decide +kernel
theorem d_FS_both_32 : decode b_FS_both 32 = .ok (.iload_n 3, 1) := by decide +kernel
theorem d_FS_both_33 : decode b_FS_both 33 = .ok (.ifCond .le 7, 3) := by decide +kernel
theorem d_FS_both_36 : decode b_FS_both 36 = .ok (.iload_n 1, 1) := by decide +kernel
theorem d_FS_both_37 : decode b_FS_both 37 = .ok (.goto 17, 3) := by decide +kernel
theorem d_FS_both_40 : decode b_FS_both 40 = .ok (.iload_n 2, 1) := by decide +kernel
theorem d_FS_both_41 : decode b_FS_both 41 = .ok (.goto 13, 3) := by decide +kernel
theorem d_FS_both_44 : decode b_FS_both 44 = .ok (.iload_n 1, 1) := by decide +kernel
theorem d_FS_both_45 : decode b_FS_both 45 = .ok (.iload_n 2, 1) := by decide +kernel
theorem d_FS_both_46 : decode b_FS_both 46 = .ok (.if_icmp .ge 7, 3) := by decide +kernel
theorem d_FS_both_49 : decode b_FS_both 49 = .ok (.iload_n 1, 1) := by decide +kernel
theorem d_FS_both_50 : decode b_FS_both 50 = .ok (.goto 4, 3) := by decide +kernel
theorem d_FS_both_53 : decode b_FS_both 53 = .ok (.iload_n 2, 1) := by decide +kernel
theorem d_FS_both_54 : decode b_FS_both 54 = .ok (.ireturn, 1) := by decide +kernel
theorem d_FS_extended_0 : decode b_FS_extended 0 = .ok (.iload_n 1, 1) := by decide +kernel
theorem d_FS_extended_1 : decode b_FS_extended 1 = .ok (.invokestatic 97, 3) := by decide +kernel
theorem d_FS_extended_4 : decode b_FS_extended 4 = .ok (.ifCond .eq 23, 3) := by decide +kernel
theorem d_FS_extended_7 : decode b_FS_extended 7 = .ok (.bipush 100, 2) := by decide +kernel
theorem d_FS_extended_9 : decode b_FS_extended 9 = .ok (.iload_n 1, 1) := by decide +kernel
theorem d_FS_extended_10 : decode b_FS_extended 10 = .ok (.imul, 1) := by decide +kernel
theorem d_FS_extended_11 : decode b_FS_extended 11 = .ok (.bipush 10, 2) := by decide +kernel
theorem d_FS_extended_13 : decode b_FS_extended 13 = .ok (.aload_n 0, 1) := by decide +kernel
theorem d_FS_extended_14 : decode b_FS_extended 14 = .ok (.getfield 39, 3) := by decide +kernel
theorem d_FS_extended_17 : decode b_FS_extended 17 = .ok (.imul, 1) := by decide +kernel
theorem d_FS_extended_18 : decode b_FS_extended 18 = .ok (.iadd, 1) := by decide +kernel
theorem d_FS_extended_19 : decode b_FS_extended 19 = .ok (.aload_n 0, 1) := by decide +kernel
theorem d_FS_extended_20 : decode b_FS_extended 20 = .ok (.getfield 32, 3) := by decide +kernel
theorem d_FS_extended_23 : decode b_FS_extended 23 = .ok (.iadd, 1) := by decide +kernel
theorem d_FS_extended_24 : decode b_FS_extended 24 = .ok (.goto 4, 3) := by decide +kernel
theorem d_FS_extended_27 : decode b_FS_extended 27 = .ok (.iconst (-1), 1) := by decide +kernel
theorem d_FS_extended_28 : decode b_FS_extended 28 = .ok (.ireturn, 1) := by decide +kernel
theorem d_FS_count_0 : decode b_FS_count 0 = .ok (.iload_n 1, 1) := by decide +kernel
theorem d_FS_count_1 : decode b_FS_count 1 = .ok (.tableswitch 86 0 6 #[43, 48, 53, 66, 71, 76, 81], 43) := by decide +kernel
theorem d_FS_count_44 : decode b_FS_count 44 = .ok (.aload_n 0, 1) := by decide +kernel
theorem d_FS_count_45 : decode b_FS_count 45 = .ok (.getfield 28, 3) := by decide +kernel
theorem d_FS_count_48 : decode b_FS_count 48 = .ok (.ireturn, 1) := by decide +kernel
theorem d_FS_count_49 : decode b_FS_count 49 = .ok (.aload_n 0, 1) := by decide +kernel
theorem d_FS_count_50 : decode b_FS_count 50 = .ok (.getfield 65, 3) := by decide +kernel
theorem d_FS_count_53 : decode b_FS_count 53 = .ok (.ireturn, 1) := by decide +kernel
theorem d_FS_count_54 : decode b_FS_count 54 = .ok (.aload_n 0, 1) := by decide +kernel
theorem d_FS_count_55 : decode b_FS_count 55 = .ok (.getfield 62, 3) := by decide +kernel
theorem d_FS_count_58 : decode b_FS_count 58 = .ok (.ifCond .eq 7, 3) := by decide +kernel
theorem d_FS_count_61 : decode b_FS_count 61 = .ok (.iconst 1, 1) := by decide +kernel
theorem d_FS_count_62 : decode b_FS_count 62 = .ok (.goto 4, 3) := by decide +kernel
theorem d_FS_count_65 : decode b_FS_count 65 = .ok (.iconst 0, 1) := by decide +kernel
theorem d_FS_count_66 : decode b_FS_count 66 = .ok (.ireturn, 1) := by decide +kernel
theorem d_FS_count_67 : decode b_FS_count 67 = .ok (.aload_n 0, 1) := by decide +kernel
theorem d_FS_count_68 : decode b_FS_count 68 = .ok (.getfield 49, 3) := by decide +kernel
theorem d_FS_count_71 : decode b_FS_count 71 = .ok (.ireturn, 1) := by decide +kernel
theorem d_FS_count_72 : decode b_FS_count 72 = .ok (.aload_n 0, 1) := by decide +kernel
theorem d_FS_count_73 : decode b_FS_count 73 = .ok (.getfield 55, 3) := by decide +kernel
theorem d_FS_count_76 : decode b_FS_count 76 = .ok (.ireturn, 1) := by decide +kernel
theorem d_FS_count_77 : decode b_FS_count 77 = .ok (.aload_n 0, 1) := by decide +kernel
theorem d_FS_count_78 : decode b_FS_count 78 = .ok (.getfield 52, 3) := by decide +kernel
theorem d_FS_count_81 : decode b_FS_count 81 = .ok (.ireturn, 1) := by decide +kernel
theorem d_FS_count_82 : decode b_FS_count 82 = .ok (.aload_n 0, 1) := by decide +kernel
theorem d_FS_count_83 : decode b_FS_count 83 = .ok (.getfield 39, 3) := by decide +kernel
theorem d_FS_count_86 : decode b_FS_count 86 = .ok (.ireturn, 1) := by decide +kernel
theorem d_FS_count_87 : decode b_FS_count 87 = .ok (.iconst (-1), 1) := by decide +kernel
theorem d_FS_count_88 : decode b_FS_count 88 = .ok (.ireturn, 1) := by decide +kernel
end
section
theorem d_FS_init_0 : decode b_FS_init 0 = .ok (.aload_n 0, 1) := by decide +kernel
theorem d_FS_init_1 : decode b_FS_init 1 = .ok (.invokespecial 7, 3) := by decide +kernel
theorem d_FS_init_4 : decode b_FS_init 4 = .ok (.aload_n 0, 1) := by decide +kernel
theorem d_FS_init_5 : decode b_FS_init 5 = .ok (.bipush 7, 2) := by decide +kernel
theorem d_FS_init_7 : decode b_FS_init 7 = .ok (.anewarray 13, 3) := by decide +kernel
theorem d_FS_init_10 : decode b_FS_init 10 = .ok (.dup, 1) := by decide +kernel
theorem d_FS_init_11 : decode b_FS_init 11 = .ok (.iconst 0, 1) := by decide +kernel
theorem d_FS_init_12 : decode b_FS_init 12 = .ok (.new 13, 3) := by decide +kernel
theorem d_FS_init_15 : decode b_FS_init 15 = .ok (.dup, 1) := by decide +kernel
theorem d_FS_init_16 : decode b_FS_init 16 = .ok (.iconst 3, 1) := by decide +kernel
theorem d_FS_init_17 : decode b_FS_init 17 = .ok (.newarray .int, 2) := by decide +kernel
theorem d_FS_init_19 : decode b_FS_init 19 = .ok (.dup, 1) := by decide +kernel
theorem d_FS_init_20 : decode b_FS_init 20 = .ok (.iconst 0, 1) := by decide +kernel
theorem d_FS_init_21 : decode b_FS_init 21 = .ok (.iconst 5, 1) := by decide +kernel
theorem d_FS_init_22 : decode b_FS_init 22 = .ok (.iastore, 1) := by decide +kernel
theorem d_FS_init_23 : decode b_FS_init 23 = .ok (.dup, 1) := by decide +kernel
theorem d_FS_init_24 : decode b_FS_init 24 = .ok (.iconst 1, 1) := by decide +kernel
theorem d_FS_init_25 : decode b_FS_init 25 = .ok (.iconst 5, 1) := by decide +kernel
theorem d_FS_init_26 : decode b_FS_init 26 = .ok (.iastore, 1) := by decide +kernel
theorem d_FS_init_27 : decode b_FS_init 27 = .ok (.dup, 1) := by decide +kernel
theorem d_FS_init_28 : decode b_FS_init 28 = .ok (.iconst 2, 1) := by decide +kernel
theorem d_FS_init_29 : decode b_FS_init 29 = .ok (.iconst 5, 1) := by decide +kernel
theorem d_FS_init_30 : decode b_FS_init 30 = .ok (.iastore, 1) := by decide +kernel
theorem d_FS_init_31 : decode b_FS_init 31 = .ok (.bipush 47, 2) := by decide +kernel
theorem d_FS_init_33 : decode b_FS_init 33 = .ok (.iconst 3, 1) := by decide +kernel
theorem d_FS_init_34 : decode b_FS_init 34 = .ok (.anewarray 15, 3) := by decide +kernel
theorem d_FS_init_37 : decode b_FS_init 37 = .ok (.dup, 1) := by decide +kernel
theorem d_FS_init_38 : decode b_FS_init 38 = .ok (.iconst 0, 1) := by decide +kernel
theorem d_FS_init_39 : decode b_FS_init 39 = .ok (.bipush 10, 2) := by decide +kernel
theorem d_FS_init_41 : decode b_FS_init 41 = .ok (.bipush 90, 2) := by decide +kernel
theorem d_FS_init_43 : decode b_FS_init 43 = .ok (.bipush 90, 2) := by decide +kernel
theorem d_FS_init_45 : decode b_FS_init 45 = .ok (.bipush 90, 2) := by decide +kernel
theorem d_FS_init_47 : decode b_FS_init 47 = .ok (.bipush 51, 2) := by decide +kernel
theorem d_FS_init_49 : decode b_FS_init 49 = .ok (.iconst 4, 1) := by decide +kernel
theorem d_FS_init_50 : decode b_FS_init 50 = .ok (.bipush 90, 2) := by decide +kernel
theorem d_FS_init_52 : decode b_FS_init 52 = .ok (.invokestatic 3, 3) := by decide +kernel
theorem d_FS_init_55 : decode b_FS_init 55 = .ok (.aastore, 1) := by decide +kernel
theorem d_FS_init_56 : decode b_FS_init 56 = .ok (.dup, 1) := by decide +kernel
theorem d_FS_init_57 : decode b_FS_init 57 = .ok (.iconst 1, 1) := by decide +kernel
theorem d_FS_init_58 : decode b_FS_init 58 = .ok (.bipush 10, 2) := by decide +kernel
theorem d_FS_init_60 : decode b_FS_init 60 = .ok (.bipush 90, 2) := by decide +kernel
theorem d_FS_init_62 : decode b_FS_init 62 = .ok (.bipush 90, 2) := by decide +kernel
theorem d_FS_init_64 : decode b_FS_init 64 = .ok (.bipush 14, 2) := by decide +kernel
theorem d_FS_init_66 : decode b_FS_init 66 = .ok (.bipush 51, 2) := by decide +kernel
theorem d_FS_init_68 : decode b_FS_init 68 = .ok (.iconst 4, 1) := by decide +kernel
theorem d_FS_init_69 : decode b_FS_init 69 = .ok (.bipush 90, 2) := by decide +kernel
theorem d_FS_init_71 : decode b_FS_init 71 = .ok (.invokestatic 3, 3) := by decide +kernel
theorem d_FS_init_74 : decode b_FS_init 74 = .ok (.aastore, 1) := by decide +kernel
theorem d_FS_init_75 : decode b_FS_init 75 = .ok (.dup, 1) := by decide +kernel
theorem d_FS_init_76 : decode b_FS_init 76 = .ok (.iconst 2, 1) := by decide +kernel
theorem d_FS_init_77 : decode b_FS_init 77 = .ok (.bipush 10, 2) := by decide +kernel
theorem d_FS_init_79 : decode b_FS_init 79 = .ok (.iconst 2, 1) := by decide +kernel
theorem d_FS_init_80 : decode b_FS_init 80 = .ok (.bipush 90, 2) := by decide +kernel
theorem d_FS_init_82 : decode b_FS_init 82 = .ok (.bipush 90, 2) := by decide +kernel
theorem d_FS_init_84 : decode b_FS_init 84 = .ok (.bipush 51, 2) := by decide +kernel
theorem d_FS_init_86 : decode b_FS_init 86 = .ok (.iconst 4, 1) := by decide +kernel
theorem d_FS_init_87 : decode b_FS_init 87 = .ok (.bipush 90, 2) := by decide +kernel
theorem d_FS_init_89 : decode b_FS_init 89 = .ok (.invokestatic 3, 3) := by decide +kernel
theorem d_FS_init_92 : decode b_FS_init 92 = .ok (.aastore, 1) := by decide +kernel
theorem d_FS_init_93 : decode b_FS_init 93 = .ok (.invokespecial 17, 3) := by decide +kernel
theorem d_FS_init_96 : decode b_FS_init 96 = .ok (.aastore, 1) := by decide +kernel
theorem d_FS_init_97 : decode b_FS_init 97 = .ok (.dup, 1) := by decide +kernel
theorem d_FS_init_98 : decode b_FS_init 98 = .ok (.iconst 1, 1) := by decide +kernel
theorem d_FS_init_99 : decode b_FS_init 99 = .ok (.new 13, 3) := by decide +kernel
theorem d_FS_init_102 : decode b_FS_init 102 = .ok (.dup, 1) := by decide +kernel
theorem d_FS_init_103 : decode b_FS_init 103 = .ok (.iconst 3, 1) := by decide +kernel
theorem d_FS_init_104 : decode b_FS_init 104 = .ok (.newarray .int, 2) := by decide +kernel
theorem d_FS_init_106 : decode b_FS_init 106 = .ok (.dup, 1) := by decide +kernel
theorem d_FS_init_107 : decode b_FS_init 107 = .ok (.iconst 0, 1) := by decide +kernel
theorem d_FS_init_108 : decode b_FS_init 108 = .ok (.iconst 0, 1) := by decide +kernel
theorem d_FS_init_109 : decode b_FS_init 109 = .ok (.iastore, 1) := by decide +kernel
theorem d_FS_init_110 : decode b_FS_init 110 = .ok (.dup, 1) := by decide +kernel
theorem d_FS_init_111 : decode b_FS_init 111 = .ok (.iconst 1, 1) := by decide +kernel
theorem d_FS_init_112 : decode b_FS_init 112 = .ok (.iconst 5, 1) := by decide +kernel
theorem d_FS_init_113 : decode b_FS_init 113 = .ok (.iastore, 1) := by decide +kernel
theorem d_FS_init_114 : decode b_FS_init 114 = .ok (.dup, 1) := by decide +kernel
theorem d_FS_init_115 : decode b_FS_init 115 = .ok (.iconst 2, 1) := by decide +kernel
theorem d_FS_init_116 : decode b_FS_init 116 = .ok (.iconst 5, 1) := by decide +kernel
theorem d_FS_init_117 : decode b_FS_init 117 = .ok (.iastore, 1) := by decide +kernel
theorem d_FS_init_118 : decode b_FS_init 118 = .ok (.bipush 47, 2) := by decide +kernel
theorem d_FS_init_120 : decode b_FS_init 120 = .ok (.iconst 3, 1) := by decide +kernel
theorem d_FS_init_121 : decode b_FS_init 121 = .ok (.anewarray 15, 3) := by decide +kernel
theorem d_FS_init_124 : decode b_FS_init 124 = .ok (.dup, 1) := by decide +kernel
theorem d_FS_init_125 : decode b_FS_init 125 = .ok (.iconst 0, 1) := by decide +kernel
theorem d_FS_init_126 : decode b_FS_init 126 = .ok (.invokestatic 20, 3) := by decide +kernel
theorem d_FS_init_129 : decode b_FS_init 129 = .ok (.aastore, 1) := by decide +kernel
theorem d_FS_init_130 : decode b_FS_init 130 = .ok (.dup, 1) := by decide +kernel
theorem d_FS_init_131 : decode b_FS_init 131 = .ok (.iconst 1, 1) := by decide +kernel
theorem d_FS_init_132 : decode b_FS_init 132 = .ok (.bipush 23, 2) := by decide +kernel
theorem d_FS_init_134 : decode b_FS_init 134 = .ok (.bipush 90, 2) := by decide +kernel
theorem d_FS_init_136 : decode b_FS_init 136 = .ok (.bipush 90, 2) := by decide +kernel
theorem d_FS_init_138 : decode b_FS_init 138 = .ok (.bipush 90, 2) := by decide +kernel
theorem d_FS_init_140 : decode b_FS_init 140 = .ok (.bipush 51, 2) := by decide +kernel
theorem d_FS_init_142 : decode b_FS_init 142 = .ok (.iconst 4, 1) := by decide +kernel
theorem d_FS_init_143 : decode b_FS_init 143 = .ok (.bipush 90, 2) := by decide +kernel
theorem d_FS_init_145 : decode b_FS_init 145 = .ok (.invokestatic 3, 3) := by decide +kernel
theorem d_FS_init_148 : decode b_FS_init 148 = .ok (.aastore, 1) := by decide +kernel
theorem d_FS_init_149 : decode b_FS_init 149 = .ok (.dup, 1) := by decide +kernel
theorem d_FS_init_150 : decode b_FS_init 150 = .ok (.iconst 2, 1) := by decide +kernel
theorem d_FS_init_151 : decode b_FS_init 151 = .ok (.bipush 23, 2) := by decide +kernel
theorem d_FS_init_153 : decode b_FS_init 153 = .ok (.iconst 2, 1) := by decide +kernel
theorem d_FS_init_154 : decode b_FS_init 154 = .ok (.bipush 90, 2) := by decide +kernel
theorem d_FS_init_156 : decode b_FS_init 156 = .ok (.bipush 90, 2) := by decide +kernel
theorem d_FS_init_158 : decode b_FS_init 158 = .ok (.bipush 51, 2) := by decide +kernel
theorem d_FS_init_160 : decode b_FS_init 160 = .ok (.iconst 4, 1) := by decide +kernel
theorem d_FS_init_161 : decode b_FS_init 161 = .ok (.bipush 90, 2) := by decide +kernel
theorem d_FS_init_163 : decode b_FS_init 163 = .ok (.invokestatic 3, 3) := by decide +kernel
theorem d_FS_init_166 : decode b_FS_init 166 = .ok (.aastore, 1) := by decide +kernel
theorem d_FS_init_167 : decode b_FS_init 167 = .ok (.invokespecial 17, 3) := by decide +kernel
theorem d_FS_init_170 : decode b_FS_init 170 = .ok (.aastore, 1) := by decide +kernel
theorem d_FS_init_171 : decode b_FS_init 171 = .ok (.dup, 1) := by decide +kernel
theorem d_FS_init_172 : decode b_FS_init 172 = .ok (.iconst 2, 1) := by decide +kernel
theorem d_FS_init_173 : decode b_FS_init 173 = .ok (.new 13, 3) := by decide +kernel
theorem d_FS_init_176 : decode b_FS_init 176 = .ok (.dup, 1) := by decide +kernel
theorem d_FS_init_177 : decode b_FS_init 177 = .ok (.iconst 3, 1) := by decide +kernel
theorem d_FS_init_178 : decode b_FS_init 178 = .ok (.newarray .int, 2) := by decide +kernel
theorem d_FS_init_180 : decode b_FS_init 180 = .ok (.dup, 1) := by decide +kernel
theorem d_FS_init_181 : decode b_FS_init 181 = .ok (.iconst 0, 1) := by decide +kernel
theorem d_FS_init_182 : decode b_FS_init 182 = .ok (.bipush 10, 2) := by decide +kernel
theorem d_FS_init_184 : decode b_FS_init 184 = .ok (.iastore, 1) := by decide +kernel
theorem d_FS_init_185 : decode b_FS_init 185 = .ok (.dup, 1) := by decide +kernel
theorem d_FS_init_186 : decode b_FS_init 186 = .ok (.iconst 1, 1) := by decide +kernel
theorem d_FS_init_187 : decode b_FS_init 187 = .ok (.bipush 14, 2) := by decide +kernel
theorem d_FS_init_189 : decode b_FS_init 189 = .ok (.iastore, 1) := by decide +kernel
theorem d_FS_init_190 : decode b_FS_init 190 = .ok (.dup, 1) := by decide +kernel
theorem d_FS_init_191 : decode b_FS_init 191 = .ok (.iconst 2, 1) := by decide +kernel
theorem d_FS_init_192 : decode b_FS_init 192 = .ok (.bipush 14, 2) := by decide +kernel
theorem d_FS_init_194 : decode b_FS_init 194 = .ok (.iastore, 1) := by decide +kernel
theorem d_FS_init_195 : decode b_FS_init 195 = .ok (.bipush 48, 2) := by decide +kernel
theorem d_FS_init_197 : decode b_FS_init 197 = .ok (.iconst 3, 1) := by decide +kernel
theorem d_FS_init_198 : decode b_FS_init 198 = .ok (.anewarray 15, 3) := by decide +kernel
theorem d_FS_init_201 : decode b_FS_init 201 = .ok (.dup, 1) := by decide +kernel
theorem d_FS_init_202 : decode b_FS_init 202 = .ok (.iconst 0, 1) := by decide +kernel
theorem d_FS_init_203 : decode b_FS_init 203 = .ok (.bipush 90, 2) := by decide +kernel
theorem d_FS_init_205 : decode b_FS_init 205 = .ok (.bipush 90, 2) := by decide +kernel
theorem d_FS_init_207 : decode b_FS_init 207 = .ok (.bipush 90, 2) := by decide +kernel
theorem d_FS_init_209 : decode b_FS_init 209 = .ok (.bipush 34, 2) := by decide +kernel
theorem d_FS_init_211 : decode b_FS_init 211 = .ok (.bipush 51, 2) := by decide +kernel
theorem d_FS_init_213 : decode b_FS_init 213 = .ok (.bipush 44, 2) := by decide +kernel
theorem d_FS_init_215 : decode b_FS_init 215 = .ok (.bipush 90, 2) := by decide +kernel
theorem d_FS_init_217 : decode b_FS_init 217 = .ok (.invokestatic 3, 3) := by decide +kernel
theorem d_FS_init_220 : decode b_FS_init 220 = .ok (.aastore, 1) := by decide +kernel
theorem d_FS_init_221 : decode b_FS_init 221 = .ok (.dup, 1) := by decide +kernel
theorem d_FS_init_222 : decode b_FS_init 222 = .ok (.iconst 1, 1) := by decide +kernel
theorem d_FS_init_223 : decode b_FS_init 223 = .ok (.bipush 90, 2) := by decide +kernel
theorem d_FS_init_225 : decode b_FS_init 225 = .ok (.bipush 90, 2) := by decide +kernel
theorem d_FS_init_227 : decode b_FS_init 227 = .ok (.bipush 22, 2) := by decide +kernel
theorem d_FS_init_229 : decode b_FS_init 229 = .ok (.bipush 24, 2) := by decide +kernel
theorem d_FS_init_231 : decode b_FS_init 231 = .ok (.bipush 51, 2) := by decide +kernel
theorem d_FS_init_233 : decode b_FS_init 233 = .ok (.bipush 44, 2) := by decide +kernel
theorem d_FS_init_235 : decode b_FS_init 235 = .ok (.bipush 90, 2) := by decide +kernel
theorem d_FS_init_237 : decode b_FS_init 237 = .ok (.invokestatic 3, 3) := by decide +kernel
theorem d_FS_init_240 : decode b_FS_init 240 = .ok (.aastore, 1) := by decide +kernel
theorem d_FS_init_241 : decode b_FS_init 241 = .ok (.dup, 1) := by decide +kernel
theorem d_FS_init_242 : decode b_FS_init 242 = .ok (.iconst 2, 1) := by decide +kernel
theorem d_FS_init_243 : decode b_FS_init 243 = .ok (.bipush 90, 2) := by decide +kernel
theorem d_FS_init_245 : decode b_FS_init 245 = .ok (.iconst 2, 1) := by decide +kernel
theorem d_FS_init_246 : decode b_FS_init 246 = .ok (.bipush 22, 2) := by decide +kernel
theorem d_FS_init_248 : decode b_FS_init 248 = .ok (.bipush 24, 2) := by decide +kernel
theorem d_FS_init_250 : decode b_FS_init 250 = .ok (.bipush 51, 2) := by decide +kernel
theorem d_FS_init_252 : decode b_FS_init 252 = .ok (.bipush 44, 2) := by decide +kernel
theorem d_FS_init_254 : decode b_FS_init 254 = .ok (.bipush 21, 2) := by decide +kernel
theorem d_FS_init_256 : decode b_FS_init 256 = .ok (.invokestatic 3, 3) := by decide +kernel
theorem d_FS_init_259 : decode b_FS_init 259 = .ok (.aastore, 1) := by decide +kernel
theorem d_FS_init_260 : decode b_FS_init 260 = .ok (.invokespecial 17, 3) := by decide +kernel
theorem d_FS_init_263 : decode b_FS_init 263 = .ok (.aastore, 1) := by decide +kernel
theorem d_FS_init_264 : decode b_FS_init 264 = .ok (.dup, 1) := by decide +kernel
theorem d_FS_init_265 : decode b_FS_init 265 = .ok (.iconst 3, 1) := by decide +kernel
theorem d_FS_init_266 : decode b_FS_init 266 = .ok (.new 13, 3) := by decide +kernel
theorem d_FS_init_269 : decode b_FS_init 269 = .ok (.dup, 1) := by decide +kernel
theorem d_FS_init_270 : decode b_FS_init 270 = .ok (.iconst 3, 1) := by decide +kernel
theorem d_FS_init_271 : decode b_FS_init 271 = .ok (.newarray .int, 2) := by decide +kernel
theorem d_FS_init_273 : decode b_FS_init 273 = .ok (.dup, 1) := by decide +kernel
theorem d_FS_init_274 : decode b_FS_init 274 = .ok (.iconst 0, 1) := by decide +kernel
theorem d_FS_init_275 : decode b_FS_init 275 = .ok (.iconst 4, 1) := by decide +kernel
theorem d_FS_init_276 : decode b_FS_init 276 = .ok (.iastore, 1) := by decide +kernel
theorem d_FS_init_277 : decode b_FS_init 277 = .ok (.dup, 1) := by decide +kernel
theorem d_FS_init_278 : decode b_FS_init 278 = .ok (.iconst 1, 1) := by decide +kernel
theorem d_FS_init_279 : decode b_FS_init 279 = .ok (.iconst 4, 1) := by decide +kernel
theorem d_FS_init_280 : decode b_FS_init 280 = .ok (.iastore, 1) := by decide +kernel
theorem d_FS_init_281 : decode b_FS_init 281 = .ok (.dup, 1) := by decide +kernel
theorem d_FS_init_282 : decode b_FS_init 282 = .ok (.iconst 2, 1) := by decide +kernel
theorem d_FS_init_283 : decode b_FS_init 283 = .ok (.iconst 4, 1) := by decide +kernel
theorem d_FS_init_284 : decode b_FS_init 284 = .ok (.iastore, 1) := by decide +kernel
theorem d_FS_init_285 : decode b_FS_init 285 = .ok (.bipush 49, 2) := by decide +kernel
theorem d_FS_init_287 : decode b_FS_init 287 = .ok (.iconst 3, 1) := by decide +kernel
theorem d_FS_init_288 : decode b_FS_init 288 = .ok (.anewarray 15, 3) := by decide +kernel
theorem d_FS_init_291 : decode b_FS_init 291 = .ok (.dup, 1) := by decide +kernel
theorem d_FS_init_292 : decode b_FS_init 292 = .ok (.iconst 0, 1) := by decide +kernel
theorem d_FS_init_293 : decode b_FS_init 293 = .ok (.bipush 90, 2) := by decide +kernel
theorem d_FS_init_295 : decode b_FS_init 295 = .ok (.bipush 90, 2) := by decide +kernel
theorem d_FS_init_297 : decode b_FS_init 297 = .ok (.bipush 90, 2) := by decide +kernel
theorem d_FS_init_299 : decode b_FS_init 299 = .ok (.bipush 90, 2) := by decide +kernel
theorem d_FS_init_301 : decode b_FS_init 301 = .ok (.bipush 51, 2) := by decide +kernel
theorem d_FS_init_303 : decode b_FS_init 303 = .ok (.bipush 44, 2) := by decide +kernel
theorem d_FS_init_305 : decode b_FS_init 305 = .ok (.bipush 90, 2) := by decide +kernel
theorem d_FS_init_307 : decode b_FS_init 307 = .ok (.invokestatic 3, 3) := by decide +kernel
theorem d_FS_init_310 : decode b_FS_init 310 = .ok (.aastore, 1) := by decide +kernel
theorem d_FS_init_311 : decode b_FS_init 311 = .ok (.dup, 1) := by decide +kernel
theorem d_FS_init_312 : decode b_FS_init 312 = .ok (.iconst 1, 1) := by decide +kernel
theorem d_FS_init_313 : decode b_FS_init 313 = .ok (.bipush 23, 2) := by decide +kernel
theorem d_FS_init_315 : decode b_FS_init 315 = .ok (.bipush 90, 2) := by decide +kernel
theorem d_FS_init_317 : decode b_FS_init 317 = .ok (.bipush 90, 2) := by decide +kernel
theorem d_FS_init_319 : decode b_FS_init 319 = .ok (.bipush 90, 2) := by decide +kernel
theorem d_FS_init_321 : decode b_FS_init 321 = .ok (.bipush 51, 2) := by decide +kernel
theorem d_FS_init_323 : decode b_FS_init 323 = .ok (.bipush 44, 2) := by decide +kernel
theorem d_FS_init_325 : decode b_FS_init 325 = .ok (.bipush 90, 2) := by decide +kernel
theorem d_FS_init_327 : decode b_FS_init 327 = .ok (.invokestatic 3, 3) := by decide +kernel
theorem d_FS_init_330 : decode b_FS_init 330 = .ok (.aastore, 1) := by decide +kernel
theorem d_FS_init_331 : decode b_FS_init 331 = .ok (.dup, 1) := by decide +kernel
theorem d_FS_init_332 : decode b_FS_init 332 = .ok (.iconst 2, 1) := by decide +kernel
theorem d_FS_init_333 : decode b_FS_init 333 = .ok (.bipush 23, 2) := by decide +kernel
theorem d_FS_init_335 : decode b_FS_init 335 = .ok (.iconst 2, 1) := by decide +kernel
theorem d_FS_init_336 : decode b_FS_init 336 = .ok (.bipush 22, 2) := by decide +kernel
theorem d_FS_init_338 : decode b_FS_init 338 = .ok (.bipush 90, 2) := by decide +kernel
theorem d_FS_init_340 : decode b_FS_init 340 = .ok (.bipush 51, 2) := by decide +kernel
theorem d_FS_init_342 : decode b_FS_init 342 = .ok (.bipush 44, 2) := by decide +kernel
theorem d_FS_init_344 : decode b_FS_init 344 = .ok (.bipush 21, 2) := by decide +kernel
theorem d_FS_init_346 : decode b_FS_init 346 = .ok (.invokestatic 3, 3) := by decide +kernel
theorem d_FS_init_349 : decode b_FS_init 349 = .ok (.aastore, 1) := by decide +kernel
theorem d_FS_init_350 : decode b_FS_init 350 = .ok (.invokespecial 17, 3) := by decide +kernel
theorem d_FS_init_353 : decode b_FS_init 353 = .ok (.aastore, 1) := by decide +kernel
theorem d_FS_init_354 : decode b_FS_init 354 = .ok (.dup, 1) := by decide +kernel
theorem d_FS_init_355 : decode b_FS_init 355 = .ok (.iconst 4, 1) := by decide +kernel
theorem d_FS_init_356 : decode b_FS_init 356 = .ok (.new 13, 3) := by decide +kernel
theorem d_FS_init_359 : decode b_FS_init 359 = .ok (.dup, 1) := by decide +kernel
theorem d_FS_init_360 : decode b_FS_init 360 = .ok (.iconst 3, 1) := by decide +kernel
theorem d_FS_init_361 : decode b_FS_init 361 = .ok (.newarray .int, 2) := by decide +kernel
theorem d_FS_init_363 : decode b_FS_init 363 = .ok (.dup, 1) := by decide +kernel
theorem d_FS_init_364 : decode b_FS_init 364 = .ok (.iconst 0, 1) := by decide +kernel
theorem d_FS_init_365 : decode b_FS_init 365 = .ok (.iconst 0, 1) := by decide +kernel
theorem d_FS_init_366 : decode b_FS_init 366 = .ok (.iastore, 1) := by decide +kernel
theorem d_FS_init_367 : decode b_FS_init 367 = .ok (.dup, 1) := by decide +kernel
theorem d_FS_init_368 : decode b_FS_init 368 = .ok (.iconst 1, 1) := by decide +kernel
theorem d_FS_init_369 : decode b_FS_init 369 = .ok (.iconst 4, 1) := by decide +kernel
theorem d_FS_init_370 : decode b_FS_init 370 = .ok (.iastore, 1) := by decide +kernel
theorem d_FS_init_371 : decode b_FS_init 371 = .ok (.dup, 1) := by decide +kernel
theorem d_FS_init_372 : decode b_FS_init 372 = .ok (.iconst 2, 1) := by decide +kernel
theorem d_FS_init_373 : decode b_FS_init 373 = .ok (.iconst 4, 1) := by decide +kernel
theorem d_FS_init_374 : decode b_FS_init 374 = .ok (.iastore, 1) := by decide +kernel
theorem d_FS_init_375 : decode b_FS_init 375 = .ok (.bipush 49, 2) := by decide +kernel
theorem d_FS_init_377 : decode b_FS_init 377 = .ok (.iconst 3, 1) := by decide +kernel
theorem d_FS_init_378 : decode b_FS_init 378 = .ok (.anewarray 15, 3) := by decide +kernel
theorem d_FS_init_381 : decode b_FS_init 381 = .ok (.dup, 1) := by decide +kernel
theorem d_FS_init_382 : decode b_FS_init 382 = .ok (.iconst 0, 1) := by decide +kernel
theorem d_FS_init_383 : decode b_FS_init 383 = .ok (.invokestatic 20, 3) := by decide +kernel
theorem d_FS_init_386 : decode b_FS_init 386 = .ok (.aastore, 1) := by decide +kernel
theorem d_FS_init_387 : decode b_FS_init 387 = .ok (.dup, 1) := by decide +kernel
theorem d_FS_init_388 : decode b_FS_init 388 = .ok (.iconst 1, 1) := by decide +kernel
theorem d_FS_init_389 : decode b_FS_init 389 = .ok (.bipush 23, 2) := by decide +kernel
theorem d_FS_init_391 : decode b_FS_init 391 = .ok (.bipush 90, 2) := by decide +kernel
theorem d_FS_init_393 : decode b_FS_init 393 = .ok (.bipush 90, 2) := by decide +kernel
theorem d_FS_init_395 : decode b_FS_init 395 = .ok (.bipush 90, 2) := by decide +kernel
theorem d_FS_init_397 : decode b_FS_init 397 = .ok (.bipush 51, 2) := by decide +kernel
theorem d_FS_init_399 : decode b_FS_init 399 = .ok (.bipush 90, 2) := by decide +kernel
theorem d_FS_init_401 : decode b_FS_init 401 = .ok (.bipush 90, 2) := by decide +kernel
theorem d_FS_init_403 : decode b_FS_init 403 = .ok (.invokestatic 3, 3) := by decide +kernel
theorem d_FS_init_406 : decode b_FS_init 406 = .ok (.aastore, 1) := by decide +kernel
theorem d_FS_init_407 : decode b_FS_init 407 = .ok (.dup, 1) := by decide +kernel
theorem d_FS_init_408 : decode b_FS_init 408 = .ok (.iconst 2, 1) := by decide +kernel
theorem d_FS_init_409 : decode b_FS_init 409 = .ok (.bipush 23, 2) := by decide +kernel
theorem d_FS_init_411 : decode b_FS_init 411 = .ok (.bipush 90, 2) := by decide +kernel
theorem d_FS_init_413 : decode b_FS_init 413 = .ok (.bipush 90, 2) := by decide +kernel
theorem d_FS_init_415 : decode b_FS_init 415 = .ok (.bipush 90, 2) := by decide +kernel
theorem d_FS_init_417 : decode b_FS_init 417 = .ok (.bipush 51, 2) := by decide +kernel
theorem d_FS_init_419 : decode b_FS_init 419 = .ok (.bipush 90, 2) := by decide +kernel
theorem d_FS_init_421 : decode b_FS_init 421 = .ok (.bipush 90, 2) := by decide +kernel
theorem d_FS_init_423 : decode b_FS_init 423 = .ok (.invokestatic 3, 3) := by decide +kernel
theorem d_FS_init_426 : decode b_FS_init 426 = .ok (.aastore, 1) := by decide +kernel
theorem d_FS_init_427 : decode b_FS_init 427 = .ok (.invokespecial 17, 3) := by decide +kernel
theorem d_FS_init_430 : decode b_FS_init 430 = .ok (.aastore, 1) := by decide +kernel
theorem d_FS_init_431 : decode b_FS_init 431 = .ok (.dup, 1) := by decide +kernel
theorem d_FS_init_432 : decode b_FS_init 432 = .ok (.iconst 5, 1) := by decide +kernel
theorem d_FS_init_433 : decode b_FS_init 433 = .ok (.new 13, 3) := by decide +kernel
theorem d_FS_init_436 : decode b_FS_init 436 = .ok (.dup, 1) := by decide +kernel
theorem d_FS_init_437 : decode b_FS_init 437 = .ok (.iconst 3, 1) := by decide +kernel
theorem d_FS_init_438 : decode b_FS_init 438 = .ok (.newarray .int, 2) := by decide +kernel
theorem d_FS_init_440 : decode b_FS_init 440 = .ok (.dup, 1) := by decide +kernel
theorem d_FS_init_441 : decode b_FS_init 441 = .ok (.iconst 0, 1) := by decide +kernel
theorem d_FS_init_442 : decode b_FS_init 442 = .ok (.iconst 0, 1) := by decide +kernel
theorem d_FS_init_443 : decode b_FS_init 443 = .ok (.iastore, 1) := by decide +kernel
theorem d_FS_init_444 : decode b_FS_init 444 = .ok (.dup, 1) := by decide +kernel
theorem d_FS_init_445 : decode b_FS_init 445 = .ok (.iconst 1, 1) := by decide +kernel
theorem d_FS_init_446 : decode b_FS_init 446 = .ok (.iconst 5, 1) := by decide +kernel
theorem d_FS_init_447 : decode b_FS_init 447 = .ok (.iastore, 1) := by decide +kernel
theorem d_FS_init_448 : decode b_FS_init 448 = .ok (.dup, 1) := by decide +kernel
theorem d_FS_init_449 : decode b_FS_init 449 = .ok (.iconst 2, 1) := by decide +kernel
theorem d_FS_init_450 : decode b_FS_init 450 = .ok (.iconst 5, 1) := by decide +kernel
theorem d_FS_init_451 : decode b_FS_init 451 = .ok (.iastore, 1) := by decide +kernel
theorem d_FS_init_452 : decode b_FS_init 452 = .ok (.bipush 47, 2) := by decide +kernel
theorem d_FS_init_454 : decode b_FS_init 454 = .ok (.iconst 3, 1) := by decide +kernel
theorem d_FS_init_455 : decode b_FS_init 455 = .ok (.anewarray 15, 3) := by decide +kernel
theorem d_FS_init_458 : decode b_FS_init 458 = .ok (.dup, 1) := by decide +kernel
theorem d_FS_init_459 : decode b_FS_init 459 = .ok (.iconst 0, 1) := by decide +kernel
theorem d_FS_init_460 : decode b_FS_init 460 = .ok (.invokestatic 20, 3) := by decide +kernel
theorem d_FS_init_463 : decode b_FS_init 463 = .ok (.aastore, 1) := by decide +kernel
theorem d_FS_init_464 : decode b_FS_init 464 = .ok (.dup, 1) := by decide +kernel
theorem d_FS_init_465 : decode b_FS_init 465 = .ok (.iconst 1, 1) := by decide +kernel
theorem d_FS_init_466 : decode b_FS_init 466 = .ok (.bipush 23, 2) := by decide +kernel
theorem d_FS_init_468 : decode b_FS_init 468 = .ok (.bipush 90, 2) := by decide +kernel
theorem d_FS_init_470 : decode b_FS_init 470 = .ok (.bipush 90, 2) := by decide +kernel
theorem d_FS_init_472 : decode b_FS_init 472 = .ok (.bipush 90, 2) := by decide +kernel
theorem d_FS_init_474 : decode b_FS_init 474 = .ok (.bipush 51, 2) := by decide +kernel
theorem d_FS_init_476 : decode b_FS_init 476 = .ok (.bipush 90, 2) := by decide +kernel
theorem d_FS_init_478 : decode b_FS_init 478 = .ok (.bipush 90, 2) := by decide +kernel
theorem d_FS_init_480 : decode b_FS_init 480 = .ok (.invokestatic 3, 3) := by decide +kernel
theorem d_FS_init_483 : decode b_FS_init 483 = .ok (.aastore, 1) := by decide +kernel
theorem d_FS_init_484 : decode b_FS_init 484 = .ok (.dup, 1) := by decide +kernel
theorem d_FS_init_485 : decode b_FS_init 485 = .ok (.iconst 2, 1) := by decide +kernel
theorem d_FS_init_486 : decode b_FS_init 486 = .ok (.bipush 23, 2) := by decide +kernel
theorem d_FS_init_488 : decode b_FS_init 488 = .ok (.bipush 90, 2) := by decide +kernel
theorem d_FS_init_490 : decode b_FS_init 490 = .ok (.bipush 90, 2) := by decide +kernel
theorem d_FS_init_492 : decode b_FS_init 492 = .ok (.bipush 90, 2) := by decide +kernel
theorem d_FS_init_494 : decode b_FS_init 494 = .ok (.bipush 51, 2) := by decide +kernel
theorem d_FS_init_496 : decode b_FS_init 496 = .ok (.bipush 90, 2) := by decide +kernel
theorem d_FS_init_498 : decode b_FS_init 498 = .ok (.bipush 90, 2) := by decide +kernel
theorem d_FS_init_500 : decode b_FS_init 500 = .ok (.invokestatic 3, 3) := by decide +kernel
theorem d_FS_init_503 : decode b_FS_init 503 = .ok (.aastore, 1) := by decide +kernel
theorem d_FS_init_504 : decode b_FS_init 504 = .ok (.invokespecial 17, 3) := by decide +kernel
theorem d_FS_init_507 : decode b_FS_init 507 = .ok (.aastore, 1) := by decide +kernel
theorem d_FS_init_508 : decode b_FS_init 508 = .ok (.dup, 1) := by decide +kernel
theorem d_FS_init_509 : decode b_FS_init 509 = .ok (.bipush 6, 2) := by decide +kernel
theorem d_FS_init_511 : decode b_FS_init 511 = .ok (.new 13, 3) := by decide +kernel
theorem d_FS_init_514 : decode b_FS_init 514 = .ok (.dup, 1) := by decide +kernel
theorem d_FS_init_515 : decode b_FS_init 515 = .ok (.iconst 3, 1) := by decide +kernel
theorem d_FS_init_516 : decode b_FS_init 516 = .ok (.newarray .int, 2) := by decide +kernel
theorem d_FS_init_518 : decode b_FS_init 518 = .ok (.dup, 1) := by decide +kernel
theorem d_FS_init_519 : decode b_FS_init 519 = .ok (.iconst 0, 1) := by decide +kernel
theorem d_FS_init_520 : decode b_FS_init 520 = .ok (.bipush 15, 2) := by decide +kernel
theorem d_FS_init_522 : decode b_FS_init 522 = .ok (.iastore, 1) := by decide +kernel
theorem d_FS_init_523 : decode b_FS_init 523 = .ok (.dup, 1) := by decide +kernel
theorem d_FS_init_524 : decode b_FS_init 524 = .ok (.iconst 1, 1) := by decide +kernel
theorem d_FS_init_525 : decode b_FS_init 525 = .ok (.bipush 15, 2) := by decide +kernel
theorem d_FS_init_527 : decode b_FS_init 527 = .ok (.iastore, 1) := by decide +kernel
theorem d_FS_init_528 : decode b_FS_init 528 = .ok (.dup, 1) := by decide +kernel
theorem d_FS_init_529 : decode b_FS_init 529 = .ok (.iconst 2, 1) := by decide +kernel
theorem d_FS_init_530 : decode b_FS_init 530 = .ok (.bipush 15, 2) := by decide +kernel
theorem d_FS_init_532 : decode b_FS_init 532 = .ok (.iastore, 1) := by decide +kernel
theorem d_FS_init_533 : decode b_FS_init 533 = .ok (.bipush 90, 2) := by decide +kernel
theorem d_FS_init_535 : decode b_FS_init 535 = .ok (.iconst 3, 1) := by decide +kernel
theorem d_FS_init_536 : decode b_FS_init 536 = .ok (.anewarray 15, 3) := by decide +kernel
theorem d_FS_init_539 : decode b_FS_init 539 = .ok (.dup, 1) := by decide +kernel
theorem d_FS_init_540 : decode b_FS_init 540 = .ok (.iconst 0, 1) := by decide +kernel
theorem d_FS_init_541 : decode b_FS_init 541 = .ok (.invokestatic 20, 3) := by decide +kernel
theorem d_FS_init_544 : decode b_FS_init 544 = .ok (.aastore, 1) := by decide +kernel
theorem d_FS_init_545 : decode b_FS_init 545 = .ok (.dup, 1) := by decide +kernel
theorem d_FS_init_546 : decode b_FS_init 546 = .ok (.iconst 1, 1) := by decide +kernel
theorem d_FS_init_547 : decode b_FS_init 547 = .ok (.invokestatic 20, 3) := by decide +kernel
theorem d_FS_init_550 : decode b_FS_init 550 = .ok (.aastore, 1) := by decide +kernel
theorem d_FS_init_551 : decode b_FS_init 551 = .ok (.dup, 1) := by decide +kernel
theorem d_FS_init_552 : decode b_FS_init 552 = .ok (.iconst 2, 1) := by decide +kernel
theorem d_FS_init_553 : decode b_FS_init 553 = .ok (.invokestatic 20, 3) := by decide +kernel
theorem d_FS_init_556 : decode b_FS_init 556 = .ok (.aastore, 1) := by decide +kernel
theorem d_FS_init_557 : decode b_FS_init 557 = .ok (.invokespecial 17, 3) := by decide +kernel
theorem d_FS_init_560 : decode b_FS_init 560 = .ok (.aastore, 1) := by decide +kernel
theorem d_FS_init_561 : decode b_FS_init 561 = .ok (.putfield 24, 3) := by decide +kernel
theorem d_FS_init_564 : decode b_FS_init 564 = .ok (.aload_n 0, 1) := by decide +kernel
theorem d_FS_init_565 : decode b_FS_init 565 = .ok (.iconst (-1), 1) := by decide +kernel
theorem d_FS_init_566 : decode b_FS_init 566 = .ok (.putfield 28, 3) := by decide +kernel
theorem d_FS_init_569 : decode b_FS_init 569 = .ok (.aload_n 0, 1) := by decide +kernel
theorem d_FS_init_570 : decode b_FS_init 570 = .ok (.bipush 9, 2) := by decide +kernel
theorem d_FS_init_572 : decode b_FS_init 572 = .ok (.putfield 32, 3) := by decide +kernel
theorem d_FS_init_575 : decode b_FS_init 575 = .ok (.aload_n 0, 1) := by decide +kernel
theorem d_FS_init_576 : decode b_FS_init 576 = .ok (.bipush 7, 2) := by decide +kernel
theorem d_FS_init_578 : decode b_FS_init 578 = .ok (.newarray .boolean, 2) := by decide +kernel
theorem d_FS_init_580 : decode b_FS_init 580 = .ok (.putfield 35, 3) := by decide +kernel
theorem d_FS_init_583 : decode b_FS_init 583 = .ok (.aload_n 0, 1) := by decide +kernel
theorem d_FS_init_584 : decode b_FS_init 584 = .ok (.iload_n 1, 1) := by decide +kernel
theorem d_FS_init_585 : decode b_FS_init 585 = .ok (.ifCond .ge 7, 3) := by decide +kernel
theorem d_FS_init_588 : decode b_FS_init 588 = .ok (.iconst 0, 1) := by decide +kernel
theorem d_FS_init_589 : decode b_FS_init 589 = .ok (.goto 13, 3) := by decide +kernel
theorem d_FS_init_592 : decode b_FS_init 592 = .ok (.iload_n 1, 1) := by decide +kernel
theorem d_FS_init_593 : decode b_FS_init 593 = .ok (.iconst 2, 1) := by decide +kernel
theorem d_FS_init_594 : decode b_FS_init 594 = .ok (.if_icmp .le 7, 3) := by decide +kernel
theorem d_FS_init_597 : decode b_FS_init 597 = .ok (.iconst 2, 1) := by decide +kernel
theorem d_FS_init_598 : decode b_FS_init 598 = .ok (.goto 4, 3) := by decide +kernel
theorem d_FS_init_601 : decode b_FS_init 601 = .ok (.iload_n 1, 1) := by decide +kernel
theorem d_FS_init_602 : decode b_FS_init 602 = .ok (.putfield 39, 3) := by decide +kernel
theorem d_FS_init_605 : decode b_FS_init 605 = .ok (.return_, 1) := by decide +kernel
end
section
theorem d_AC_init_0 : decode b_AC_init 0 = .ok (.aload_n 0, 1) := by decide +kernel
theorem d_AC_init_1 : decode b_AC_init 1 = .ok (.invokespecial 3, 3) := by decide +kernel
theorem d_AC_init_4 : decode b_AC_init 4 = .ok (.aload_n 0, 1) := by decide +kernel
theorem d_AC_init_5 : decode b_AC_init 5 = .ok (.aload_n 1, 1) := by decide +kernel
theorem d_AC_init_6 : decode b_AC_init 6 = .ok (.putfield 9, 3) := by decide +kernel
theorem d_AC_init_9 : decode b_AC_init 9 = .ok (.aload_n 0, 1) := by decide +kernel
theorem d_AC_init_10 : decode b_AC_init 10 = .ok (.iload_n 2, 1) := by decide +kernel
theorem d_AC_init_11 : decode b_AC_init 11 = .ok (.putfield 15, 3) := by decide +kernel
theorem d_AC_init_14 : decode b_AC_init 14 = .ok (.aload_n 0, 1) := by decide +kernel
theorem d_AC_init_15 : decode b_AC_init 15 = .ok (.aload_n 3, 1) := by decide +kernel
theorem d_AC_init_16 : decode b_AC_init 16 = .ok (.putfield 19, 3) := by decide +kernel
theorem d_AC_init_19 : decode b_AC_init 19 = .ok (.return_, 1) := by decide +kernel
theorem d_AC_isFor_0 : decode b_AC_isFor 0 = .ok (.aload_n 0, 1) := by decide +kernel
theorem d_AC_isFor_1 : decode b_AC_isFor 1 = .ok (.getfield 9, 3) := by decide +kernel
theorem d_AC_isFor_4 : decode b_AC_isFor 4 = .ok (.iload_n 1, 1) := by decide +kernel
theorem d_AC_isFor_5 : decode b_AC_isFor 5 = .ok (.iaload, 1) := by decide +kernel
theorem d_AC_isFor_6 : decode b_AC_isFor 6 = .ok (.ifCond .le 7, 3) := by decide +kernel
theorem d_AC_isFor_9 : decode b_AC_isFor 9 = .ok (.iconst 1, 1) := by decide +kernel
theorem d_AC_isFor_10 : decode b_AC_isFor 10 = .ok (.goto 4, 3) := by decide +kernel
theorem d_AC_isFor_13 : decode b_AC_isFor 13 = .ok (.iconst 0, 1) := by decide +kernel
theorem d_AC_isFor_14 : decode b_AC_isFor 14 = .ok (.ireturn, 1) := by decide +kernel
theorem d_AC_isIn_0 : decode b_AC_isIn 0 = .ok (.aload_n 0, 1) := by decide +kernel
theorem d_AC_isIn_1 : decode b_AC_isIn 1 = .ok (.getfield 9, 3) := by decide +kernel
theorem d_AC_isIn_4 : decode b_AC_isIn 4 = .ok (.iload_n 1, 1) := by decide +kernel
theorem d_AC_isIn_5 : decode b_AC_isIn 5 = .ok (.iaload, 1) := by decide +kernel
theorem d_AC_isIn_6 : decode b_AC_isIn 6 = .ok (.iload_n 2, 1) := by decide +kernel
theorem d_AC_isIn_7 : decode b_AC_isIn 7 = .ok (.ishr, 1) := by decide +kernel
theorem d_AC_isIn_8 : decode b_AC_isIn 8 = .ok (.iconst 1, 1) := by decide +kernel
theorem d_AC_isIn_9 : decode b_AC_isIn 9 = .ok (.iand, 1) := by decide +kernel
theorem d_AC_isIn_10 : decode b_AC_isIn 10 = .ok (.iconst 1, 1) := by decide +kernel
theorem d_AC_isIn_11 : decode b_AC_isIn 11 = .ok (.if_icmp .ne 7, 3) := by decide +kernel
theorem d_AC_isIn_14 : decode b_AC_isIn 14 = .ok (.iconst 1, 1) := by decide +kernel
theorem d_AC_isIn_15 : decode b_AC_isIn 15 = .ok (.goto 4, 3) := by decide +kernel
theorem d_AC_isIn_18 : decode b_AC_isIn 18 = .ok (.iconst 0, 1) := by decide +kernel
theorem d_AC_isIn_19 : decode b_AC_isIn 19 = .ok (.ireturn, 1) := by decide +kernel
theorem d_AC_status_0 : decode b_AC_status 0 = .ok (.iload_n 2, 1) := by decide +kernel
theorem d_AC_status_1 : decode b_AC_status 1 = .ok (.ifCond .lt 9, 3) := by decide +kernel
theorem d_AC_status_4 : decode b_AC_status 4 = .ok (.iload_n 2, 1) := by decide +kernel
theorem d_AC_status_5 : decode b_AC_status 5 = .ok (.bipush 8, 2) := by decide +kernel
theorem d_AC_status_7 : decode b_AC_status 7 = .ok (.if_icmp .le 8, 3) := by decide +kernel
theorem d_AC_status_10 : decode b_AC_status 10 = .ok (.bipush 90, 2) := by decide +kernel
theorem d_AC_status_12 : decode b_AC_status 12 = .ok (.goto 11, 3) := by decide +kernel
theorem d_AC_status_15 : decode b_AC_status 15 = .ok (.aload_n 0, 1) := by decide +kernel
theorem d_AC_status_16 : decode b_AC_status 16 = .ok (.getfield 19, 3) := by decide +kernel
theorem d_AC_status_19 : decode b_AC_status 19 = .ok (.iload_n 1, 1) := by decide +kernel
theorem d_AC_status_20 : decode b_AC_status 20 = .ok (.aaload, 1) := by decide +kernel
theorem d_AC_status_21 : decode b_AC_status 21 = .ok (.iload_n 2, 1) := by decide +kernel
theorem d_AC_status_22 : decode b_AC_status 22 = .ok (.iaload, 1) := by decide +kernel
theorem d_AC_status_23 : decode b_AC_status 23 = .ok (.ireturn, 1) := by decide +kernel
theorem d_LW_cell_0 : decode b_LW_cell 0 = .ok (.iload_n 1, 1) := by decide +kernel
theorem d_LW_cell_1 : decode b_LW_cell 1 = .ok (.aload_n 0, 1) := by decide +kernel
theorem d_LW_cell_2 : decode b_LW_cell 2 = .ok (.arraylength, 1) := by decide +kernel
theorem d_LW_cell_3 : decode b_LW_cell 3 = .ok (.if_icmp .ge 9, 3) := by decide +kernel
theorem d_LW_cell_6 : decode b_LW_cell 6 = .ok (.aload_n 0, 1) := by decide +kernel
theorem d_LW_cell_7 : decode b_LW_cell 7 = .ok (.iload_n 1, 1) := by decide +kernel
theorem d_LW_cell_8 : decode b_LW_cell 8 = .ok (.iaload, 1) := by decide +kernel
theorem d_LW_cell_9 : decode b_LW_cell 9 = .ok (.goto 4, 3) := by decide +kernel
theorem d_LW_cell_12 : decode b_LW_cell 12 = .ok (.iconst 0, 1) := by decide +kernel
theorem d_LW_cell_13 : decode b_LW_cell 13 = .ok (.ireturn, 1) := by decide +kernel
theorem d_MD_init_0 : decode b_MD_init 0 = .ok (.aload_n 0, 1) := by decide +kernel
theorem d_MD_init_1 : decode b_MD_init 1 = .ok (.invokespecial 1, 3) := by decide +kernel
theorem d_MD_init_4 : decode b_MD_init 4 = .ok (.aload_n 0, 1) := by decide +kernel
theorem d_MD_init_5 : decode b_MD_init 5 = .ok (.bipush 9, 2) := by decide +kernel
theorem d_MD_init_7 : decode b_MD_init 7 = .ok (.putfield 7, 3) := by decide +kernel
theorem d_MD_init_10 : decode b_MD_init 10 = .ok (.aload_n 0, 1) := by decide +kernel
theorem d_MD_init_11 : decode b_MD_init 11 = .ok (.bipush 7, 2) := by decide +kernel
theorem d_MD_init_13 : decode b_MD_init 13 = .ok (.newarray .boolean, 2) := by decide +kernel
theorem d_MD_init_15 : decode b_MD_init 15 = .ok (.putfield 13, 3) := by decide +kernel
theorem d_MD_init_18 : decode b_MD_init 18 = .ok (.aload_n 0, 1) := by decide +kernel
theorem d_MD_init_19 : decode b_MD_init 19 = .ok (.iload_n 1, 1) := by decide +kernel
theorem d_MD_init_20 : decode b_MD_init 20 = .ok (.ifCond .ge 7, 3) := by decide +kernel
theorem d_MD_init_23 : decode b_MD_init 23 = .ok (.iconst 0, 1) := by decide +kernel
theorem d_MD_init_24 : decode b_MD_init 24 = .ok (.goto 13, 3) := by decide +kernel
theorem d_MD_init_27 : decode b_MD_init 27 = .ok (.iload_n 1, 1) := by decide +kernel
theorem d_MD_init_28 : decode b_MD_init 28 = .ok (.iconst 2, 1) := by decide +kernel
theorem d_MD_init_29 : decode b_MD_init 29 = .ok (.if_icmp .le 7, 3) := by decide +kernel
theorem d_MD_init_32 : decode b_MD_init 32 = .ok (.iconst 2, 1) := by decide +kernel
theorem d_MD_init_33 : decode b_MD_init 33 = .ok (.goto 4, 3) := by decide +kernel
theorem d_MD_init_36 : decode b_MD_init 36 = .ok (.iload_n 1, 1) := by decide +kernel
theorem d_MD_init_37 : decode b_MD_init 37 = .ok (.putfield 17, 3) := by decide +kernel
theorem d_MD_init_40 : decode b_MD_init 40 = .ok (.return_, 1) := by decide +kernel
theorem d_MD_mode_0 : decode b_MD_mode 0 = .ok (.aload_n 0, 1) := by decide +kernel
theorem d_MD_mode_1 : decode b_MD_mode 1 = .ok (.iconst 0, 1) := by decide +kernel
theorem d_MD_mode_2 : decode b_MD_mode 2 = .ok (.putfield 20, 3) := by decide +kernel
theorem d_MD_mode_5 : decode b_MD_mode 5 = .ok (.aload_n 0, 1) := by decide +kernel
theorem d_MD_mode_6 : decode b_MD_mode 6 = .ok (.getfield 23, 3) := by decide +kernel
theorem d_MD_mode_9 : decode b_MD_mode 9 = .ok (.ifCond .eq 6, 3) := by decide +kernel
theorem d_MD_mode_12 : decode b_MD_mode 12 = .ok (.bipush (-5), 2) := by decide +kernel
theorem d_MD_mode_14 : decode b_MD_mode 14 = .ok (.ireturn, 1) := by decide +kernel
theorem d_MD_mode_15 : decode b_MD_mode 15 = .ok (.iload_n 1, 1) := by decide +kernel
theorem d_MD_mode_16 : decode b_MD_mode 16 = .ok (.ifCond .lt 8, 3) := by decide +kernel
theorem d_MD_mode_19 : decode b_MD_mode 19 = .ok (.iload_n 1, 1) := by decide +kernel
theorem d_MD_mode_20 : decode b_MD_mode 20 = .ok (.iconst 3, 1) := by decide +kernel
theorem d_MD_mode_21 : decode b_MD_mode 21 = .ok (.if_icmp .le 6, 3) := by decide +kernel
theorem d_MD_mode_24 : decode b_MD_mode 24 = .ok (.bipush (-4), 2) := by decide +kernel
theorem d_MD_mode_26 : decode b_MD_mode 26 = .ok (.ireturn, 1) := by decide +kernel
theorem d_MD_mode_27 : decode b_MD_mode 27 = .ok (.aload_n 0, 1) := by decide +kernel
theorem d_MD_mode_28 : decode b_MD_mode 28 = .ok (.getfield 27, 3) := by decide +kernel
theorem d_MD_mode_31 : decode b_MD_mode 31 = .ok (.istore_n 2, 1) := by decide +kernel
theorem d_MD_mode_32 : decode b_MD_mode 32 = .ok (.aload_n 0, 1) := by decide +kernel
theorem d_MD_mode_33 : decode b_MD_mode 33 = .ok (.iload_n 1, 1) := by decide +kernel
theorem d_MD_mode_34 : decode b_MD_mode 34 = .ok (.putfield 27, 3) := by decide +kernel
theorem d_MD_mode_37 : decode b_MD_mode 37 = .ok (.iload_n 2, 1) := by decide +kernel
theorem d_MD_mode_38 : decode b_MD_mode 38 = .ok (.ireturn, 1) := by decide +kernel
theorem d_MD_open_0 : decode b_MD_open 0 = .ok (.aload_n 0, 1) := by decide +kernel
theorem d_MD_open_1 : decode b_MD_open 1 = .ok (.iconst 0, 1) := by decide +kernel
theorem d_MD_open_2 : decode b_MD_open 2 = .ok (.putfield 20, 3) := by decide +kernel
theorem d_MD_open_5 : decode b_MD_open 5 = .ok (.aload_n 0, 1) := by decide +kernel
theorem d_MD_open_6 : decode b_MD_open 6 = .ok (.iload_n 1, 1) := by decide +kernel
theorem d_MD_open_7 : decode b_MD_open 7 = .ok (.invokevirtual 39, 3) := by decide +kernel
theorem d_MD_open_10 : decode b_MD_open 10 = .ok (.istore_n 2, 1) := by decide +kernel
theorem d_MD_open_11 : decode b_MD_open 11 = .ok (.aload_n 0, 1) := by decide +kernel
theorem d_MD_open_12 : decode b_MD_open 12 = .ok (.getfield 33, 3) := by decide +kernel
theorem d_MD_open_15 : decode b_MD_open 15 = .ok (.istore_n 3, 1) := by decide +kernel
theorem d_MD_open_16 : decode b_MD_open 16 = .ok (.aload_n 0, 1) := by decide +kernel
theorem d_MD_open_17 : decode b_MD_open 17 = .ok (.iload_n 2, 1) := by decide +kernel
theorem d_MD_open_18 : decode b_MD_open 18 = .ok (.bipush 7, 2) := by decide +kernel
theorem d_MD_open_20 : decode b_MD_open 20 = .ok (.invokevirtual 43, 3) := by decide +kernel
theorem d_MD_open_23 : decode b_MD_open 23 = .ok (.pop, 1) := by decide +kernel
theorem d_MD_open_24 : decode b_MD_open 24 = .ok (.aload_n 0, 1) := by decide +kernel
theorem d_MD_open_25 : decode b_MD_open 25 = .ok (.iload_n 3, 1) := by decide +kernel
theorem d_MD_open_26 : decode b_MD_open 26 = .ok (.putfield 33, 3) := by decide +kernel
theorem d_MD_open_29 : decode b_MD_open 29 = .ok (.aload_n 0, 1) := by decide +kernel
theorem d_MD_open_30 : decode b_MD_open 30 = .ok (.iconst 0, 1) := by decide +kernel
theorem d_MD_open_31 : decode b_MD_open 31 = .ok (.putfield 47, 3) := by decide +kernel
theorem d_MD_open_34 : decode b_MD_open 34 = .ok (.iload_n 2, 1) := by decide +kernel
theorem d_MD_open_35 : decode b_MD_open 35 = .ok (.ifCond .eq 10, 3) := by decide +kernel
theorem d_MD_open_38 : decode b_MD_open 38 = .ok (.iload_n 2, 1) := by decide +kernel
theorem d_MD_open_39 : decode b_MD_open 39 = .ok (.iconst 5, 1) := by decide +kernel
theorem d_MD_open_40 : decode b_MD_open 40 = .ok (.if_icmp .eq 5, 3) := by decide +kernel
theorem d_MD_open_43 : decode b_MD_open 43 = .ok (.iload_n 2, 1) := by decide +kernel
theorem d_MD_open_44 : decode b_MD_open 44 = .ok (.ireturn, 1) := by decide +kernel
theorem d_MD_open_45 : decode b_MD_open 45 = .ok (.aload_n 0, 1) := by decide +kernel
theorem d_MD_open_46 : decode b_MD_open 46 = .ok (.iconst 1, 1) := by decide +kernel
theorem d_MD_open_47 : decode b_MD_open 47 = .ok (.putfield 23, 3) := by decide +kernel
theorem d_MD_open_50 : decode b_MD_open 50 = .ok (.aload_n 0, 1) := by decide +kernel
theorem d_MD_open_51 : decode b_MD_open 51 = .ok (.iconst 0, 1) := by decide +kernel
theorem d_MD_open_52 : decode b_MD_open 52 = .ok (.putfield 50, 3) := by decide +kernel
theorem d_MD_open_55 : decode b_MD_open 55 = .ok (.aload_n 0, 1) := by decide +kernel
theorem d_MD_open_56 : decode b_MD_open 56 = .ok (.iload_n 2, 1) := by decide +kernel
theorem d_MD_open_57 : decode b_MD_open 57 = .ok (.iconst 5, 1) := by decide +kernel
theorem d_MD_open_58 : decode b_MD_open 58 = .ok (.if_icmp .ne 22, 3) := by decide +kernel
theorem d_MD_open_61 : decode b_MD_open 61 = .ok (.aload_n 0, 1) := by decide +kernel
theorem d_MD_open_62 : decode b_MD_open 62 = .ok (.getfield 27, 3) := by decide +kernel
theorem d_MD_open_65 : decode b_MD_open 65 = .ok (.ifCond .eq 11, 3) := by decide +kernel
theorem d_MD_open_68 : decode b_MD_open 68 = .ok (.aload_n 0, 1) := by decide +kernel
theorem d_MD_open_69 : decode b_MD_open 69 = .ok (.getfield 27, 3) := by decide +kernel
theorem d_MD_open_72 : decode b_MD_open 72 = .ok (.iconst 2, 1) := by decide +kernel
theorem d_MD_open_73 : decode b_MD_open 73 = .ok (.if_icmp .ne 7, 3) := by decide +kernel
theorem d_MD_open_76 : decode b_MD_open 76 = .ok (.iconst 1, 1) := by decide +kernel
theorem d_MD_open_77 : decode b_MD_open 77 = .ok (.goto 4, 3) := by decide +kernel
theorem d_MD_open_80 : decode b_MD_open 80 = .ok (.iconst 0, 1) := by decide +kernel
theorem d_MD_open_81 : decode b_MD_open 81 = .ok (.putfield 53, 3) := by decide +kernel
theorem d_MD_open_84 : decode b_MD_open 84 = .ok (.iload_n 2, 1) := by decide +kernel
theorem d_MD_open_85 : decode b_MD_open 85 = .ok (.ireturn, 1) := by decide +kernel
theorem d_MD_opened_0 : decode b_MD_opened 0 = .ok (.aload_n 0, 1) := by decide +kernel
theorem d_MD_opened_1 : decode b_MD_opened 1 = .ok (.getfield 23, 3) := by decide +kernel
theorem d_MD_opened_4 : decode b_MD_opened 4 = .ok (.ifCond .eq 6, 3) := by decide +kernel
theorem d_MD_opened_7 : decode b_MD_opened 7 = .ok (.bipush 41, 2) := by decide +kernel
theorem d_MD_opened_9 : decode b_MD_opened 9 = .ok (.ireturn, 1) := by decide +kernel
theorem d_MD_opened_10 : decode b_MD_opened 10 = .ok (.iload_n 1, 1) := by decide +kernel
theorem d_MD_opened_11 : decode b_MD_opened 11 = .ok (.tableswitch 84 0 6 #[41, 43, 69, 72, 75, 78, 81], 41) := by decide +kernel
theorem d_MD_opened_52 : decode b_MD_opened 52 = .ok (.iconst 0, 1) := by decide +kernel
theorem d_MD_opened_53 : decode b_MD_opened 53 = .ok (.ireturn, 1) := by decide +kernel
theorem d_MD_opened_54 : decode b_MD_opened 54 = .ok (.aload_n 0, 1) := by decide +kernel
theorem d_MD_opened_55 : decode b_MD_opened 55 = .ok (.getfield 27, 3) := by decide +kernel
theorem d_MD_opened_58 : decode b_MD_opened 58 = .ok (.iconst 1, 1) := by decide +kernel
theorem d_MD_opened_59 : decode b_MD_opened 59 = .ok (.if_icmp .ne 7, 3) := by decide +kernel
theorem d_MD_opened_62 : decode b_MD_opened 62 = .ok (.iconst 0, 1) := by decide +kernel
theorem d_MD_opened_63 : decode b_MD_opened 63 = .ok (.goto 16, 3) := by decide +kernel
theorem d_MD_opened_66 : decode b_MD_opened 66 = .ok (.aload_n 0, 1) := by decide +kernel
theorem d_MD_opened_67 : decode b_MD_opened 67 = .ok (.getfield 56, 3) := by decide +kernel
theorem d_MD_opened_70 : decode b_MD_opened 70 = .ok (.ifCond .eq 7, 3) := by decide +kernel
theorem d_MD_opened_73 : decode b_MD_opened 73 = .ok (.iconst 5, 1) := by decide +kernel
theorem d_MD_opened_74 : decode b_MD_opened 74 = .ok (.goto 5, 3) := by decide +kernel
theorem d_MD_opened_77 : decode b_MD_opened 77 = .ok (.bipush 35, 2) := by decide +kernel
theorem d_MD_opened_79 : decode b_MD_opened 79 = .ok (.ireturn, 1) := by decide +kernel
theorem d_MD_opened_80 : decode b_MD_opened 80 = .ok (.bipush 37, 2) := by decide +kernel
theorem d_MD_opened_82 : decode b_MD_opened 82 = .ok (.ireturn, 1) := by decide +kernel
theorem d_MD_opened_83 : decode b_MD_opened 83 = .ok (.bipush 39, 2) := by decide +kernel
theorem d_MD_opened_85 : decode b_MD_opened 85 = .ok (.ireturn, 1) := by decide +kernel
theorem d_MD_opened_86 : decode b_MD_opened 86 = .ok (.bipush 38, 2) := by decide +kernel
theorem d_MD_opened_88 : decode b_MD_opened 88 = .ok (.ireturn, 1) := by decide +kernel
theorem d_MD_opened_89 : decode b_MD_opened 89 = .ok (.bipush 30, 2) := by decide +kernel
theorem d_MD_opened_91 : decode b_MD_opened 91 = .ok (.ireturn, 1) := by decide +kernel
theorem d_MD_opened_92 : decode b_MD_opened 92 = .ok (.bipush 61, 2) := by decide +kernel
theorem d_MD_opened_94 : decode b_MD_opened 94 = .ok (.ireturn, 1) := by decide +kernel
theorem d_MD_opened_95 : decode b_MD_opened 95 = .ok (.bipush 90, 2) := by decide +kernel
theorem d_MD_opened_97 : decode b_MD_opened 97 = .ok (.ireturn, 1) := by decide +kernel
theorem d_MD_told_0 : decode b_MD_told 0 = .ok (.aload_n 0, 1) := by decide +kernel
theorem d_MD_told_1 : decode b_MD_told 1 = .ok (.iload_n 1, 1) := by decide +kernel
theorem d_MD_told_2 : decode b_MD_told 2 = .ok (.putfield 30, 3) := by decide +kernel
theorem d_MD_told_5 : decode b_MD_told 5 = .ok (.aload_n 0, 1) := by decide +kernel
theorem d_MD_told_6 : decode b_MD_told 6 = .ok (.iload_n 2, 1) := by decide +kernel
theorem d_MD_told_7 : decode b_MD_told 7 = .ok (.putfield 7, 3) := by decide +kernel
theorem d_MD_told_10 : decode b_MD_told 10 = .ok (.aload_n 0, 1) := by decide +kernel
theorem d_MD_told_11 : decode b_MD_told 11 = .ok (.dup, 1) := by decide +kernel
theorem d_MD_told_12 : decode b_MD_told 12 = .ok (.getfield 33, 3) := by decide +kernel
theorem d_MD_told_15 : decode b_MD_told 15 = .ok (.iload_n 1, 1) := by decide +kernel
theorem d_MD_told_16 : decode b_MD_told 16 = .ok (.bipush 10, 2) := by decide +kernel
theorem d_MD_told_18 : decode b_MD_told 18 = .ok (.if_icmp .ge 7, 3) := by decide +kernel
theorem d_MD_told_21 : decode b_MD_told 21 = .ok (.iconst 1, 1) := by decide +kernel
theorem d_MD_told_22 : decode b_MD_told 22 = .ok (.goto 4, 3) := by decide +kernel
theorem d_MD_told_25 : decode b_MD_told 25 = .ok (.iconst 0, 1) := by decide +kernel
theorem d_MD_told_26 : decode b_MD_told 26 = .ok (.iadd, 1) := by decide +kernel
theorem d_MD_told_27 : decode b_MD_told 27 = .ok (.putfield 33, 3) := by decide +kernel
theorem d_MD_told_30 : decode b_MD_told 30 = .ok (.aload_n 0, 1) := by decide +kernel
theorem d_MD_told_31 : decode b_MD_told 31 = .ok (.dup, 1) := by decide +kernel
theorem d_MD_told_32 : decode b_MD_told 32 = .ok (.getfield 36, 3) := by decide +kernel
theorem d_MD_told_35 : decode b_MD_told 35 = .ok (.iload_n 1, 1) := by decide +kernel
theorem d_MD_told_36 : decode b_MD_told 36 = .ok (.bipush 10, 2) := by decide +kernel
theorem d_MD_told_38 : decode b_MD_told 38 = .ok (.if_icmp .ge 7, 3) := by decide +kernel
theorem d_MD_told_41 : decode b_MD_told 41 = .ok (.iconst 0, 1) := by decide +kernel
theorem d_MD_told_42 : decode b_MD_told 42 = .ok (.goto 4, 3) := by decide +kernel
theorem d_MD_told_45 : decode b_MD_told 45 = .ok (.iconst 1, 1) := by decide +kernel
theorem d_MD_told_46 : decode b_MD_told 46 = .ok (.iadd, 1) := by decide +kernel
theorem d_MD_told_47 : decode b_MD_told 47 = .ok (.putfield 36, 3) := by decide +kernel
theorem d_MD_told_50 : decode b_MD_told 50 = .ok (.iload_n 1, 1) := by decide +kernel
theorem d_MD_told_51 : decode b_MD_told 51 = .ok (.ireturn, 1) := by decide +kernel
theorem d_MD_act_0 : decode b_MD_act 0 = .ok (.aload_n 0, 1) := by decide +kernel
theorem d_MD_act_1 : decode b_MD_act 1 = .ok (.iconst 0, 1) := by decide +kernel
theorem d_MD_act_2 : decode b_MD_act 2 = .ok (.putfield 20, 3) := by decide +kernel
theorem d_MD_act_5 : decode b_MD_act 5 = .ok (.iload_n 1, 1) := by decide +kernel
theorem d_MD_act_6 : decode b_MD_act 6 = .ok (.ifCond .lt 9, 3) := by decide +kernel
theorem d_MD_act_9 : decode b_MD_act 9 = .ok (.iload_n 1, 1) := by decide +kernel
theorem d_MD_act_10 : decode b_MD_act 10 = .ok (.bipush 6, 2) := by decide +kernel
theorem d_MD_act_12 : decode b_MD_act 12 = .ok (.if_icmp .le 6, 3) := by decide +kernel
theorem d_MD_act_15 : decode b_MD_act 15 = .ok (.bipush (-4), 2) := by decide +kernel
theorem d_MD_act_17 : decode b_MD_act 17 = .ok (.ireturn, 1) := by decide +kernel
theorem d_MD_act_18 : decode b_MD_act 18 = .ok (.aload_n 0, 1) := by decide +kernel
theorem d_MD_act_19 : decode b_MD_act 19 = .ok (.iload_n 1, 1) := by decide +kernel
theorem d_MD_act_20 : decode b_MD_act 20 = .ok (.invokevirtual 63, 3) := by decide +kernel
theorem d_MD_act_23 : decode b_MD_act 23 = .ok (.istore_n 3, 1) := by decide +kernel
theorem d_MD_act_24 : decode b_MD_act 24 = .ok (.iload_n 3, 1) := by decide +kernel
theorem d_MD_act_25 : decode b_MD_act 25 = .ok (.ifCond .ne 26, 3) := by decide +kernel
theorem d_MD_act_28 : decode b_MD_act 28 = .ok (.iload_n 1, 1) := by decide +kernel
theorem d_MD_act_29 : decode b_MD_act 29 = .ok (.ifCond .ne 15, 3) := by decide +kernel
theorem d_MD_act_32 : decode b_MD_act 32 = .ok (.aload_n 0, 1) := by decide +kernel
theorem d_MD_act_33 : decode b_MD_act 33 = .ok (.getfield 53, 3) := by decide +kernel
theorem d_MD_act_36 : decode b_MD_act 36 = .ok (.ifCond .eq 8, 3) := by decide +kernel
theorem d_MD_act_39 : decode b_MD_act 39 = .ok (.bipush 10, 2) := by decide +kernel
theorem d_MD_act_41 : decode b_MD_act 41 = .ok (.goto 9, 3) := by decide +kernel
theorem d_MD_act_44 : decode b_MD_act 44 = .ok (.aload_n 0, 1) := by decide +kernel
theorem d_MD_act_45 : decode b_MD_act 45 = .ok (.iload_n 1, 1) := by decide +kernel
theorem d_MD_act_46 : decode b_MD_act 46 = .ok (.iload_n 2, 1) := by decide +kernel
theorem d_MD_act_47 : decode b_MD_act 47 = .ok (.invokevirtual 66, 3) := by decide +kernel
theorem d_MD_act_50 : decode b_MD_act 50 = .ok (.istore_n 3, 1) := by decide +kernel
theorem d_MD_act_51 : decode b_MD_act 51 = .ok (.aload_n 0, 1) := by decide +kernel
theorem d_MD_act_52 : decode b_MD_act 52 = .ok (.iload_n 3, 1) := by decide +kernel
theorem d_MD_act_53 : decode b_MD_act 53 = .ok (.iload_n 1, 1) := by decide +kernel
theorem d_MD_act_54 : decode b_MD_act 54 = .ok (.invokevirtual 43, 3) := by decide +kernel
theorem d_MD_act_57 : decode b_MD_act 57 = .ok (.pop, 1) := by decide +kernel
theorem d_MD_act_58 : decode b_MD_act 58 = .ok (.aload_n 0, 1) := by decide +kernel
theorem d_MD_act_59 : decode b_MD_act 59 = .ok (.iload_n 1, 1) := by decide +kernel
theorem d_MD_act_60 : decode b_MD_act 60 = .ok (.ifCond .eq 8, 3) := by decide +kernel
theorem d_MD_act_63 : decode b_MD_act 63 = .ok (.iload_n 1, 1) := by decide +kernel
theorem d_MD_act_64 : decode b_MD_act 64 = .ok (.iconst 1, 1) := by decide +kernel
theorem d_MD_act_65 : decode b_MD_act 65 = .ok (.if_icmp .ne 21, 3) := by decide +kernel
theorem d_MD_act_68 : decode b_MD_act 68 = .ok (.iload_n 3, 1) := by decide +kernel
theorem d_MD_act_69 : decode b_MD_act 69 = .ok (.ifCond .eq 13, 3) := by decide +kernel
theorem d_MD_act_72 : decode b_MD_act 72 = .ok (.iload_n 3, 1) := by decide +kernel
theorem d_MD_act_73 : decode b_MD_act 73 = .ok (.iconst 2, 1) := by decide +kernel
theorem d_MD_act_74 : decode b_MD_act 74 = .ok (.if_icmp .eq 8, 3) := by decide +kernel
theorem d_MD_act_77 : decode b_MD_act 77 = .ok (.iload_n 3, 1) := by decide +kernel
theorem d_MD_act_78 : decode b_MD_act 78 = .ok (.iconst 4, 1) := by decide +kernel
theorem d_MD_act_79 : decode b_MD_act 79 = .ok (.if_icmp .ne 7, 3) := by decide +kernel
theorem d_MD_act_82 : decode b_MD_act 82 = .ok (.iconst 1, 1) := by decide +kernel
theorem d_MD_act_83 : decode b_MD_act 83 = .ok (.goto 4, 3) := by decide +kernel
theorem d_MD_act_86 : decode b_MD_act 86 = .ok (.iconst 0, 1) := by decide +kernel
theorem d_MD_act_87 : decode b_MD_act 87 = .ok (.putfield 47, 3) := by decide +kernel
theorem d_MD_act_90 : decode b_MD_act 90 = .ok (.iload_n 1, 1) := by decide +kernel
theorem d_MD_act_91 : decode b_MD_act 91 = .ok (.ifCond .ne 28, 3) := by decide +kernel
theorem d_MD_act_94 : decode b_MD_act 94 = .ok (.aload_n 0, 1) := by decide +kernel
theorem d_MD_act_95 : decode b_MD_act 95 = .ok (.getfield 23, 3) := by decide +kernel
theorem d_MD_act_98 : decode b_MD_act 98 = .ok (.ifCond .eq 21, 3) := by decide +kernel
theorem d_MD_act_101 : decode b_MD_act 101 = .ok (.aload_n 0, 1) := by decide +kernel
theorem d_MD_act_102 : decode b_MD_act 102 = .ok (.invokevirtual 59, 3) := by decide +kernel
theorem d_MD_act_105 : decode b_MD_act 105 = .ok (.ifCond .eq 14, 3) := by decide +kernel
theorem d_MD_act_108 : decode b_MD_act 108 = .ok (.iload_n 3, 1) := by decide +kernel
theorem d_MD_act_109 : decode b_MD_act 109 = .ok (.bipush 10, 2) := by decide +kernel
theorem d_MD_act_111 : decode b_MD_act 111 = .ok (.if_icmp .ne 8, 3) := by decide +kernel
theorem d_MD_act_114 : decode b_MD_act 114 = .ok (.aload_n 0, 1) := by decide +kernel
theorem d_MD_act_115 : decode b_MD_act 115 = .ok (.iconst 0, 1) := by decide +kernel
theorem d_MD_act_116 : decode b_MD_act 116 = .ok (.putfield 53, 3) := by decide +kernel
theorem d_MD_act_119 : decode b_MD_act 119 = .ok (.iload_n 1, 1) := by decide +kernel
theorem d_MD_act_120 : decode b_MD_act 120 = .ok (.ifCond .eq 13, 3) := by decide +kernel
theorem d_MD_act_123 : decode b_MD_act 123 = .ok (.iload_n 1, 1) := by decide +kernel
theorem d_MD_act_124 : decode b_MD_act 124 = .ok (.iconst 1, 1) := by decide +kernel
theorem d_MD_act_125 : decode b_MD_act 125 = .ok (.if_icmp .eq 8, 3) := by decide +kernel
theorem d_MD_act_128 : decode b_MD_act 128 = .ok (.iload_n 1, 1) := by decide +kernel
theorem d_MD_act_129 : decode b_MD_act 129 = .ok (.iconst 5, 1) := by decide +kernel
theorem d_MD_act_130 : decode b_MD_act 130 = .ok (.if_icmp .ne 7, 3) := by decide +kernel
theorem d_MD_act_133 : decode b_MD_act 133 = .ok (.iconst 1, 1) := by decide +kernel
theorem d_MD_act_134 : decode b_MD_act 134 = .ok (.goto 4, 3) := by decide +kernel
theorem d_MD_act_137 : decode b_MD_act 137 = .ok (.iconst 0, 1) := by decide +kernel
theorem d_MD_act_138 : decode b_MD_act 138 = .ok (.istore 4, 2) := by decide +kernel
theorem d_MD_act_140 : decode b_MD_act 140 = .ok (.iload 4, 2) := by decide +kernel
theorem d_MD_act_142 : decode b_MD_act 142 = .ok (.ifCond .eq 10, 3) := by decide +kernel
theorem d_MD_act_145 : decode b_MD_act 145 = .ok (.iload_n 3, 1) := by decide +kernel
theorem d_MD_act_146 : decode b_MD_act 146 = .ok (.invokestatic 69, 3) := by decide +kernel
theorem d_MD_act_149 : decode b_MD_act 149 = .ok (.goto 4, 3) := by decide +kernel
theorem d_MD_act_152 : decode b_MD_act 152 = .ok (.iconst 0, 1) := by decide +kernel
theorem d_MD_act_153 : decode b_MD_act 153 = .ok (.istore 5, 2) := by decide +kernel
theorem d_MD_act_155 : decode b_MD_act 155 = .ok (.aload_n 0, 1) := by decide +kernel
theorem d_MD_act_156 : decode b_MD_act 156 = .ok (.iload 5, 2) := by decide +kernel
theorem d_MD_act_158 : decode b_MD_act 158 = .ok (.ifCond .eq 10, 3) := by decide +kernel
theorem d_MD_act_161 : decode b_MD_act 161 = .ok (.aload_n 0, 1) := by decide +kernel
theorem d_MD_act_162 : decode b_MD_act 162 = .ok (.getfield 23, 3) := by decide +kernel
theorem d_MD_act_165 : decode b_MD_act 165 = .ok (.ifCond .ne 10, 3) := by decide +kernel
theorem d_MD_act_168 : decode b_MD_act 168 = .ok (.aload_n 0, 1) := by decide +kernel
theorem d_MD_act_169 : decode b_MD_act 169 = .ok (.getfield 50, 3) := by decide +kernel
theorem d_MD_act_172 : decode b_MD_act 172 = .ok (.goto 5, 3) := by decide +kernel
theorem d_MD_act_175 : decode b_MD_act 175 = .ok (.iload 5, 2) := by decide +kernel
theorem d_MD_act_177 : decode b_MD_act 177 = .ok (.putfield 50, 3) := by decide +kernel
theorem d_MD_act_180 : decode b_MD_act 180 = .ok (.iload_n 1, 1) := by decide +kernel
theorem d_MD_act_181 : decode b_MD_act 181 = .ok (.bipush 6, 2) := by decide +kernel
theorem d_MD_act_183 : decode b_MD_act 183 = .ok (.if_icmp .ne 12, 3) := by decide +kernel
theorem d_MD_act_186 : decode b_MD_act 186 = .ok (.iload_n 3, 1) := by decide +kernel
theorem d_MD_act_187 : decode b_MD_act 187 = .ok (.ifCond .ne 8, 3) := by decide +kernel
theorem d_MD_act_190 : decode b_MD_act 190 = .ok (.aload_n 0, 1) := by decide +kernel
theorem d_MD_act_191 : decode b_MD_act 191 = .ok (.iconst 0, 1) := by decide +kernel
theorem d_MD_act_192 : decode b_MD_act 192 = .ok (.putfield 23, 3) := by decide +kernel
theorem d_MD_act_195 : decode b_MD_act 195 = .ok (.iload_n 3, 1) := by decide +kernel
theorem d_MD_act_196 : decode b_MD_act 196 = .ok (.ireturn, 1) := by decide +kernel
theorem d_MD_ahead_0 : decode b_MD_ahead 0 = .ok (.aload_n 0, 1) := by decide +kernel
theorem d_MD_ahead_1 : decode b_MD_ahead 1 = .ok (.getfield 23, 3) := by decide +kernel
theorem d_MD_ahead_4 : decode b_MD_ahead 4 = .ok (.ifCond .ne 6, 3) := by decide +kernel
theorem d_MD_ahead_7 : decode b_MD_ahead 7 = .ok (.bipush 42, 2) := by decide +kernel
theorem d_MD_ahead_9 : decode b_MD_ahead 9 = .ok (.ireturn, 1) := by decide +kernel
theorem d_MD_ahead_10 : decode b_MD_ahead 10 = .ok (.aload_n 0, 1) := by decide +kernel
theorem d_MD_ahead_11 : decode b_MD_ahead 11 = .ok (.getfield 17, 3) := by decide +kernel
theorem d_MD_ahead_14 : decode b_MD_ahead 14 = .ok (.ifCond .ne 21, 3) := by decide +kernel
theorem d_MD_ahead_17 : decode b_MD_ahead 17 = .ok (.iload_n 1, 1) := by decide +kernel
theorem d_MD_ahead_18 : decode b_MD_ahead 18 = .ok (.iconst 1, 1) := by decide +kernel
theorem d_MD_ahead_19 : decode b_MD_ahead 19 = .ok (.if_icmp .eq 13, 3) := by decide +kernel
theorem d_MD_ahead_22 : decode b_MD_ahead 22 = .ok (.iload_n 1, 1) := by decide +kernel
theorem d_MD_ahead_23 : decode b_MD_ahead 23 = .ok (.iconst 4, 1) := by decide +kernel
theorem d_MD_ahead_24 : decode b_MD_ahead 24 = .ok (.if_icmp .eq 8, 3) := by decide +kernel
theorem d_MD_ahead_27 : decode b_MD_ahead 27 = .ok (.iload_n 1, 1) := by decide +kernel
theorem d_MD_ahead_28 : decode b_MD_ahead 28 = .ok (.iconst 5, 1) := by decide +kernel
theorem d_MD_ahead_29 : decode b_MD_ahead 29 = .ok (.if_icmp .ne 6, 3) := by decide +kernel
theorem d_MD_ahead_32 : decode b_MD_ahead 32 = .ok (.bipush 90, 2) := by decide +kernel
theorem d_MD_ahead_34 : decode b_MD_ahead 34 = .ok (.ireturn, 1) := by decide +kernel
theorem d_MD_ahead_35 : decode b_MD_ahead 35 = .ok (.iload_n 1, 1) := by decide +kernel
theorem d_MD_ahead_36 : decode b_MD_ahead 36 = .ok (.ifCond .eq 13, 3) := by decide +kernel
theorem d_MD_ahead_39 : decode b_MD_ahead 39 = .ok (.iload_n 1, 1) := by decide +kernel
theorem d_MD_ahead_40 : decode b_MD_ahead 40 = .ok (.iconst 1, 1) := by decide +kernel
theorem d_MD_ahead_41 : decode b_MD_ahead 41 = .ok (.if_icmp .eq 8, 3) := by decide +kernel
theorem d_MD_ahead_44 : decode b_MD_ahead 44 = .ok (.iload_n 1, 1) := by decide +kernel
theorem d_MD_ahead_45 : decode b_MD_ahead 45 = .ok (.iconst 5, 1) := by decide +kernel
theorem d_MD_ahead_46 : decode b_MD_ahead 46 = .ok (.if_icmp .ne 13, 3) := by decide +kernel
theorem d_MD_ahead_49 : decode b_MD_ahead 49 = .ok (.aload_n 0, 1) := by decide +kernel
theorem d_MD_ahead_50 : decode b_MD_ahead 50 = .ok (.invokevirtual 59, 3) := by decide +kernel
theorem d_MD_ahead_53 : decode b_MD_ahead 53 = .ok (.ifCond .ne 6, 3) := by decide +kernel
theorem d_MD_ahead_56 : decode b_MD_ahead 56 = .ok (.bipush 47, 2) := by decide +kernel
theorem d_MD_ahead_58 : decode b_MD_ahead 58 = .ok (.ireturn, 1) := by decide +kernel
theorem d_MD_ahead_59 : decode b_MD_ahead 59 = .ok (.iload_n 1, 1) := by decide +kernel
theorem d_MD_ahead_60 : decode b_MD_ahead 60 = .ok (.iconst 2, 1) := by decide +kernel
theorem d_MD_ahead_61 : decode b_MD_ahead 61 = .ok (.if_icmp .ne 28, 3) := by decide +kernel
theorem d_MD_ahead_64 : decode b_MD_ahead 64 = .ok (.aload_n 0, 1) := by decide +kernel
theorem d_MD_ahead_65 : decode b_MD_ahead 65 = .ok (.getfield 27, 3) := by decide +kernel
theorem d_MD_ahead_68 : decode b_MD_ahead 68 = .ok (.ifCond .eq 18, 3) := by decide +kernel
theorem d_MD_ahead_71 : decode b_MD_ahead 71 = .ok (.aload_n 0, 1) := by decide +kernel
theorem d_MD_ahead_72 : decode b_MD_ahead 72 = .ok (.getfield 27, 3) := by decide +kernel
theorem d_MD_ahead_75 : decode b_MD_ahead 75 = .ok (.iconst 2, 1) := by decide +kernel
theorem d_MD_ahead_76 : decode b_MD_ahead 76 = .ok (.if_icmp .ne 13, 3) := by decide +kernel
theorem d_MD_ahead_79 : decode b_MD_ahead 79 = .ok (.aload_n 0, 1) := by decide +kernel
theorem d_MD_ahead_80 : decode b_MD_ahead 80 = .ok (.getfield 17, 3) := by decide +kernel
theorem d_MD_ahead_83 : decode b_MD_ahead 83 = .ok (.ifCond .ne 6, 3) := by decide +kernel
theorem d_MD_ahead_86 : decode b_MD_ahead 86 = .ok (.bipush 48, 2) := by decide +kernel
theorem d_MD_ahead_88 : decode b_MD_ahead 88 = .ok (.ireturn, 1) := by decide +kernel
theorem d_MD_ahead_89 : decode b_MD_ahead 89 = .ok (.iload_n 1, 1) := by decide +kernel
theorem d_MD_ahead_90 : decode b_MD_ahead 90 = .ok (.iconst 3, 1) := by decide +kernel
theorem d_MD_ahead_91 : decode b_MD_ahead 91 = .ok (.if_icmp .eq 8, 3) := by decide +kernel
theorem d_MD_ahead_94 : decode b_MD_ahead 94 = .ok (.iload_n 1, 1) := by decide +kernel
theorem d_MD_ahead_95 : decode b_MD_ahead 95 = .ok (.iconst 4, 1) := by decide +kernel
theorem d_MD_ahead_96 : decode b_MD_ahead 96 = .ok (.if_icmp .ne 14, 3) := by decide +kernel
theorem d_MD_ahead_99 : decode b_MD_ahead 99 = .ok (.aload_n 0, 1) := by decide +kernel
theorem d_MD_ahead_100 : decode b_MD_ahead 100 = .ok (.getfield 27, 3) := by decide +kernel
theorem d_MD_ahead_103 : decode b_MD_ahead 103 = .ok (.iconst 2, 1) := by decide +kernel
theorem d_MD_ahead_104 : decode b_MD_ahead 104 = .ok (.if_icmp .eq 6, 3) := by decide +kernel
theorem d_MD_ahead_107 : decode b_MD_ahead 107 = .ok (.bipush 49, 2) := by decide +kernel
theorem d_MD_ahead_109 : decode b_MD_ahead 109 = .ok (.ireturn, 1) := by decide +kernel
theorem d_MD_ahead_110 : decode b_MD_ahead 110 = .ok (.iload_n 1, 1) := by decide +kernel
theorem d_MD_ahead_111 : decode b_MD_ahead 111 = .ok (.iconst 3, 1) := by decide +kernel
theorem d_MD_ahead_112 : decode b_MD_ahead 112 = .ok (.if_icmp .ne 20, 3) := by decide +kernel
theorem d_MD_ahead_115 : decode b_MD_ahead 115 = .ok (.aload_n 0, 1) := by decide +kernel
theorem d_MD_ahead_116 : decode b_MD_ahead 116 = .ok (.getfield 17, 3) := by decide +kernel
theorem d_MD_ahead_119 : decode b_MD_ahead 119 = .ok (.ifCond .ne 13, 3) := by decide +kernel
theorem d_MD_ahead_122 : decode b_MD_ahead 122 = .ok (.aload_n 0, 1) := by decide +kernel
theorem d_MD_ahead_123 : decode b_MD_ahead 123 = .ok (.getfield 47, 3) := by decide +kernel
theorem d_MD_ahead_126 : decode b_MD_ahead 126 = .ok (.ifCond .ne 6, 3) := by decide +kernel
theorem d_MD_ahead_129 : decode b_MD_ahead 129 = .ok (.bipush 43, 2) := by decide +kernel
theorem d_MD_ahead_131 : decode b_MD_ahead 131 = .ok (.ireturn, 1) := by decide +kernel
theorem d_MD_ahead_132 : decode b_MD_ahead 132 = .ok (.iload_n 1, 1) := by decide +kernel
theorem d_MD_ahead_133 : decode b_MD_ahead 133 = .ok (.ifCond .ne 22, 3) := by decide +kernel
theorem d_MD_ahead_136 : decode b_MD_ahead 136 = .ok (.aload_n 0, 1) := by decide +kernel
theorem d_MD_ahead_137 : decode b_MD_ahead 137 = .ok (.getfield 50, 3) := by decide +kernel
theorem d_MD_ahead_140 : decode b_MD_ahead 140 = .ok (.iconst 2, 1) := by decide +kernel
theorem d_MD_ahead_141 : decode b_MD_ahead 141 = .ok (.if_icmp .eq 11, 3) := by decide +kernel
theorem d_MD_ahead_144 : decode b_MD_ahead 144 = .ok (.aload_n 0, 1) := by decide +kernel
theorem d_MD_ahead_145 : decode b_MD_ahead 145 = .ok (.getfield 50, 3) := by decide +kernel
theorem d_MD_ahead_148 : decode b_MD_ahead 148 = .ok (.iconst 3, 1) := by decide +kernel
theorem d_MD_ahead_149 : decode b_MD_ahead 149 = .ok (.if_icmp .ne 6, 3) := by decide +kernel
theorem d_MD_ahead_152 : decode b_MD_ahead 152 = .ok (.bipush 46, 2) := by decide +kernel
theorem d_MD_ahead_154 : decode b_MD_ahead 154 = .ok (.ireturn, 1) := by decide +kernel
theorem d_MD_ahead_155 : decode b_MD_ahead 155 = .ok (.iconst 0, 1) := by decide +kernel
theorem d_MD_ahead_156 : decode b_MD_ahead 156 = .ok (.ireturn, 1) := by decide +kernel
theorem d_MD_reads_0 : decode b_MD_reads 0 = .ok (.aload_n 0, 1) := by decide +kernel
theorem d_MD_reads_1 : decode b_MD_reads 1 = .ok (.getfield 27, 3) := by decide +kernel
theorem d_MD_reads_4 : decode b_MD_reads 4 = .ok (.ifCond .eq 11, 3) := by decide +kernel
theorem d_MD_reads_7 : decode b_MD_reads 7 = .ok (.aload_n 0, 1) := by decide +kernel
theorem d_MD_reads_8 : decode b_MD_reads 8 = .ok (.getfield 27, 3) := by decide +kernel
theorem d_MD_reads_11 : decode b_MD_reads 11 = .ok (.iconst 2, 1) := by decide +kernel
theorem d_MD_reads_12 : decode b_MD_reads 12 = .ok (.if_icmp .ne 7, 3) := by decide +kernel
theorem d_MD_reads_15 : decode b_MD_reads 15 = .ok (.iconst 1, 1) := by decide +kernel
theorem d_MD_reads_16 : decode b_MD_reads 16 = .ok (.goto 4, 3) := by decide +kernel
theorem d_MD_reads_19 : decode b_MD_reads 19 = .ok (.iconst 0, 1) := by decide +kernel
theorem d_MD_reads_20 : decode b_MD_reads 20 = .ok (.ireturn, 1) := by decide +kernel
theorem d_MD_byOutcome_0 : decode b_MD_byOutcome 0 = .ok (.aload_n 0, 1) := by decide +kernel
theorem d_MD_byOutcome_1 : decode b_MD_byOutcome 1 = .ok (.getfield 17, 3) := by decide +kernel
theorem d_MD_byOutcome_4 : decode b_MD_byOutcome 4 = .ok (.ifCond .le 7, 3) := by decide +kernel
theorem d_MD_byOutcome_7 : decode b_MD_byOutcome 7 = .ok (.iconst 1, 1) := by decide +kernel
theorem d_MD_byOutcome_8 : decode b_MD_byOutcome 8 = .ok (.goto 4, 3) := by decide +kernel
theorem d_MD_byOutcome_11 : decode b_MD_byOutcome 11 = .ok (.iconst 0, 1) := by decide +kernel
theorem d_MD_byOutcome_12 : decode b_MD_byOutcome 12 = .ok (.istore_n 3, 1) := by decide +kernel
theorem d_MD_byOutcome_13 : decode b_MD_byOutcome 13 = .ok (.aload_n 0, 1) := by decide +kernel
theorem d_MD_byOutcome_14 : decode b_MD_byOutcome 14 = .ok (.getfield 17, 3) := by decide +kernel
theorem d_MD_byOutcome_17 : decode b_MD_byOutcome 17 = .ok (.iconst 2, 1) := by decide +kernel
theorem d_MD_byOutcome_18 : decode b_MD_byOutcome 18 = .ok (.if_icmp .ne 7, 3) := by decide +kernel
theorem d_MD_byOutcome_21 : decode b_MD_byOutcome 21 = .ok (.iconst 1, 1) := by decide +kernel
theorem d_MD_byOutcome_22 : decode b_MD_byOutcome 22 = .ok (.goto 4, 3) := by decide +kernel
theorem d_MD_byOutcome_25 : decode b_MD_byOutcome 25 = .ok (.iconst 0, 1) := by decide +kernel
theorem d_MD_byOutcome_26 : decode b_MD_byOutcome 26 = .ok (.istore 4, 2) := by decide +kernel
theorem d_MD_byOutcome_28 : decode b_MD_byOutcome 28 = .ok (.iload_n 2, 1) := by decide +kernel
theorem d_MD_byOutcome_29 : decode b_MD_byOutcome 29 = .ok (.tableswitch 235 0 8 #[51, 53, 92, 109, 136, 173, 176, 190, 212], 51) := by decide +kernel
theorem d_MD_byOutcome_80 : decode b_MD_byOutcome 80 = .ok (.iconst 0, 1) := by decide +kernel
theorem d_MD_byOutcome_81 : decode b_MD_byOutcome 81 = .ok (.ireturn, 1) := by decide +kernel
theorem d_MD_byOutcome_82 : decode b_MD_byOutcome 82 = .ok (.iload_n 1, 1) := by decide +kernel
theorem d_MD_byOutcome_83 : decode b_MD_byOutcome 83 = .ok (.ifCond .ne 6, 3) := by decide +kernel
theorem d_MD_byOutcome_86 : decode b_MD_byOutcome 86 = .ok (.bipush 10, 2) := by decide +kernel
theorem d_MD_byOutcome_88 : decode b_MD_byOutcome 88 = .ok (.ireturn, 1) := by decide +kernel
theorem d_MD_byOutcome_89 : decode b_MD_byOutcome 89 = .ok (.iload_n 1, 1) := by decide +kernel
theorem d_MD_byOutcome_90 : decode b_MD_byOutcome 90 = .ok (.iconst 1, 1) := by decide +kernel
theorem d_MD_byOutcome_91 : decode b_MD_byOutcome 91 = .ok (.if_icmp .eq 22, 3) := by decide +kernel
theorem d_MD_byOutcome_94 : decode b_MD_byOutcome 94 = .ok (.iload_n 1, 1) := by decide +kernel
theorem d_MD_byOutcome_95 : decode b_MD_byOutcome 95 = .ok (.iconst 4, 1) := by decide +kernel
theorem d_MD_byOutcome_96 : decode b_MD_byOutcome 96 = .ok (.if_icmp .eq 17, 3) := by decide +kernel
theorem d_MD_byOutcome_99 : decode b_MD_byOutcome 99 = .ok (.iload_n 1, 1) := by decide +kernel
theorem d_MD_byOutcome_100 : decode b_MD_byOutcome 100 = .ok (.iconst 5, 1) := by decide +kernel
theorem d_MD_byOutcome_101 : decode b_MD_byOutcome 101 = .ok (.if_icmp .eq 12, 3) := by decide +kernel
theorem d_MD_byOutcome_104 : decode b_MD_byOutcome 104 = .ok (.iload_n 1, 1) := by decide +kernel
theorem d_MD_byOutcome_105 : decode b_MD_byOutcome 105 = .ok (.iconst 3, 1) := by decide +kernel
theorem d_MD_byOutcome_106 : decode b_MD_byOutcome 106 = .ok (.if_icmp .ne 12, 3) := by decide +kernel
theorem d_MD_byOutcome_109 : decode b_MD_byOutcome 109 = .ok (.iload_n 3, 1) := by decide +kernel
theorem d_MD_byOutcome_110 : decode b_MD_byOutcome 110 = .ok (.ifCond .eq 8, 3) := by decide +kernel
theorem d_MD_byOutcome_113 : decode b_MD_byOutcome 113 = .ok (.bipush 23, 2) := by decide +kernel
theorem d_MD_byOutcome_115 : decode b_MD_byOutcome 115 = .ok (.goto 5, 3) := by decide +kernel
theorem d_MD_byOutcome_118 : decode b_MD_byOutcome 118 = .ok (.bipush 90, 2) := by decide +kernel
theorem d_MD_byOutcome_120 : decode b_MD_byOutcome 120 = .ok (.ireturn, 1) := by decide +kernel
theorem d_MD_byOutcome_121 : decode b_MD_byOutcome 121 = .ok (.iload 4, 2) := by decide +kernel
theorem d_MD_byOutcome_123 : decode b_MD_byOutcome 123 = .ok (.ifCond .eq 12, 3) := by decide +kernel
theorem d_MD_byOutcome_126 : decode b_MD_byOutcome 126 = .ok (.iload_n 1, 1) := by decide +kernel
theorem d_MD_byOutcome_127 : decode b_MD_byOutcome 127 = .ok (.iconst 4, 1) := by decide +kernel
theorem d_MD_byOutcome_128 : decode b_MD_byOutcome 128 = .ok (.if_icmp .ge 7, 3) := by decide +kernel
theorem d_MD_byOutcome_131 : decode b_MD_byOutcome 131 = .ok (.iconst 2, 1) := by decide +kernel
theorem d_MD_byOutcome_132 : decode b_MD_byOutcome 132 = .ok (.goto 5, 3) := by decide +kernel
theorem d_MD_byOutcome_135 : decode b_MD_byOutcome 135 = .ok (.bipush 90, 2) := by decide +kernel
theorem d_MD_byOutcome_137 : decode b_MD_byOutcome 137 = .ok (.ireturn, 1) := by decide +kernel
theorem d_MD_byOutcome_138 : decode b_MD_byOutcome 138 = .ok (.iload_n 1, 1) := by decide +kernel
theorem d_MD_byOutcome_139 : decode b_MD_byOutcome 139 = .ok (.iconst 2, 1) := by decide +kernel
theorem d_MD_byOutcome_140 : decode b_MD_byOutcome 140 = .ok (.if_icmp .ne 7, 3) := by decide +kernel
theorem d_MD_byOutcome_143 : decode b_MD_byOutcome 143 = .ok (.iload_n 3, 1) := by decide +kernel
theorem d_MD_byOutcome_144 : decode b_MD_byOutcome 144 = .ok (.ifCond .ne 13, 3) := by decide +kernel
theorem d_MD_byOutcome_147 : decode b_MD_byOutcome 147 = .ok (.iload_n 1, 1) := by decide +kernel
theorem d_MD_byOutcome_148 : decode b_MD_byOutcome 148 = .ok (.iconst 3, 1) := by decide +kernel
theorem d_MD_byOutcome_149 : decode b_MD_byOutcome 149 = .ok (.if_icmp .ne 13, 3) := by decide +kernel
theorem d_MD_byOutcome_152 : decode b_MD_byOutcome 152 = .ok (.iload 4, 2) := by decide +kernel
theorem d_MD_byOutcome_154 : decode b_MD_byOutcome 154 = .ok (.ifCond .eq 8, 3) := by decide +kernel
theorem d_MD_byOutcome_157 : decode b_MD_byOutcome 157 = .ok (.bipush 22, 2) := by decide +kernel
theorem d_MD_byOutcome_159 : decode b_MD_byOutcome 159 = .ok (.goto 5, 3) := by decide +kernel
theorem d_MD_byOutcome_162 : decode b_MD_byOutcome 162 = .ok (.bipush 90, 2) := by decide +kernel
theorem d_MD_byOutcome_164 : decode b_MD_byOutcome 164 = .ok (.ireturn, 1) := by decide +kernel
theorem d_MD_byOutcome_165 : decode b_MD_byOutcome 165 = .ok (.iload_n 1, 1) := by decide +kernel
theorem d_MD_byOutcome_166 : decode b_MD_byOutcome 166 = .ok (.iconst 2, 1) := by decide +kernel
theorem d_MD_byOutcome_167 : decode b_MD_byOutcome 167 = .ok (.if_icmp .ne 15, 3) := by decide +kernel
theorem d_MD_byOutcome_170 : decode b_MD_byOutcome 170 = .ok (.iload_n 3, 1) := by decide +kernel
theorem d_MD_byOutcome_171 : decode b_MD_byOutcome 171 = .ok (.ifCond .eq 8, 3) := by decide +kernel
theorem d_MD_byOutcome_174 : decode b_MD_byOutcome 174 = .ok (.bipush 24, 2) := by decide +kernel
theorem d_MD_byOutcome_176 : decode b_MD_byOutcome 176 = .ok (.goto 5, 3) := by decide +kernel
theorem d_MD_byOutcome_179 : decode b_MD_byOutcome 179 = .ok (.bipush 34, 2) := by decide +kernel
theorem d_MD_byOutcome_181 : decode b_MD_byOutcome 181 = .ok (.ireturn, 1) := by decide +kernel
theorem d_MD_byOutcome_182 : decode b_MD_byOutcome 182 = .ok (.iload_n 1, 1) := by decide +kernel
theorem d_MD_byOutcome_183 : decode b_MD_byOutcome 183 = .ok (.ifCond .ne 16, 3) := by decide +kernel
theorem d_MD_byOutcome_186 : decode b_MD_byOutcome 186 = .ok (.aload_n 0, 1) := by decide +kernel
theorem d_MD_byOutcome_187 : decode b_MD_byOutcome 187 = .ok (.getfield 17, 3) := by decide +kernel
theorem d_MD_byOutcome_190 : decode b_MD_byOutcome 190 = .ok (.iconst 1, 1) := by decide +kernel
theorem d_MD_byOutcome_191 : decode b_MD_byOutcome 191 = .ok (.if_icmp .ne 8, 3) := by decide +kernel
theorem d_MD_byOutcome_194 : decode b_MD_byOutcome 194 = .ok (.bipush 14, 2) := by decide +kernel
theorem d_MD_byOutcome_196 : decode b_MD_byOutcome 196 = .ok (.goto 5, 3) := by decide +kernel
theorem d_MD_byOutcome_199 : decode b_MD_byOutcome 199 = .ok (.bipush 90, 2) := by decide +kernel
theorem d_MD_byOutcome_201 : decode b_MD_byOutcome 201 = .ok (.ireturn, 1) := by decide +kernel
theorem d_MD_byOutcome_202 : decode b_MD_byOutcome 202 = .ok (.bipush 30, 2) := by decide +kernel
theorem d_MD_byOutcome_204 : decode b_MD_byOutcome 204 = .ok (.ireturn, 1) := by decide +kernel
theorem d_MD_byOutcome_205 : decode b_MD_byOutcome 205 = .ok (.iload_n 1, 1) := by decide +kernel
theorem d_MD_byOutcome_206 : decode b_MD_byOutcome 206 = .ok (.bipush 6, 2) := by decide +kernel
theorem d_MD_byOutcome_208 : decode b_MD_byOutcome 208 = .ok (.if_icmp .ge 8, 3) := by decide +kernel
theorem d_MD_byOutcome_211 : decode b_MD_byOutcome 211 = .ok (.bipush 51, 2) := by decide +kernel
theorem d_MD_byOutcome_213 : decode b_MD_byOutcome 213 = .ok (.goto 5, 3) := by decide +kernel
theorem d_MD_byOutcome_216 : decode b_MD_byOutcome 216 = .ok (.bipush 90, 2) := by decide +kernel
theorem d_MD_byOutcome_218 : decode b_MD_byOutcome 218 = .ok (.ireturn, 1) := by decide +kernel
theorem d_MD_byOutcome_219 : decode b_MD_byOutcome 219 = .ok (.iload_n 1, 1) := by decide +kernel
theorem d_MD_byOutcome_220 : decode b_MD_byOutcome 220 = .ok (.iconst 2, 1) := by decide +kernel
theorem d_MD_byOutcome_221 : decode b_MD_byOutcome 221 = .ok (.if_icmp .ge 7, 3) := by decide +kernel
theorem d_MD_byOutcome_224 : decode b_MD_byOutcome 224 = .ok (.iconst 4, 1) := by decide +kernel
theorem d_MD_byOutcome_225 : decode b_MD_byOutcome 225 = .ok (.goto 15, 3) := by decide +kernel
theorem d_MD_byOutcome_228 : decode b_MD_byOutcome 228 = .ok (.iload_n 1, 1) := by decide +kernel
theorem d_MD_byOutcome_229 : decode b_MD_byOutcome 229 = .ok (.iconst 4, 1) := by decide +kernel
theorem d_MD_byOutcome_230 : decode b_MD_byOutcome 230 = .ok (.if_icmp .ge 8, 3) := by decide +kernel
theorem d_MD_byOutcome_233 : decode b_MD_byOutcome 233 = .ok (.bipush 44, 2) := by decide +kernel
theorem d_MD_byOutcome_235 : decode b_MD_byOutcome 235 = .ok (.goto 5, 3) := by decide +kernel
theorem d_MD_byOutcome_238 : decode b_MD_byOutcome 238 = .ok (.bipush 90, 2) := by decide +kernel
theorem d_MD_byOutcome_240 : decode b_MD_byOutcome 240 = .ok (.ireturn, 1) := by decide +kernel
theorem d_MD_byOutcome_241 : decode b_MD_byOutcome 241 = .ok (.iload 4, 2) := by decide +kernel
theorem d_MD_byOutcome_243 : decode b_MD_byOutcome 243 = .ok (.ifCond .eq 18, 3) := by decide +kernel
theorem d_MD_byOutcome_246 : decode b_MD_byOutcome 246 = .ok (.iload_n 1, 1) := by decide +kernel
theorem d_MD_byOutcome_247 : decode b_MD_byOutcome 247 = .ok (.iconst 2, 1) := by decide +kernel
theorem d_MD_byOutcome_248 : decode b_MD_byOutcome 248 = .ok (.if_icmp .eq 8, 3) := by decide +kernel
theorem d_MD_byOutcome_251 : decode b_MD_byOutcome 251 = .ok (.iload_n 1, 1) := by decide +kernel
theorem d_MD_byOutcome_252 : decode b_MD_byOutcome 252 = .ok (.iconst 3, 1) := by decide +kernel
theorem d_MD_byOutcome_253 : decode b_MD_byOutcome 253 = .ok (.if_icmp .ne 8, 3) := by decide +kernel
theorem d_MD_byOutcome_256 : decode b_MD_byOutcome 256 = .ok (.bipush 21, 2) := by decide +kernel
theorem d_MD_byOutcome_258 : decode b_MD_byOutcome 258 = .ok (.goto 5, 3) := by decide +kernel
theorem d_MD_byOutcome_261 : decode b_MD_byOutcome 261 = .ok (.bipush 90, 2) := by decide +kernel
theorem d_MD_byOutcome_263 : decode b_MD_byOutcome 263 = .ok (.ireturn, 1) := by decide +kernel
theorem d_MD_byOutcome_264 : decode b_MD_byOutcome 264 = .ok (.bipush 90, 2) := by decide +kernel
theorem d_MD_byOutcome_266 : decode b_MD_byOutcome 266 = .ok (.ireturn, 1) := by decide +kernel
theorem d_MD_moved_0 : decode b_MD_moved 0 = .ok (.iload_n 0, 1) := by decide +kernel
theorem d_MD_moved_1 : decode b_MD_moved 1 = .ok (.ifCond .eq 13, 3) := by decide +kernel
theorem d_MD_moved_4 : decode b_MD_moved 4 = .ok (.iload_n 0, 1) := by decide +kernel
theorem d_MD_moved_5 : decode b_MD_moved 5 = .ok (.iconst 2, 1) := by decide +kernel
theorem d_MD_moved_6 : decode b_MD_moved 6 = .ok (.if_icmp .eq 8, 3) := by decide +kernel
theorem d_MD_moved_9 : decode b_MD_moved 9 = .ok (.iload_n 0, 1) := by decide +kernel
theorem d_MD_moved_10 : decode b_MD_moved 10 = .ok (.iconst 4, 1) := by decide +kernel
theorem d_MD_moved_11 : decode b_MD_moved 11 = .ok (.if_icmp .ne 5, 3) := by decide +kernel
theorem d_MD_moved_14 : decode b_MD_moved 14 = .ok (.iconst 1, 1) := by decide +kernel
theorem d_MD_moved_15 : decode b_MD_moved 15 = .ok (.ireturn, 1) := by decide +kernel
theorem d_MD_moved_16 : decode b_MD_moved 16 = .ok (.iload_n 0, 1) := by decide +kernel
theorem d_MD_moved_17 : decode b_MD_moved 17 = .ok (.bipush 10, 2) := by decide +kernel
theorem d_MD_moved_19 : decode b_MD_moved 19 = .ok (.if_icmp .ne 5, 3) := by decide +kernel
theorem d_MD_moved_22 : decode b_MD_moved 22 = .ok (.iconst 2, 1) := by decide +kernel
theorem d_MD_moved_23 : decode b_MD_moved 23 = .ok (.ireturn, 1) := by decide +kernel
theorem d_MD_moved_24 : decode b_MD_moved 24 = .ok (.iload_n 0, 1) := by decide +kernel
theorem d_MD_moved_25 : decode b_MD_moved 25 = .ok (.bipush 14, 2) := by decide +kernel
theorem d_MD_moved_27 : decode b_MD_moved 27 = .ok (.if_icmp .eq 15, 3) := by decide +kernel
theorem d_MD_moved_30 : decode b_MD_moved 30 = .ok (.iload_n 0, 1) := by decide +kernel
theorem d_MD_moved_31 : decode b_MD_moved 31 = .ok (.bipush 23, 2) := by decide +kernel
theorem d_MD_moved_33 : decode b_MD_moved 33 = .ok (.if_icmp .eq 9, 3) := by decide +kernel
theorem d_MD_moved_36 : decode b_MD_moved 36 = .ok (.iload_n 0, 1) := by decide +kernel
theorem d_MD_moved_37 : decode b_MD_moved 37 = .ok (.bipush 46, 2) := by decide +kernel
theorem d_MD_moved_39 : decode b_MD_moved 39 = .ok (.if_icmp .ne 7, 3) := by decide +kernel
theorem d_MD_moved_42 : decode b_MD_moved 42 = .ok (.iconst 3, 1) := by decide +kernel
theorem d_MD_moved_43 : decode b_MD_moved 43 = .ok (.goto 4, 3) := by decide +kernel
theorem d_MD_moved_46 : decode b_MD_moved 46 = .ok (.iconst 0, 1) := by decide +kernel
theorem d_MD_moved_47 : decode b_MD_moved 47 = .ok (.ireturn, 1) := by decide +kernel
theorem d_MD_exception_0 : decode b_MD_exception 0 = .ok (.aload_n 0, 1) := by decide +kernel
theorem d_MD_exception_1 : decode b_MD_exception 1 = .ok (.iconst 0, 1) := by decide +kernel
theorem d_MD_exception_2 : decode b_MD_exception 2 = .ok (.putfield 20, 3) := by decide +kernel
theorem d_MD_exception_5 : decode b_MD_exception 5 = .ok (.iload_n 1, 1) := by decide +kernel
theorem d_MD_exception_6 : decode b_MD_exception 6 = .ok (.invokestatic 72, 3) := by decide +kernel
theorem d_MD_exception_9 : decode b_MD_exception 9 = .ok (.ifCond .eq 10, 3) := by decide +kernel
theorem d_MD_exception_12 : decode b_MD_exception 12 = .ok (.iload_n 1, 1) := by decide +kernel
theorem d_MD_exception_13 : decode b_MD_exception 13 = .ok (.invokestatic 76, 3) := by decide +kernel
theorem d_MD_exception_16 : decode b_MD_exception 16 = .ok (.goto 4, 3) := by decide +kernel
theorem d_MD_exception_19 : decode b_MD_exception 19 = .ok (.iconst (-1), 1) := by decide +kernel
theorem d_MD_exception_20 : decode b_MD_exception 20 = .ok (.ireturn, 1) := by decide +kernel
theorem d_MD_isStatus_0 : decode b_MD_isStatus 0 = .ok (.iload_n 0, 1) := by decide +kernel
theorem d_MD_isStatus_1 : decode b_MD_isStatus 1 = .ok (.ifCond .lt 13, 3) := by decide +kernel
theorem d_MD_isStatus_4 : decode b_MD_isStatus 4 = .ok (.iload_n 0, 1) := by decide +kernel
theorem d_MD_isStatus_5 : decode b_MD_isStatus 5 = .ok (.bipush 100, 2) := by decide +kernel
theorem d_MD_isStatus_7 : decode b_MD_isStatus 7 = .ok (.if_icmp .ge 7, 3) := by decide +kernel
theorem d_MD_isStatus_10 : decode b_MD_isStatus 10 = .ok (.iconst 1, 1) := by decide +kernel
theorem d_MD_isStatus_11 : decode b_MD_isStatus 11 = .ok (.goto 4, 3) := by decide +kernel
theorem d_MD_isStatus_14 : decode b_MD_isStatus 14 = .ok (.iconst 0, 1) := by decide +kernel
theorem d_MD_isStatus_15 : decode b_MD_isStatus 15 = .ok (.ireturn, 1) := by decide +kernel
theorem d_MD_kindOf_0 : decode b_MD_kindOf 0 = .ok (.iload_n 0, 1) := by decide +kernel
theorem d_MD_kindOf_1 : decode b_MD_kindOf 1 = .ok (.bipush 10, 2) := by decide +kernel
theorem d_MD_kindOf_3 : decode b_MD_kindOf 3 = .ok (.idiv, 1) := by decide +kernel
theorem d_MD_kindOf_4 : decode b_MD_kindOf 4 = .ok (.istore_n 1, 1) := by decide +kernel
theorem d_MD_kindOf_5 : decode b_MD_kindOf 5 = .ok (.iload_n 1, 1) := by decide +kernel
theorem d_MD_kindOf_6 : decode b_MD_kindOf 6 = .ok (.iconst 5, 1) := by decide +kernel
theorem d_MD_kindOf_7 : decode b_MD_kindOf 7 = .ok (.if_icmp .ge 7, 3) := by decide +kernel
theorem d_MD_kindOf_10 : decode b_MD_kindOf 10 = .ok (.iload_n 1, 1) := by decide +kernel
theorem d_MD_kindOf_11 : decode b_MD_kindOf 11 = .ok (.goto 15, 3) := by decide +kernel
theorem d_MD_kindOf_14 : decode b_MD_kindOf 14 = .ok (.iload_n 1, 1) := by decide +kernel
theorem d_MD_kindOf_15 : decode b_MD_kindOf 15 = .ok (.bipush 7, 2) := by decide +kernel
theorem d_MD_kindOf_17 : decode b_MD_kindOf 17 = .ok (.if_icmp .ge 7, 3) := by decide +kernel
theorem d_MD_kindOf_20 : decode b_MD_kindOf 20 = .ok (.iconst 5, 1) := by decide +kernel
theorem d_MD_kindOf_21 : decode b_MD_kindOf 21 = .ok (.goto 5, 3) := by decide +kernel
theorem d_MD_kindOf_24 : decode b_MD_kindOf 24 = .ok (.bipush 6, 2) := by decide +kernel
theorem d_MD_kindOf_26 : decode b_MD_kindOf 26 = .ok (.ireturn, 1) := by decide +kernel
theorem d_MD_phrase_0 : decode b_MD_phrase 0 = .ok (.aload_n 0, 1) := by decide +kernel
theorem d_MD_phrase_1 : decode b_MD_phrase 1 = .ok (.iconst 0, 1) := by decide +kernel
theorem d_MD_phrase_2 : decode b_MD_phrase 2 = .ok (.putfield 20, 3) := by decide +kernel
theorem d_MD_phrase_5 : decode b_MD_phrase 5 = .ok (.aload_n 0, 1) := by decide +kernel
theorem d_MD_phrase_6 : decode b_MD_phrase 6 = .ok (.getfield 30, 3) := by decide +kernel
theorem d_MD_phrase_9 : decode b_MD_phrase 9 = .ok (.invokestatic 76, 3) := by decide +kernel
theorem d_MD_phrase_12 : decode b_MD_phrase 12 = .ok (.istore_n 2, 1) := by decide +kernel
theorem d_MD_phrase_13 : decode b_MD_phrase 13 = .ok (.iload_n 2, 1) := by decide +kernel
theorem d_MD_phrase_14 : decode b_MD_phrase 14 = .ok (.ifCond .ne 5, 3) := by decide +kernel
theorem d_MD_phrase_17 : decode b_MD_phrase 17 = .ok (.iconst 0, 1) := by decide +kernel
theorem d_MD_phrase_18 : decode b_MD_phrase 18 = .ok (.ireturn, 1) := by decide +kernel
theorem d_MD_phrase_19 : decode b_MD_phrase 19 = .ok (.iload_n 1, 1) := by decide +kernel
theorem d_MD_phrase_20 : decode b_MD_phrase 20 = .ok (.ifCond .eq 10, 3) := by decide +kernel
theorem d_MD_phrase_23 : decode b_MD_phrase 23 = .ok (.iload_n 2, 1) := by decide +kernel
theorem d_MD_phrase_24 : decode b_MD_phrase 24 = .ok (.iconst 3, 1) := by decide +kernel
theorem d_MD_phrase_25 : decode b_MD_phrase 25 = .ok (.if_icmp .ge 5, 3) := by decide +kernel
theorem d_MD_phrase_28 : decode b_MD_phrase 28 = .ok (.iconst 1, 1) := by decide +kernel
theorem d_MD_phrase_29 : decode b_MD_phrase 29 = .ok (.ireturn, 1) := by decide +kernel
theorem d_MD_phrase_30 : decode b_MD_phrase 30 = .ok (.aload_n 0, 1) := by decide +kernel
theorem d_MD_phrase_31 : decode b_MD_phrase 31 = .ok (.getfield 13, 3) := by decide +kernel
theorem d_MD_phrase_34 : decode b_MD_phrase 34 = .ok (.iload_n 2, 1) := by decide +kernel
theorem d_MD_phrase_35 : decode b_MD_phrase 35 = .ok (.baload, 1) := by decide +kernel
theorem d_MD_phrase_36 : decode b_MD_phrase 36 = .ok (.ifCond .eq 7, 3) := by decide +kernel
theorem d_MD_phrase_39 : decode b_MD_phrase 39 = .ok (.iconst 2, 1) := by decide +kernel
theorem d_MD_phrase_40 : decode b_MD_phrase 40 = .ok (.goto 13, 3) := by decide +kernel
theorem d_MD_phrase_43 : decode b_MD_phrase 43 = .ok (.iload_n 2, 1) := by decide +kernel
theorem d_MD_phrase_44 : decode b_MD_phrase 44 = .ok (.iconst 2, 1) := by decide +kernel
theorem d_MD_phrase_45 : decode b_MD_phrase 45 = .ok (.if_icmp .le 7, 3) := by decide +kernel
theorem d_MD_phrase_48 : decode b_MD_phrase 48 = .ok (.iconst 3, 1) := by decide +kernel
theorem d_MD_phrase_49 : decode b_MD_phrase 49 = .ok (.goto 4, 3) := by decide +kernel
theorem d_MD_phrase_52 : decode b_MD_phrase 52 = .ok (.iconst 4, 1) := by decide +kernel
theorem d_MD_phrase_53 : decode b_MD_phrase 53 = .ok (.ireturn, 1) := by decide +kernel
theorem d_MD_declarative_0 : decode b_MD_declarative 0 = .ok (.aload_n 0, 1) := by decide +kernel
theorem d_MD_declarative_1 : decode b_MD_declarative 1 = .ok (.iconst 0, 1) := by decide +kernel
theorem d_MD_declarative_2 : decode b_MD_declarative 2 = .ok (.putfield 20, 3) := by decide +kernel
theorem d_MD_declarative_5 : decode b_MD_declarative 5 = .ok (.iload_n 1, 1) := by decide +kernel
theorem d_MD_declarative_6 : decode b_MD_declarative 6 = .ok (.iconst 1, 1) := by decide +kernel
theorem d_MD_declarative_7 : decode b_MD_declarative 7 = .ok (.if_icmp .lt 9, 3) := by decide +kernel
theorem d_MD_declarative_10 : decode b_MD_declarative 10 = .ok (.iload_n 1, 1) := by decide +kernel
theorem d_MD_declarative_11 : decode b_MD_declarative 11 = .ok (.bipush 6, 2) := by decide +kernel
theorem d_MD_declarative_13 : decode b_MD_declarative 13 = .ok (.if_icmp .le 6, 3) := by decide +kernel
theorem d_MD_declarative_16 : decode b_MD_declarative 16 = .ok (.bipush (-4), 2) := by decide +kernel
theorem d_MD_declarative_18 : decode b_MD_declarative 18 = .ok (.ireturn, 1) := by decide +kernel
theorem d_MD_declarative_19 : decode b_MD_declarative 19 = .ok (.aload_n 0, 1) := by decide +kernel
theorem d_MD_declarative_20 : decode b_MD_declarative 20 = .ok (.getfield 13, 3) := by decide +kernel
theorem d_MD_declarative_23 : decode b_MD_declarative 23 = .ok (.iload_n 1, 1) := by decide +kernel
theorem d_MD_declarative_24 : decode b_MD_declarative 24 = .ok (.baload, 1) := by decide +kernel
theorem d_MD_declarative_25 : decode b_MD_declarative 25 = .ok (.ifCond .eq 7, 3) := by decide +kernel
theorem d_MD_declarative_28 : decode b_MD_declarative 28 = .ok (.iconst 1, 1) := by decide +kernel
theorem d_MD_declarative_29 : decode b_MD_declarative 29 = .ok (.goto 4, 3) := by decide +kernel
theorem d_MD_declarative_32 : decode b_MD_declarative 32 = .ok (.iconst 0, 1) := by decide +kernel
theorem d_MD_declarative_33 : decode b_MD_declarative 33 = .ok (.istore_n 3, 1) := by decide +kernel
theorem d_MD_declarative_34 : decode b_MD_declarative 34 = .ok (.aload_n 0, 1) := by decide +kernel
theorem d_MD_declarative_35 : decode b_MD_declarative 35 = .ok (.getfield 13, 3) := by decide +kernel
theorem d_MD_declarative_38 : decode b_MD_declarative 38 = .ok (.iload_n 1, 1) := by decide +kernel
theorem d_MD_declarative_39 : decode b_MD_declarative 39 = .ok (.iload_n 2, 1) := by decide +kernel
theorem d_MD_declarative_40 : decode b_MD_declarative 40 = .ok (.bastore, 1) := by decide +kernel
theorem d_MD_declarative_41 : decode b_MD_declarative 41 = .ok (.iload_n 3, 1) := by decide +kernel
theorem d_MD_declarative_42 : decode b_MD_declarative 42 = .ok (.ireturn, 1) := by decide +kernel
theorem d_MD_position_0 : decode b_MD_position 0 = .ok (.aload_n 0, 1) := by decide +kernel
theorem d_MD_position_1 : decode b_MD_position 1 = .ok (.iconst 0, 1) := by decide +kernel
theorem d_MD_position_2 : decode b_MD_position 2 = .ok (.putfield 20, 3) := by decide +kernel
theorem d_MD_position_5 : decode b_MD_position 5 = .ok (.iload_n 1, 1) := by decide +kernel
theorem d_MD_position_6 : decode b_MD_position 6 = .ok (.invokestatic 72, 3) := by decide +kernel
theorem d_MD_position_9 : decode b_MD_position 9 = .ok (.ifCond .eq 10, 3) := by decide +kernel
theorem d_MD_position_12 : decode b_MD_position 12 = .ok (.iload_n 1, 1) := by decide +kernel
theorem d_MD_position_13 : decode b_MD_position 13 = .ok (.invokestatic 69, 3) := by decide +kernel
theorem d_MD_position_16 : decode b_MD_position 16 = .ok (.goto 4, 3) := by decide +kernel
theorem d_MD_position_19 : decode b_MD_position 19 = .ok (.iconst (-1), 1) := by decide +kernel
theorem d_MD_position_20 : decode b_MD_position 20 = .ok (.ireturn, 1) := by decide +kernel
theorem d_MD_optional_0 : decode b_MD_optional 0 = .ok (.aload_n 0, 1) := by decide +kernel
theorem d_MD_optional_1 : decode b_MD_optional 1 = .ok (.iconst 0, 1) := by decide +kernel
theorem d_MD_optional_2 : decode b_MD_optional 2 = .ok (.putfield 20, 3) := by decide +kernel
theorem d_MD_optional_5 : decode b_MD_optional 5 = .ok (.aload_n 0, 1) := by decide +kernel
theorem d_MD_optional_6 : decode b_MD_optional 6 = .ok (.getfield 23, 3) := by decide +kernel
theorem d_MD_optional_9 : decode b_MD_optional 9 = .ok (.ifCond .eq 6, 3) := by decide +kernel
theorem d_MD_optional_12 : decode b_MD_optional 12 = .ok (.bipush (-5), 2) := by decide +kernel
theorem d_MD_optional_14 : decode b_MD_optional 14 = .ok (.ireturn, 1) := by decide +kernel
theorem d_MD_optional_15 : decode b_MD_optional 15 = .ok (.aload_n 0, 1) := by decide +kernel
theorem d_MD_optional_16 : decode b_MD_optional 16 = .ok (.getfield 56, 3) := by decide +kernel
theorem d_MD_optional_19 : decode b_MD_optional 19 = .ok (.ifCond .eq 7, 3) := by decide +kernel
theorem d_MD_optional_22 : decode b_MD_optional 22 = .ok (.iconst 1, 1) := by decide +kernel
theorem d_MD_optional_23 : decode b_MD_optional 23 = .ok (.goto 4, 3) := by decide +kernel
theorem d_MD_optional_26 : decode b_MD_optional 26 = .ok (.iconst 0, 1) := by decide +kernel
theorem d_MD_optional_27 : decode b_MD_optional 27 = .ok (.istore_n 2, 1) := by decide +kernel
theorem d_MD_optional_28 : decode b_MD_optional 28 = .ok (.aload_n 0, 1) := by decide +kernel
theorem d_MD_optional_29 : decode b_MD_optional 29 = .ok (.iload_n 1, 1) := by decide +kernel
theorem d_MD_optional_30 : decode b_MD_optional 30 = .ok (.putfield 56, 3) := by decide +kernel
theorem d_MD_optional_33 : decode b_MD_optional 33 = .ok (.iload_n 2, 1) := by decide +kernel
theorem d_MD_optional_34 : decode b_MD_optional 34 = .ok (.ireturn, 1) := by decide +kernel
theorem d_MD_both_0 : decode b_MD_both 0 = .ok (.aload_n 0, 1) := by decide +kernel
theorem d_MD_both_1 : decode b_MD_both 1 = .ok (.iconst 0, 1) := by decide +kernel
theorem d_MD_both_2 : decode b_MD_both 2 = .ok (.putfield 20, 3) := by decide +kernel
theorem d_MD_both_5 : decode b_MD_both 5 = .ok (.iload_n 1, 1) := by decide +kernel
theorem d_MD_both_6 : decode b_MD_both 6 = .ok (.invokestatic 72, 3) := by decide +kernel
theorem d_MD_both_9 : decode b_MD_both 9 = .ok (.ifCond .eq 10, 3) := by decide +kernel
theorem d_MD_both_12 : decode b_MD_both 12 = .ok (.iload_n 2, 1) := by decide +kernel
theorem d_MD_both_13 : decode b_MD_both 13 = .ok (.invokestatic 72, 3) := by decide +kernel
theorem d_MD_both_16 : decode b_MD_both 16 = .ok (.ifCond .ne 5, 3) := by decide +kernel
theorem d_MD_both_19 : decode b_MD_both 19 = .ok (.iconst (-1), 1) := by decide +kernel
theorem d_MD_both_20 : decode b_MD_both 20 = .ok (.ireturn, 1) := by decide +kernel
theorem d_MD_both_21 : decode b_MD_both 21 = .ok (.iload_n 1, 1) := by decide +kernel
theorem d_MD_both_22 : decode b_MD_both 22 = .ok (.invokestatic 76, 3) := by decide +kernel
theorem d_MD_both_25 : decode b_MD_both 25 = .ok (.iload_n 2, 1) := by decide +kernel
theorem d_MD_both_26 : decode b_MD_both 26 = .ok (.invokestatic 76, 3) := by decide +kernel
theorem d_MD_both_29 : decode b_MD_both 29 = .ok (.if_icmp .eq 20, 3) := by decide +kernel
theorem d_MD_both_32 : decode b_MD_both 32 = .ok (.iload_n 1, 1) := by decide +kernel
theorem d_MD_both_33 : decode b_MD_both 33 = .ok (.invokestatic 76, 3) := by decide +kernel
theorem d_MD_both_36 : decode b_MD_both 36 = .ok (.iload_n 2, 1) := by decide +kernel
theorem d_MD_both_37 : decode b_MD_both 37 = .ok (.invokestatic 76, 3) := by decide +kernel
theorem d_MD_both_40 : decode b_MD_both 40 = .ok (.if_icmp .le 7, 3) := by decide +kernel
theorem d_MD_both_43 : decode b_MD_both 43 = .ok (.iload_n 1, 1) := by decide +kernel
theorem d_MD_both_44 : decode b_MD_both 44 = .ok (.goto 4, 3) := by decide +kernel
theorem d_MD_both_47 : decode b_MD_both 47 = .ok (.iload_n 2, 1) := by decide +kernel
theorem d_MD_both_48 : decode b_MD_both 48 = .ok (.ireturn, 1) := by decide +kernel
theorem d_MD_both_49 : decode b_MD_both 49 = .ok (.iload_n 1, 1) := by decide +kernel
theorem d_MD_both_50 : decode b_MD_both 50 = .ok (.iload_n 2, 1) := by decide +kernel
theorem d_MD_both_51 : decode b_MD_both 51 = .ok (.if_icmp .ge 7, 3) := by decide +kernel
theorem d_MD_both_54 : decode b_MD_both 54 = .ok (.iload_n 1, 1) := by decide +kernel
theorem d_MD_both_55 : decode b_MD_both 55 = .ok (.goto 4, 3) := by decide +kernel
theorem d_MD_both_58 : decode b_MD_both 58 = .ok (.iload_n 2, 1) := by decide +kernel
theorem d_MD_both_59 : decode b_MD_both 59 = .ok (.ireturn, 1) := by decide +kernel
theorem d_MD_extended_0 : decode b_MD_extended 0 = .ok (.aload_n 0, 1) := by decide +kernel
theorem d_MD_extended_1 : decode b_MD_extended 1 = .ok (.iconst 0, 1) := by decide +kernel
theorem d_MD_extended_2 : decode b_MD_extended 2 = .ok (.putfield 20, 3) := by decide +kernel
theorem d_MD_extended_5 : decode b_MD_extended 5 = .ok (.iload_n 1, 1) := by decide +kernel
theorem d_MD_extended_6 : decode b_MD_extended 6 = .ok (.invokestatic 72, 3) := by decide +kernel
theorem d_MD_extended_9 : decode b_MD_extended 9 = .ok (.ifCond .eq 23, 3) := by decide +kernel
theorem d_MD_extended_12 : decode b_MD_extended 12 = .ok (.bipush 100, 2) := by decide +kernel
theorem d_MD_extended_14 : decode b_MD_extended 14 = .ok (.iload_n 1, 1) := by decide +kernel
theorem d_MD_extended_15 : decode b_MD_extended 15 = .ok (.imul, 1) := by decide +kernel
theorem d_MD_extended_16 : decode b_MD_extended 16 = .ok (.bipush 10, 2) := by decide +kernel
theorem d_MD_extended_18 : decode b_MD_extended 18 = .ok (.aload_n 0, 1) := by decide +kernel
theorem d_MD_extended_19 : decode b_MD_extended 19 = .ok (.getfield 17, 3) := by decide +kernel
theorem d_MD_extended_22 : decode b_MD_extended 22 = .ok (.imul, 1) := by decide +kernel
theorem d_MD_extended_23 : decode b_MD_extended 23 = .ok (.iadd, 1) := by decide +kernel
theorem d_MD_extended_24 : decode b_MD_extended 24 = .ok (.aload_n 0, 1) := by decide +kernel
theorem d_MD_extended_25 : decode b_MD_extended 25 = .ok (.getfield 7, 3) := by decide +kernel
theorem d_MD_extended_28 : decode b_MD_extended 28 = .ok (.iadd, 1) := by decide +kernel
theorem d_MD_extended_29 : decode b_MD_extended 29 = .ok (.goto 4, 3) := by decide +kernel
theorem d_MD_extended_32 : decode b_MD_extended 32 = .ok (.iconst (-1), 1) := by decide +kernel
theorem d_MD_extended_33 : decode b_MD_extended 33 = .ok (.ireturn, 1) := by decide +kernel
theorem d_MD_area_0 : decode b_MD_area 0 = .ok (.aload_n 0, 1) := by decide +kernel
theorem d_MD_area_1 : decode b_MD_area 1 = .ok (.iconst 0, 1) := by decide +kernel
theorem d_MD_area_2 : decode b_MD_area 2 = .ok (.putfield 20, 3) := by decide +kernel
theorem d_MD_area_5 : decode b_MD_area 5 = .ok (.iload_n 1, 1) := by decide +kernel
theorem d_MD_area_6 : decode b_MD_area 6 = .ok (.invokestatic 72, 3) := by decide +kernel
theorem d_MD_area_9 : decode b_MD_area 9 = .ok (.ifCond .ne 5, 3) := by decide +kernel
theorem d_MD_area_12 : decode b_MD_area 12 = .ok (.iconst (-1), 1) := by decide +kernel
theorem d_MD_area_13 : decode b_MD_area 13 = .ok (.ireturn, 1) := by decide +kernel
theorem d_MD_area_14 : decode b_MD_area 14 = .ok (.iload_n 1, 1) := by decide +kernel
theorem d_MD_area_15 : decode b_MD_area 15 = .ok (.ifCond .eq 8, 3) := by decide +kernel
theorem d_MD_area_18 : decode b_MD_area 18 = .ok (.iload_n 1, 1) := by decide +kernel
theorem d_MD_area_19 : decode b_MD_area 19 = .ok (.iconst 2, 1) := by decide +kernel
theorem d_MD_area_20 : decode b_MD_area 20 = .ok (.if_icmp .ne 7, 3) := by decide +kernel
theorem d_MD_area_23 : decode b_MD_area 23 = .ok (.iconst 1, 1) := by decide +kernel
theorem d_MD_area_24 : decode b_MD_area 24 = .ok (.goto 13, 3) := by decide +kernel
theorem d_MD_area_27 : decode b_MD_area 27 = .ok (.iload_n 1, 1) := by decide +kernel
theorem d_MD_area_28 : decode b_MD_area 28 = .ok (.iconst 4, 1) := by decide +kernel
theorem d_MD_area_29 : decode b_MD_area 29 = .ok (.if_icmp .ne 7, 3) := by decide +kernel
theorem d_MD_area_32 : decode b_MD_area 32 = .ok (.iconst 2, 1) := by decide +kernel
theorem d_MD_area_33 : decode b_MD_area 33 = .ok (.goto 4, 3) := by decide +kernel
theorem d_MD_area_36 : decode b_MD_area 36 = .ok (.iconst 0, 1) := by decide +kernel
theorem d_MD_area_37 : decode b_MD_area 37 = .ok (.ireturn, 1) := by decide +kernel
theorem d_MD_count_0 : decode b_MD_count 0 = .ok (.aload_n 0, 1) := by decide +kernel
theorem d_MD_count_1 : decode b_MD_count 1 = .ok (.iconst 0, 1) := by decide +kernel
theorem d_MD_count_2 : decode b_MD_count 2 = .ok (.putfield 20, 3) := by decide +kernel
theorem d_MD_count_5 : decode b_MD_count 5 = .ok (.iload_n 1, 1) := by decide +kernel
theorem d_MD_count_6 : decode b_MD_count 6 = .ok (.tableswitch 96 0 6 #[42, 58, 63, 76, 81, 86, 91], 42) := by decide +kernel
theorem d_MD_count_48 : decode b_MD_count 48 = .ok (.aload_n 0, 1) := by decide +kernel
theorem d_MD_count_49 : decode b_MD_count 49 = .ok (.getfield 23, 3) := by decide +kernel
theorem d_MD_count_52 : decode b_MD_count 52 = .ok (.ifCond .eq 10, 3) := by decide +kernel
theorem d_MD_count_55 : decode b_MD_count 55 = .ok (.aload_n 0, 1) := by decide +kernel
theorem d_MD_count_56 : decode b_MD_count 56 = .ok (.getfield 27, 3) := by decide +kernel
theorem d_MD_count_59 : decode b_MD_count 59 = .ok (.goto 4, 3) := by decide +kernel
theorem d_MD_count_62 : decode b_MD_count 62 = .ok (.iconst (-1), 1) := by decide +kernel
theorem d_MD_count_63 : decode b_MD_count 63 = .ok (.ireturn, 1) := by decide +kernel
theorem d_MD_count_64 : decode b_MD_count 64 = .ok (.aload_n 0, 1) := by decide +kernel
theorem d_MD_count_65 : decode b_MD_count 65 = .ok (.getfield 50, 3) := by decide +kernel
theorem d_MD_count_68 : decode b_MD_count 68 = .ok (.ireturn, 1) := by decide +kernel
theorem d_MD_count_69 : decode b_MD_count 69 = .ok (.aload_n 0, 1) := by decide +kernel
theorem d_MD_count_70 : decode b_MD_count 70 = .ok (.getfield 47, 3) := by decide +kernel
theorem d_MD_count_73 : decode b_MD_count 73 = .ok (.ifCond .eq 7, 3) := by decide +kernel
theorem d_MD_count_76 : decode b_MD_count 76 = .ok (.iconst 1, 1) := by decide +kernel
theorem d_MD_count_77 : decode b_MD_count 77 = .ok (.goto 4, 3) := by decide +kernel
theorem d_MD_count_80 : decode b_MD_count 80 = .ok (.iconst 0, 1) := by decide +kernel
theorem d_MD_count_81 : decode b_MD_count 81 = .ok (.ireturn, 1) := by decide +kernel
theorem d_MD_count_82 : decode b_MD_count 82 = .ok (.aload_n 0, 1) := by decide +kernel
theorem d_MD_count_83 : decode b_MD_count 83 = .ok (.getfield 30, 3) := by decide +kernel
theorem d_MD_count_86 : decode b_MD_count 86 = .ok (.ireturn, 1) := by decide +kernel
theorem d_MD_count_87 : decode b_MD_count 87 = .ok (.aload_n 0, 1) := by decide +kernel
theorem d_MD_count_88 : decode b_MD_count 88 = .ok (.getfield 33, 3) := by decide +kernel
theorem d_MD_count_91 : decode b_MD_count 91 = .ok (.ireturn, 1) := by decide +kernel
theorem d_MD_count_92 : decode b_MD_count 92 = .ok (.aload_n 0, 1) := by decide +kernel
theorem d_MD_count_93 : decode b_MD_count 93 = .ok (.getfield 36, 3) := by decide +kernel
theorem d_MD_count_96 : decode b_MD_count 96 = .ok (.ireturn, 1) := by decide +kernel
theorem d_MD_count_97 : decode b_MD_count 97 = .ok (.aload_n 0, 1) := by decide +kernel
theorem d_MD_count_98 : decode b_MD_count 98 = .ok (.getfield 17, 3) := by decide +kernel
theorem d_MD_count_101 : decode b_MD_count 101 = .ok (.ireturn, 1) := by decide +kernel
theorem d_MD_count_102 : decode b_MD_count 102 = .ok (.iconst (-1), 1) := by decide +kernel
theorem d_MD_count_103 : decode b_MD_count 103 = .ok (.ireturn, 1) := by decide +kernel
end
section
theorem d_LW_law_0 : decode code 0 = .ok (.new 7, 3) := by decide +kernel
theorem d_LW_law_3 : decode code 3 = .ok (.dup, 1) := by decide +kernel
theorem d_LW_law_4 : decode code 4 = .ok (.aload_n 0, 1) := by decide +kernel
theorem d_LW_law_5 : decode code 5 = .ok (.iconst 0, 1) := by decide +kernel
theorem d_LW_law_6 : decode code 6 = .ok (.invokestatic 9, 3) := by decide +kernel
theorem d_LW_law_9 : decode code 9 = .ok (.invokespecial 15, 3) := by decide +kernel
theorem d_LW_law_12 : decode code 12 = .ok (.astore_n 1, 1) := by decide +kernel
theorem d_LW_law_13 : decode code 13 = .ok (.new 18, 3) := by decide +kernel
theorem d_LW_law_16 : decode code 16 = .ok (.dup, 1) := by decide +kernel
theorem d_LW_law_17 : decode code 17 = .ok (.aload_n 0, 1) := by decide +kernel
theorem d_LW_law_18 : decode code 18 = .ok (.iconst 0, 1) := by decide +kernel
theorem d_LW_law_19 : decode code 19 = .ok (.invokestatic 9, 3) := by decide +kernel
theorem d_LW_law_22 : decode code 22 = .ok (.invokespecial 20, 3) := by decide +kernel
theorem d_LW_law_25 : decode code 25 = .ok (.astore_n 2, 1) := by decide +kernel
theorem d_LW_law_26 : decode code 26 = .ok (.iconst 1, 1) := by decide +kernel
theorem d_LW_law_27 : decode code 27 = .ok (.istore_n 3, 1) := by decide +kernel
theorem d_LW_law_28 : decode code 28 = .ok (.iload_n 3, 1) := by decide +kernel
theorem d_LW_law_29 : decode code 29 = .ok (.aload_n 0, 1) := by decide +kernel
theorem d_LW_law_30 : decode code 30 = .ok (.arraylength, 1) := by decide +kernel
theorem d_LW_law_31 : decode code 31 = .ok (.iconst 3, 1) := by decide +kernel
theorem d_LW_law_32 : decode code 32 = .ok (.isub, 1) := by decide +kernel
theorem d_LW_law_33 : decode code 33 = .ok (.if_icmp .gt 431, 3) := by decide +kernel
theorem d_LW_law_36 : decode code 36 = .ok (.aload_n 0, 1) := by decide +kernel
theorem d_LW_law_37 : decode code 37 = .ok (.iload_n 3, 1) := by decide +kernel
theorem d_LW_law_38 : decode code 38 = .ok (.iaload, 1) := by decide +kernel
theorem d_LW_law_39 : decode code 39 = .ok (.bipush 15, 2) := by decide +kernel
theorem d_LW_law_41 : decode code 41 = .ok (.iand, 1) := by decide +kernel
theorem d_LW_law_42 : decode code 42 = .ok (.tableswitch 416 0 11 #[62, 85, 108, 141, 164, 203, 252, 275, 314, 347, 370, 393], 62) := by decide +kernel
theorem d_LW_law_104 : decode code 104 = .ok (.aload_n 1, 1) := by decide +kernel
theorem d_LW_law_105 : decode code 105 = .ok (.aload_n 0, 1) := by decide +kernel
theorem d_LW_law_106 : decode code 106 = .ok (.iload_n 3, 1) := by decide +kernel
theorem d_LW_law_107 : decode code 107 = .ok (.iconst 1, 1) := by decide +kernel
theorem d_LW_law_108 : decode code 108 = .ok (.iadd, 1) := by decide +kernel
theorem d_LW_law_109 : decode code 109 = .ok (.iaload, 1) := by decide +kernel
theorem d_LW_law_110 : decode code 110 = .ok (.invokevirtual 21, 3) := by decide +kernel
theorem d_LW_law_113 : decode code 113 = .ok (.aload_n 2, 1) := by decide +kernel
theorem d_LW_law_114 : decode code 114 = .ok (.aload_n 0, 1) := by decide +kernel
theorem d_LW_law_115 : decode code 115 = .ok (.iload_n 3, 1) := by decide +kernel
theorem d_LW_law_116 : decode code 116 = .ok (.iconst 1, 1) := by decide +kernel
theorem d_LW_law_117 : decode code 117 = .ok (.iadd, 1) := by decide +kernel
theorem d_LW_law_118 : decode code 118 = .ok (.iaload, 1) := by decide +kernel
theorem d_LW_law_119 : decode code 119 = .ok (.invokevirtual 25, 3) := by decide +kernel
theorem d_LW_law_122 : decode code 122 = .ok (.if_icmp .eq 336, 3) := by decide +kernel
theorem d_LW_law_125 : decode code 125 = .ok (.iconst 0, 1) := by decide +kernel
theorem d_LW_law_126 : decode code 126 = .ok (.ireturn, 1) := by decide +kernel
theorem d_LW_law_127 : decode code 127 = .ok (.aload_n 1, 1) := by decide +kernel
theorem d_LW_law_128 : decode code 128 = .ok (.aload_n 0, 1) := by decide +kernel
theorem d_LW_law_129 : decode code 129 = .ok (.iload_n 3, 1) := by decide +kernel
theorem d_LW_law_130 : decode code 130 = .ok (.iconst 1, 1) := by decide +kernel
theorem d_LW_law_131 : decode code 131 = .ok (.iadd, 1) := by decide +kernel
theorem d_LW_law_132 : decode code 132 = .ok (.iaload, 1) := by decide +kernel
theorem d_LW_law_133 : decode code 133 = .ok (.invokevirtual 26, 3) := by decide +kernel
theorem d_LW_law_136 : decode code 136 = .ok (.aload_n 2, 1) := by decide +kernel
theorem d_LW_law_137 : decode code 137 = .ok (.aload_n 0, 1) := by decide +kernel
theorem d_LW_law_138 : decode code 138 = .ok (.iload_n 3, 1) := by decide +kernel
theorem d_LW_law_139 : decode code 139 = .ok (.iconst 1, 1) := by decide +kernel
theorem d_LW_law_140 : decode code 140 = .ok (.iadd, 1) := by decide +kernel
theorem d_LW_law_141 : decode code 141 = .ok (.iaload, 1) := by decide +kernel
theorem d_LW_law_142 : decode code 142 = .ok (.invokevirtual 29, 3) := by decide +kernel
theorem d_LW_law_145 : decode code 145 = .ok (.if_icmp .eq 313, 3) := by decide +kernel
theorem d_LW_law_148 : decode code 148 = .ok (.iconst 0, 1) := by decide +kernel
theorem d_LW_law_149 : decode code 149 = .ok (.ireturn, 1) := by decide +kernel
theorem d_LW_law_150 : decode code 150 = .ok (.aload_n 1, 1) := by decide +kernel
theorem d_LW_law_151 : decode code 151 = .ok (.aload_n 0, 1) := by decide +kernel
theorem d_LW_law_152 : decode code 152 = .ok (.iload_n 3, 1) := by decide +kernel
theorem d_LW_law_153 : decode code 153 = .ok (.iconst 1, 1) := by decide +kernel
theorem d_LW_law_154 : decode code 154 = .ok (.iadd, 1) := by decide +kernel
theorem d_LW_law_155 : decode code 155 = .ok (.iaload, 1) := by decide +kernel
theorem d_LW_law_156 : decode code 156 = .ok (.aload_n 0, 1) := by decide +kernel
theorem d_LW_law_157 : decode code 157 = .ok (.iload_n 3, 1) := by decide +kernel
theorem d_LW_law_158 : decode code 158 = .ok (.iconst 2, 1) := by decide +kernel
theorem d_LW_law_159 : decode code 159 = .ok (.iadd, 1) := by decide +kernel
theorem d_LW_law_160 : decode code 160 = .ok (.iaload, 1) := by decide +kernel
theorem d_LW_law_161 : decode code 161 = .ok (.invokevirtual 30, 3) := by decide +kernel
theorem d_LW_law_164 : decode code 164 = .ok (.aload_n 2, 1) := by decide +kernel
theorem d_LW_law_165 : decode code 165 = .ok (.aload_n 0, 1) := by decide +kernel
theorem d_LW_law_166 : decode code 166 = .ok (.iload_n 3, 1) := by decide +kernel
theorem d_LW_law_167 : decode code 167 = .ok (.iconst 1, 1) := by decide +kernel
theorem d_LW_law_168 : decode code 168 = .ok (.iadd, 1) := by decide +kernel
theorem d_LW_law_169 : decode code 169 = .ok (.iaload, 1) := by decide +kernel
theorem d_LW_law_170 : decode code 170 = .ok (.aload_n 0, 1) := by decide +kernel
theorem d_LW_law_171 : decode code 171 = .ok (.iload_n 3, 1) := by decide +kernel
theorem d_LW_law_172 : decode code 172 = .ok (.iconst 2, 1) := by decide +kernel
theorem d_LW_law_173 : decode code 173 = .ok (.iadd, 1) := by decide +kernel
theorem d_LW_law_174 : decode code 174 = .ok (.iaload, 1) := by decide +kernel
theorem d_LW_law_175 : decode code 175 = .ok (.invokevirtual 34, 3) := by decide +kernel
theorem d_LW_law_178 : decode code 178 = .ok (.if_icmp .eq 280, 3) := by decide +kernel
theorem d_LW_law_181 : decode code 181 = .ok (.iconst 0, 1) := by decide +kernel
theorem d_LW_law_182 : decode code 182 = .ok (.ireturn, 1) := by decide +kernel
theorem d_LW_law_183 : decode code 183 = .ok (.aload_n 1, 1) := by decide +kernel
theorem d_LW_law_184 : decode code 184 = .ok (.aload_n 0, 1) := by decide +kernel
theorem d_LW_law_185 : decode code 185 = .ok (.iload_n 3, 1) := by decide +kernel
theorem d_LW_law_186 : decode code 186 = .ok (.iconst 1, 1) := by decide +kernel
theorem d_LW_law_187 : decode code 187 = .ok (.iadd, 1) := by decide +kernel
theorem d_LW_law_188 : decode code 188 = .ok (.iaload, 1) := by decide +kernel
theorem d_LW_law_189 : decode code 189 = .ok (.invokevirtual 35, 3) := by decide +kernel
theorem d_LW_law_192 : decode code 192 = .ok (.aload_n 2, 1) := by decide +kernel
theorem d_LW_law_193 : decode code 193 = .ok (.aload_n 0, 1) := by decide +kernel
theorem d_LW_law_194 : decode code 194 = .ok (.iload_n 3, 1) := by decide +kernel
theorem d_LW_law_195 : decode code 195 = .ok (.iconst 1, 1) := by decide +kernel
theorem d_LW_law_196 : decode code 196 = .ok (.iadd, 1) := by decide +kernel
theorem d_LW_law_197 : decode code 197 = .ok (.iaload, 1) := by decide +kernel
theorem d_LW_law_198 : decode code 198 = .ok (.invokevirtual 38, 3) := by decide +kernel
theorem d_LW_law_201 : decode code 201 = .ok (.if_icmp .eq 257, 3) := by decide +kernel
theorem d_LW_law_204 : decode code 204 = .ok (.iconst 0, 1) := by decide +kernel
theorem d_LW_law_205 : decode code 205 = .ok (.ireturn, 1) := by decide +kernel
theorem d_LW_law_206 : decode code 206 = .ok (.aload_n 1, 1) := by decide +kernel
theorem d_LW_law_207 : decode code 207 = .ok (.aload_n 0, 1) := by decide +kernel
theorem d_LW_law_208 : decode code 208 = .ok (.iload_n 3, 1) := by decide +kernel
theorem d_LW_law_209 : decode code 209 = .ok (.iconst 1, 1) := by decide +kernel
theorem d_LW_law_210 : decode code 210 = .ok (.iadd, 1) := by decide +kernel
theorem d_LW_law_211 : decode code 211 = .ok (.iaload, 1) := by decide +kernel
theorem d_LW_law_212 : decode code 212 = .ok (.ifCond .eq 7, 3) := by decide +kernel
theorem d_LW_law_215 : decode code 215 = .ok (.iconst 1, 1) := by decide +kernel
theorem d_LW_law_216 : decode code 216 = .ok (.goto 4, 3) := by decide +kernel
theorem d_LW_law_219 : decode code 219 = .ok (.iconst 0, 1) := by decide +kernel
theorem d_LW_law_220 : decode code 220 = .ok (.invokevirtual 39, 3) := by decide +kernel
theorem d_LW_law_223 : decode code 223 = .ok (.aload_n 2, 1) := by decide +kernel
theorem d_LW_law_224 : decode code 224 = .ok (.aload_n 0, 1) := by decide +kernel
theorem d_LW_law_225 : decode code 225 = .ok (.iload_n 3, 1) := by decide +kernel
theorem d_LW_law_226 : decode code 226 = .ok (.iconst 1, 1) := by decide +kernel
theorem d_LW_law_227 : decode code 227 = .ok (.iadd, 1) := by decide +kernel
theorem d_LW_law_228 : decode code 228 = .ok (.iaload, 1) := by decide +kernel
theorem d_LW_law_229 : decode code 229 = .ok (.ifCond .eq 7, 3) := by decide +kernel
theorem d_LW_law_232 : decode code 232 = .ok (.iconst 1, 1) := by decide +kernel
theorem d_LW_law_233 : decode code 233 = .ok (.goto 4, 3) := by decide +kernel
theorem d_LW_law_236 : decode code 236 = .ok (.iconst 0, 1) := by decide +kernel
theorem d_LW_law_237 : decode code 237 = .ok (.invokevirtual 43, 3) := by decide +kernel
theorem d_LW_law_240 : decode code 240 = .ok (.if_icmp .eq 218, 3) := by decide +kernel
theorem d_LW_law_243 : decode code 243 = .ok (.iconst 0, 1) := by decide +kernel
theorem d_LW_law_244 : decode code 244 = .ok (.ireturn, 1) := by decide +kernel
theorem d_LW_law_245 : decode code 245 = .ok (.aload_n 1, 1) := by decide +kernel
theorem d_LW_law_246 : decode code 246 = .ok (.aload_n 0, 1) := by decide +kernel
theorem d_LW_law_247 : decode code 247 = .ok (.iload_n 3, 1) := by decide +kernel
theorem d_LW_law_248 : decode code 248 = .ok (.iconst 1, 1) := by decide +kernel
theorem d_LW_law_249 : decode code 249 = .ok (.iadd, 1) := by decide +kernel
theorem d_LW_law_250 : decode code 250 = .ok (.iaload, 1) := by decide +kernel
theorem d_LW_law_251 : decode code 251 = .ok (.aload_n 0, 1) := by decide +kernel
theorem d_LW_law_252 : decode code 252 = .ok (.iload_n 3, 1) := by decide +kernel
theorem d_LW_law_253 : decode code 253 = .ok (.iconst 2, 1) := by decide +kernel
theorem d_LW_law_254 : decode code 254 = .ok (.iadd, 1) := by decide +kernel
theorem d_LW_law_255 : decode code 255 = .ok (.iaload, 1) := by decide +kernel
theorem d_LW_law_256 : decode code 256 = .ok (.ifCond .eq 7, 3) := by decide +kernel
theorem d_LW_law_259 : decode code 259 = .ok (.iconst 1, 1) := by decide +kernel
theorem d_LW_law_260 : decode code 260 = .ok (.goto 4, 3) := by decide +kernel
theorem d_LW_law_263 : decode code 263 = .ok (.iconst 0, 1) := by decide +kernel
theorem d_LW_law_264 : decode code 264 = .ok (.invokevirtual 44, 3) := by decide +kernel
theorem d_LW_law_267 : decode code 267 = .ok (.aload_n 2, 1) := by decide +kernel
theorem d_LW_law_268 : decode code 268 = .ok (.aload_n 0, 1) := by decide +kernel
theorem d_LW_law_269 : decode code 269 = .ok (.iload_n 3, 1) := by decide +kernel
theorem d_LW_law_270 : decode code 270 = .ok (.iconst 1, 1) := by decide +kernel
theorem d_LW_law_271 : decode code 271 = .ok (.iadd, 1) := by decide +kernel
theorem d_LW_law_272 : decode code 272 = .ok (.iaload, 1) := by decide +kernel
theorem d_LW_law_273 : decode code 273 = .ok (.aload_n 0, 1) := by decide +kernel
theorem d_LW_law_274 : decode code 274 = .ok (.iload_n 3, 1) := by decide +kernel
theorem d_LW_law_275 : decode code 275 = .ok (.iconst 2, 1) := by decide +kernel
theorem d_LW_law_276 : decode code 276 = .ok (.iadd, 1) := by decide +kernel
theorem d_LW_law_277 : decode code 277 = .ok (.iaload, 1) := by decide +kernel
theorem d_LW_law_278 : decode code 278 = .ok (.ifCond .eq 7, 3) := by decide +kernel
theorem d_LW_law_281 : decode code 281 = .ok (.iconst 1, 1) := by decide +kernel
theorem d_LW_law_282 : decode code 282 = .ok (.goto 4, 3) := by decide +kernel
theorem d_LW_law_285 : decode code 285 = .ok (.iconst 0, 1) := by decide +kernel
theorem d_LW_law_286 : decode code 286 = .ok (.invokevirtual 48, 3) := by decide +kernel
theorem d_LW_law_289 : decode code 289 = .ok (.if_icmp .eq 169, 3) := by decide +kernel
theorem d_LW_law_292 : decode code 292 = .ok (.iconst 0, 1) := by decide +kernel
theorem d_LW_law_293 : decode code 293 = .ok (.ireturn, 1) := by decide +kernel
theorem d_LW_law_294 : decode code 294 = .ok (.aload_n 1, 1) := by decide +kernel
theorem d_LW_law_295 : decode code 295 = .ok (.aload_n 0, 1) := by decide +kernel
theorem d_LW_law_296 : decode code 296 = .ok (.iload_n 3, 1) := by decide +kernel
theorem d_LW_law_297 : decode code 297 = .ok (.iconst 1, 1) := by decide +kernel
theorem d_LW_law_298 : decode code 298 = .ok (.iadd, 1) := by decide +kernel
theorem d_LW_law_299 : decode code 299 = .ok (.iaload, 1) := by decide +kernel
theorem d_LW_law_300 : decode code 300 = .ok (.invokevirtual 49, 3) := by decide +kernel
theorem d_LW_law_303 : decode code 303 = .ok (.aload_n 2, 1) := by decide +kernel
theorem d_LW_law_304 : decode code 304 = .ok (.aload_n 0, 1) := by decide +kernel
theorem d_LW_law_305 : decode code 305 = .ok (.iload_n 3, 1) := by decide +kernel
theorem d_LW_law_306 : decode code 306 = .ok (.iconst 1, 1) := by decide +kernel
theorem d_LW_law_307 : decode code 307 = .ok (.iadd, 1) := by decide +kernel
theorem d_LW_law_308 : decode code 308 = .ok (.iaload, 1) := by decide +kernel
theorem d_LW_law_309 : decode code 309 = .ok (.invokevirtual 52, 3) := by decide +kernel
theorem d_LW_law_312 : decode code 312 = .ok (.if_icmp .eq 146, 3) := by decide +kernel
theorem d_LW_law_315 : decode code 315 = .ok (.iconst 0, 1) := by decide +kernel
theorem d_LW_law_316 : decode code 316 = .ok (.ireturn, 1) := by decide +kernel
theorem d_LW_law_317 : decode code 317 = .ok (.aload_n 1, 1) := by decide +kernel
theorem d_LW_law_318 : decode code 318 = .ok (.aload_n 0, 1) := by decide +kernel
theorem d_LW_law_319 : decode code 319 = .ok (.iload_n 3, 1) := by decide +kernel
theorem d_LW_law_320 : decode code 320 = .ok (.iconst 1, 1) := by decide +kernel
theorem d_LW_law_321 : decode code 321 = .ok (.iadd, 1) := by decide +kernel
theorem d_LW_law_322 : decode code 322 = .ok (.iaload, 1) := by decide +kernel
theorem d_LW_law_323 : decode code 323 = .ok (.ifCond .eq 7, 3) := by decide +kernel
theorem d_LW_law_326 : decode code 326 = .ok (.iconst 1, 1) := by decide +kernel
theorem d_LW_law_327 : decode code 327 = .ok (.goto 4, 3) := by decide +kernel
theorem d_LW_law_330 : decode code 330 = .ok (.iconst 0, 1) := by decide +kernel
theorem d_LW_law_331 : decode code 331 = .ok (.invokevirtual 53, 3) := by decide +kernel
theorem d_LW_law_334 : decode code 334 = .ok (.aload_n 2, 1) := by decide +kernel
theorem d_LW_law_335 : decode code 335 = .ok (.aload_n 0, 1) := by decide +kernel
theorem d_LW_law_336 : decode code 336 = .ok (.iload_n 3, 1) := by decide +kernel
theorem d_LW_law_337 : decode code 337 = .ok (.iconst 1, 1) := by decide +kernel
theorem d_LW_law_338 : decode code 338 = .ok (.iadd, 1) := by decide +kernel
theorem d_LW_law_339 : decode code 339 = .ok (.iaload, 1) := by decide +kernel
theorem d_LW_law_340 : decode code 340 = .ok (.ifCond .eq 7, 3) := by decide +kernel
theorem d_LW_law_343 : decode code 343 = .ok (.iconst 1, 1) := by decide +kernel
theorem d_LW_law_344 : decode code 344 = .ok (.goto 4, 3) := by decide +kernel
theorem d_LW_law_347 : decode code 347 = .ok (.iconst 0, 1) := by decide +kernel
theorem d_LW_law_348 : decode code 348 = .ok (.invokevirtual 56, 3) := by decide +kernel
theorem d_LW_law_351 : decode code 351 = .ok (.if_icmp .eq 107, 3) := by decide +kernel
theorem d_LW_law_354 : decode code 354 = .ok (.iconst 0, 1) := by decide +kernel
theorem d_LW_law_355 : decode code 355 = .ok (.ireturn, 1) := by decide +kernel
theorem d_LW_law_356 : decode code 356 = .ok (.aload_n 1, 1) := by decide +kernel
theorem d_LW_law_357 : decode code 357 = .ok (.aload_n 0, 1) := by decide +kernel
theorem d_LW_law_358 : decode code 358 = .ok (.iload_n 3, 1) := by decide +kernel
theorem d_LW_law_359 : decode code 359 = .ok (.iconst 1, 1) := by decide +kernel
theorem d_LW_law_360 : decode code 360 = .ok (.iadd, 1) := by decide +kernel
theorem d_LW_law_361 : decode code 361 = .ok (.iaload, 1) := by decide +kernel
theorem d_LW_law_362 : decode code 362 = .ok (.aload_n 0, 1) := by decide +kernel
theorem d_LW_law_363 : decode code 363 = .ok (.iload_n 3, 1) := by decide +kernel
theorem d_LW_law_364 : decode code 364 = .ok (.iconst 2, 1) := by decide +kernel
theorem d_LW_law_365 : decode code 365 = .ok (.iadd, 1) := by decide +kernel
theorem d_LW_law_366 : decode code 366 = .ok (.iaload, 1) := by decide +kernel
theorem d_LW_law_367 : decode code 367 = .ok (.invokevirtual 57, 3) := by decide +kernel
theorem d_LW_law_370 : decode code 370 = .ok (.aload_n 2, 1) := by decide +kernel
theorem d_LW_law_371 : decode code 371 = .ok (.aload_n 0, 1) := by decide +kernel
theorem d_LW_law_372 : decode code 372 = .ok (.iload_n 3, 1) := by decide +kernel
theorem d_LW_law_373 : decode code 373 = .ok (.iconst 1, 1) := by decide +kernel
theorem d_LW_law_374 : decode code 374 = .ok (.iadd, 1) := by decide +kernel
theorem d_LW_law_375 : decode code 375 = .ok (.iaload, 1) := by decide +kernel
theorem d_LW_law_376 : decode code 376 = .ok (.aload_n 0, 1) := by decide +kernel
theorem d_LW_law_377 : decode code 377 = .ok (.iload_n 3, 1) := by decide +kernel
theorem d_LW_law_378 : decode code 378 = .ok (.iconst 2, 1) := by decide +kernel
theorem d_LW_law_379 : decode code 379 = .ok (.iadd, 1) := by decide +kernel
theorem d_LW_law_380 : decode code 380 = .ok (.iaload, 1) := by decide +kernel
theorem d_LW_law_381 : decode code 381 = .ok (.invokevirtual 60, 3) := by decide +kernel
theorem d_LW_law_384 : decode code 384 = .ok (.if_icmp .eq 74, 3) := by decide +kernel
theorem d_LW_law_387 : decode code 387 = .ok (.iconst 0, 1) := by decide +kernel
theorem d_LW_law_388 : decode code 388 = .ok (.ireturn, 1) := by decide +kernel
theorem d_LW_law_389 : decode code 389 = .ok (.aload_n 1, 1) := by decide +kernel
theorem d_LW_law_390 : decode code 390 = .ok (.aload_n 0, 1) := by decide +kernel
theorem d_LW_law_391 : decode code 391 = .ok (.iload_n 3, 1) := by decide +kernel
theorem d_LW_law_392 : decode code 392 = .ok (.iconst 1, 1) := by decide +kernel
theorem d_LW_law_393 : decode code 393 = .ok (.iadd, 1) := by decide +kernel
theorem d_LW_law_394 : decode code 394 = .ok (.iaload, 1) := by decide +kernel
theorem d_LW_law_395 : decode code 395 = .ok (.invokevirtual 61, 3) := by decide +kernel
theorem d_LW_law_398 : decode code 398 = .ok (.aload_n 2, 1) := by decide +kernel
theorem d_LW_law_399 : decode code 399 = .ok (.aload_n 0, 1) := by decide +kernel
theorem d_LW_law_400 : decode code 400 = .ok (.iload_n 3, 1) := by decide +kernel
theorem d_LW_law_401 : decode code 401 = .ok (.iconst 1, 1) := by decide +kernel
theorem d_LW_law_402 : decode code 402 = .ok (.iadd, 1) := by decide +kernel
theorem d_LW_law_403 : decode code 403 = .ok (.iaload, 1) := by decide +kernel
theorem d_LW_law_404 : decode code 404 = .ok (.invokevirtual 64, 3) := by decide +kernel
theorem d_LW_law_407 : decode code 407 = .ok (.if_icmp .eq 51, 3) := by decide +kernel
theorem d_LW_law_410 : decode code 410 = .ok (.iconst 0, 1) := by decide +kernel
theorem d_LW_law_411 : decode code 411 = .ok (.ireturn, 1) := by decide +kernel
theorem d_LW_law_412 : decode code 412 = .ok (.aload_n 1, 1) := by decide +kernel
theorem d_LW_law_413 : decode code 413 = .ok (.aload_n 0, 1) := by decide +kernel
theorem d_LW_law_414 : decode code 414 = .ok (.iload_n 3, 1) := by decide +kernel
theorem d_LW_law_415 : decode code 415 = .ok (.iconst 1, 1) := by decide +kernel
theorem d_LW_law_416 : decode code 416 = .ok (.iadd, 1) := by decide +kernel
theorem d_LW_law_417 : decode code 417 = .ok (.iaload, 1) := by decide +kernel
theorem d_LW_law_418 : decode code 418 = .ok (.invokevirtual 65, 3) := by decide +kernel
theorem d_LW_law_421 : decode code 421 = .ok (.aload_n 2, 1) := by decide +kernel
theorem d_LW_law_422 : decode code 422 = .ok (.aload_n 0, 1) := by decide +kernel
theorem d_LW_law_423 : decode code 423 = .ok (.iload_n 3, 1) := by decide +kernel
theorem d_LW_law_424 : decode code 424 = .ok (.iconst 1, 1) := by decide +kernel
theorem d_LW_law_425 : decode code 425 = .ok (.iadd, 1) := by decide +kernel
theorem d_LW_law_426 : decode code 426 = .ok (.iaload, 1) := by decide +kernel
theorem d_LW_law_427 : decode code 427 = .ok (.invokevirtual 68, 3) := by decide +kernel
theorem d_LW_law_430 : decode code 430 = .ok (.if_icmp .eq 28, 3) := by decide +kernel
theorem d_LW_law_433 : decode code 433 = .ok (.iconst 0, 1) := by decide +kernel
theorem d_LW_law_434 : decode code 434 = .ok (.ireturn, 1) := by decide +kernel
theorem d_LW_law_435 : decode code 435 = .ok (.aload_n 1, 1) := by decide +kernel
theorem d_LW_law_436 : decode code 436 = .ok (.aload_n 0, 1) := by decide +kernel
theorem d_LW_law_437 : decode code 437 = .ok (.iload_n 3, 1) := by decide +kernel
theorem d_LW_law_438 : decode code 438 = .ok (.iconst 1, 1) := by decide +kernel
theorem d_LW_law_439 : decode code 439 = .ok (.iadd, 1) := by decide +kernel
theorem d_LW_law_440 : decode code 440 = .ok (.iaload, 1) := by decide +kernel
theorem d_LW_law_441 : decode code 441 = .ok (.invokevirtual 69, 3) := by decide +kernel
theorem d_LW_law_444 : decode code 444 = .ok (.aload_n 2, 1) := by decide +kernel
theorem d_LW_law_445 : decode code 445 = .ok (.aload_n 0, 1) := by decide +kernel
theorem d_LW_law_446 : decode code 446 = .ok (.iload_n 3, 1) := by decide +kernel
theorem d_LW_law_447 : decode code 447 = .ok (.iconst 1, 1) := by decide +kernel
theorem d_LW_law_448 : decode code 448 = .ok (.iadd, 1) := by decide +kernel
theorem d_LW_law_449 : decode code 449 = .ok (.iaload, 1) := by decide +kernel
theorem d_LW_law_450 : decode code 450 = .ok (.invokevirtual 72, 3) := by decide +kernel
theorem d_LW_law_453 : decode code 453 = .ok (.if_icmp .eq 5, 3) := by decide +kernel
theorem d_LW_law_456 : decode code 456 = .ok (.iconst 0, 1) := by decide +kernel
theorem d_LW_law_457 : decode code 457 = .ok (.ireturn, 1) := by decide +kernel
theorem d_LW_law_458 : decode code 458 = .ok (.iinc 3 3, 3) := by decide +kernel
theorem d_LW_law_461 : decode code 461 = .ok (.goto (-433), 3) := by decide +kernel
theorem d_LW_law_464 : decode code 464 = .ok (.iconst 1, 1) := by decide +kernel
theorem d_LW_law_465 : decode code 465 = .ok (.ireturn, 1) := by decide +kernel
end
section
-- ===== what the methods compute, as trees in the order of their branches (no machine in sight) =====
-- FileStatus (ff_), FileStatus$Act (fa_)
def ff_isS (x : Int32) : Int32 := if x < 0 then 0 else if 100 ≤ x then 0 else 1
def ff_ex2 (d : Int32) : Int32 := if 6 ≤ d then (if d = 6 then 5 else 6) else d
def ff_exc (x : Int32) : Int32 := if ff_isS x = 0 then -1 else ff_ex2 (x / 10)
def ff_pos (x : Int32) : Int32 := if ff_isS x = 0 then -1 else if x = 0 then 1 else if x = 2 then 1 else if x = 4 then 1 else if x = 10 then 2 else if x = 14 then 3 else if x = 23 then 3 else if x = 46 then 3 else 0
def ff_area (x : Int32) : Int32 := if ff_isS x = 0 then -1 else if x = 0 then 1 else if x = 2 then 1 else if x = 4 then 2 else 0
def ff_ext (x og ac : Int32) : Int32 := if ff_isS x = 0 then -1 else 100 * x + 10 * og + ac
def ff_bo2 (a b d : Int32) : Int32 := if d = 0 then (if b ≤ a then b else a) else (if d ≤ 0 then b else a)
def ff_both (a b : Int32) : Int32 := if ff_isS a = 0 then -1 else if ff_isS b = 0 then -1 else ff_bo2 a b (ff_exc a - ff_exc b)
def ff_cnt (x md ps pm lt gd bd og : Int32) : Int32 := if x = 0 then md else if x = 1 then ps else if x = 2 then (if pm = 0 then 0 else 1) else if x = 3 then lt else if x = 4 then gd else if x = 5 then bd else if x = 6 then og else -1
def ff_phr2 (k : Int32) : Int32 := if 3 ≤ k then 3 else 4
def ff_phr1 (k dk : Int32) : Int32 := if dk = 0 then ff_phr2 k else 2
def ff_phr (k th dk : Int32) : Int32 := if k = 0 then 0 else if 3 ≤ k then ff_phr1 k dk else if th = 0 then ff_phr1 k dk else 1
def ff_opn (md nx op x : Int32) : Int32 := if md = -1 then (if x = 0 then 0 else if x = 1 then (if nx = 1 then 0 else if op = 0 then 35 else 5) else if x = 2 then 37 else if x = 3 then 39 else if x = 4 then 38 else if x = 5 then 30 else if x = 6 then 61 else 90) else 41
def ff_tg (a b gd : Int32) : Int32 := if a < 10 then (if b = 7 then gd else gd + 1) else gd
def ff_tb (a bd : Int32) : Int32 := if a < 10 then bd else bd + 1
def ff_mor (md nx x : Int32) : Int32 := if md = -1 then (if x < 0 then -4 else if x ≤ 3 then nx else -4) else -5
def ff_mon (md nx x : Int32) : Int32 := if md = -1 then (if x < 0 then nx else if x ≤ 3 then x else nx) else nx
def ff_b01 (op : Int32) : Int32 := if op = 0 then 0 else 1
def ff_opr (md op : Int32) : Int32 := if md = -1 then ff_b01 op else -5
def ff_opo (md op x : Int32) : Int32 := if md = -1 then x else op
def ff_ome (s nx : Int32) : Int32 := if s = 5 then (if nx = 0 then 1 else if nx = 2 then 1 else 0) else 0
def ff_omd (s md nx : Int32) : Int32 := if 10 ≤ s then md else nx
def ff_ops (s ps : Int32) : Int32 := if 10 ≤ s then ps else 0
def ff_oem (s nx em : Int32) : Int32 := if 10 ≤ s then em else ff_ome s nx
def ff_der (x dx : Int32) : Int32 := if x < 1 then -4 else if x ≤ 6 then ff_b01 dx else -4
def ff_ded (x on : Int32) (f : Nat → Int32) : Nat → Int32 := if x < 1 then f else if x ≤ 6 then upd f x.toNatClampNeg on else f
def fa_for (v : Int32) : Int32 := if v ≤ 0 then 0 else 1
def fa_in (v md : Int32) : Int32 := if (v >>> (md &&& 31)) &&& 1 = 1 then 1 else 0
def fa_sts (f : Nat → Int32) (oc : Int32) : Int32 := if oc < 0 then 90 else if oc ≤ 8 then f oc.toNatClampNeg else 90
def ff_ah2 (k ps : Int32) : Int32 := if k = 0 then (if ps < 2 then -1 else 46) else -1
def ff_ah (v br k og md ps pm : Int32) : Int32 := if md = -1 then 42 else if fa_for v = 0 then 90 else if fa_in v md = 0 then br else if k = 3 then (if og = 0 then (if pm = 0 then 43 else ff_ah2 k ps) else ff_ah2 k ps) else ff_ah2 k ps
def ff_s1 (k em s : Int32) : Int32 := if k = 0 then (if em = 0 then s else 10) else s
def ff_e1 (k em : Int32) : Int32 := if em = 0 then 0 else if k = 0 then 0 else 1
def ff_st (ah k em s : Int32) : Int32 := if ah = -1 then ff_s1 k em s else ah
def ff_em (ah k em : Int32) : Int32 := if ah = -1 then ff_e1 k em else em
def ff_rd (k : Int32) : Int32 := if k = 0 then 1 else if k = 1 then 1 else if k = 5 then 1 else 0
def ff_to (rd s : Int32) : Int32 := if rd = 0 then 0 else ff_pos s
def ff_ps (to ps : Int32) : Int32 := if to ≤ 0 then ps else to
def ff_pm (k s : Int32) : Int32 := if 2 ≤ k then 0 else if ff_area s ≤ 0 then 0 else 1
def ff_md (k s md : Int32) : Int32 := if k = 6 then (if s = 0 then -1 else md) else md
def ff_org (x : Int32) : Int32 := if 0 ≤ x then (if x ≤ 2 then x else 2) else 0
-- FileStatusModel (mm_)
def mm_mor (io mo x : Int32) : Int32 := if io = 0 then (if x < 0 then -4 else if x ≤ 3 then mo else -4) else -5
def mm_mon (io mo x : Int32) : Int32 := if io = 0 then (if x < 0 then mo else if x ≤ 3 then x else mo) else mo
def mm_g (a : Int32) : Int32 := if 10 ≤ a then 0 else 1
def mm_b (a : Int32) : Int32 := if 10 ≤ a then 1 else 0
def mm_opn (io mo op x : Int32) : Int32 := if io = 0 then (if x = 0 then 0 else if x = 1 then (if mo = 1 then 0 else if op = 0 then 35 else 5) else if x = 2 then 37 else if x = 3 then 39 else if x = 4 then 38 else if x = 5 then 30 else if x = 6 then 61 else 90) else 41
def mm_ok (s : Int32) : Int32 := if s = 0 then 1 else if s = 5 then 1 else 0
def mm_oio (s io : Int32) : Int32 := if mm_ok s = 1 then 1 else io
def mm_ops (s ps : Int32) : Int32 := if mm_ok s = 1 then 0 else ps
def mm_ono (s mo no : Int32) : Int32 := if mm_ok s = 1 then ff_ome s mo else no
def mm_rds (mo : Int32) : Int32 := if mo = 0 then 1 else if mo = 2 then 1 else 0
def mm_c1 (og k : Int32) : Int32 := if og = 0 then (if k = 1 then 1 else if k = 4 then 1 else if k = 5 then 1 else 0) else 0
def mm_c2 (k mo : Int32) : Int32 := if k = 0 then (if mm_rds mo = 0 then 1 else 0) else if k = 1 then (if mm_rds mo = 0 then 1 else 0) else if k = 5 then (if mm_rds mo = 0 then 1 else 0) else 0
def mm_c3 (k mo og : Int32) : Int32 := if k = 2 then (if mo = 0 then 1 else if mo = 2 then (if og = 0 then 1 else 0) else 0) else 0
def mm_c4 (k mo : Int32) : Int32 := if k = 3 then (if mo = 2 then 0 else 1) else if k = 4 then (if mo = 2 then 0 else 1) else 0
def mm_c5 (k og pm : Int32) : Int32 := if k = 3 then (if og = 0 then (if pm = 0 then 1 else 0) else 0) else 0
def mm_c6 (k ps : Int32) : Int32 := if k = 0 then (if ps = 2 then 1 else if ps = 3 then 1 else 0) else 0
def mm_ah (io og k mo ps pm : Int32) : Int32 := if io = 0 then 42 else if mm_c1 og k = 1 then 90 else if mm_c2 k mo = 1 then 47 else if mm_c3 k mo og = 1 then 48 else if mm_c4 k mo = 1 then 49 else if mm_c5 k og pm = 1 then 43 else if mm_c6 k ps = 1 then 46 else 0
def mm_key (og : Int32) : Int32 := if og ≤ 0 then 0 else 1
def mm_idx (og : Int32) : Int32 := if og = 2 then 1 else 0
def mm_by (k oc og ky ix : Int32) : Int32 := if oc = 0 then 0 else if oc = 1 then (if k = 0 then 10 else if k = 1 then 23 else if k = 4 then 23 else if k = 5 then 23 else if k = 3 then (if ky = 0 then 90 else 23) else 90) else if oc = 2 then (if ix = 0 then 90 else if 4 ≤ k then 90 else 2) else if oc = 3 then (if k = 2 then (if ky = 0 then (if k = 3 then (if ix = 0 then 90 else 22) else 90) else 22) else (if k = 3 then (if ix = 0 then 90 else 22) else 90)) else if oc = 4 then (if k = 2 then (if ky = 0 then 34 else 24) else if k = 0 then (if og = 1 then 14 else 90) else 90) else if oc = 5 then 30 else if oc = 6 then (if 6 ≤ k then 90 else 51) else if oc = 7 then (if 2 ≤ k then (if 4 ≤ k then 90 else 44) else 4) else if oc = 8 then (if ix = 0 then 90 else if k = 2 then 21 else if k = 3 then 21 else 90) else 90
def mm_s1 (k no s : Int32) : Int32 := if k = 0 then (if no = 0 then s else 10) else s
def mm_st (ah k no s : Int32) : Int32 := if ah = 0 then mm_s1 k no s else ah
def mm_p0 (s : Int32) : Int32 := if s = 0 then 1 else if s = 2 then 1 else if s = 4 then 1 else 0
def mm_pm (k s : Int32) : Int32 := if k = 0 then mm_p0 s else if k = 1 then mm_p0 s else 0
def mm_no (k io mo s no : Int32) : Int32 := if k = 0 then (if io = 0 then no else if mm_rds mo = 0 then no else if s = 10 then 0 else no) else no
def mm_mov (s : Int32) : Int32 := if s = 0 then 1 else if s = 2 then 1 else if s = 4 then 1 else if s = 10 then 2 else if s = 14 then 3 else if s = 23 then 3 else if s = 46 then 3 else 0
def mm_to (rd s : Int32) : Int32 := if rd = 0 then 0 else mm_mov s
def mm_ps (to io ps : Int32) : Int32 := if to = 0 then ps else if io = 0 then ps else to
def mm_io (k s io : Int32) : Int32 := if k = 6 then (if s = 0 then 0 else io) else io
def mm_kd2 (d : Int32) : Int32 := if 5 ≤ d then (if 7 ≤ d then 6 else 5) else d
def mm_kd (x : Int32) : Int32 := mm_kd2 (x / 10)
def mm_exc (x : Int32) : Int32 := if ff_isS x = 0 then -1 else mm_kd x
def mm_phr1 (k dk : Int32) : Int32 := if dk = 0 then (if k ≤ 2 then 4 else 3) else 2
def mm_phr (k th dk : Int32) : Int32 := if k = 0 then 0 else if th = 0 then mm_phr1 k dk else if 3 ≤ k then mm_phr1 k dk else 1
def mm_pos (x : Int32) : Int32 := if ff_isS x = 0 then -1 else mm_mov x
def mm_opr (io op : Int32) : Int32 := if io = 0 then ff_b01 op else -5
def mm_opo (io op x : Int32) : Int32 := if io = 0 then x else op
def mm_both (a b : Int32) : Int32 := if ff_isS a = 0 then -1 else if ff_isS b = 0 then -1 else if mm_kd a = mm_kd b then (if b ≤ a then b else a) else if mm_kd a ≤ mm_kd b then b else a
def mm_cnt (x io mo ps pm lt gd bd og : Int32) : Int32 := if x = 0 then (if io = 0 then -1 else mo) else if x = 1 then ps else if x = 2 then (if pm = 0 then 0 else 1) else if x = 3 then lt else if x = 4 then gd else if x = 5 then bd else if x = 6 then og else -1
end
section
theorem fz_i7 {x : Int32} (h : ¬ x < 1) (h2 : x ≤ 6) : vp_in x 7 := by
  rw [vp_in_iff]
  rw [Int32.lt_iff_toInt_lt] at h
  rw [Int32.le_iff_toInt_le] at h2
  have e1 : (1 : Int32).toInt = 1 := rfl
  have e6 : (6 : Int32).toInt = 6 := rfl
  omega
set_option maxHeartbeats 4000000 in
set_option maxRecDepth 100000 in
theorem c_FS_isStatus (l : Launch) (dC : Nat → ClassId) (dI : Nat → Nat → Nat) (cI cZ cC cS : ClassId) (a : Int32) : Met l y_FS_isStatus (.code y_FS_isStatus b_FS_isStatus 1 ((some .boolean)) :: tw) rm_FS_isStatus (va_Pc [.int a] (P0 dC dI cI cZ cC cS [])) (QcRead (ff_isS a)) 0 0 (fun _ => False) := by
  refine Met.ofW (cc := b_FS_isStatus) (maxL := 1) (ret := (some .boolean)) (by decide) rfl ?_
  intro p e s m args below meth c s₁ B hml hv
  obtain ⟨rfl, hK, hP⟩ := hv
  have hx := B.exec
  have hb := B.bytes
  have hr := B.returns
  have hts : ∀ w ∈ tw, w.before _ s = true := fun w h => atoms_spec (ws := .code y_FS_isStatus b_FS_isStatus 1 ((some .boolean)) :: tw) B.pre w (List.mem_cons_of_mem _ h)
  have hown : s.vm.findClass "FileStatus" = some m.cls := findClass_of_methodNamed B.named
  have hlk := B.notSynchronized
  have hP : va_P (dC, dI) classes [] s.heap := hP
  have hl := lv_entry [.int a] (n := 1) (Nat.le_of_ble_eq_true rfl)
  rw [lg_entry_eq]
  generalize (lg_sl [.int a] ++ List.replicate (1 - (lg_sl [.int a]).length) Slot.unset).toArray = ls at hl ⊢
  have hl : lv_has ls 1 [(0, .int a)] := hl
  refine lv_iload_n (pc := 0) hx hb d_FS_isStatus_0 rfl (lv_at hl 0 rfl) ?_
  refine lv_if_lt (tgt := 14) (pc := 1) hx hb d_FS_isStatus_1 (by decide) (fun c_1 => ?_) (fun c_1 => ?_)
  · refine lv_iconst (v := 0) (pc := 14) hx hb d_FS_isStatus_14 (by decide) ?_
    exact fz_retZ hx hb hr hlk rfl (by first | (simp only [ff_isS, if_pos c_1]; done) | rfl | contradiction) d_FS_isStatus_15
  · refine lv_iload_n (pc := 4) hx hb d_FS_isStatus_4 rfl (lv_at hl 0 rfl) ?_
    refine lv_bipush (v := 100) (pc := 5) hx hb d_FS_isStatus_5 (by decide) ?_
    refine lv_icmp_ge (tgt := 14) (pc := 7) hx hb d_FS_isStatus_7 (by decide) (fun c_2 => ?_) (fun c_2 => ?_)
    · refine lv_iconst (v := 0) (pc := 14) hx hb d_FS_isStatus_14 (by decide) ?_
      exact fz_retZ hx hb hr hlk rfl (by first | (simp only [ff_isS, if_neg c_1, if_pos c_2]; done) | rfl | contradiction) d_FS_isStatus_15
    · refine lv_iconst (v := 1) (pc := 10) hx hb d_FS_isStatus_10 (by decide) ?_
      refine lv_goto (tgt := 15) (pc := 11) hx hb d_FS_isStatus_11 (by decide) ?_
      exact fz_retZ hx hb hr hlk rfl (by first | (simp only [ff_isS, if_neg c_1, if_neg c_2]; done) | rfl | contradiction) d_FS_isStatus_15
set_option maxHeartbeats 4000000 in
set_option maxRecDepth 100000 in
theorem c_MD_isStatus (l : Launch) (dC : Nat → ClassId) (dI : Nat → Nat → Nat) (cI cZ cC cS : ClassId) (a : Int32) : Met l y_MD_isStatus (.code y_MD_isStatus b_MD_isStatus 1 ((some .boolean)) :: tw) rm_MD_isStatus (va_Pc [.int a] (P0 dC dI cI cZ cC cS [])) (QcRead (ff_isS a)) 0 0 (fun _ => False) := by
  refine Met.ofW (cc := b_MD_isStatus) (maxL := 1) (ret := (some .boolean)) (by decide) rfl ?_
  intro p e s m args below meth c s₁ B hml hv
  obtain ⟨rfl, hK, hP⟩ := hv
  have hx := B.exec
  have hb := B.bytes
  have hr := B.returns
  have hts : ∀ w ∈ tw, w.before _ s = true := fun w h => atoms_spec (ws := .code y_MD_isStatus b_MD_isStatus 1 ((some .boolean)) :: tw) B.pre w (List.mem_cons_of_mem _ h)
  have hown : s.vm.findClass "FileStatusModel" = some m.cls := findClass_of_methodNamed B.named
  have hlk := B.notSynchronized
  have hP : va_P (dC, dI) classes [] s.heap := hP
  have hl := lv_entry [.int a] (n := 1) (Nat.le_of_ble_eq_true rfl)
  rw [lg_entry_eq]
  generalize (lg_sl [.int a] ++ List.replicate (1 - (lg_sl [.int a]).length) Slot.unset).toArray = ls at hl ⊢
  have hl : lv_has ls 1 [(0, .int a)] := hl
  refine lv_iload_n (pc := 0) hx hb d_MD_isStatus_0 rfl (lv_at hl 0 rfl) ?_
  refine lv_if_lt (tgt := 14) (pc := 1) hx hb d_MD_isStatus_1 (by decide) (fun c_1 => ?_) (fun c_1 => ?_)
  · refine lv_iconst (v := 0) (pc := 14) hx hb d_MD_isStatus_14 (by decide) ?_
    exact fz_retZ hx hb hr hlk rfl (by first | (simp only [ff_isS, if_pos c_1]; done) | rfl | contradiction) d_MD_isStatus_15
  · refine lv_iload_n (pc := 4) hx hb d_MD_isStatus_4 rfl (lv_at hl 0 rfl) ?_
    refine lv_bipush (v := 100) (pc := 5) hx hb d_MD_isStatus_5 (by decide) ?_
    refine lv_icmp_ge (tgt := 14) (pc := 7) hx hb d_MD_isStatus_7 (by decide) (fun c_2 => ?_) (fun c_2 => ?_)
    · refine lv_iconst (v := 0) (pc := 14) hx hb d_MD_isStatus_14 (by decide) ?_
      exact fz_retZ hx hb hr hlk rfl (by first | (simp only [ff_isS, if_neg c_1, if_pos c_2]; done) | rfl | contradiction) d_MD_isStatus_15
    · refine lv_iconst (v := 1) (pc := 10) hx hb d_MD_isStatus_10 (by decide) ?_
      refine lv_goto (tgt := 15) (pc := 11) hx hb d_MD_isStatus_11 (by decide) ?_
      exact fz_retZ hx hb hr hlk rfl (by first | (simp only [ff_isS, if_neg c_1, if_neg c_2]; done) | rfl | contradiction) d_MD_isStatus_15
set_option maxHeartbeats 4000000 in
set_option maxRecDepth 100000 in
theorem c_FS_exception (l : Launch) (dC : Nat → ClassId) (dI : Nat → Nat → Nat) (cI cZ cC cS : ClassId) (h0 : Nat) (a : Int32) : Met l y_FS_exception (.code y_FS_exception b_FS_exception 3 ((some .int)) :: tw) rm_FS_exception (va_Pc [.ref h0, .int a] (P0 dC dI cI cZ cC cS [])) (QcRead (ff_exc a)) 0 0 (fun _ => False) := by
  refine Met.ofW (cc := b_FS_exception) (maxL := 3) (ret := (some .int)) (by decide) rfl ?_
  intro p e s m args below meth c s₁ B hml hv
  obtain ⟨rfl, hK, hP⟩ := hv
  have hx := B.exec
  have hb := B.bytes
  have hr := B.returns
  have hts : ∀ w ∈ tw, w.before _ s = true := fun w h => atoms_spec (ws := .code y_FS_exception b_FS_exception 3 ((some .int)) :: tw) B.pre w (List.mem_cons_of_mem _ h)
  have hown : s.vm.findClass "FileStatus" = some m.cls := findClass_of_methodNamed B.named
  have hlk := B.notSynchronized
  have hP : va_P (dC, dI) classes [] s.heap := hP
  have hl := lv_entry [.ref h0, .int a] (n := 3) (Nat.le_of_ble_eq_true rfl)
  rw [lg_entry_eq]
  generalize (lg_sl [.ref h0, .int a] ++ List.replicate (3 - (lg_sl [.ref h0, .int a]).length) Slot.unset).toArray = ls at hl ⊢
  have hl : lv_has ls 3 [(0, .ref h0), (1, .int a)] := hl
  refine lv_iload_n (pc := 0) hx hb d_FS_exception_0 rfl (lv_at hl 1 rfl) ?_
  refine fz_rS (pc := 1) (As := [.int a]) (rest := []) ⟨hx, hb, hml, hown, hts⟩ (c_FS_isStatus l dC dI cI cZ cC cS a) (cs_FS_97 hts ⟨(Nat.le_of_ble_eq_true rfl), (Nat.le_of_ble_eq_true rfl)⟩) (fz_pre0 hK (hP.sub [] rfl)) rfl hl.1 rfl (Nat.le_of_ble_eq_true rfl) d_FS_exception_1 ⟨(Nat.le_of_ble_eq_true rfl), (Nat.le_of_ble_eq_true rfl)⟩ ?_
  refine lv_if_ne (tgt := 9) (pc := 4) hx hb d_FS_exception_4 (by decide) (fun c_1 => ?_) (fun c_1 => ?_)
  · refine lv_iload_n (pc := 9) hx hb d_FS_exception_9 rfl (lv_at hl 1 rfl) ?_
    refine lv_bipush (v := 10) (pc := 10) hx hb d_FS_exception_10 (by decide) ?_
    refine lv_idiv (pc := 12) hx hb d_FS_exception_12 (by decide) ?_
    refine lv_istore_n (lv' := [(2, .int (a / 10)), (0, .ref h0), (1, .int a)]) (pc := 13) hx hb d_FS_exception_13 rfl hl (by decide) rfl (fun ls hl => ?_)
    refine lv_iload_n (pc := 14) hx hb d_FS_exception_14 rfl (lv_at hl 0 rfl) ?_
    refine lv_bipush (v := 6) (pc := 15) hx hb d_FS_exception_15 (by decide) ?_
    refine lv_icmp_ge (tgt := 24) (pc := 17) hx hb d_FS_exception_17 (by decide) (fun c_2 => ?_) (fun c_2 => ?_)
    · refine lv_iload_n (pc := 24) hx hb d_FS_exception_24 rfl (lv_at hl 0 rfl) ?_
      refine lv_bipush (v := 6) (pc := 25) hx hb d_FS_exception_25 (by decide) ?_
      refine lv_icmp_ne (tgt := 34) (pc := 27) hx hb d_FS_exception_27 (by decide) (fun c_3 => ?_) (fun c_3 => ?_)
      · refine lv_bipush (v := 6) (pc := 34) hx hb d_FS_exception_34 (by decide) ?_
        exact fz_retR hx hb hr hlk (by first | (simp only [ff_exc, ff_ex2, if_neg c_1, if_pos c_2, if_neg c_3]; done) | rfl | contradiction) d_FS_exception_36
      · refine lv_iconst (v := 5) (pc := 30) hx hb d_FS_exception_30 (by decide) ?_
        refine lv_goto (tgt := 36) (pc := 31) hx hb d_FS_exception_31 (by decide) ?_
        exact fz_retR hx hb hr hlk (by first | (simp only [ff_exc, ff_ex2, if_neg c_1, if_pos c_2, if_pos c_3]; done) | rfl | contradiction) d_FS_exception_36
    · refine lv_iload_n (pc := 20) hx hb d_FS_exception_20 rfl (lv_at hl 0 rfl) ?_
      refine lv_goto (tgt := 36) (pc := 21) hx hb d_FS_exception_21 (by decide) ?_
      exact fz_retR hx hb hr hlk (by first | (simp only [ff_exc, ff_ex2, if_neg c_1, if_neg c_2]; done) | rfl | contradiction) d_FS_exception_36
  · refine lv_iconst (v := (-1)) (pc := 7) hx hb d_FS_exception_7 (by decide) ?_
    exact fz_retR hx hb hr hlk (by first | (simp only [ff_exc, ff_ex2, if_pos c_1]; done) | rfl | contradiction) d_FS_exception_8
set_option maxHeartbeats 4000000 in
set_option maxRecDepth 100000 in
theorem c_FS_position (l : Launch) (dC : Nat → ClassId) (dI : Nat → Nat → Nat) (cI cZ cC cS : ClassId) (h0 : Nat) (a : Int32) : Met l y_FS_position (.code y_FS_position b_FS_position 2 ((some .int)) :: tw) rm_FS_position (va_Pc [.ref h0, .int a] (P0 dC dI cI cZ cC cS [])) (QcRead (ff_pos a)) 0 0 (fun _ => False) := by
  refine Met.ofW (cc := b_FS_position) (maxL := 2) (ret := (some .int)) (by decide) rfl ?_
  intro p e s m args below meth c s₁ B hml hv
  obtain ⟨rfl, hK, hP⟩ := hv
  have hx := B.exec
  have hb := B.bytes
  have hr := B.returns
  have hts : ∀ w ∈ tw, w.before _ s = true := fun w h => atoms_spec (ws := .code y_FS_position b_FS_position 2 ((some .int)) :: tw) B.pre w (List.mem_cons_of_mem _ h)
  have hown : s.vm.findClass "FileStatus" = some m.cls := findClass_of_methodNamed B.named
  have hlk := B.notSynchronized
  have hP : va_P (dC, dI) classes [] s.heap := hP
  have hl := lv_entry [.ref h0, .int a] (n := 2) (Nat.le_of_ble_eq_true rfl)
  rw [lg_entry_eq]
  generalize (lg_sl [.ref h0, .int a] ++ List.replicate (2 - (lg_sl [.ref h0, .int a]).length) Slot.unset).toArray = ls at hl ⊢
  have hl : lv_has ls 2 [(0, .ref h0), (1, .int a)] := hl
  refine lv_iload_n (pc := 0) hx hb d_FS_position_0 rfl (lv_at hl 1 rfl) ?_
  refine fz_rS (pc := 1) (As := [.int a]) (rest := []) ⟨hx, hb, hml, hown, hts⟩ (c_FS_isStatus l dC dI cI cZ cC cS a) (cs_FS_97 hts ⟨(Nat.le_of_ble_eq_true rfl), (Nat.le_of_ble_eq_true rfl)⟩) (fz_pre0 hK (hP.sub [] rfl)) rfl hl.1 rfl (Nat.le_of_ble_eq_true rfl) d_FS_position_1 ⟨(Nat.le_of_ble_eq_true rfl), (Nat.le_of_ble_eq_true rfl)⟩ ?_
  refine lv_if_ne (tgt := 9) (pc := 4) hx hb d_FS_position_4 (by decide) (fun c_1 => ?_) (fun c_1 => ?_)
  · refine lv_iload_n (pc := 9) hx hb d_FS_position_9 rfl (lv_at hl 1 rfl) ?_
    by_cases c_2 : a = 0
    · refine lv_lookup (tgt := 76) (off := 66) (pc := 10) hx hb d_FS_position_10 (by decide) (by rw [c_2]; first | done | decide) (by decide) ?_
      refine lv_iconst (v := 1) (pc := 76) hx hb d_FS_position_76 (by decide) ?_
      exact fz_retR hx hb hr hlk (by first | (simp only [ff_pos, if_neg c_1, if_pos c_2]; done) | rfl | contradiction) d_FS_position_77
    by_cases c_3 : a = 2
    · refine lv_lookup (tgt := 76) (off := 66) (pc := 10) hx hb d_FS_position_10 (by decide) (by rw [c_3]; first | done | decide) (by decide) ?_
      refine lv_iconst (v := 1) (pc := 76) hx hb d_FS_position_76 (by decide) ?_
      exact fz_retR hx hb hr hlk (by first | (simp only [ff_pos, if_neg c_1, if_neg c_2, if_pos c_3]; done) | rfl | contradiction) d_FS_position_77
    by_cases c_4 : a = 4
    · refine lv_lookup (tgt := 76) (off := 66) (pc := 10) hx hb d_FS_position_10 (by decide) (by rw [c_4]; first | done | decide) (by decide) ?_
      refine lv_iconst (v := 1) (pc := 76) hx hb d_FS_position_76 (by decide) ?_
      exact fz_retR hx hb hr hlk (by first | (simp only [ff_pos, if_neg c_1, if_neg c_2, if_neg c_3, if_pos c_4]; done) | rfl | contradiction) d_FS_position_77
    by_cases c_5 : a = 10
    · refine lv_lookup (tgt := 78) (off := 68) (pc := 10) hx hb d_FS_position_10 (by decide) (by rw [c_5]; first | done | decide) (by decide) ?_
      refine lv_iconst (v := 2) (pc := 78) hx hb d_FS_position_78 (by decide) ?_
      exact fz_retR hx hb hr hlk (by first | (simp only [ff_pos, if_neg c_1, if_neg c_2, if_neg c_3, if_neg c_4, if_pos c_5]; done) | rfl | contradiction) d_FS_position_79
    by_cases c_6 : a = 14
    · refine lv_lookup (tgt := 80) (off := 70) (pc := 10) hx hb d_FS_position_10 (by decide) (by rw [c_6]; first | done | decide) (by decide) ?_
      refine lv_iconst (v := 3) (pc := 80) hx hb d_FS_position_80 (by decide) ?_
      exact fz_retR hx hb hr hlk (by first | (simp only [ff_pos, if_neg c_1, if_neg c_2, if_neg c_3, if_neg c_4, if_neg c_5, if_pos c_6]; done) | rfl | contradiction) d_FS_position_81
    by_cases c_7 : a = 23
    · refine lv_lookup (tgt := 80) (off := 70) (pc := 10) hx hb d_FS_position_10 (by decide) (by rw [c_7]; first | done | decide) (by decide) ?_
      refine lv_iconst (v := 3) (pc := 80) hx hb d_FS_position_80 (by decide) ?_
      exact fz_retR hx hb hr hlk (by first | (simp only [ff_pos, if_neg c_1, if_neg c_2, if_neg c_3, if_neg c_4, if_neg c_5, if_neg c_6, if_pos c_7]; done) | rfl | contradiction) d_FS_position_81
    by_cases c_8 : a = 46
    · refine lv_lookup (tgt := 80) (off := 70) (pc := 10) hx hb d_FS_position_10 (by decide) (by rw [c_8]; first | done | decide) (by decide) ?_
      refine lv_iconst (v := 3) (pc := 80) hx hb d_FS_position_80 (by decide) ?_
      exact fz_retR hx hb hr hlk (by first | (simp only [ff_pos, if_neg c_1, if_neg c_2, if_neg c_3, if_neg c_4, if_neg c_5, if_neg c_6, if_neg c_7, if_pos c_8]; done) | rfl | contradiction) d_FS_position_81
    refine lv_lookup (tgt := 82) (off := 72) (pc := 10) hx hb d_FS_position_10 (by decide) (by show Op.lookupswitch.offset [(0, 66), (2, 66), (4, 66), (10, 68), (14, 70), (23, 70), (46, 70)] 72 _ = _; rw [lv_osw (a := 0) c_2 rfl, lv_osw (a := 2) c_3 rfl, lv_osw (a := 4) c_4 rfl, lv_osw (a := 10) c_5 rfl, lv_osw (a := 14) c_6 rfl, lv_osw (a := 23) c_7 rfl, lv_osw (a := 46) c_8 rfl]; rfl) (by decide) ?_
    refine lv_iconst (v := 0) (pc := 82) hx hb d_FS_position_82 (by decide) ?_
    exact fz_retR hx hb hr hlk (by first | (simp only [ff_pos, if_neg c_1, if_neg c_2, if_neg c_3, if_neg c_4, if_neg c_5, if_neg c_6, if_neg c_7, if_neg c_8]; done) | rfl | contradiction) d_FS_position_83
  · refine lv_iconst (v := (-1)) (pc := 7) hx hb d_FS_position_7 (by decide) ?_
    exact fz_retR hx hb hr hlk (by first | (simp only [ff_pos, if_pos c_1]; done) | rfl | contradiction) d_FS_position_8
set_option maxHeartbeats 4000000 in
set_option maxRecDepth 100000 in
theorem c_FS_area (l : Launch) (dC : Nat → ClassId) (dI : Nat → Nat → Nat) (cI cZ cC cS : ClassId) (h0 : Nat) (a : Int32) : Met l y_FS_area (.code y_FS_area b_FS_area 2 ((some .int)) :: tw) rm_FS_area (va_Pc [.ref h0, .int a] (P0 dC dI cI cZ cC cS [])) (QcRead (ff_area a)) 0 0 (fun _ => False) := by
  refine Met.ofW (cc := b_FS_area) (maxL := 2) (ret := (some .int)) (by decide) rfl ?_
  intro p e s m args below meth c s₁ B hml hv
  obtain ⟨rfl, hK, hP⟩ := hv
  have hx := B.exec
  have hb := B.bytes
  have hr := B.returns
  have hts : ∀ w ∈ tw, w.before _ s = true := fun w h => atoms_spec (ws := .code y_FS_area b_FS_area 2 ((some .int)) :: tw) B.pre w (List.mem_cons_of_mem _ h)
  have hown : s.vm.findClass "FileStatus" = some m.cls := findClass_of_methodNamed B.named
  have hlk := B.notSynchronized
  have hP : va_P (dC, dI) classes [] s.heap := hP
  have hl := lv_entry [.ref h0, .int a] (n := 2) (Nat.le_of_ble_eq_true rfl)
  rw [lg_entry_eq]
  generalize (lg_sl [.ref h0, .int a] ++ List.replicate (2 - (lg_sl [.ref h0, .int a]).length) Slot.unset).toArray = ls at hl ⊢
  have hl : lv_has ls 2 [(0, .ref h0), (1, .int a)] := hl
  refine lv_iload_n (pc := 0) hx hb d_FS_area_0 rfl (lv_at hl 1 rfl) ?_
  refine fz_rS (pc := 1) (As := [.int a]) (rest := []) ⟨hx, hb, hml, hown, hts⟩ (c_FS_isStatus l dC dI cI cZ cC cS a) (cs_FS_97 hts ⟨(Nat.le_of_ble_eq_true rfl), (Nat.le_of_ble_eq_true rfl)⟩) (fz_pre0 hK (hP.sub [] rfl)) rfl hl.1 rfl (Nat.le_of_ble_eq_true rfl) d_FS_area_1 ⟨(Nat.le_of_ble_eq_true rfl), (Nat.le_of_ble_eq_true rfl)⟩ ?_
  refine lv_if_ne (tgt := 11) (pc := 4) hx hb d_FS_area_4 (by decide) (fun c_1 => ?_) (fun c_1 => ?_)
  · refine lv_iload_n (pc := 11) hx hb d_FS_area_11 rfl (lv_at hl 1 rfl) ?_
    refine lv_if_eq (tgt := 20) (pc := 12) hx hb d_FS_area_12 (by decide) (fun c_2 => ?_) (fun c_2 => ?_)
    · refine lv_iconst (v := 1) (pc := 20) hx hb d_FS_area_20 (by decide) ?_
      refine lv_goto (tgt := 34) (pc := 21) hx hb d_FS_area_21 (by decide) ?_
      exact fz_retR hx hb hr hlk (by first | (simp only [ff_area, if_neg c_1, if_pos c_2]; done) | rfl | contradiction) d_FS_area_34
    · refine lv_iload_n (pc := 15) hx hb d_FS_area_15 rfl (lv_at hl 1 rfl) ?_
      refine lv_iconst (v := 2) (pc := 16) hx hb d_FS_area_16 (by decide) ?_
      refine lv_icmp_ne (tgt := 24) (pc := 17) hx hb d_FS_area_17 (by decide) (fun c_3 => ?_) (fun c_3 => ?_)
      · refine lv_iload_n (pc := 24) hx hb d_FS_area_24 rfl (lv_at hl 1 rfl) ?_
        refine lv_iconst (v := 4) (pc := 25) hx hb d_FS_area_25 (by decide) ?_
        refine lv_icmp_ne (tgt := 33) (pc := 26) hx hb d_FS_area_26 (by decide) (fun c_4 => ?_) (fun c_4 => ?_)
        · refine lv_iconst (v := 0) (pc := 33) hx hb d_FS_area_33 (by decide) ?_
          exact fz_retR hx hb hr hlk (by first | (simp only [ff_area, if_neg c_1, if_neg c_2, if_neg c_3, if_neg c_4]; done) | rfl | contradiction) d_FS_area_34
        · refine lv_iconst (v := 2) (pc := 29) hx hb d_FS_area_29 (by decide) ?_
          refine lv_goto (tgt := 34) (pc := 30) hx hb d_FS_area_30 (by decide) ?_
          exact fz_retR hx hb hr hlk (by first | (simp only [ff_area, if_neg c_1, if_neg c_2, if_neg c_3, if_pos c_4]; done) | rfl | contradiction) d_FS_area_34
      · refine lv_iconst (v := 1) (pc := 20) hx hb d_FS_area_20 (by decide) ?_
        refine lv_goto (tgt := 34) (pc := 21) hx hb d_FS_area_21 (by decide) ?_
        exact fz_retR hx hb hr hlk (by first | (simp only [ff_area, if_neg c_1, if_neg c_2, if_pos c_3]; done) | rfl | contradiction) d_FS_area_34
  · refine lv_iconst (v := (-1)) (pc := 7) hx hb d_FS_area_7 (by decide) ?_
    refine lv_goto (tgt := 34) (pc := 8) hx hb d_FS_area_8 (by decide) ?_
    exact fz_retR hx hb hr hlk (by first | (simp only [ff_area, if_pos c_1]; done) | rfl | contradiction) d_FS_area_34
set_option maxHeartbeats 4000000 in
set_option maxRecDepth 100000 in
theorem c_FS_both (l : Launch) (dC : Nat → ClassId) (dI : Nat → Nat → Nat) (cI cZ cC cS : ClassId) (h0 qa qd : Nat) (og md nx ps lt ac gd bd op pm em : Int32) (a b : Int32) : Met l y_FS_both (.code y_FS_both b_FS_both 4 ((some .int)) :: tw) rm_FS_both (va_Pc [.ref h0, .int a, .int b] (P0 dC dI cI cZ cC cS [(h0, FSo qa qd og md nx ps lt ac gd bd op pm em)])) (QcRead (ff_both a b)) 0 0 (fun _ => False) := by
  refine Met.ofW (cc := b_FS_both) (maxL := 4) (ret := (some .int)) (by decide) rfl ?_
  intro p e s m args below meth c s₁ B hml hv
  obtain ⟨rfl, hK, hP⟩ := hv
  have hx := B.exec
  have hb := B.bytes
  have hr := B.returns
  have hts : ∀ w ∈ tw, w.before _ s = true := fun w h => atoms_spec (ws := .code y_FS_both b_FS_both 4 ((some .int)) :: tw) B.pre w (List.mem_cons_of_mem _ h)
  have hown : s.vm.findClass "FileStatus" = some m.cls := findClass_of_methodNamed B.named
  have hlk := B.notSynchronized
  have hP : va_P (dC, dI) classes [(h0, FSo qa qd og md nx ps lt ac gd bd op pm em)] s.heap := hP
  have hl := lv_entry [.ref h0, .int a, .int b] (n := 4) (Nat.le_of_ble_eq_true rfl)
  rw [lg_entry_eq]
  generalize (lg_sl [.ref h0, .int a, .int b] ++ List.replicate (4 - (lg_sl [.ref h0, .int a, .int b]).length) Slot.unset).toArray = ls at hl ⊢
  have hl : lv_has ls 4 [(0, .ref h0), (1, .int a), (2, .int b)] := hl
  refine lv_iload_n (pc := 0) hx hb d_FS_both_0 rfl (lv_at hl 1 rfl) ?_
  refine fz_rS (pc := 1) (As := [.int a]) (rest := []) ⟨hx, hb, hml, hown, hts⟩ (c_FS_isStatus l dC dI cI cZ cC cS a) (cs_FS_97 hts ⟨(Nat.le_of_ble_eq_true rfl), (Nat.le_of_ble_eq_true rfl)⟩) (fz_pre0 hK (hP.sub [] rfl)) rfl hl.1 rfl (Nat.le_of_ble_eq_true rfl) d_FS_both_1 ⟨(Nat.le_of_ble_eq_true rfl), (Nat.le_of_ble_eq_true rfl)⟩ ?_
  refine lv_if_eq (tgt := 14) (pc := 4) hx hb d_FS_both_4 (by decide) (fun c_1 => ?_) (fun c_1 => ?_)
  · refine lv_iconst (v := (-1)) (pc := 14) hx hb d_FS_both_14 (by decide) ?_
    exact fz_retR hx hb hr hlk (by first | (simp only [ff_both, ff_bo2, if_pos c_1]; done) | rfl | contradiction) d_FS_both_15
  · refine lv_iload_n (pc := 7) hx hb d_FS_both_7 rfl (lv_at hl 2 rfl) ?_
    refine fz_rS (pc := 8) (As := [.int b]) (rest := []) ⟨hx, hb, hml, hown, hts⟩ (c_FS_isStatus l dC dI cI cZ cC cS b) (cs_FS_97 hts ⟨(Nat.le_of_ble_eq_true rfl), (Nat.le_of_ble_eq_true rfl)⟩) (fz_pre0 hK (hP.sub [] rfl)) rfl hl.1 rfl (Nat.le_of_ble_eq_true rfl) d_FS_both_8 ⟨(Nat.le_of_ble_eq_true rfl), (Nat.le_of_ble_eq_true rfl)⟩ ?_
    refine lv_if_ne (tgt := 16) (pc := 11) hx hb d_FS_both_11 (by decide) (fun c_2 => ?_) (fun c_2 => ?_)
    · refine lv_aload_n (pc := 16) hx hb d_FS_both_16 rfl (lv_at hl 0 rfl) ?_
      refine lv_iload_n (pc := 17) hx hb d_FS_both_17 rfl (lv_at hl 1 rfl) ?_
      refine fz_rV (pc := 18) (As := [.int a]) (rest := []) ⟨hx, hb, hml, hown, hts⟩ (c_FS_exception l dC dI cI cZ cC cS h0 a) (cs_FS_100 hts ⟨(Nat.le_of_ble_eq_true rfl), (Nat.le_of_ble_eq_true rfl)⟩) (fz_preV (q0 := 0) (ci := 0) hK hP rfl rfl (hP.sub [] rfl)) rfl hl.1 rfl (Nat.le_of_ble_eq_true rfl) d_FS_both_18 ⟨(Nat.le_of_ble_eq_true rfl), (Nat.le_of_ble_eq_true rfl)⟩ ?_
      refine lv_aload_n (pc := 21) hx hb d_FS_both_21 rfl (lv_at hl 0 rfl) ?_
      refine lv_iload_n (pc := 22) hx hb d_FS_both_22 rfl (lv_at hl 2 rfl) ?_
      refine fz_rV (pc := 23) (As := [.int b]) (rest := [.int (ff_exc a)]) ⟨hx, hb, hml, hown, hts⟩ (c_FS_exception l dC dI cI cZ cC cS h0 b) (cs_FS_100 hts ⟨(Nat.le_of_ble_eq_true rfl), (Nat.le_of_ble_eq_true rfl)⟩) (fz_preV (q0 := 0) (ci := 0) hK hP rfl rfl (hP.sub [] rfl)) rfl hl.1 rfl (Nat.le_of_ble_eq_true rfl) d_FS_both_23 ⟨(Nat.le_of_ble_eq_true rfl), (Nat.le_of_ble_eq_true rfl)⟩ ?_
      refine lv_isub (pc := 26) hx hb d_FS_both_26 ?_
      refine lv_istore_n (lv' := [(3, .int ((ff_exc a) - (ff_exc b))), (0, .ref h0), (1, .int a), (2, .int b)]) (pc := 27) hx hb d_FS_both_27 rfl hl (by decide) rfl (fun ls hl => ?_)
      refine lv_iload_n (pc := 28) hx hb d_FS_both_28 rfl (lv_at hl 0 rfl) ?_
      refine lv_if_eq (tgt := 44) (pc := 29) hx hb d_FS_both_29 (by decide) (fun c_3 => ?_) (fun c_3 => ?_)
      · refine lv_iload_n (pc := 44) hx hb d_FS_both_44 rfl (lv_at hl 2 rfl) ?_
        refine lv_iload_n (pc := 45) hx hb d_FS_both_45 rfl (lv_at hl 3 rfl) ?_
        refine lv_icmp_ge (tgt := 53) (pc := 46) hx hb d_FS_both_46 (by decide) (fun c_4 => ?_) (fun c_4 => ?_)
        · refine lv_iload_n (pc := 53) hx hb d_FS_both_53 rfl (lv_at hl 3 rfl) ?_
          exact fz_retR hx hb hr hlk (by first | (simp only [ff_both, ff_bo2, if_neg c_1, if_neg c_2, if_pos c_3, if_pos c_4]; done) | rfl | contradiction) d_FS_both_54
        · refine lv_iload_n (pc := 49) hx hb d_FS_both_49 rfl (lv_at hl 2 rfl) ?_
          refine lv_goto (tgt := 54) (pc := 50) hx hb d_FS_both_50 (by decide) ?_
          exact fz_retR hx hb hr hlk (by first | (simp only [ff_both, ff_bo2, if_neg c_1, if_neg c_2, if_pos c_3, if_neg c_4]; done) | rfl | contradiction) d_FS_both_54
      · refine lv_iload_n (pc := 32) hx hb d_FS_both_32 rfl (lv_at hl 0 rfl) ?_
        refine lv_if_le (tgt := 40) (pc := 33) hx hb d_FS_both_33 (by decide) (fun c_5 => ?_) (fun c_5 => ?_)
        · refine lv_iload_n (pc := 40) hx hb d_FS_both_40 rfl (lv_at hl 3 rfl) ?_
          refine lv_goto (tgt := 54) (pc := 41) hx hb d_FS_both_41 (by decide) ?_
          exact fz_retR hx hb hr hlk (by first | (simp only [ff_both, ff_bo2, if_neg c_1, if_neg c_2, if_neg c_3, if_pos c_5]; done) | rfl | contradiction) d_FS_both_54
        · refine lv_iload_n (pc := 36) hx hb d_FS_both_36 rfl (lv_at hl 2 rfl) ?_
          refine lv_goto (tgt := 54) (pc := 37) hx hb d_FS_both_37 (by decide) ?_
          exact fz_retR hx hb hr hlk (by first | (simp only [ff_both, ff_bo2, if_neg c_1, if_neg c_2, if_neg c_3, if_neg c_5]; done) | rfl | contradiction) d_FS_both_54
    · refine lv_iconst (v := (-1)) (pc := 14) hx hb d_FS_both_14 (by decide) ?_
      exact fz_retR hx hb hr hlk (by first | (simp only [ff_both, ff_bo2, if_neg c_1, if_pos c_2]; done) | rfl | contradiction) d_FS_both_15
set_option maxHeartbeats 4000000 in
set_option maxRecDepth 100000 in
theorem c_FS_extended (l : Launch) (dC : Nat → ClassId) (dI : Nat → Nat → Nat) (cI cZ cC cS : ClassId) (h0 qa qd : Nat) (og md nx ps lt ac gd bd op pm em : Int32) (a : Int32) : Met l y_FS_extended (.code y_FS_extended b_FS_extended 2 ((some .int)) :: tw) rm_FS_extended (va_Pc [.ref h0, .int a] (P0 dC dI cI cZ cC cS [(h0, FSo qa qd og md nx ps lt ac gd bd op pm em)])) (QcRead (ff_ext a og ac)) 0 0 (fun _ => False) := by
  refine Met.ofW (cc := b_FS_extended) (maxL := 2) (ret := (some .int)) (by decide) rfl ?_
  intro p e s m args below meth c s₁ B hml hv
  obtain ⟨rfl, hK, hP⟩ := hv
  have hx := B.exec
  have hb := B.bytes
  have hr := B.returns
  have hts : ∀ w ∈ tw, w.before _ s = true := fun w h => atoms_spec (ws := .code y_FS_extended b_FS_extended 2 ((some .int)) :: tw) B.pre w (List.mem_cons_of_mem _ h)
  have hown : s.vm.findClass "FileStatus" = some m.cls := findClass_of_methodNamed B.named
  have hlk := B.notSynchronized
  have hP : va_P (dC, dI) classes [(h0, FSo qa qd og md nx ps lt ac gd bd op pm em)] s.heap := hP
  have hl := lv_entry [.ref h0, .int a] (n := 2) (Nat.le_of_ble_eq_true rfl)
  rw [lg_entry_eq]
  generalize (lg_sl [.ref h0, .int a] ++ List.replicate (2 - (lg_sl [.ref h0, .int a]).length) Slot.unset).toArray = ls at hl ⊢
  have hl : lv_has ls 2 [(0, .ref h0), (1, .int a)] := hl
  refine lv_iload_n (pc := 0) hx hb d_FS_extended_0 rfl (lv_at hl 1 rfl) ?_
  refine fz_rS (pc := 1) (As := [.int a]) (rest := []) ⟨hx, hb, hml, hown, hts⟩ (c_FS_isStatus l dC dI cI cZ cC cS a) (cs_FS_97 hts ⟨(Nat.le_of_ble_eq_true rfl), (Nat.le_of_ble_eq_true rfl)⟩) (fz_pre0 hK (hP.sub [] rfl)) rfl hl.1 rfl (Nat.le_of_ble_eq_true rfl) d_FS_extended_1 ⟨(Nat.le_of_ble_eq_true rfl), (Nat.le_of_ble_eq_true rfl)⟩ ?_
  refine lv_if_eq (tgt := 27) (pc := 4) hx hb d_FS_extended_4 (by decide) (fun c_1 => ?_) (fun c_1 => ?_)
  · refine lv_iconst (v := (-1)) (pc := 27) hx hb d_FS_extended_27 (by decide) ?_
    exact fz_retR hx hb hr hlk (by first | (simp only [ff_ext, if_pos c_1]; done) | rfl | contradiction) d_FS_extended_28
  · refine lv_bipush (v := 100) (pc := 7) hx hb d_FS_extended_7 (by decide) ?_
    refine lv_iload_n (pc := 9) hx hb d_FS_extended_9 rfl (lv_at hl 1 rfl) ?_
    refine lv_imul (pc := 10) hx hb d_FS_extended_10 ?_
    refine lv_bipush (v := 10) (pc := 11) hx hb d_FS_extended_11 (by decide) ?_
    refine lv_aload_n (pc := 13) hx hb d_FS_extended_13 rfl (lv_at hl 0 rfl) ?_
    refine gt_FS_organisation (pc := 14) hx hb hts hown hK hP 0 rfl rfl d_FS_extended_14 ?_
    refine lv_imul (pc := 17) hx hb d_FS_extended_17 ?_
    refine lv_iadd (pc := 18) hx hb d_FS_extended_18 ?_
    refine lv_aload_n (pc := 19) hx hb d_FS_extended_19 rfl (lv_at hl 0 rfl) ?_
    refine gt_FS_act (pc := 20) hx hb hts hown hK hP 0 rfl rfl d_FS_extended_20 ?_
    refine lv_iadd (pc := 23) hx hb d_FS_extended_23 ?_
    refine lv_goto (tgt := 28) (pc := 24) hx hb d_FS_extended_24 (by decide) ?_
    exact fz_retR hx hb hr hlk (by first | (simp only [ff_ext, if_neg c_1]; done) | rfl | contradiction) d_FS_extended_28
set_option maxHeartbeats 4000000 in
set_option maxRecDepth 100000 in
theorem c_FS_count (l : Launch) (dC : Nat → ClassId) (dI : Nat → Nat → Nat) (cI cZ cC cS : ClassId) (h0 qa qd : Nat) (og md nx ps lt ac gd bd op pm em : Int32) (a : Int32) : Met l y_FS_count (.code y_FS_count b_FS_count 2 ((some .int)) :: tw) rm_FS_count (va_Pc [.ref h0, .int a] (P0 dC dI cI cZ cC cS [(h0, FSo qa qd og md nx ps lt ac gd bd op pm em)])) (QcRead (ff_cnt a md ps pm lt gd bd og)) 0 0 (fun _ => False) := by
  refine Met.ofW (cc := b_FS_count) (maxL := 2) (ret := (some .int)) (by decide) rfl ?_
  intro p e s m args below meth c s₁ B hml hv
  obtain ⟨rfl, hK, hP⟩ := hv
  have hx := B.exec
  have hb := B.bytes
  have hr := B.returns
  have hts : ∀ w ∈ tw, w.before _ s = true := fun w h => atoms_spec (ws := .code y_FS_count b_FS_count 2 ((some .int)) :: tw) B.pre w (List.mem_cons_of_mem _ h)
  have hown : s.vm.findClass "FileStatus" = some m.cls := findClass_of_methodNamed B.named
  have hlk := B.notSynchronized
  have hP : va_P (dC, dI) classes [(h0, FSo qa qd og md nx ps lt ac gd bd op pm em)] s.heap := hP
  have hl := lv_entry [.ref h0, .int a] (n := 2) (Nat.le_of_ble_eq_true rfl)
  rw [lg_entry_eq]
  generalize (lg_sl [.ref h0, .int a] ++ List.replicate (2 - (lg_sl [.ref h0, .int a]).length) Slot.unset).toArray = ls at hl ⊢
  have hl : lv_has ls 2 [(0, .ref h0), (1, .int a)] := hl
  refine lv_iload_n (pc := 0) hx hb d_FS_count_0 rfl (lv_at hl 1 rfl) ?_
  by_cases c_1 : a = 0
  · refine lv_tableIn (tgt := 44) (off := 43) (pc := 1) hx hb d_FS_count_1 (by rw [c_1]; first | done | decide) (by rw [c_1]; first | done | decide) (by rw [c_1]; first | done | decide) (by decide) ?_
    refine lv_aload_n (pc := 44) hx hb d_FS_count_44 rfl (lv_at hl 0 rfl) ?_
    refine gt_FS_mode (pc := 45) hx hb hts hown hK hP 0 rfl rfl d_FS_count_45 ?_
    exact fz_retR hx hb hr hlk (by first | (simp only [ff_cnt, if_pos c_1]; done) | rfl | contradiction) d_FS_count_48
  by_cases c_2 : a = 1
  · refine lv_tableIn (tgt := 49) (off := 48) (pc := 1) hx hb d_FS_count_1 (by rw [c_2]; first | done | decide) (by rw [c_2]; first | done | decide) (by rw [c_2]; first | done | decide) (by decide) ?_
    refine lv_aload_n (pc := 49) hx hb d_FS_count_49 rfl (lv_at hl 0 rfl) ?_
    refine gt_FS_position (pc := 50) hx hb hts hown hK hP 0 rfl rfl d_FS_count_50 ?_
    exact fz_retR hx hb hr hlk (by first | (simp only [ff_cnt, if_neg c_1, if_pos c_2]; done) | rfl | contradiction) d_FS_count_53
  by_cases c_3 : a = 2
  · refine lv_tableIn (tgt := 54) (off := 53) (pc := 1) hx hb d_FS_count_1 (by rw [c_3]; first | done | decide) (by rw [c_3]; first | done | decide) (by rw [c_3]; first | done | decide) (by decide) ?_
    refine lv_aload_n (pc := 54) hx hb d_FS_count_54 rfl (lv_at hl 0 rfl) ?_
    refine gt_FS_permit (pc := 55) hx hb hts hown hK hP 0 rfl rfl d_FS_count_55 ?_
    refine lv_if_eq (tgt := 65) (pc := 58) hx hb d_FS_count_58 (by decide) (fun c_4 => ?_) (fun c_4 => ?_)
    · refine lv_iconst (v := 0) (pc := 65) hx hb d_FS_count_65 (by decide) ?_
      exact fz_retR hx hb hr hlk (by first | (simp only [ff_cnt, if_neg c_1, if_neg c_2, if_pos c_3, if_pos c_4]; done) | rfl | contradiction) d_FS_count_66
    · refine lv_iconst (v := 1) (pc := 61) hx hb d_FS_count_61 (by decide) ?_
      refine lv_goto (tgt := 66) (pc := 62) hx hb d_FS_count_62 (by decide) ?_
      exact fz_retR hx hb hr hlk (by first | (simp only [ff_cnt, if_neg c_1, if_neg c_2, if_pos c_3, if_neg c_4]; done) | rfl | contradiction) d_FS_count_66
  by_cases c_5 : a = 3
  · refine lv_tableIn (tgt := 67) (off := 66) (pc := 1) hx hb d_FS_count_1 (by rw [c_5]; first | done | decide) (by rw [c_5]; first | done | decide) (by rw [c_5]; first | done | decide) (by decide) ?_
    refine lv_aload_n (pc := 67) hx hb d_FS_count_67 rfl (lv_at hl 0 rfl) ?_
    refine gt_FS_latest (pc := 68) hx hb hts hown hK hP 0 rfl rfl d_FS_count_68 ?_
    exact fz_retR hx hb hr hlk (by first | (simp only [ff_cnt, if_neg c_1, if_neg c_2, if_neg c_3, if_pos c_5]; done) | rfl | contradiction) d_FS_count_71
  by_cases c_6 : a = 4
  · refine lv_tableIn (tgt := 72) (off := 71) (pc := 1) hx hb d_FS_count_1 (by rw [c_6]; first | done | decide) (by rw [c_6]; first | done | decide) (by rw [c_6]; first | done | decide) (by decide) ?_
    refine lv_aload_n (pc := 72) hx hb d_FS_count_72 rfl (lv_at hl 0 rfl) ?_
    refine gt_FS_good (pc := 73) hx hb hts hown hK hP 0 rfl rfl d_FS_count_73 ?_
    exact fz_retR hx hb hr hlk (by first | (simp only [ff_cnt, if_neg c_1, if_neg c_2, if_neg c_3, if_neg c_5, if_pos c_6]; done) | rfl | contradiction) d_FS_count_76
  by_cases c_7 : a = 5
  · refine lv_tableIn (tgt := 77) (off := 76) (pc := 1) hx hb d_FS_count_1 (by rw [c_7]; first | done | decide) (by rw [c_7]; first | done | decide) (by rw [c_7]; first | done | decide) (by decide) ?_
    refine lv_aload_n (pc := 77) hx hb d_FS_count_77 rfl (lv_at hl 0 rfl) ?_
    refine gt_FS_bad (pc := 78) hx hb hts hown hK hP 0 rfl rfl d_FS_count_78 ?_
    exact fz_retR hx hb hr hlk (by first | (simp only [ff_cnt, if_neg c_1, if_neg c_2, if_neg c_3, if_neg c_5, if_neg c_6, if_pos c_7]; done) | rfl | contradiction) d_FS_count_81
  by_cases c_8 : a = 6
  · refine lv_tableIn (tgt := 82) (off := 81) (pc := 1) hx hb d_FS_count_1 (by rw [c_8]; first | done | decide) (by rw [c_8]; first | done | decide) (by rw [c_8]; first | done | decide) (by decide) ?_
    refine lv_aload_n (pc := 82) hx hb d_FS_count_82 rfl (lv_at hl 0 rfl) ?_
    refine gt_FS_organisation (pc := 83) hx hb hts hown hK hP 0 rfl rfl d_FS_count_83 ?_
    exact fz_retR hx hb hr hlk (by first | (simp only [ff_cnt, if_neg c_1, if_neg c_2, if_neg c_3, if_neg c_5, if_neg c_6, if_neg c_7, if_pos c_8]; done) | rfl | contradiction) d_FS_count_86
  have n_1 := lv_neT (a := 0) c_1 rfl
  have n_2 := lv_neT (a := 1) c_2 rfl
  have n_3 := lv_neT (a := 2) c_3 rfl
  have n_5 := lv_neT (a := 3) c_5 rfl
  have n_6 := lv_neT (a := 4) c_6 rfl
  have n_7 := lv_neT (a := 5) c_7 rfl
  have n_8 := lv_neT (a := 6) c_8 rfl
  refine lv_tableOut (tgt := 87) (pc := 1) hx hb d_FS_count_1 (by omega) (by decide) ?_
  refine lv_iconst (v := (-1)) (pc := 87) hx hb d_FS_count_87 (by decide) ?_
  exact fz_retR hx hb hr hlk (by first | (simp only [ff_cnt, if_neg c_1, if_neg c_2, if_neg c_3, if_neg c_5, if_neg c_6, if_neg c_7, if_neg c_8]; done) | rfl | contradiction) d_FS_count_88
set_option maxHeartbeats 4000000 in
set_option maxRecDepth 100000 in
theorem c_FS_phrase (l : Launch) (dC : Nat → ClassId) (dI : Nat → Nat → Nat) (cI cZ cC cS : ClassId) (h0 qa qd : Nat) (og md nx ps lt ac gd bd op pm em : Int32) (f : Nat → Int32) (a : Int32) (hk : vp_in (ff_exc lt) 7) : Met l y_FS_phrase (.code y_FS_phrase b_FS_phrase 3 ((some .int)) :: tw) rm_FS_phrase (va_Pc [.ref h0, .int a] (P0 dC dI cI cZ cC cS [(h0, FSo qa qd og md nx ps lt ac gd bd op pm em), (qd, ARi cZ 7 f)])) (QcRead (ff_phr (ff_exc lt) a (f (ff_exc lt).toNatClampNeg))) 0 0 (fun _ => False) := by
  refine Met.ofW (cc := b_FS_phrase) (maxL := 3) (ret := (some .int)) (by decide) rfl ?_
  intro p e s m args below meth c s₁ B hml hv
  obtain ⟨rfl, hK, hP⟩ := hv
  have hx := B.exec
  have hb := B.bytes
  have hr := B.returns
  have hts : ∀ w ∈ tw, w.before _ s = true := fun w h => atoms_spec (ws := .code y_FS_phrase b_FS_phrase 3 ((some .int)) :: tw) B.pre w (List.mem_cons_of_mem _ h)
  have hown : s.vm.findClass "FileStatus" = some m.cls := findClass_of_methodNamed B.named
  have hlk := B.notSynchronized
  have hP : va_P (dC, dI) classes [(h0, FSo qa qd og md nx ps lt ac gd bd op pm em), (qd, ARi cZ 7 f)] s.heap := hP
  have hl := lv_entry [.ref h0, .int a] (n := 3) (Nat.le_of_ble_eq_true rfl)
  rw [lg_entry_eq]
  generalize (lg_sl [.ref h0, .int a] ++ List.replicate (3 - (lg_sl [.ref h0, .int a]).length) Slot.unset).toArray = ls at hl ⊢
  have hl : lv_has ls 3 [(0, .ref h0), (1, .int a)] := hl
  refine lv_aload_n (pc := 0) hx hb d_FS_phrase_0 rfl (lv_at hl 0 rfl) ?_
  refine lv_aload_n (pc := 1) hx hb d_FS_phrase_1 rfl (lv_at hl 0 rfl) ?_
  refine gt_FS_latest (pc := 2) hx hb hts hown hK hP 0 rfl rfl d_FS_phrase_2 ?_
  refine fz_rV (pc := 5) (As := [.int lt]) (rest := []) ⟨hx, hb, hml, hown, hts⟩ (c_FS_exception l dC dI cI cZ cC cS h0 lt) (cs_FS_100 hts ⟨(Nat.le_of_ble_eq_true rfl), (Nat.le_of_ble_eq_true rfl)⟩) (fz_preV (q0 := 0) (ci := 0) hK hP rfl rfl (hP.sub [] rfl)) rfl hl.1 rfl (Nat.le_of_ble_eq_true rfl) d_FS_phrase_5 ⟨(Nat.le_of_ble_eq_true rfl), (Nat.le_of_ble_eq_true rfl)⟩ ?_
  refine lv_istore_n (lv' := [(2, .int (ff_exc lt)), (0, .ref h0), (1, .int a)]) (pc := 8) hx hb d_FS_phrase_8 rfl hl (by decide) rfl (fun ls hl => ?_)
  refine lv_iload_n (pc := 9) hx hb d_FS_phrase_9 rfl (lv_at hl 0 rfl) ?_
  refine lv_if_ne (tgt := 15) (pc := 10) hx hb d_FS_phrase_10 (by decide) (fun c_1 => ?_) (fun c_1 => ?_)
  · refine lv_iload_n (pc := 15) hx hb d_FS_phrase_15 rfl (lv_at hl 0 rfl) ?_
    refine lv_iconst (v := 3) (pc := 16) hx hb d_FS_phrase_16 (by decide) ?_
    refine lv_icmp_ge (tgt := 26) (pc := 17) hx hb d_FS_phrase_17 (by decide) (fun c_2 => ?_) (fun c_2 => ?_)
    · refine lv_aload_n (pc := 26) hx hb d_FS_phrase_26 rfl (lv_at hl 1 rfl) ?_
      refine gt_FS_declaratives (pc := 27) hx hb hts hown hK hP 0 rfl rfl d_FS_phrase_27 ?_
      refine lv_iload_n (pc := 30) hx hb d_FS_phrase_30 rfl (lv_at hl 0 rfl) ?_
      refine fz_ldZ (pc := 31) hx hb hK hP (q0 := 1) rfl hk d_FS_phrase_31 ?_
      refine lv_if_eq (tgt := 37) (pc := 32) hx hb d_FS_phrase_32 (by decide) (fun c_3 => ?_) (fun c_3 => ?_)
      · refine lv_iload_n (pc := 37) hx hb d_FS_phrase_37 rfl (lv_at hl 0 rfl) ?_
        refine lv_iconst (v := 3) (pc := 38) hx hb d_FS_phrase_38 (by decide) ?_
        refine lv_icmp_ge (tgt := 46) (pc := 39) hx hb d_FS_phrase_39 (by decide) (fun c_4 => ?_) (fun c_4 => ?_)
        · refine lv_iconst (v := 3) (pc := 46) hx hb d_FS_phrase_46 (by decide) ?_
          exact fz_retR hx hb hr hlk (by first | (simp only [ff_phr, ff_phr1, ff_phr2, if_neg c_1, if_pos c_2, if_pos c_3, if_pos c_4]; done) | rfl | contradiction) d_FS_phrase_47
        · refine lv_iconst (v := 4) (pc := 42) hx hb d_FS_phrase_42 (by decide) ?_
          refine lv_goto (tgt := 47) (pc := 43) hx hb d_FS_phrase_43 (by decide) ?_
          exact fz_retR hx hb hr hlk (by first | (simp only [ff_phr, ff_phr1, ff_phr2, if_neg c_1, if_pos c_2, if_pos c_3, if_neg c_4]; done) | rfl | contradiction) d_FS_phrase_47
      · refine lv_iconst (v := 2) (pc := 35) hx hb d_FS_phrase_35 (by decide) ?_
        exact fz_retR hx hb hr hlk (by first | (simp only [ff_phr, ff_phr1, ff_phr2, if_neg c_1, if_pos c_2, if_neg c_3]; done) | rfl | contradiction) d_FS_phrase_36
    · refine lv_iload_n (pc := 20) hx hb d_FS_phrase_20 rfl (lv_at hl 2 rfl) ?_
      refine lv_if_eq (tgt := 26) (pc := 21) hx hb d_FS_phrase_21 (by decide) (fun c_5 => ?_) (fun c_5 => ?_)
      · refine lv_aload_n (pc := 26) hx hb d_FS_phrase_26 rfl (lv_at hl 1 rfl) ?_
        refine gt_FS_declaratives (pc := 27) hx hb hts hown hK hP 0 rfl rfl d_FS_phrase_27 ?_
        refine lv_iload_n (pc := 30) hx hb d_FS_phrase_30 rfl (lv_at hl 0 rfl) ?_
        refine fz_ldZ (pc := 31) hx hb hK hP (q0 := 1) rfl hk d_FS_phrase_31 ?_
        refine lv_if_eq (tgt := 37) (pc := 32) hx hb d_FS_phrase_32 (by decide) (fun c_6 => ?_) (fun c_6 => ?_)
        · refine lv_iload_n (pc := 37) hx hb d_FS_phrase_37 rfl (lv_at hl 0 rfl) ?_
          refine lv_iconst (v := 3) (pc := 38) hx hb d_FS_phrase_38 (by decide) ?_
          refine lv_icmp_ge (tgt := 46) (pc := 39) hx hb d_FS_phrase_39 (by decide) (fun c_7 => ?_) (fun c_7 => ?_)
          · refine lv_iconst (v := 3) (pc := 46) hx hb d_FS_phrase_46 (by decide) ?_
            exact fz_retR hx hb hr hlk (by first | (simp only [ff_phr, ff_phr1, ff_phr2, if_neg c_1, if_neg c_2, if_pos c_5, if_pos c_6, if_pos c_7]; done) | rfl | contradiction) d_FS_phrase_47
          · refine lv_iconst (v := 4) (pc := 42) hx hb d_FS_phrase_42 (by decide) ?_
            refine lv_goto (tgt := 47) (pc := 43) hx hb d_FS_phrase_43 (by decide) ?_
            exact fz_retR hx hb hr hlk (by first | (simp only [ff_phr, ff_phr1, ff_phr2, if_neg c_1, if_neg c_2, if_pos c_5, if_pos c_6, if_neg c_7]; done) | rfl | contradiction) d_FS_phrase_47
        · refine lv_iconst (v := 2) (pc := 35) hx hb d_FS_phrase_35 (by decide) ?_
          exact fz_retR hx hb hr hlk (by first | (simp only [ff_phr, ff_phr1, ff_phr2, if_neg c_1, if_neg c_2, if_pos c_5, if_neg c_6]; done) | rfl | contradiction) d_FS_phrase_36
      · refine lv_iconst (v := 1) (pc := 24) hx hb d_FS_phrase_24 (by decide) ?_
        exact fz_retR hx hb hr hlk (by first | (simp only [ff_phr, ff_phr1, ff_phr2, if_neg c_1, if_neg c_2, if_neg c_5]; done) | rfl | contradiction) d_FS_phrase_25
  · refine lv_iconst (v := 0) (pc := 13) hx hb d_FS_phrase_13 (by decide) ?_
    exact fz_retR hx hb hr hlk (by first | (simp only [ff_phr, ff_phr1, ff_phr2, if_pos c_1]; done) | rfl | contradiction) d_FS_phrase_14
set_option maxHeartbeats 4000000 in
set_option maxRecDepth 100000 in
theorem c_FS_opening (l : Launch) (dC : Nat → ClassId) (dI : Nat → Nat → Nat) (cI cZ cC cS : ClassId) (h0 qa qd : Nat) (og md nx ps lt ac gd bd op pm em : Int32) (a : Int32) : Met l y_FS_opening (.code y_FS_opening b_FS_opening 2 ((some .int)) :: tw) rm_FS_opening (va_Pc [.ref h0, .int a] (P0 dC dI cI cZ cC cS [(h0, FSo qa qd og md nx ps lt ac gd bd op pm em)])) (QcRead (ff_opn md nx op a)) 0 0 (fun _ => False) := by
  refine Met.ofW (cc := b_FS_opening) (maxL := 2) (ret := (some .int)) (by decide) rfl ?_
  intro p e s m args below meth c s₁ B hml hv
  obtain ⟨rfl, hK, hP⟩ := hv
  have hx := B.exec
  have hb := B.bytes
  have hr := B.returns
  have hts : ∀ w ∈ tw, w.before _ s = true := fun w h => atoms_spec (ws := .code y_FS_opening b_FS_opening 2 ((some .int)) :: tw) B.pre w (List.mem_cons_of_mem _ h)
  have hown : s.vm.findClass "FileStatus" = some m.cls := findClass_of_methodNamed B.named
  have hlk := B.notSynchronized
  have hP : va_P (dC, dI) classes [(h0, FSo qa qd og md nx ps lt ac gd bd op pm em)] s.heap := hP
  have hl := lv_entry [.ref h0, .int a] (n := 2) (Nat.le_of_ble_eq_true rfl)
  rw [lg_entry_eq]
  generalize (lg_sl [.ref h0, .int a] ++ List.replicate (2 - (lg_sl [.ref h0, .int a]).length) Slot.unset).toArray = ls at hl ⊢
  have hl : lv_has ls 2 [(0, .ref h0), (1, .int a)] := hl
  refine lv_aload_n (pc := 0) hx hb d_FS_opening_0 rfl (lv_at hl 0 rfl) ?_
  refine gt_FS_mode (pc := 1) hx hb hts hown hK hP 0 rfl rfl d_FS_opening_1 ?_
  refine lv_iconst (v := (-1)) (pc := 4) hx hb d_FS_opening_4 (by decide) ?_
  refine lv_icmp_eq (tgt := 11) (pc := 5) hx hb d_FS_opening_5 (by decide) (fun c_1 => ?_) (fun c_1 => ?_)
  · refine lv_iload_n (pc := 11) hx hb d_FS_opening_11 rfl (lv_at hl 1 rfl) ?_
    by_cases c_2 : a = 0
    · refine lv_tableIn (tgt := 56) (off := 44) (pc := 12) hx hb d_FS_opening_12 (by rw [c_2]; first | done | decide) (by rw [c_2]; first | done | decide) (by rw [c_2]; first | done | decide) (by decide) ?_
      refine lv_iconst (v := 0) (pc := 56) hx hb d_FS_opening_56 (by decide) ?_
      exact fz_retR hx hb hr hlk (by first | (simp only [ff_opn, if_pos c_1, if_pos c_2]; done) | rfl | contradiction) d_FS_opening_57
    by_cases c_3 : a = 1
    · refine lv_tableIn (tgt := 58) (off := 46) (pc := 12) hx hb d_FS_opening_12 (by rw [c_3]; first | done | decide) (by rw [c_3]; first | done | decide) (by rw [c_3]; first | done | decide) (by decide) ?_
      refine lv_aload_n (pc := 58) hx hb d_FS_opening_58 rfl (lv_at hl 0 rfl) ?_
      refine gt_FS_next (pc := 59) hx hb hts hown hK hP 0 rfl rfl d_FS_opening_59 ?_
      refine lv_iconst (v := 1) (pc := 62) hx hb d_FS_opening_62 (by decide) ?_
      refine lv_icmp_ne (tgt := 70) (pc := 63) hx hb d_FS_opening_63 (by decide) (fun c_4 => ?_) (fun c_4 => ?_)
      · refine lv_aload_n (pc := 70) hx hb d_FS_opening_70 rfl (lv_at hl 0 rfl) ?_
        refine gt_FS_optional (pc := 71) hx hb hts hown hK hP 0 rfl rfl d_FS_opening_71 ?_
        refine lv_if_eq (tgt := 81) (pc := 74) hx hb d_FS_opening_74 (by decide) (fun c_5 => ?_) (fun c_5 => ?_)
        · refine lv_bipush (v := 35) (pc := 81) hx hb d_FS_opening_81 (by decide) ?_
          exact fz_retR hx hb hr hlk (by first | (simp only [ff_opn, if_pos c_1, if_neg c_2, if_pos c_3, if_neg c_4, if_pos c_5]; done) | rfl | contradiction) d_FS_opening_83
        · refine lv_iconst (v := 5) (pc := 77) hx hb d_FS_opening_77 (by decide) ?_
          refine lv_goto (tgt := 83) (pc := 78) hx hb d_FS_opening_78 (by decide) ?_
          exact fz_retR hx hb hr hlk (by first | (simp only [ff_opn, if_pos c_1, if_neg c_2, if_pos c_3, if_neg c_4, if_neg c_5]; done) | rfl | contradiction) d_FS_opening_83
      · refine lv_iconst (v := 0) (pc := 66) hx hb d_FS_opening_66 (by decide) ?_
        refine lv_goto (tgt := 83) (pc := 67) hx hb d_FS_opening_67 (by decide) ?_
        exact fz_retR hx hb hr hlk (by first | (simp only [ff_opn, if_pos c_1, if_neg c_2, if_pos c_3, if_pos c_4]; done) | rfl | contradiction) d_FS_opening_83
    by_cases c_6 : a = 2
    · refine lv_tableIn (tgt := 84) (off := 72) (pc := 12) hx hb d_FS_opening_12 (by rw [c_6]; first | done | decide) (by rw [c_6]; first | done | decide) (by rw [c_6]; first | done | decide) (by decide) ?_
      refine lv_bipush (v := 37) (pc := 84) hx hb d_FS_opening_84 (by decide) ?_
      exact fz_retR hx hb hr hlk (by first | (simp only [ff_opn, if_pos c_1, if_neg c_2, if_neg c_3, if_pos c_6]; done) | rfl | contradiction) d_FS_opening_86
    by_cases c_7 : a = 3
    · refine lv_tableIn (tgt := 87) (off := 75) (pc := 12) hx hb d_FS_opening_12 (by rw [c_7]; first | done | decide) (by rw [c_7]; first | done | decide) (by rw [c_7]; first | done | decide) (by decide) ?_
      refine lv_bipush (v := 39) (pc := 87) hx hb d_FS_opening_87 (by decide) ?_
      exact fz_retR hx hb hr hlk (by first | (simp only [ff_opn, if_pos c_1, if_neg c_2, if_neg c_3, if_neg c_6, if_pos c_7]; done) | rfl | contradiction) d_FS_opening_89
    by_cases c_8 : a = 4
    · refine lv_tableIn (tgt := 90) (off := 78) (pc := 12) hx hb d_FS_opening_12 (by rw [c_8]; first | done | decide) (by rw [c_8]; first | done | decide) (by rw [c_8]; first | done | decide) (by decide) ?_
      refine lv_bipush (v := 38) (pc := 90) hx hb d_FS_opening_90 (by decide) ?_
      exact fz_retR hx hb hr hlk (by first | (simp only [ff_opn, if_pos c_1, if_neg c_2, if_neg c_3, if_neg c_6, if_neg c_7, if_pos c_8]; done) | rfl | contradiction) d_FS_opening_92
    by_cases c_9 : a = 5
    · refine lv_tableIn (tgt := 93) (off := 81) (pc := 12) hx hb d_FS_opening_12 (by rw [c_9]; first | done | decide) (by rw [c_9]; first | done | decide) (by rw [c_9]; first | done | decide) (by decide) ?_
      refine lv_bipush (v := 30) (pc := 93) hx hb d_FS_opening_93 (by decide) ?_
      exact fz_retR hx hb hr hlk (by first | (simp only [ff_opn, if_pos c_1, if_neg c_2, if_neg c_3, if_neg c_6, if_neg c_7, if_neg c_8, if_pos c_9]; done) | rfl | contradiction) d_FS_opening_95
    by_cases c_10 : a = 6
    · refine lv_tableIn (tgt := 96) (off := 84) (pc := 12) hx hb d_FS_opening_12 (by rw [c_10]; first | done | decide) (by rw [c_10]; first | done | decide) (by rw [c_10]; first | done | decide) (by decide) ?_
      refine lv_bipush (v := 61) (pc := 96) hx hb d_FS_opening_96 (by decide) ?_
      exact fz_retR hx hb hr hlk (by first | (simp only [ff_opn, if_pos c_1, if_neg c_2, if_neg c_3, if_neg c_6, if_neg c_7, if_neg c_8, if_neg c_9, if_pos c_10]; done) | rfl | contradiction) d_FS_opening_98
    have n_2 := lv_neT (a := 0) c_2 rfl
    have n_3 := lv_neT (a := 1) c_3 rfl
    have n_6 := lv_neT (a := 2) c_6 rfl
    have n_7 := lv_neT (a := 3) c_7 rfl
    have n_8 := lv_neT (a := 4) c_8 rfl
    have n_9 := lv_neT (a := 5) c_9 rfl
    have n_10 := lv_neT (a := 6) c_10 rfl
    refine lv_tableOut (tgt := 99) (pc := 12) hx hb d_FS_opening_12 (by omega) (by decide) ?_
    refine lv_bipush (v := 90) (pc := 99) hx hb d_FS_opening_99 (by decide) ?_
    exact fz_retR hx hb hr hlk (by first | (simp only [ff_opn, if_pos c_1, if_neg c_2, if_neg c_3, if_neg c_6, if_neg c_7, if_neg c_8, if_neg c_9, if_neg c_10]; done) | rfl | contradiction) d_FS_opening_101
  · refine lv_bipush (v := 41) (pc := 8) hx hb d_FS_opening_8 (by decide) ?_
    exact fz_retR hx hb hr hlk (by first | (simp only [ff_opn, if_neg c_1]; done) | rfl | contradiction) d_FS_opening_10
set_option maxHeartbeats 4000000 in
set_option maxRecDepth 100000 in
theorem c_FS_told (l : Launch) (dC : Nat → ClassId) (dI : Nat → Nat → Nat) (cI cZ cC cS : ClassId) (h0 qa qd : Nat) (og md nx ps lt ac gd bd op pm em : Int32) (a b : Int32) : Met l y_FS_told (.code y_FS_told b_FS_told 3 ((some .int)) :: tw) rm_FS_told (va_Pc [.ref h0, .int a, .int b] (P0 dC dI cI cZ cC cS [(h0, FSo qa qd og md nx ps lt ac gd bd op pm em)])) (QM dC dI h0 a (FSo qa qd og md nx ps a b (ff_tg a b gd) (ff_tb a bd) op pm em)) 0 0 (fun q => q = h0) := by
  refine Met.ofW (cc := b_FS_told) (maxL := 3) (ret := (some .int)) (by decide) rfl ?_
  intro p e s m args below meth c s₁ B hml hv
  obtain ⟨rfl, hK, hP⟩ := hv
  have hx := B.exec
  have hb := B.bytes
  have hr := B.returns
  have hts : ∀ w ∈ tw, w.before _ s = true := fun w h => atoms_spec (ws := .code y_FS_told b_FS_told 3 ((some .int)) :: tw) B.pre w (List.mem_cons_of_mem _ h)
  have hown : s.vm.findClass "FileStatus" = some m.cls := findClass_of_methodNamed B.named
  have hlk := B.notSynchronized
  have hP : va_P (dC, dI) classes [(h0, FSo qa qd og md nx ps lt ac gd bd op pm em)] s.heap := hP
  have hl := lv_entry [.ref h0, .int a, .int b] (n := 3) (Nat.le_of_ble_eq_true rfl)
  rw [lg_entry_eq]
  generalize (lg_sl [.ref h0, .int a, .int b] ++ List.replicate (3 - (lg_sl [.ref h0, .int a, .int b]).length) Slot.unset).toArray = ls at hl ⊢
  have hl : lv_has ls 3 [(0, .ref h0), (1, .int a), (2, .int b)] := hl
  have hD : va_D (fun q => q = h0) [(h0, FSo qa qd og md nx ps lt ac gd bd op pm em)] := fz_D1
  have hS : va_S (fun q => q = h0) s.heap s.heap [] := va_S.rf
  refine lv_aload_n (pc := 0) hx hb d_FS_told_0 rfl (lv_at hl 0 rfl) ?_
  refine lv_iload_n (pc := 1) hx hb d_FS_told_1 rfl (lv_at hl 1 rfl) ?_
  refine pt_FS_latest (ws' := [(h0, FSo qa qd og md nx ps a ac gd bd op pm em)]) (pc := 2) hx hb hts hown hK hP hD hS 0 rfl (Nat.le_of_ble_eq_true rfl) rfl d_FS_told_2 (fun H locs hP hD hS => ?_)
  refine lv_aload_n (pc := 5) hx hb d_FS_told_5 rfl (lv_at hl 0 rfl) ?_
  refine lv_iload_n (pc := 6) hx hb d_FS_told_6 rfl (lv_at hl 2 rfl) ?_
  refine pt_FS_act (ws' := [(h0, FSo qa qd og md nx ps a b gd bd op pm em)]) (pc := 7) hx hb hts hown hK hP hD hS 0 rfl (Nat.le_of_ble_eq_true rfl) rfl d_FS_told_7 (fun H locs hP hD hS => ?_)
  refine lv_iload_n (pc := 10) hx hb d_FS_told_10 rfl (lv_at hl 1 rfl) ?_
  refine lv_bipush (v := 10) (pc := 11) hx hb d_FS_told_11 (by decide) ?_
  refine lv_icmp_lt (tgt := 29) (pc := 13) hx hb d_FS_told_13 (by decide) (fun c_1 => ?_) (fun c_1 => ?_)
  · refine lv_iload_n (pc := 29) hx hb d_FS_told_29 rfl (lv_at hl 2 rfl) ?_
    refine lv_bipush (v := 7) (pc := 30) hx hb d_FS_told_30 (by decide) ?_
    refine lv_icmp_eq (tgt := 45) (pc := 32) hx hb d_FS_told_32 (by decide) (fun c_2 => ?_) (fun c_2 => ?_)
    · refine lv_iload_n (pc := 45) hx hb d_FS_told_45 rfl (lv_at hl 1 rfl) ?_
      exact fz_retM (q0 := 0) hx hb hr hlk hP hS rfl (by first | (simp only [ff_tg, ff_tb, if_pos c_1, if_pos c_2]; done) | rfl | contradiction) (by first | (simp only [ff_tg, ff_tb, if_pos c_1, if_pos c_2]; done) | rfl | contradiction) d_FS_told_46
    · refine lv_aload_n (pc := 35) hx hb d_FS_told_35 rfl (lv_at hl 0 rfl) ?_
      refine lv_dup (pc := 36) hx hb d_FS_told_36 rfl ?_
      refine gt_FS_good (pc := 37) hx hb hts hown hK hP 0 rfl rfl d_FS_told_37 ?_
      refine lv_iconst (v := 1) (pc := 40) hx hb d_FS_told_40 (by decide) ?_
      refine lv_iadd (pc := 41) hx hb d_FS_told_41 ?_
      refine pt_FS_good (ws' := [(h0, FSo qa qd og md nx ps a b (gd + 1) bd op pm em)]) (pc := 42) hx hb hts hown hK hP hD hS 0 rfl (Nat.le_of_ble_eq_true rfl) rfl d_FS_told_42 (fun H locs hP hD hS => ?_)
      refine lv_iload_n (pc := 45) hx hb d_FS_told_45 rfl (lv_at hl 1 rfl) ?_
      exact fz_retM (q0 := 0) hx hb hr hlk hP hS rfl (by first | (simp only [ff_tg, ff_tb, if_pos c_1, if_neg c_2]; done) | rfl | contradiction) (by first | (simp only [ff_tg, ff_tb, if_pos c_1, if_neg c_2]; done) | rfl | contradiction) d_FS_told_46
  · refine lv_aload_n (pc := 16) hx hb d_FS_told_16 rfl (lv_at hl 0 rfl) ?_
    refine lv_dup (pc := 17) hx hb d_FS_told_17 rfl ?_
    refine gt_FS_bad (pc := 18) hx hb hts hown hK hP 0 rfl rfl d_FS_told_18 ?_
    refine lv_iconst (v := 1) (pc := 21) hx hb d_FS_told_21 (by decide) ?_
    refine lv_iadd (pc := 22) hx hb d_FS_told_22 ?_
    refine pt_FS_bad (ws' := [(h0, FSo qa qd og md nx ps a b gd (bd + 1) op pm em)]) (pc := 23) hx hb hts hown hK hP hD hS 0 rfl (Nat.le_of_ble_eq_true rfl) rfl d_FS_told_23 (fun H locs hP hD hS => ?_)
    refine lv_goto (tgt := 45) (pc := 26) hx hb d_FS_told_26 (by decide) ?_
    refine lv_iload_n (pc := 45) hx hb d_FS_told_45 rfl (lv_at hl 1 rfl) ?_
    exact fz_retM (q0 := 0) hx hb hr hlk hP hS rfl (by first | (simp only [ff_tg, ff_tb, if_neg c_1]; done) | rfl | contradiction) (by first | (simp only [ff_tg, ff_tb, if_neg c_1]; done) | rfl | contradiction) d_FS_told_46
set_option maxHeartbeats 4000000 in
set_option maxRecDepth 100000 in
theorem c_FS_mode (l : Launch) (dC : Nat → ClassId) (dI : Nat → Nat → Nat) (cI cZ cC cS : ClassId) (h0 qa qd : Nat) (og md nx ps lt ac gd bd op pm em : Int32) (a : Int32) : Met l y_FS_mode (.code y_FS_mode b_FS_mode 3 ((some .int)) :: tw) rm_FS_mode (va_Pc [.ref h0, .int a] (P0 dC dI cI cZ cC cS [(h0, FSo qa qd og md nx ps lt ac gd bd op pm em)])) (QM dC dI h0 (ff_mor md nx a) (FSo qa qd og md (ff_mon md nx a) ps lt ac gd bd op pm em)) 0 0 (fun q => q = h0) := by
  refine Met.ofW (cc := b_FS_mode) (maxL := 3) (ret := (some .int)) (by decide) rfl ?_
  intro p e s m args below meth c s₁ B hml hv
  obtain ⟨rfl, hK, hP⟩ := hv
  have hx := B.exec
  have hb := B.bytes
  have hr := B.returns
  have hts : ∀ w ∈ tw, w.before _ s = true := fun w h => atoms_spec (ws := .code y_FS_mode b_FS_mode 3 ((some .int)) :: tw) B.pre w (List.mem_cons_of_mem _ h)
  have hown : s.vm.findClass "FileStatus" = some m.cls := findClass_of_methodNamed B.named
  have hlk := B.notSynchronized
  have hP : va_P (dC, dI) classes [(h0, FSo qa qd og md nx ps lt ac gd bd op pm em)] s.heap := hP
  have hl := lv_entry [.ref h0, .int a] (n := 3) (Nat.le_of_ble_eq_true rfl)
  rw [lg_entry_eq]
  generalize (lg_sl [.ref h0, .int a] ++ List.replicate (3 - (lg_sl [.ref h0, .int a]).length) Slot.unset).toArray = ls at hl ⊢
  have hl : lv_has ls 3 [(0, .ref h0), (1, .int a)] := hl
  have hD : va_D (fun q => q = h0) [(h0, FSo qa qd og md nx ps lt ac gd bd op pm em)] := fz_D1
  have hS : va_S (fun q => q = h0) s.heap s.heap [] := va_S.rf
  refine lv_aload_n (pc := 0) hx hb d_FS_mode_0 rfl (lv_at hl 0 rfl) ?_
  refine gt_FS_mode (pc := 1) hx hb hts hown hK hP 0 rfl rfl d_FS_mode_1 ?_
  refine lv_iconst (v := (-1)) (pc := 4) hx hb d_FS_mode_4 (by decide) ?_
  refine lv_icmp_eq (tgt := 11) (pc := 5) hx hb d_FS_mode_5 (by decide) (fun c_1 => ?_) (fun c_1 => ?_)
  · refine lv_iload_n (pc := 11) hx hb d_FS_mode_11 rfl (lv_at hl 1 rfl) ?_
    refine lv_if_lt (tgt := 20) (pc := 12) hx hb d_FS_mode_12 (by decide) (fun c_2 => ?_) (fun c_2 => ?_)
    · refine lv_bipush (v := (-4)) (pc := 20) hx hb d_FS_mode_20 (by decide) ?_
      exact fz_retM (q0 := 0) hx hb hr hlk hP hS rfl (by first | (simp only [ff_mor, ff_mon, if_pos c_1, if_pos c_2]; done) | rfl | contradiction) (by first | (simp only [ff_mor, ff_mon, if_pos c_1, if_pos c_2]; done) | rfl | contradiction) d_FS_mode_22
    · refine lv_iload_n (pc := 15) hx hb d_FS_mode_15 rfl (lv_at hl 1 rfl) ?_
      refine lv_iconst (v := 3) (pc := 16) hx hb d_FS_mode_16 (by decide) ?_
      refine lv_icmp_le (tgt := 23) (pc := 17) hx hb d_FS_mode_17 (by decide) (fun c_3 => ?_) (fun c_3 => ?_)
      · refine lv_aload_n (pc := 23) hx hb d_FS_mode_23 rfl (lv_at hl 0 rfl) ?_
        refine gt_FS_next (pc := 24) hx hb hts hown hK hP 0 rfl rfl d_FS_mode_24 ?_
        refine lv_istore_n (lv' := [(2, .int nx), (0, .ref h0), (1, .int a)]) (pc := 27) hx hb d_FS_mode_27 rfl hl (by decide) rfl (fun ls hl => ?_)
        refine lv_aload_n (pc := 28) hx hb d_FS_mode_28 rfl (lv_at hl 1 rfl) ?_
        refine lv_iload_n (pc := 29) hx hb d_FS_mode_29 rfl (lv_at hl 2 rfl) ?_
        refine pt_FS_next (ws' := [(h0, FSo qa qd og md a ps lt ac gd bd op pm em)]) (pc := 30) hx hb hts hown hK hP hD hS 0 rfl (Nat.le_of_ble_eq_true rfl) rfl d_FS_mode_30 (fun H locs hP hD hS => ?_)
        refine lv_iload_n (pc := 33) hx hb d_FS_mode_33 rfl (lv_at hl 0 rfl) ?_
        exact fz_retM (q0 := 0) hx hb hr hlk hP hS rfl (by first | (simp only [ff_mor, ff_mon, if_pos c_1, if_neg c_2, if_pos c_3]; done) | rfl | contradiction) (by first | (simp only [ff_mor, ff_mon, if_pos c_1, if_neg c_2, if_pos c_3]; done) | rfl | contradiction) d_FS_mode_34
      · refine lv_bipush (v := (-4)) (pc := 20) hx hb d_FS_mode_20 (by decide) ?_
        exact fz_retM (q0 := 0) hx hb hr hlk hP hS rfl (by first | (simp only [ff_mor, ff_mon, if_pos c_1, if_neg c_2, if_neg c_3]; done) | rfl | contradiction) (by first | (simp only [ff_mor, ff_mon, if_pos c_1, if_neg c_2, if_neg c_3]; done) | rfl | contradiction) d_FS_mode_22
  · refine lv_bipush (v := (-5)) (pc := 8) hx hb d_FS_mode_8 (by decide) ?_
    exact fz_retM (q0 := 0) hx hb hr hlk hP hS rfl (by first | (simp only [ff_mor, ff_mon, if_neg c_1]; done) | rfl | contradiction) (by first | (simp only [ff_mor, ff_mon, if_neg c_1]; done) | rfl | contradiction) d_FS_mode_10
set_option maxHeartbeats 4000000 in
set_option maxRecDepth 100000 in
theorem c_FS_optional (l : Launch) (dC : Nat → ClassId) (dI : Nat → Nat → Nat) (cI cZ cC cS : ClassId) (h0 qa qd : Nat) (og md nx ps lt ac gd bd op pm em : Int32) (a : Int32) (ha : a = 0 ∨ a = 1) : Met l y_FS_optional (.code y_FS_optional b_FS_optional 3 ((some .int)) :: tw) rm_FS_optional (va_Pc [.ref h0, .int a] (P0 dC dI cI cZ cC cS [(h0, FSo qa qd og md nx ps lt ac gd bd op pm em)])) (QM dC dI h0 (ff_opr md op) (FSo qa qd og md nx ps lt ac gd bd (ff_opo md op a) pm em)) 0 0 (fun q => q = h0) := by
  refine Met.ofW (cc := b_FS_optional) (maxL := 3) (ret := (some .int)) (by decide) rfl ?_
  intro p e s m args below meth c s₁ B hml hv
  obtain ⟨rfl, hK, hP⟩ := hv
  have hx := B.exec
  have hb := B.bytes
  have hr := B.returns
  have hts : ∀ w ∈ tw, w.before _ s = true := fun w h => atoms_spec (ws := .code y_FS_optional b_FS_optional 3 ((some .int)) :: tw) B.pre w (List.mem_cons_of_mem _ h)
  have hown : s.vm.findClass "FileStatus" = some m.cls := findClass_of_methodNamed B.named
  have hlk := B.notSynchronized
  have hP : va_P (dC, dI) classes [(h0, FSo qa qd og md nx ps lt ac gd bd op pm em)] s.heap := hP
  have hl := lv_entry [.ref h0, .int a] (n := 3) (Nat.le_of_ble_eq_true rfl)
  rw [lg_entry_eq]
  generalize (lg_sl [.ref h0, .int a] ++ List.replicate (3 - (lg_sl [.ref h0, .int a]).length) Slot.unset).toArray = ls at hl ⊢
  have hl : lv_has ls 3 [(0, .ref h0), (1, .int a)] := hl
  have hD : va_D (fun q => q = h0) [(h0, FSo qa qd og md nx ps lt ac gd bd op pm em)] := fz_D1
  have hS : va_S (fun q => q = h0) s.heap s.heap [] := va_S.rf
  refine lv_aload_n (pc := 0) hx hb d_FS_optional_0 rfl (lv_at hl 0 rfl) ?_
  refine gt_FS_mode (pc := 1) hx hb hts hown hK hP 0 rfl rfl d_FS_optional_1 ?_
  refine lv_iconst (v := (-1)) (pc := 4) hx hb d_FS_optional_4 (by decide) ?_
  refine lv_icmp_eq (tgt := 11) (pc := 5) hx hb d_FS_optional_5 (by decide) (fun c_1 => ?_) (fun c_1 => ?_)
  · refine lv_aload_n (pc := 11) hx hb d_FS_optional_11 rfl (lv_at hl 0 rfl) ?_
    refine gt_FS_optional (pc := 12) hx hb hts hown hK hP 0 rfl rfl d_FS_optional_12 ?_
    refine lv_if_eq (tgt := 22) (pc := 15) hx hb d_FS_optional_15 (by decide) (fun c_2 => ?_) (fun c_2 => ?_)
    · refine lv_iconst (v := 0) (pc := 22) hx hb d_FS_optional_22 (by decide) ?_
      refine lv_istore_n (lv' := [(2, .int 0), (0, .ref h0), (1, .int a)]) (pc := 23) hx hb d_FS_optional_23 rfl hl (by decide) rfl (fun ls hl => ?_)
      refine lv_aload_n (pc := 24) hx hb d_FS_optional_24 rfl (lv_at hl 1 rfl) ?_
      refine lv_iload_n (pc := 25) hx hb d_FS_optional_25 rfl (lv_at hl 2 rfl) ?_
      refine pt_FS_optional (ws' := [(h0, FSo qa qd og md nx ps lt ac gd bd a pm em)]) (pc := 26) hx hb hts hown hK hP hD hS 0 rfl (Nat.le_of_ble_eq_true rfl) rfl ha d_FS_optional_26 (fun H locs hP hD hS => ?_)
      refine lv_iload_n (pc := 29) hx hb d_FS_optional_29 rfl (lv_at hl 0 rfl) ?_
      exact fz_retM (q0 := 0) hx hb hr hlk hP hS rfl (by first | (simp only [ff_opr, ff_opo, ff_b01, if_pos c_1, if_pos c_2]; done) | rfl | contradiction) (by first | (simp only [ff_opr, ff_opo, ff_b01, if_pos c_1, if_pos c_2]; done) | rfl | contradiction) d_FS_optional_30
    · refine lv_iconst (v := 1) (pc := 18) hx hb d_FS_optional_18 (by decide) ?_
      refine lv_goto (tgt := 23) (pc := 19) hx hb d_FS_optional_19 (by decide) ?_
      refine lv_istore_n (lv' := [(2, .int 1), (0, .ref h0), (1, .int a)]) (pc := 23) hx hb d_FS_optional_23 rfl hl (by decide) rfl (fun ls hl => ?_)
      refine lv_aload_n (pc := 24) hx hb d_FS_optional_24 rfl (lv_at hl 1 rfl) ?_
      refine lv_iload_n (pc := 25) hx hb d_FS_optional_25 rfl (lv_at hl 2 rfl) ?_
      refine pt_FS_optional (ws' := [(h0, FSo qa qd og md nx ps lt ac gd bd a pm em)]) (pc := 26) hx hb hts hown hK hP hD hS 0 rfl (Nat.le_of_ble_eq_true rfl) rfl ha d_FS_optional_26 (fun H locs hP hD hS => ?_)
      refine lv_iload_n (pc := 29) hx hb d_FS_optional_29 rfl (lv_at hl 0 rfl) ?_
      exact fz_retM (q0 := 0) hx hb hr hlk hP hS rfl (by first | (simp only [ff_opr, ff_opo, ff_b01, if_pos c_1, if_neg c_2]; done) | rfl | contradiction) (by first | (simp only [ff_opr, ff_opo, ff_b01, if_pos c_1, if_neg c_2]; done) | rfl | contradiction) d_FS_optional_30
  · refine lv_bipush (v := (-5)) (pc := 8) hx hb d_FS_optional_8 (by decide) ?_
    exact fz_retM (q0 := 0) hx hb hr hlk hP hS rfl (by first | (simp only [ff_opr, ff_opo, ff_b01, if_neg c_1]; done) | rfl | contradiction) (by first | (simp only [ff_opr, ff_opo, ff_b01, if_neg c_1]; done) | rfl | contradiction) d_FS_optional_10
set_option maxHeartbeats 4000000 in
set_option maxRecDepth 100000 in
theorem c_FS_open (l : Launch) (dC : Nat → ClassId) (dI : Nat → Nat → Nat) (cI cZ cC cS : ClassId) (h0 qa qd : Nat) (og md nx ps lt ac gd bd op pm em : Int32) (a : Int32) : Met l y_FS_open (.code y_FS_open b_FS_open 3 ((some .int)) :: tw) rm_FS_open (va_Pc [.ref h0, .int a] (P0 dC dI cI cZ cC cS [(h0, FSo qa qd og md nx ps lt ac gd bd op pm em)])) (QM dC dI h0 (ff_opn md nx op a) (FSo qa qd og (ff_omd (ff_opn md nx op a) md nx) nx (ff_ops (ff_opn md nx op a) ps) (ff_opn md nx op a) 7 (ff_tg (ff_opn md nx op a) 7 gd) (ff_tb (ff_opn md nx op a) bd) op 0 (ff_oem (ff_opn md nx op a) nx em))) 0 0 (fun q => q = h0) := by
  refine Met.ofW (cc := b_FS_open) (maxL := 3) (ret := (some .int)) (by decide) rfl ?_
  intro p e s m args below meth c s₁ B hml hv
  obtain ⟨rfl, hK, hP⟩ := hv
  have hx := B.exec
  have hb := B.bytes
  have hr := B.returns
  have hts : ∀ w ∈ tw, w.before _ s = true := fun w h => atoms_spec (ws := .code y_FS_open b_FS_open 3 ((some .int)) :: tw) B.pre w (List.mem_cons_of_mem _ h)
  have hown : s.vm.findClass "FileStatus" = some m.cls := findClass_of_methodNamed B.named
  have hlk := B.notSynchronized
  have hP : va_P (dC, dI) classes [(h0, FSo qa qd og md nx ps lt ac gd bd op pm em)] s.heap := hP
  have hl := lv_entry [.ref h0, .int a] (n := 3) (Nat.le_of_ble_eq_true rfl)
  rw [lg_entry_eq]
  generalize (lg_sl [.ref h0, .int a] ++ List.replicate (3 - (lg_sl [.ref h0, .int a]).length) Slot.unset).toArray = ls at hl ⊢
  have hl : lv_has ls 3 [(0, .ref h0), (1, .int a)] := hl
  have hD : va_D (fun q => q = h0) [(h0, FSo qa qd og md nx ps lt ac gd bd op pm em)] := fz_D1
  have hS : va_S (fun q => q = h0) s.heap s.heap [] := va_S.rf
  refine lv_aload_n (pc := 0) hx hb d_FS_open_0 rfl (lv_at hl 0 rfl) ?_
  refine lv_iload_n (pc := 1) hx hb d_FS_open_1 rfl (lv_at hl 1 rfl) ?_
  refine fz_rV (pc := 2) (As := [.int a]) (rest := []) ⟨hx, hb, hml, hown, hts⟩ (c_FS_opening l dC dI cI cZ cC cS h0 qa qd og md nx ps lt ac gd bd op pm em a) (cs_FS_58 hts ⟨(Nat.le_of_ble_eq_true rfl), (Nat.le_of_ble_eq_true rfl)⟩) (fz_preV (q0 := 0) (ci := 0) hK hP rfl rfl (hP.sub [0] rfl)) rfl hl.1 rfl (Nat.le_of_ble_eq_true rfl) d_FS_open_2 ⟨(Nat.le_of_ble_eq_true rfl), (Nat.le_of_ble_eq_true rfl)⟩ ?_
  refine lv_istore_n (lv' := [(2, .int (ff_opn md nx op a)), (0, .ref h0), (1, .int a)]) (pc := 5) hx hb d_FS_open_5 rfl hl (by decide) rfl (fun ls hl => ?_)
  refine lv_aload_n (pc := 6) hx hb d_FS_open_6 rfl (lv_at hl 1 rfl) ?_
  refine lv_iconst (v := 0) (pc := 7) hx hb d_FS_open_7 (by decide) ?_
  refine pt_FS_permit (ws' := [(h0, FSo qa qd og md nx ps lt ac gd bd op 0 em)]) (pc := 8) hx hb hts hown hK hP hD hS 0 rfl (Nat.le_of_ble_eq_true rfl) rfl (Or.inl rfl) d_FS_open_8 (fun H locs hP hD hS => ?_)
  refine lv_iload_n (pc := 11) hx hb d_FS_open_11 rfl (lv_at hl 0 rfl) ?_
  refine lv_bipush (v := 10) (pc := 12) hx hb d_FS_open_12 (by decide) ?_
  refine lv_icmp_ge (tgt := 59) (pc := 14) hx hb d_FS_open_14 (by decide) (fun c_1 => ?_) (fun c_1 => ?_)
  · refine lv_aload_n (pc := 59) hx hb d_FS_open_59 rfl (lv_at hl 1 rfl) ?_
    refine lv_iload_n (pc := 60) hx hb d_FS_open_60 rfl (lv_at hl 0 rfl) ?_
    refine lv_bipush (v := 7) (pc := 61) hx hb d_FS_open_61 (by decide) ?_
    refine fz_cM (pc := 63) (As := [.int (ff_opn md nx op a), .int 7]) (rest := []) (q0 := 0) (ws' := [(h0, FSo qa qd og md nx ps (ff_opn md nx op a) 7 (ff_tg (ff_opn md nx op a) 7 gd) (ff_tb (ff_opn md nx op a) bd) op 0 em)]) ⟨hx, hb, hml, hown, hts⟩ (c_FS_told l dC dI cI cZ cC cS h0 qa qd og md nx ps lt ac gd bd op 0 em (ff_opn md nx op a) 7) (cs_FS_71 hts ⟨(Nat.le_of_ble_eq_true rfl), (Nat.le_of_ble_eq_true rfl)⟩) (fz_preV (q0 := 0) (ci := 0) hK hP rfl rfl (hP.sub [0] rfl)) rfl hl.1 rfl (Nat.le_of_ble_eq_true rfl) d_FS_open_63 ⟨(Nat.le_of_ble_eq_true rfl), (Nat.le_of_ble_eq_true rfl)⟩ hP hD hS rfl rfl (fun H locs hP hD hS => ?_)
    exact fz_retM (q0 := 0) hx hb hr hlk hP hS rfl (by first | (simp only [ff_omd, ff_ops, ff_oem, ff_ome, if_pos c_1]; done) | rfl | contradiction) (by first | (simp only [ff_omd, ff_ops, ff_oem, ff_ome, if_pos c_1]; done) | rfl | contradiction) d_FS_open_66
  · refine lv_aload_n (pc := 17) hx hb d_FS_open_17 rfl (lv_at hl 1 rfl) ?_
    refine lv_aload_n (pc := 18) hx hb d_FS_open_18 rfl (lv_at hl 1 rfl) ?_
    refine gt_FS_next (pc := 19) hx hb hts hown hK hP 0 rfl rfl d_FS_open_19 ?_
    refine pt_FS_mode (ws' := [(h0, FSo qa qd og nx nx ps lt ac gd bd op 0 em)]) (pc := 22) hx hb hts hown hK hP hD hS 0 rfl (Nat.le_of_ble_eq_true rfl) rfl d_FS_open_22 (fun H locs hP hD hS => ?_)
    refine lv_aload_n (pc := 25) hx hb d_FS_open_25 rfl (lv_at hl 1 rfl) ?_
    refine lv_iconst (v := 0) (pc := 26) hx hb d_FS_open_26 (by decide) ?_
    refine pt_FS_position (ws' := [(h0, FSo qa qd og nx nx 0 lt ac gd bd op 0 em)]) (pc := 27) hx hb hts hown hK hP hD hS 0 rfl (Nat.le_of_ble_eq_true rfl) rfl d_FS_open_27 (fun H locs hP hD hS => ?_)
    refine lv_aload_n (pc := 30) hx hb d_FS_open_30 rfl (lv_at hl 1 rfl) ?_
    refine lv_iload_n (pc := 31) hx hb d_FS_open_31 rfl (lv_at hl 0 rfl) ?_
    refine lv_iconst (v := 5) (pc := 32) hx hb d_FS_open_32 (by decide) ?_
    refine lv_icmp_ne (tgt := 55) (pc := 33) hx hb d_FS_open_33 (by decide) (fun c_2 => ?_) (fun c_2 => ?_)
    · refine lv_iconst (v := 0) (pc := 55) hx hb d_FS_open_55 (by decide) ?_
      refine pt_FS_empty (ws' := [(h0, FSo qa qd og nx nx 0 lt ac gd bd op 0 0)]) (pc := 56) hx hb hts hown hK hP hD hS 0 rfl (Nat.le_of_ble_eq_true rfl) rfl (Or.inl rfl) d_FS_open_56 (fun H locs hP hD hS => ?_)
      refine lv_aload_n (pc := 59) hx hb d_FS_open_59 rfl (lv_at hl 1 rfl) ?_
      refine lv_iload_n (pc := 60) hx hb d_FS_open_60 rfl (lv_at hl 0 rfl) ?_
      refine lv_bipush (v := 7) (pc := 61) hx hb d_FS_open_61 (by decide) ?_
      refine fz_cM (pc := 63) (As := [.int (ff_opn md nx op a), .int 7]) (rest := []) (q0 := 0) (ws' := [(h0, FSo qa qd og nx nx 0 (ff_opn md nx op a) 7 (ff_tg (ff_opn md nx op a) 7 gd) (ff_tb (ff_opn md nx op a) bd) op 0 0)]) ⟨hx, hb, hml, hown, hts⟩ (c_FS_told l dC dI cI cZ cC cS h0 qa qd og nx nx 0 lt ac gd bd op 0 0 (ff_opn md nx op a) 7) (cs_FS_71 hts ⟨(Nat.le_of_ble_eq_true rfl), (Nat.le_of_ble_eq_true rfl)⟩) (fz_preV (q0 := 0) (ci := 0) hK hP rfl rfl (hP.sub [0] rfl)) rfl hl.1 rfl (Nat.le_of_ble_eq_true rfl) d_FS_open_63 ⟨(Nat.le_of_ble_eq_true rfl), (Nat.le_of_ble_eq_true rfl)⟩ hP hD hS rfl rfl (fun H locs hP hD hS => ?_)
      exact fz_retM (q0 := 0) hx hb hr hlk hP hS rfl (by first | (simp only [ff_omd, ff_ops, ff_oem, ff_ome, if_neg c_1, if_neg c_2]; done) | rfl | contradiction) (by first | (simp only [ff_omd, ff_ops, ff_oem, ff_ome, if_neg c_1, if_neg c_2]; done) | rfl | contradiction) d_FS_open_66
    · refine lv_aload_n (pc := 36) hx hb d_FS_open_36 rfl (lv_at hl 1 rfl) ?_
      refine gt_FS_mode (pc := 37) hx hb hts hown hK hP 0 rfl rfl d_FS_open_37 ?_
      refine lv_if_eq (tgt := 51) (pc := 40) hx hb d_FS_open_40 (by decide) (fun c_3 => ?_) (fun c_3 => ?_)
      · refine lv_iconst (v := 1) (pc := 51) hx hb d_FS_open_51 (by decide) ?_
        refine lv_goto (tgt := 56) (pc := 52) hx hb d_FS_open_52 (by decide) ?_
        refine pt_FS_empty (ws' := [(h0, FSo qa qd og nx nx 0 lt ac gd bd op 0 1)]) (pc := 56) hx hb hts hown hK hP hD hS 0 rfl (Nat.le_of_ble_eq_true rfl) rfl (Or.inr rfl) d_FS_open_56 (fun H locs hP hD hS => ?_)
        refine lv_aload_n (pc := 59) hx hb d_FS_open_59 rfl (lv_at hl 1 rfl) ?_
        refine lv_iload_n (pc := 60) hx hb d_FS_open_60 rfl (lv_at hl 0 rfl) ?_
        refine lv_bipush (v := 7) (pc := 61) hx hb d_FS_open_61 (by decide) ?_
        refine fz_cM (pc := 63) (As := [.int (ff_opn md nx op a), .int 7]) (rest := []) (q0 := 0) (ws' := [(h0, FSo qa qd og nx nx 0 (ff_opn md nx op a) 7 (ff_tg (ff_opn md nx op a) 7 gd) (ff_tb (ff_opn md nx op a) bd) op 0 1)]) ⟨hx, hb, hml, hown, hts⟩ (c_FS_told l dC dI cI cZ cC cS h0 qa qd og nx nx 0 lt ac gd bd op 0 1 (ff_opn md nx op a) 7) (cs_FS_71 hts ⟨(Nat.le_of_ble_eq_true rfl), (Nat.le_of_ble_eq_true rfl)⟩) (fz_preV (q0 := 0) (ci := 0) hK hP rfl rfl (hP.sub [0] rfl)) rfl hl.1 rfl (Nat.le_of_ble_eq_true rfl) d_FS_open_63 ⟨(Nat.le_of_ble_eq_true rfl), (Nat.le_of_ble_eq_true rfl)⟩ hP hD hS rfl rfl (fun H locs hP hD hS => ?_)
        exact fz_retM (q0 := 0) hx hb hr hlk hP hS rfl (by first | (simp only [ff_omd, ff_ops, ff_oem, ff_ome, if_neg c_1, if_pos c_2, if_pos c_3]; done) | rfl | contradiction) (by first | (simp only [ff_omd, ff_ops, ff_oem, ff_ome, if_neg c_1, if_pos c_2, if_pos c_3]; done) | rfl | contradiction) d_FS_open_66
      · refine lv_aload_n (pc := 43) hx hb d_FS_open_43 rfl (lv_at hl 1 rfl) ?_
        refine gt_FS_mode (pc := 44) hx hb hts hown hK hP 0 rfl rfl d_FS_open_44 ?_
        refine lv_iconst (v := 2) (pc := 47) hx hb d_FS_open_47 (by decide) ?_
        refine lv_icmp_ne (tgt := 55) (pc := 48) hx hb d_FS_open_48 (by decide) (fun c_4 => ?_) (fun c_4 => ?_)
        · refine lv_iconst (v := 0) (pc := 55) hx hb d_FS_open_55 (by decide) ?_
          refine pt_FS_empty (ws' := [(h0, FSo qa qd og nx nx 0 lt ac gd bd op 0 0)]) (pc := 56) hx hb hts hown hK hP hD hS 0 rfl (Nat.le_of_ble_eq_true rfl) rfl (Or.inl rfl) d_FS_open_56 (fun H locs hP hD hS => ?_)
          refine lv_aload_n (pc := 59) hx hb d_FS_open_59 rfl (lv_at hl 1 rfl) ?_
          refine lv_iload_n (pc := 60) hx hb d_FS_open_60 rfl (lv_at hl 0 rfl) ?_
          refine lv_bipush (v := 7) (pc := 61) hx hb d_FS_open_61 (by decide) ?_
          refine fz_cM (pc := 63) (As := [.int (ff_opn md nx op a), .int 7]) (rest := []) (q0 := 0) (ws' := [(h0, FSo qa qd og nx nx 0 (ff_opn md nx op a) 7 (ff_tg (ff_opn md nx op a) 7 gd) (ff_tb (ff_opn md nx op a) bd) op 0 0)]) ⟨hx, hb, hml, hown, hts⟩ (c_FS_told l dC dI cI cZ cC cS h0 qa qd og nx nx 0 lt ac gd bd op 0 0 (ff_opn md nx op a) 7) (cs_FS_71 hts ⟨(Nat.le_of_ble_eq_true rfl), (Nat.le_of_ble_eq_true rfl)⟩) (fz_preV (q0 := 0) (ci := 0) hK hP rfl rfl (hP.sub [0] rfl)) rfl hl.1 rfl (Nat.le_of_ble_eq_true rfl) d_FS_open_63 ⟨(Nat.le_of_ble_eq_true rfl), (Nat.le_of_ble_eq_true rfl)⟩ hP hD hS rfl rfl (fun H locs hP hD hS => ?_)
          exact fz_retM (q0 := 0) hx hb hr hlk hP hS rfl (by first | (simp only [ff_omd, ff_ops, ff_oem, ff_ome, if_neg c_1, if_pos c_2, if_neg c_3, if_neg c_4]; done) | rfl | contradiction) (by first | (simp only [ff_omd, ff_ops, ff_oem, ff_ome, if_neg c_1, if_pos c_2, if_neg c_3, if_neg c_4]; done) | rfl | contradiction) d_FS_open_66
        · refine lv_iconst (v := 1) (pc := 51) hx hb d_FS_open_51 (by decide) ?_
          refine lv_goto (tgt := 56) (pc := 52) hx hb d_FS_open_52 (by decide) ?_
          refine pt_FS_empty (ws' := [(h0, FSo qa qd og nx nx 0 lt ac gd bd op 0 1)]) (pc := 56) hx hb hts hown hK hP hD hS 0 rfl (Nat.le_of_ble_eq_true rfl) rfl (Or.inr rfl) d_FS_open_56 (fun H locs hP hD hS => ?_)
          refine lv_aload_n (pc := 59) hx hb d_FS_open_59 rfl (lv_at hl 1 rfl) ?_
          refine lv_iload_n (pc := 60) hx hb d_FS_open_60 rfl (lv_at hl 0 rfl) ?_
          refine lv_bipush (v := 7) (pc := 61) hx hb d_FS_open_61 (by decide) ?_
          refine fz_cM (pc := 63) (As := [.int (ff_opn md nx op a), .int 7]) (rest := []) (q0 := 0) (ws' := [(h0, FSo qa qd og nx nx 0 (ff_opn md nx op a) 7 (ff_tg (ff_opn md nx op a) 7 gd) (ff_tb (ff_opn md nx op a) bd) op 0 1)]) ⟨hx, hb, hml, hown, hts⟩ (c_FS_told l dC dI cI cZ cC cS h0 qa qd og nx nx 0 lt ac gd bd op 0 1 (ff_opn md nx op a) 7) (cs_FS_71 hts ⟨(Nat.le_of_ble_eq_true rfl), (Nat.le_of_ble_eq_true rfl)⟩) (fz_preV (q0 := 0) (ci := 0) hK hP rfl rfl (hP.sub [0] rfl)) rfl hl.1 rfl (Nat.le_of_ble_eq_true rfl) d_FS_open_63 ⟨(Nat.le_of_ble_eq_true rfl), (Nat.le_of_ble_eq_true rfl)⟩ hP hD hS rfl rfl (fun H locs hP hD hS => ?_)
          exact fz_retM (q0 := 0) hx hb hr hlk hP hS rfl (by first | (simp only [ff_omd, ff_ops, ff_oem, ff_ome, if_neg c_1, if_pos c_2, if_neg c_3, if_pos c_4]; done) | rfl | contradiction) (by first | (simp only [ff_omd, ff_ops, ff_oem, ff_ome, if_neg c_1, if_pos c_2, if_neg c_3, if_pos c_4]; done) | rfl | contradiction) d_FS_open_66
set_option maxHeartbeats 4000000 in
set_option maxRecDepth 100000 in
theorem c_FS_declarative (l : Launch) (dC : Nat → ClassId) (dI : Nat → Nat → Nat) (cI cZ cC cS : ClassId) (h0 qa qd : Nat) (og md nx ps lt ac gd bd op pm em : Int32) (f : Nat → Int32) (a b : Int32) (ha : b = 0 ∨ b = 1) : Met l y_FS_declarative (.code y_FS_declarative b_FS_declarative 4 ((some .int)) :: tw) rm_FS_declarative (va_Pc [.ref h0, .int a, .int b] (P0 dC dI cI cZ cC cS [(h0, FSo qa qd og md nx ps lt ac gd bd op pm em), (qd, ARi cZ 7 f)])) (QM dC dI qd (ff_der a (f a.toNatClampNeg)) (ARi cZ 7 (ff_ded a b f))) 0 0 (fun q => q = qd) := by
  refine Met.ofW (cc := b_FS_declarative) (maxL := 4) (ret := (some .int)) (by decide) rfl ?_
  intro p e s m args below meth c s₁ B hml hv
  obtain ⟨rfl, hK, hP⟩ := hv
  have hx := B.exec
  have hb := B.bytes
  have hr := B.returns
  have hts : ∀ w ∈ tw, w.before _ s = true := fun w h => atoms_spec (ws := .code y_FS_declarative b_FS_declarative 4 ((some .int)) :: tw) B.pre w (List.mem_cons_of_mem _ h)
  have hown : s.vm.findClass "FileStatus" = some m.cls := findClass_of_methodNamed B.named
  have hlk := B.notSynchronized
  have hP : va_P (dC, dI) classes [(h0, FSo qa qd og md nx ps lt ac gd bd op pm em), (qd, ARi cZ 7 f)] s.heap := hP
  have hl := lv_entry [.ref h0, .int a, .int b] (n := 4) (Nat.le_of_ble_eq_true rfl)
  rw [lg_entry_eq]
  generalize (lg_sl [.ref h0, .int a, .int b] ++ List.replicate (4 - (lg_sl [.ref h0, .int a, .int b]).length) Slot.unset).toArray = ls at hl ⊢
  have hl : lv_has ls 4 [(0, .ref h0), (1, .int a), (2, .int b)] := hl
  have hS : va_S (fun q => q = qd) s.heap s.heap [] := va_S.rf
  refine lv_iload_n (pc := 0) hx hb d_FS_declarative_0 rfl (lv_at hl 1 rfl) ?_
  refine lv_iconst (v := 1) (pc := 1) hx hb d_FS_declarative_1 (by decide) ?_
  refine lv_icmp_lt (tgt := 11) (pc := 2) hx hb d_FS_declarative_2 (by decide) (fun c_1 => ?_) (fun c_1 => ?_)
  · refine lv_bipush (v := (-4)) (pc := 11) hx hb d_FS_declarative_11 (by decide) ?_
    exact fz_retM (q0 := 1) hx hb hr hlk hP hS rfl (by first | (simp only [ff_ded, if_pos c_1]; done) | rfl | contradiction) (by first | (simp only [ff_der, ff_b01, if_pos c_1]; done) | rfl | contradiction) d_FS_declarative_13
  · refine lv_iload_n (pc := 5) hx hb d_FS_declarative_5 rfl (lv_at hl 1 rfl) ?_
    refine lv_bipush (v := 6) (pc := 6) hx hb d_FS_declarative_6 (by decide) ?_
    refine lv_icmp_le (tgt := 14) (pc := 8) hx hb d_FS_declarative_8 (by decide) (fun c_2 => ?_) (fun c_2 => ?_)
    · refine lv_aload_n (pc := 14) hx hb d_FS_declarative_14 rfl (lv_at hl 0 rfl) ?_
      refine gt_FS_declaratives (pc := 15) hx hb hts hown hK hP 0 rfl rfl d_FS_declarative_15 ?_
      refine lv_iload_n (pc := 18) hx hb d_FS_declarative_18 rfl (lv_at hl 1 rfl) ?_
      refine fz_ldZ (pc := 19) hx hb hK hP (q0 := 1) rfl (fz_i7 c_1 c_2) d_FS_declarative_19 ?_
      refine lv_if_eq (tgt := 27) (pc := 20) hx hb d_FS_declarative_20 (by decide) (fun c_3 => ?_) (fun c_3 => ?_)
      · refine lv_iconst (v := 0) (pc := 27) hx hb d_FS_declarative_27 (by decide) ?_
        refine lv_istore_n (lv' := [(3, .int 0), (0, .ref h0), (1, .int a), (2, .int b)]) (pc := 28) hx hb d_FS_declarative_28 rfl hl (by decide) rfl (fun ls hl => ?_)
        refine lv_aload_n (pc := 29) hx hb d_FS_declarative_29 rfl (lv_at hl 1 rfl) ?_
        refine gt_FS_declaratives (pc := 30) hx hb hts hown hK hP 0 rfl rfl d_FS_declarative_30 ?_
        refine lv_iload_n (pc := 33) hx hb d_FS_declarative_33 rfl (lv_at hl 2 rfl) ?_
        refine lv_iload_n (pc := 34) hx hb d_FS_declarative_34 rfl (lv_at hl 3 rfl) ?_
        have hP := hP.sub (ws' := [(qd, ARi cZ 7 f)]) [1] rfl
        refine fz_stZ (pc := 35) (q0 := 0) (ws' := [(qd, ARi cZ 7 (upd f a.toNatClampNeg b))]) hx hb hK hP fz_D1 hS rfl (fz_i7 c_1 c_2) (fz_bz ha).2.2 rfl d_FS_declarative_35 (fun H locs hP hD hS => ?_)
        refine lv_iload_n (pc := 36) hx hb d_FS_declarative_36 rfl (lv_at hl 0 rfl) ?_
        exact fz_retM (q0 := 0) hx hb hr hlk hP hS rfl (by first | (simp only [ff_ded, if_neg c_1, if_pos c_2, if_pos c_3]; done) | rfl | contradiction) (by first | (simp only [ff_der, ff_b01, if_neg c_1, if_pos c_2, if_pos c_3]; done) | rfl | contradiction) d_FS_declarative_37
      · refine lv_iconst (v := 1) (pc := 23) hx hb d_FS_declarative_23 (by decide) ?_
        refine lv_goto (tgt := 28) (pc := 24) hx hb d_FS_declarative_24 (by decide) ?_
        refine lv_istore_n (lv' := [(3, .int 1), (0, .ref h0), (1, .int a), (2, .int b)]) (pc := 28) hx hb d_FS_declarative_28 rfl hl (by decide) rfl (fun ls hl => ?_)
        refine lv_aload_n (pc := 29) hx hb d_FS_declarative_29 rfl (lv_at hl 1 rfl) ?_
        refine gt_FS_declaratives (pc := 30) hx hb hts hown hK hP 0 rfl rfl d_FS_declarative_30 ?_
        refine lv_iload_n (pc := 33) hx hb d_FS_declarative_33 rfl (lv_at hl 2 rfl) ?_
        refine lv_iload_n (pc := 34) hx hb d_FS_declarative_34 rfl (lv_at hl 3 rfl) ?_
        have hP := hP.sub (ws' := [(qd, ARi cZ 7 f)]) [1] rfl
        refine fz_stZ (pc := 35) (q0 := 0) (ws' := [(qd, ARi cZ 7 (upd f a.toNatClampNeg b))]) hx hb hK hP fz_D1 hS rfl (fz_i7 c_1 c_2) (fz_bz ha).2.2 rfl d_FS_declarative_35 (fun H locs hP hD hS => ?_)
        refine lv_iload_n (pc := 36) hx hb d_FS_declarative_36 rfl (lv_at hl 0 rfl) ?_
        exact fz_retM (q0 := 0) hx hb hr hlk hP hS rfl (by first | (simp only [ff_ded, if_neg c_1, if_pos c_2, if_neg c_3]; done) | rfl | contradiction) (by first | (simp only [ff_der, ff_b01, if_neg c_1, if_pos c_2, if_neg c_3]; done) | rfl | contradiction) d_FS_declarative_37
    · refine lv_bipush (v := (-4)) (pc := 11) hx hb d_FS_declarative_11 (by decide) ?_
      exact fz_retM (q0 := 1) hx hb hr hlk hP hS rfl (by first | (simp only [ff_ded, if_neg c_1, if_neg c_2]; done) | rfl | contradiction) (by first | (simp only [ff_der, ff_b01, if_neg c_1, if_neg c_2]; done) | rfl | contradiction) d_FS_declarative_13
end
section
theorem fz_i9 {x : Int32} (h : ¬ x < 0) (h2 : x ≤ 8) : vp_in x 9 := by
  rw [vp_in_iff]
  rw [Int32.lt_iff_toInt_lt] at h
  rw [Int32.le_iff_toInt_le] at h2
  have e1 : (0 : Int32).toInt = 0 := rfl
  have e6 : (8 : Int32).toInt = 8 := rfl
  omega
theorem ff_pm_bz (a s1 : Int32) : ff_pm a s1 = 0 ∨ ff_pm a s1 = 1 := by
  unfold ff_pm
  split
  · exact Or.inl rfl
  · split
    · exact Or.inl rfl
    · exact Or.inr rfl
theorem ff_e1_bz (a em : Int32) : ff_e1 a em = 0 ∨ ff_e1 a em = 1 := by
  unfold ff_e1
  split
  · exact Or.inl rfl
  · split
    · exact Or.inl rfl
    · exact Or.inr rfl
set_option maxHeartbeats 4000000 in
set_option maxRecDepth 100000 in
theorem c_AC_isFor (l : Launch) (dC : Nat → ClassId) (dI : Nat → Nat → Nat) (cI cZ cC cS : ClassId) (h0 qm qs : Nat) (br : Int32) (f : Nat → Int32) (a : Int32) (hk : vp_in a 3) : Met l y_AC_isFor (.code y_AC_isFor b_AC_isFor 2 ((some .boolean)) :: tw) rm_AC_isFor (va_Pc [.ref h0, .int a] (P0 dC dI cI cZ cC cS [(h0, ACo qm br qs), (qm, ARi cI 3 f)])) (QcRead (fa_for (f a.toNatClampNeg))) 0 0 (fun _ => False) := by
  refine Met.ofW (cc := b_AC_isFor) (maxL := 2) (ret := (some .boolean)) (by decide) rfl ?_
  intro p e s m args below meth c s₁ B hml hv
  obtain ⟨rfl, hK, hP⟩ := hv
  have hx := B.exec
  have hb := B.bytes
  have hr := B.returns
  have hts : ∀ w ∈ tw, w.before _ s = true := fun w h => atoms_spec (ws := .code y_AC_isFor b_AC_isFor 2 ((some .boolean)) :: tw) B.pre w (List.mem_cons_of_mem _ h)
  have hown : s.vm.findClass "FileStatus$Act" = some m.cls := findClass_of_methodNamed B.named
  have hlk := B.notSynchronized
  have hP : va_P (dC, dI) classes [(h0, ACo qm br qs), (qm, ARi cI 3 f)] s.heap := hP
  have hl := lv_entry [.ref h0, .int a] (n := 2) (Nat.le_of_ble_eq_true rfl)
  rw [lg_entry_eq]
  generalize (lg_sl [.ref h0, .int a] ++ List.replicate (2 - (lg_sl [.ref h0, .int a]).length) Slot.unset).toArray = ls at hl ⊢
  have hl : lv_has ls 2 [(0, .ref h0), (1, .int a)] := hl
  refine lv_aload_n (pc := 0) hx hb d_AC_isFor_0 rfl (lv_at hl 0 rfl) ?_
  refine gt_AC_modes (pc := 1) hx hb hts hown hK hP 0 rfl rfl d_AC_isFor_1 ?_
  refine lv_iload_n (pc := 4) hx hb d_AC_isFor_4 rfl (lv_at hl 1 rfl) ?_
  refine fz_ldI (pc := 5) hx hb hK hP (q0 := 1) rfl hk d_AC_isFor_5 ?_
  refine lv_if_le (tgt := 13) (pc := 6) hx hb d_AC_isFor_6 (by decide) (fun c_1 => ?_) (fun c_1 => ?_)
  · refine lv_iconst (v := 0) (pc := 13) hx hb d_AC_isFor_13 (by decide) ?_
    exact fz_retZ hx hb hr hlk rfl (by first | (simp only [fa_for, if_pos c_1]; done) | rfl | contradiction) d_AC_isFor_14
  · refine lv_iconst (v := 1) (pc := 9) hx hb d_AC_isFor_9 (by decide) ?_
    refine lv_goto (tgt := 14) (pc := 10) hx hb d_AC_isFor_10 (by decide) ?_
    exact fz_retZ hx hb hr hlk rfl (by first | (simp only [fa_for, if_neg c_1]; done) | rfl | contradiction) d_AC_isFor_14
set_option maxHeartbeats 4000000 in
set_option maxRecDepth 100000 in
theorem c_AC_isIn (l : Launch) (dC : Nat → ClassId) (dI : Nat → Nat → Nat) (cI cZ cC cS : ClassId) (h0 qm qs : Nat) (br : Int32) (f : Nat → Int32) (a b : Int32) (hk : vp_in a 3) : Met l y_AC_isIn (.code y_AC_isIn b_AC_isIn 3 ((some .boolean)) :: tw) rm_AC_isIn (va_Pc [.ref h0, .int a, .int b] (P0 dC dI cI cZ cC cS [(h0, ACo qm br qs), (qm, ARi cI 3 f)])) (QcRead (fa_in (f a.toNatClampNeg) b)) 0 0 (fun _ => False) := by
  refine Met.ofW (cc := b_AC_isIn) (maxL := 3) (ret := (some .boolean)) (by decide) rfl ?_
  intro p e s m args below meth c s₁ B hml hv
  obtain ⟨rfl, hK, hP⟩ := hv
  have hx := B.exec
  have hb := B.bytes
  have hr := B.returns
  have hts : ∀ w ∈ tw, w.before _ s = true := fun w h => atoms_spec (ws := .code y_AC_isIn b_AC_isIn 3 ((some .boolean)) :: tw) B.pre w (List.mem_cons_of_mem _ h)
  have hown : s.vm.findClass "FileStatus$Act" = some m.cls := findClass_of_methodNamed B.named
  have hlk := B.notSynchronized
  have hP : va_P (dC, dI) classes [(h0, ACo qm br qs), (qm, ARi cI 3 f)] s.heap := hP
  have hl := lv_entry [.ref h0, .int a, .int b] (n := 3) (Nat.le_of_ble_eq_true rfl)
  rw [lg_entry_eq]
  generalize (lg_sl [.ref h0, .int a, .int b] ++ List.replicate (3 - (lg_sl [.ref h0, .int a, .int b]).length) Slot.unset).toArray = ls at hl ⊢
  have hl : lv_has ls 3 [(0, .ref h0), (1, .int a), (2, .int b)] := hl
  refine lv_aload_n (pc := 0) hx hb d_AC_isIn_0 rfl (lv_at hl 0 rfl) ?_
  refine gt_AC_modes (pc := 1) hx hb hts hown hK hP 0 rfl rfl d_AC_isIn_1 ?_
  refine lv_iload_n (pc := 4) hx hb d_AC_isIn_4 rfl (lv_at hl 1 rfl) ?_
  refine fz_ldI (pc := 5) hx hb hK hP (q0 := 1) rfl hk d_AC_isIn_5 ?_
  refine lv_iload_n (pc := 6) hx hb d_AC_isIn_6 rfl (lv_at hl 2 rfl) ?_
  refine lv_ishr (pc := 7) hx hb d_AC_isIn_7 ?_
  refine lv_iconst (v := 1) (pc := 8) hx hb d_AC_isIn_8 (by decide) ?_
  refine lv_iand (pc := 9) hx hb d_AC_isIn_9 ?_
  refine lv_iconst (v := 1) (pc := 10) hx hb d_AC_isIn_10 (by decide) ?_
  refine lv_icmp_ne (tgt := 18) (pc := 11) hx hb d_AC_isIn_11 (by decide) (fun c_1 => ?_) (fun c_1 => ?_)
  · refine lv_iconst (v := 0) (pc := 18) hx hb d_AC_isIn_18 (by decide) ?_
    exact fz_retZ hx hb hr hlk rfl (by first | (simp only [fa_in, if_neg c_1]; done) | rfl | contradiction) d_AC_isIn_19
  · refine lv_iconst (v := 1) (pc := 14) hx hb d_AC_isIn_14 (by decide) ?_
    refine lv_goto (tgt := 19) (pc := 15) hx hb d_AC_isIn_15 (by decide) ?_
    exact fz_retZ hx hb hr hlk rfl (by first | (simp only [fa_in, if_pos c_1]; done) | rfl | contradiction) d_AC_isIn_19
set_option maxHeartbeats 4000000 in
set_option maxRecDepth 100000 in
theorem c_AC_status (l : Launch) (dC : Nat → ClassId) (dI : Nat → Nat → Nat) (cI cZ cC cS : ClassId) (h0 qm qs : Nat) (br : Int32) (g : Nat → Option Nat) (f : Nat → Int32) (qr : Nat) (a b : Int32) (hk : vp_in a 3) (hg : g a.toNatClampNeg = some qr) : Met l y_AC_status (.code y_AC_status b_AC_status 3 ((some .int)) :: tw) rm_AC_status (va_Pc [.ref h0, .int a, .int b] (P0 dC dI cI cZ cC cS [(h0, ACo qm br qs), (qs, ARq cS 3 g), (qr, ARi cI 9 f)])) (QcRead (fa_sts f b)) 0 0 (fun _ => False) := by
  refine Met.ofW (cc := b_AC_status) (maxL := 3) (ret := (some .int)) (by decide) rfl ?_
  intro p e s m args below meth c s₁ B hml hv
  obtain ⟨rfl, hK, hP⟩ := hv
  have hx := B.exec
  have hb := B.bytes
  have hr := B.returns
  have hts : ∀ w ∈ tw, w.before _ s = true := fun w h => atoms_spec (ws := .code y_AC_status b_AC_status 3 ((some .int)) :: tw) B.pre w (List.mem_cons_of_mem _ h)
  have hown : s.vm.findClass "FileStatus$Act" = some m.cls := findClass_of_methodNamed B.named
  have hlk := B.notSynchronized
  have hP : va_P (dC, dI) classes [(h0, ACo qm br qs), (qs, ARq cS 3 g), (qr, ARi cI 9 f)] s.heap := hP
  have hl := lv_entry [.ref h0, .int a, .int b] (n := 3) (Nat.le_of_ble_eq_true rfl)
  rw [lg_entry_eq]
  generalize (lg_sl [.ref h0, .int a, .int b] ++ List.replicate (3 - (lg_sl [.ref h0, .int a, .int b]).length) Slot.unset).toArray = ls at hl ⊢
  have hl : lv_has ls 3 [(0, .ref h0), (1, .int a), (2, .int b)] := hl
  refine lv_iload_n (pc := 0) hx hb d_AC_status_0 rfl (lv_at hl 2 rfl) ?_
  refine lv_if_lt (tgt := 10) (pc := 1) hx hb d_AC_status_1 (by decide) (fun c_1 => ?_) (fun c_1 => ?_)
  · refine lv_bipush (v := 90) (pc := 10) hx hb d_AC_status_10 (by decide) ?_
    refine lv_goto (tgt := 23) (pc := 12) hx hb d_AC_status_12 (by decide) ?_
    exact fz_retR hx hb hr hlk (by first | (simp only [fa_sts, if_pos c_1]; done) | rfl | contradiction) d_AC_status_23
  · refine lv_iload_n (pc := 4) hx hb d_AC_status_4 rfl (lv_at hl 2 rfl) ?_
    refine lv_bipush (v := 8) (pc := 5) hx hb d_AC_status_5 (by decide) ?_
    refine lv_icmp_le (tgt := 15) (pc := 7) hx hb d_AC_status_7 (by decide) (fun c_2 => ?_) (fun c_2 => ?_)
    · refine lv_aload_n (pc := 15) hx hb d_AC_status_15 rfl (lv_at hl 0 rfl) ?_
      refine gt_AC_statuses (pc := 16) hx hb hts hown hK hP 0 rfl rfl d_AC_status_16 ?_
      refine lv_iload_n (pc := 19) hx hb d_AC_status_19 rfl (lv_at hl 1 rfl) ?_
      refine fz_ldS (pc := 20) hx hb hK hP (q0 := 1) rfl hk hg d_AC_status_20 ?_
      refine lv_iload_n (pc := 21) hx hb d_AC_status_21 rfl (lv_at hl 2 rfl) ?_
      refine fz_ldI (pc := 22) hx hb hK hP (q0 := 2) rfl (fz_i9 c_1 c_2) d_AC_status_22 ?_
      exact fz_retR hx hb hr hlk (by first | (simp only [fa_sts, if_neg c_1, if_pos c_2]; done) | rfl | contradiction) d_AC_status_23
    · refine lv_bipush (v := 90) (pc := 10) hx hb d_AC_status_10 (by decide) ?_
      refine lv_goto (tgt := 23) (pc := 12) hx hb d_AC_status_12 (by decide) ?_
      exact fz_retR hx hb hr hlk (by first | (simp only [fa_sts, if_neg c_1, if_neg c_2]; done) | rfl | contradiction) d_AC_status_23
set_option maxHeartbeats 4000000 in
set_option maxRecDepth 100000 in
theorem c_FS_ahead (l : Launch) (dC : Nat → ClassId) (dI : Nat → Nat → Nat) (cI cZ cC cS : ClassId) (h0 qa qd : Nat) (og md nx ps lt ac gd bd op pm em : Int32) (fA : Nat → Option Nat) (ak mk sk : Nat) (br : Int32) (fm : Nat → Int32) (a : Int32) (hk : vp_in a 7) (hA : fA a.toNatClampNeg = some ak) (ho : vp_in og 3) : Met l y_FS_ahead (.code y_FS_ahead b_FS_ahead 3 ((some .int)) :: tw) rm_FS_ahead (va_Pc [.ref h0, .int a] (P0 dC dI cI cZ cC cS [(h0, FSo qa qd og md nx ps lt ac gd bd op pm em), (qa, ARq cC 7 fA), (ak, ACo mk br sk), (mk, ARi cI 3 fm)])) (QcRead (ff_ah (fm og.toNatClampNeg) br a og md ps pm)) 0 0 (fun _ => False) := by
  refine Met.ofW (cc := b_FS_ahead) (maxL := 3) (ret := (some .int)) (by decide) rfl ?_
  intro p e s m args below meth c s₁ B hml hv
  obtain ⟨rfl, hK, hP⟩ := hv
  have hx := B.exec
  have hb := B.bytes
  have hr := B.returns
  have hts : ∀ w ∈ tw, w.before _ s = true := fun w h => atoms_spec (ws := .code y_FS_ahead b_FS_ahead 3 ((some .int)) :: tw) B.pre w (List.mem_cons_of_mem _ h)
  have hown : s.vm.findClass "FileStatus" = some m.cls := findClass_of_methodNamed B.named
  have hlk := B.notSynchronized
  have hP : va_P (dC, dI) classes [(h0, FSo qa qd og md nx ps lt ac gd bd op pm em), (qa, ARq cC 7 fA), (ak, ACo mk br sk), (mk, ARi cI 3 fm)] s.heap := hP
  have hl := lv_entry [.ref h0, .int a] (n := 3) (Nat.le_of_ble_eq_true rfl)
  rw [lg_entry_eq]
  generalize (lg_sl [.ref h0, .int a] ++ List.replicate (3 - (lg_sl [.ref h0, .int a]).length) Slot.unset).toArray = ls at hl ⊢
  have hl : lv_has ls 3 [(0, .ref h0), (1, .int a)] := hl
  refine lv_aload_n (pc := 0) hx hb d_FS_ahead_0 rfl (lv_at hl 0 rfl) ?_
  refine gt_FS_acts (pc := 1) hx hb hts hown hK hP 0 rfl rfl d_FS_ahead_1 ?_
  refine lv_iload_n (pc := 4) hx hb d_FS_ahead_4 rfl (lv_at hl 1 rfl) ?_
  refine fz_ldC (pc := 5) hx hb hK hP (q0 := 1) rfl hk hA d_FS_ahead_5 ?_
  refine lv_astore_n (lv' := [(2, .ref ak), (0, .ref h0), (1, .int a)]) (pc := 6) hx hb d_FS_ahead_6 rfl hl (by decide) rfl (fun ls hl => ?_)
  refine lv_aload_n (pc := 7) hx hb d_FS_ahead_7 rfl (lv_at hl 1 rfl) ?_
  refine gt_FS_mode (pc := 8) hx hb hts hown hK hP 0 rfl rfl d_FS_ahead_8 ?_
  refine lv_iconst (v := (-1)) (pc := 11) hx hb d_FS_ahead_11 (by decide) ?_
  refine lv_icmp_ne (tgt := 18) (pc := 12) hx hb d_FS_ahead_12 (by decide) (fun c_1 => ?_) (fun c_1 => ?_)
  · refine lv_aload_n (pc := 18) hx hb d_FS_ahead_18 rfl (lv_at hl 0 rfl) ?_
    refine lv_aload_n (pc := 19) hx hb d_FS_ahead_19 rfl (lv_at hl 1 rfl) ?_
    refine gt_FS_organisation (pc := 20) hx hb hts hown hK hP 0 rfl rfl d_FS_ahead_20 ?_
    refine fz_rV (pc := 23) (As := [.int og]) (rest := []) ⟨hx, hb, hml, hown, hts⟩ (c_AC_isFor l dC dI cI cZ cC cS ak mk sk br fm og ho) (cs_FS_75 hts ⟨(Nat.le_of_ble_eq_true rfl), (Nat.le_of_ble_eq_true rfl)⟩) (fz_preV (q0 := 2) (ci := 1) hK hP rfl rfl (hP.sub [2, 3] rfl)) rfl hl.1 rfl (Nat.le_of_ble_eq_true rfl) d_FS_ahead_23 ⟨(Nat.le_of_ble_eq_true rfl), (Nat.le_of_ble_eq_true rfl)⟩ ?_
    refine lv_if_ne (tgt := 32) (pc := 26) hx hb d_FS_ahead_26 (by decide) (fun c_2 => ?_) (fun c_2 => ?_)
    · refine lv_aload_n (pc := 32) hx hb d_FS_ahead_32 rfl (lv_at hl 0 rfl) ?_
      refine lv_aload_n (pc := 33) hx hb d_FS_ahead_33 rfl (lv_at hl 1 rfl) ?_
      refine gt_FS_organisation (pc := 34) hx hb hts hown hK hP 0 rfl rfl d_FS_ahead_34 ?_
      refine lv_aload_n (pc := 37) hx hb d_FS_ahead_37 rfl (lv_at hl 1 rfl) ?_
      refine gt_FS_mode (pc := 38) hx hb hts hown hK hP 0 rfl rfl d_FS_ahead_38 ?_
      refine fz_rV (pc := 41) (As := [.int og, .int md]) (rest := []) ⟨hx, hb, hml, hown, hts⟩ (c_AC_isIn l dC dI cI cZ cC cS ak mk sk br fm og md ho) (cs_FS_79 hts ⟨(Nat.le_of_ble_eq_true rfl), (Nat.le_of_ble_eq_true rfl)⟩) (fz_preV (q0 := 2) (ci := 1) hK hP rfl rfl (hP.sub [2, 3] rfl)) rfl hl.1 rfl (Nat.le_of_ble_eq_true rfl) d_FS_ahead_41 ⟨(Nat.le_of_ble_eq_true rfl), (Nat.le_of_ble_eq_true rfl)⟩ ?_
      refine lv_if_ne (tgt := 52) (pc := 44) hx hb d_FS_ahead_44 (by decide) (fun c_3 => ?_) (fun c_3 => ?_)
      · refine lv_iload_n (pc := 52) hx hb d_FS_ahead_52 rfl (lv_at hl 2 rfl) ?_
        refine lv_iconst (v := 3) (pc := 53) hx hb d_FS_ahead_53 (by decide) ?_
        refine lv_icmp_ne (tgt := 74) (pc := 54) hx hb d_FS_ahead_54 (by decide) (fun c_4 => ?_) (fun c_4 => ?_)
        · refine lv_iload_n (pc := 74) hx hb d_FS_ahead_74 rfl (lv_at hl 2 rfl) ?_
          refine lv_if_ne (tgt := 91) (pc := 75) hx hb d_FS_ahead_75 (by decide) (fun c_5 => ?_) (fun c_5 => ?_)
          · refine lv_iconst (v := (-1)) (pc := 91) hx hb d_FS_ahead_91 (by decide) ?_
            exact fz_retR hx hb hr hlk (by first | (simp only [ff_ah, ff_ah2, if_neg c_1, if_neg c_2, if_neg c_3, if_neg c_4, if_neg c_5]; done) | rfl | contradiction) d_FS_ahead_92
          · refine lv_aload_n (pc := 78) hx hb d_FS_ahead_78 rfl (lv_at hl 1 rfl) ?_
            refine gt_FS_position (pc := 79) hx hb hts hown hK hP 0 rfl rfl d_FS_ahead_79 ?_
            refine lv_iconst (v := 2) (pc := 82) hx hb d_FS_ahead_82 (by decide) ?_
            refine lv_icmp_lt (tgt := 91) (pc := 83) hx hb d_FS_ahead_83 (by decide) (fun c_6 => ?_) (fun c_6 => ?_)
            · refine lv_iconst (v := (-1)) (pc := 91) hx hb d_FS_ahead_91 (by decide) ?_
              exact fz_retR hx hb hr hlk (by first | (simp only [ff_ah, ff_ah2, if_neg c_1, if_neg c_2, if_neg c_3, if_neg c_4, if_pos c_5, if_pos c_6]; done) | rfl | contradiction) d_FS_ahead_92
            · refine lv_bipush (v := 46) (pc := 86) hx hb d_FS_ahead_86 (by decide) ?_
              refine lv_goto (tgt := 92) (pc := 88) hx hb d_FS_ahead_88 (by decide) ?_
              exact fz_retR hx hb hr hlk (by first | (simp only [ff_ah, ff_ah2, if_neg c_1, if_neg c_2, if_neg c_3, if_neg c_4, if_pos c_5, if_neg c_6]; done) | rfl | contradiction) d_FS_ahead_92
        · refine lv_aload_n (pc := 57) hx hb d_FS_ahead_57 rfl (lv_at hl 1 rfl) ?_
          refine gt_FS_organisation (pc := 58) hx hb hts hown hK hP 0 rfl rfl d_FS_ahead_58 ?_
          refine lv_if_ne (tgt := 74) (pc := 61) hx hb d_FS_ahead_61 (by decide) (fun c_7 => ?_) (fun c_7 => ?_)
          · refine lv_iload_n (pc := 74) hx hb d_FS_ahead_74 rfl (lv_at hl 2 rfl) ?_
            refine lv_if_ne (tgt := 91) (pc := 75) hx hb d_FS_ahead_75 (by decide) (fun c_8 => ?_) (fun c_8 => ?_)
            · refine lv_iconst (v := (-1)) (pc := 91) hx hb d_FS_ahead_91 (by decide) ?_
              exact fz_retR hx hb hr hlk (by first | (simp only [ff_ah, ff_ah2, if_neg c_1, if_neg c_2, if_neg c_3, if_pos c_4, if_neg c_7, if_neg c_8]; done) | rfl | contradiction) d_FS_ahead_92
            · refine lv_aload_n (pc := 78) hx hb d_FS_ahead_78 rfl (lv_at hl 1 rfl) ?_
              refine gt_FS_position (pc := 79) hx hb hts hown hK hP 0 rfl rfl d_FS_ahead_79 ?_
              refine lv_iconst (v := 2) (pc := 82) hx hb d_FS_ahead_82 (by decide) ?_
              refine lv_icmp_lt (tgt := 91) (pc := 83) hx hb d_FS_ahead_83 (by decide) (fun c_9 => ?_) (fun c_9 => ?_)
              · refine lv_iconst (v := (-1)) (pc := 91) hx hb d_FS_ahead_91 (by decide) ?_
                exact fz_retR hx hb hr hlk (by first | (simp only [ff_ah, ff_ah2, if_neg c_1, if_neg c_2, if_neg c_3, if_pos c_4, if_neg c_7, if_pos c_8, if_pos c_9]; done) | rfl | contradiction) d_FS_ahead_92
              · refine lv_bipush (v := 46) (pc := 86) hx hb d_FS_ahead_86 (by decide) ?_
                refine lv_goto (tgt := 92) (pc := 88) hx hb d_FS_ahead_88 (by decide) ?_
                exact fz_retR hx hb hr hlk (by first | (simp only [ff_ah, ff_ah2, if_neg c_1, if_neg c_2, if_neg c_3, if_pos c_4, if_neg c_7, if_pos c_8, if_neg c_9]; done) | rfl | contradiction) d_FS_ahead_92
          · refine lv_aload_n (pc := 64) hx hb d_FS_ahead_64 rfl (lv_at hl 1 rfl) ?_
            refine gt_FS_permit (pc := 65) hx hb hts hown hK hP 0 rfl rfl d_FS_ahead_65 ?_
            refine lv_if_ne (tgt := 74) (pc := 68) hx hb d_FS_ahead_68 (by decide) (fun c_10 => ?_) (fun c_10 => ?_)
            · refine lv_iload_n (pc := 74) hx hb d_FS_ahead_74 rfl (lv_at hl 2 rfl) ?_
              refine lv_if_ne (tgt := 91) (pc := 75) hx hb d_FS_ahead_75 (by decide) (fun c_11 => ?_) (fun c_11 => ?_)
              · refine lv_iconst (v := (-1)) (pc := 91) hx hb d_FS_ahead_91 (by decide) ?_
                exact fz_retR hx hb hr hlk (by first | (simp only [ff_ah, ff_ah2, if_neg c_1, if_neg c_2, if_neg c_3, if_pos c_4, if_pos c_7, if_neg c_10, if_neg c_11]; done) | rfl | contradiction) d_FS_ahead_92
              · refine lv_aload_n (pc := 78) hx hb d_FS_ahead_78 rfl (lv_at hl 1 rfl) ?_
                refine gt_FS_position (pc := 79) hx hb hts hown hK hP 0 rfl rfl d_FS_ahead_79 ?_
                refine lv_iconst (v := 2) (pc := 82) hx hb d_FS_ahead_82 (by decide) ?_
                refine lv_icmp_lt (tgt := 91) (pc := 83) hx hb d_FS_ahead_83 (by decide) (fun c_12 => ?_) (fun c_12 => ?_)
                · refine lv_iconst (v := (-1)) (pc := 91) hx hb d_FS_ahead_91 (by decide) ?_
                  exact fz_retR hx hb hr hlk (by first | (simp only [ff_ah, ff_ah2, if_neg c_1, if_neg c_2, if_neg c_3, if_pos c_4, if_pos c_7, if_neg c_10, if_pos c_11, if_pos c_12]; done) | rfl | contradiction) d_FS_ahead_92
                · refine lv_bipush (v := 46) (pc := 86) hx hb d_FS_ahead_86 (by decide) ?_
                  refine lv_goto (tgt := 92) (pc := 88) hx hb d_FS_ahead_88 (by decide) ?_
                  exact fz_retR hx hb hr hlk (by first | (simp only [ff_ah, ff_ah2, if_neg c_1, if_neg c_2, if_neg c_3, if_pos c_4, if_pos c_7, if_neg c_10, if_pos c_11, if_neg c_12]; done) | rfl | contradiction) d_FS_ahead_92
            · refine lv_bipush (v := 43) (pc := 71) hx hb d_FS_ahead_71 (by decide) ?_
              exact fz_retR hx hb hr hlk (by first | (simp only [ff_ah, ff_ah2, if_neg c_1, if_neg c_2, if_neg c_3, if_pos c_4, if_pos c_7, if_pos c_10]; done) | rfl | contradiction) d_FS_ahead_73
      · refine lv_aload_n (pc := 47) hx hb d_FS_ahead_47 rfl (lv_at hl 0 rfl) ?_
        refine gt_AC_barred_N (pc := 48) hx hb hts hown hK hP 2 rfl rfl d_FS_ahead_48 ?_
        exact fz_retR hx hb hr hlk (by first | (simp only [ff_ah, ff_ah2, if_neg c_1, if_neg c_2, if_pos c_3]; done) | rfl | contradiction) d_FS_ahead_51
    · refine lv_bipush (v := 90) (pc := 29) hx hb d_FS_ahead_29 (by decide) ?_
      exact fz_retR hx hb hr hlk (by first | (simp only [ff_ah, ff_ah2, if_neg c_1, if_pos c_2]; done) | rfl | contradiction) d_FS_ahead_31
  · refine lv_bipush (v := 42) (pc := 15) hx hb d_FS_ahead_15 (by decide) ?_
    exact fz_retR hx hb hr hlk (by first | (simp only [ff_ah, ff_ah2, if_pos c_1]; done) | rfl | contradiction) d_FS_ahead_17
set_option maxHeartbeats 4000000 in
set_option maxRecDepth 100000 in
theorem c_FS_act_out (l : Launch) (dC : Nat → ClassId) (dI : Nat → Nat → Nat) (cI cZ cC cS : ClassId) (h0 qa qd : Nat) (og md nx ps lt ac gd bd op pm em : Int32) (fA : Nat → Option Nat) (a b : Int32) (ho : ¬ a < 0 → ¬ a < 7) : Met l y_FS_act (.code y_FS_act b_FS_act 6 ((some .int)) :: tw) rm_FS_act (va_Pc [.ref h0, .int a, .int b] (P0 dC dI cI cZ cC cS [(h0, FSo qa qd og md nx ps lt ac gd bd op pm em), (qa, ARq cC 7 fA)])) (QcRead (-4)) 0 0 (fun _ => False) := by
  refine Met.ofW (cc := b_FS_act) (maxL := 6) (ret := (some .int)) (by decide) rfl ?_
  intro p e s m args below meth c s₁ B hml hv
  obtain ⟨rfl, hK, hP⟩ := hv
  have hx := B.exec
  have hb := B.bytes
  have hr := B.returns
  have hts : ∀ w ∈ tw, w.before _ s = true := fun w h => atoms_spec (ws := .code y_FS_act b_FS_act 6 ((some .int)) :: tw) B.pre w (List.mem_cons_of_mem _ h)
  have hown : s.vm.findClass "FileStatus" = some m.cls := findClass_of_methodNamed B.named
  have hlk := B.notSynchronized
  have hP : va_P (dC, dI) classes [(h0, FSo qa qd og md nx ps lt ac gd bd op pm em), (qa, ARq cC 7 fA)] s.heap := hP
  have hl := lv_entry [.ref h0, .int a, .int b] (n := 6) (Nat.le_of_ble_eq_true rfl)
  rw [lg_entry_eq]
  generalize (lg_sl [.ref h0, .int a, .int b] ++ List.replicate (6 - (lg_sl [.ref h0, .int a, .int b]).length) Slot.unset).toArray = ls at hl ⊢
  have hl : lv_has ls 6 [(0, .ref h0), (1, .int a), (2, .int b)] := hl
  refine lv_iload_n (pc := 0) hx hb d_FS_act_0 rfl (lv_at hl 1 rfl) ?_
  refine lv_if_lt (tgt := 13) (pc := 1) hx hb d_FS_act_1 (by decide) (fun c_1 => ?_) (fun c_1 => ?_)
  · refine lv_bipush (v := (-4)) (pc := 13) hx hb d_FS_act_13 (by decide) ?_
    exact fz_retR hx hb hr hlk (by first | (simp only [if_pos c_1]; done) | rfl | contradiction) d_FS_act_15
  · refine lv_iload_n (pc := 4) hx hb d_FS_act_4 rfl (lv_at hl 1 rfl) ?_
    refine lv_aload_n (pc := 5) hx hb d_FS_act_5 rfl (lv_at hl 0 rfl) ?_
    refine gt_FS_acts (pc := 6) hx hb hts hown hK hP 0 rfl rfl d_FS_act_6 ?_
    refine va_alen (pc := 9) (v := 7) hx hb hK.1 hP 1 2 rfl rfl rfl d_FS_act_9 ?_
    refine lv_icmp_lt (tgt := 16) (pc := 10) hx hb d_FS_act_10 (by decide) (fun c_2 => ?_) (fun c_2 => ?_)
    · exact absurd c_2 (ho c_1)
    · refine lv_bipush (v := (-4)) (pc := 13) hx hb d_FS_act_13 (by decide) ?_
      exact fz_retR hx hb hr hlk (by first | (simp only [if_neg c_1, if_neg c_2]; done) | rfl | contradiction) d_FS_act_15
set_option maxHeartbeats 4000000 in
set_option maxRecDepth 100000 in
theorem c_FS_act (l : Launch) (dC : Nat → ClassId) (dI : Nat → Nat → Nat) (cI cZ cC cS : ClassId) (h0 qa qd : Nat) (og md nx ps lt ac gd bd op pm em : Int32) (fA : Nat → Option Nat) (ak mk sk rk : Nat) (br : Int32) (fm : Nat → Int32) (fs : Nat → Option Nat) (fr : Nat → Int32) (a b ah s1 : Int32) (h00 : ¬ a < 0) (h7 : a < 7) (hk : vp_in a 7) (hA : fA a.toNatClampNeg = some ak) (ho : vp_in og 3) (hs : fs og.toNatClampNeg = some rk) (eah : ah = ff_ah (fm og.toNatClampNeg) br a og md ps pm) (es1 : s1 = ff_st ah a em (fa_sts fr b)) : Met l y_FS_act (.code y_FS_act b_FS_act 6 ((some .int)) :: tw) rm_FS_act (va_Pc [.ref h0, .int a, .int b] (P0 dC dI cI cZ cC cS [(h0, FSo qa qd og md nx ps lt ac gd bd op pm em), (qa, ARq cC 7 fA), (ak, ACo mk br sk), (mk, ARi cI 3 fm), (sk, ARq cS 3 fs), (rk, ARi cI 9 fr)])) (QM dC dI h0 s1 (FSo qa qd og (ff_md a s1 md) nx (ff_ps (ff_to (ff_rd a) s1) ps) s1 a (ff_tg s1 a gd) (ff_tb s1 bd) op (ff_pm a s1) (ff_em ah a em))) 0 0 (fun q => q = h0) := by
  refine Met.ofW (cc := b_FS_act) (maxL := 6) (ret := (some .int)) (by decide) rfl ?_
  intro p e s m args below meth c s₁ B hml hv
  obtain ⟨rfl, hK, hP⟩ := hv
  have hx := B.exec
  have hb := B.bytes
  have hr := B.returns
  have hts : ∀ w ∈ tw, w.before _ s = true := fun w h => atoms_spec (ws := .code y_FS_act b_FS_act 6 ((some .int)) :: tw) B.pre w (List.mem_cons_of_mem _ h)
  have hown : s.vm.findClass "FileStatus" = some m.cls := findClass_of_methodNamed B.named
  have hlk := B.notSynchronized
  have hP : va_P (dC, dI) classes [(h0, FSo qa qd og md nx ps lt ac gd bd op pm em), (qa, ARq cC 7 fA), (ak, ACo mk br sk), (mk, ARi cI 3 fm), (sk, ARq cS 3 fs), (rk, ARi cI 9 fr)] s.heap := hP
  have hl := lv_entry [.ref h0, .int a, .int b] (n := 6) (Nat.le_of_ble_eq_true rfl)
  rw [lg_entry_eq]
  generalize (lg_sl [.ref h0, .int a, .int b] ++ List.replicate (6 - (lg_sl [.ref h0, .int a, .int b]).length) Slot.unset).toArray = ls at hl ⊢
  have hl : lv_has ls 6 [(0, .ref h0), (1, .int a), (2, .int b)] := hl
  have hS : va_S (fun q => q = h0) s.heap s.heap [] := va_S.rf
  have K78 : ∀ (H : Heap) (locs : List Loc) (ls : Array Slot), va_P (dC, dI) classes [(h0, FSo qa qd og md nx ps lt ac gd bd op pm (ff_em ah a em))] H → va_S (fun q => q = h0) s.heap H locs → lv_has ls 6 [(3, .int s1), (0, .ref h0), (1, .int a), (2, .int b)] → W p l e (headSpec (.code y_FS_act b_FS_act 6 ((some .int)) :: tw) rm_FS_act).room s m ([.ref h0, .int a, .int b] : List Value).toArray below meth c H locs 0 0 (MQ below (QM dC dI h0 s1 (FSo qa qd og (ff_md a s1 md) nx (ff_ps (ff_to (ff_rd a) s1) ps) s1 a (ff_tg s1 a gd) (ff_tb s1 bd) op (ff_pm a s1) (ff_em ah a em))) ([.ref h0, .int a, .int b] : List Value).toArray s 0 0 (fun q => q = h0)) (F0 m 78 ls []) := by
    intro H locs ls hP hS hl
    have hD : va_D (fun q => q = h0) [(h0, FSo qa qd og md nx ps lt ac gd bd op pm (ff_em ah a em))] := fz_D1
    refine fz_cut (F0 m 97 ls [.int (ff_rd a)]) (fun K => ?_) ?_
    · refine lv_iload_n (pc := 78) hx hb d_FS_act_78 rfl (lv_at hl 2 rfl) ?_
      refine lv_if_eq (tgt := 92) (pc := 79) hx hb d_FS_act_79 (by decide) (fun c_1 => ?_) (fun c_1 => ?_)
      · refine lv_iconst (v := 1) (pc := 92) hx hb d_FS_act_92 (by decide) ?_
        refine lv_goto (tgt := 97) (pc := 93) hx hb d_FS_act_93 (by decide) ?_
        exact fz_top (by first | (simp only [ff_rd, if_pos c_1]; done) | rfl | contradiction) K
      · refine lv_iload_n (pc := 82) hx hb d_FS_act_82 rfl (lv_at hl 2 rfl) ?_
        refine lv_iconst (v := 1) (pc := 83) hx hb d_FS_act_83 (by decide) ?_
        refine lv_icmp_eq (tgt := 92) (pc := 84) hx hb d_FS_act_84 (by decide) (fun c_2 => ?_) (fun c_2 => ?_)
        · refine lv_iconst (v := 1) (pc := 92) hx hb d_FS_act_92 (by decide) ?_
          refine lv_goto (tgt := 97) (pc := 93) hx hb d_FS_act_93 (by decide) ?_
          exact fz_top (by first | (simp only [ff_rd, if_neg c_1, if_pos c_2]; done) | rfl | contradiction) K
        · refine lv_iload_n (pc := 87) hx hb d_FS_act_87 rfl (lv_at hl 2 rfl) ?_
          refine lv_iconst (v := 5) (pc := 88) hx hb d_FS_act_88 (by decide) ?_
          refine lv_icmp_ne (tgt := 96) (pc := 89) hx hb d_FS_act_89 (by decide) (fun c_3 => ?_) (fun c_3 => ?_)
          · refine lv_iconst (v := 0) (pc := 96) hx hb d_FS_act_96 (by decide) ?_
            exact fz_top (by first | (simp only [ff_rd, if_neg c_1, if_neg c_2, if_neg c_3]; done) | rfl | contradiction) K
          · refine lv_iconst (v := 1) (pc := 92) hx hb d_FS_act_92 (by decide) ?_
            refine lv_goto (tgt := 97) (pc := 93) hx hb d_FS_act_93 (by decide) ?_
            exact fz_top (by first | (simp only [ff_rd, if_neg c_1, if_neg c_2, if_pos c_3]; done) | rfl | contradiction) K
    refine lv_istore (lv' := [(4, .int (ff_rd a)), (3, .int s1), (0, .ref h0), (1, .int a), (2, .int b)]) (pc := 97) hx hb d_FS_act_97 hl (by decide) rfl (fun ls hl => ?_)
    refine fz_cut (F0 m 113 ls [.int (ff_to (ff_rd a) s1)]) (fun K => ?_) ?_
    · refine lv_iload (pc := 99) hx hb d_FS_act_99 (lv_at hl 0 rfl) ?_
      refine lv_if_eq (tgt := 112) (pc := 101) hx hb d_FS_act_101 (by decide) (fun c_4 => ?_) (fun c_4 => ?_)
      · refine lv_iconst (v := 0) (pc := 112) hx hb d_FS_act_112 (by decide) ?_
        exact fz_top (by first | (simp only [ff_to, if_pos c_4]; done) | rfl | contradiction) K
      · refine lv_aload_n (pc := 104) hx hb d_FS_act_104 rfl (lv_at hl 2 rfl) ?_
        refine lv_iload_n (pc := 105) hx hb d_FS_act_105 rfl (lv_at hl 1 rfl) ?_
        refine fz_rV (pc := 106) (As := [.int s1]) (rest := []) ⟨hx, hb, hml, hown, hts⟩ (c_FS_position l dC dI cI cZ cC cS h0 s1) (cs_FS_92 hts ⟨(Nat.le_of_ble_eq_true rfl), (Nat.le_of_ble_eq_true rfl)⟩) (fz_preV (q0 := 0) (ci := 0) hK hP rfl rfl (hP.sub [] rfl)) rfl hl.1 rfl (Nat.le_of_ble_eq_true rfl) d_FS_act_106 ⟨(Nat.le_of_ble_eq_true rfl), (Nat.le_of_ble_eq_true rfl)⟩ ?_
        refine lv_goto (tgt := 113) (pc := 109) hx hb d_FS_act_109 (by decide) ?_
        exact fz_top (by first | (simp only [ff_to, if_neg c_4]; done) | rfl | contradiction) K
    refine lv_istore (lv' := [(5, .int (ff_to (ff_rd a) s1)), (4, .int (ff_rd a)), (3, .int s1), (0, .ref h0), (1, .int a), (2, .int b)]) (pc := 113) hx hb d_FS_act_113 hl (by decide) rfl (fun ls hl => ?_)
    refine lv_aload_n (pc := 115) hx hb d_FS_act_115 rfl (lv_at hl 3 rfl) ?_
    refine fz_cut (F0 m 130 ls [.int (ff_ps (ff_to (ff_rd a) s1) ps), .ref h0]) (fun K => ?_) ?_
    · refine lv_iload (pc := 116) hx hb d_FS_act_116 (lv_at hl 0 rfl) ?_
      refine lv_if_le (tgt := 126) (pc := 118) hx hb d_FS_act_118 (by decide) (fun c_5 => ?_) (fun c_5 => ?_)
      · refine lv_aload_n (pc := 126) hx hb d_FS_act_126 rfl (lv_at hl 3 rfl) ?_
        refine gt_FS_position (pc := 127) hx hb hts hown hK hP 0 rfl rfl d_FS_act_127 ?_
        exact fz_top (by first | (simp only [ff_ps, if_pos c_5]; done) | rfl | contradiction) K
      · refine lv_iload (pc := 121) hx hb d_FS_act_121 (lv_at hl 0 rfl) ?_
        refine lv_goto (tgt := 130) (pc := 123) hx hb d_FS_act_123 (by decide) ?_
        exact fz_top (by first | (simp only [ff_ps, if_neg c_5]; done) | rfl | contradiction) K
    refine pt_FS_position (ws' := [(h0, FSo qa qd og md nx (ff_ps (ff_to (ff_rd a) s1) ps) lt ac gd bd op pm (ff_em ah a em))]) (pc := 130) hx hb hts hown hK hP hD hS 0 rfl (Nat.le_of_ble_eq_true rfl) rfl d_FS_act_130 (fun H locs hP hD hS => ?_)
    refine lv_aload_n (pc := 133) hx hb d_FS_act_133 rfl (lv_at hl 3 rfl) ?_
    refine fz_cut (F0 m 152 ls [.int (ff_pm a s1), .ref h0]) (fun K => ?_) ?_
    · refine lv_iload_n (pc := 134) hx hb d_FS_act_134 rfl (lv_at hl 4 rfl) ?_
      refine lv_iconst (v := 2) (pc := 135) hx hb d_FS_act_135 (by decide) ?_
      refine lv_icmp_ge (tgt := 151) (pc := 136) hx hb d_FS_act_136 (by decide) (fun c_6 => ?_) (fun c_6 => ?_)
      · refine lv_iconst (v := 0) (pc := 151) hx hb d_FS_act_151 (by decide) ?_
        exact fz_top (by first | (simp only [ff_pm, if_pos c_6]; done) | rfl | contradiction) K
      · refine lv_aload_n (pc := 139) hx hb d_FS_act_139 rfl (lv_at hl 3 rfl) ?_
        refine lv_iload_n (pc := 140) hx hb d_FS_act_140 rfl (lv_at hl 2 rfl) ?_
        refine fz_rV (pc := 141) (As := [.int s1]) (rest := [.ref h0]) ⟨hx, hb, hml, hown, hts⟩ (c_FS_area l dC dI cI cZ cC cS h0 s1) (cs_FS_94 hts ⟨(Nat.le_of_ble_eq_true rfl), (Nat.le_of_ble_eq_true rfl)⟩) (fz_preV (q0 := 0) (ci := 0) hK hP rfl rfl (hP.sub [] rfl)) rfl hl.1 rfl (Nat.le_of_ble_eq_true rfl) d_FS_act_141 ⟨(Nat.le_of_ble_eq_true rfl), (Nat.le_of_ble_eq_true rfl)⟩ ?_
        refine lv_if_le (tgt := 151) (pc := 144) hx hb d_FS_act_144 (by decide) (fun c_7 => ?_) (fun c_7 => ?_)
        · refine lv_iconst (v := 0) (pc := 151) hx hb d_FS_act_151 (by decide) ?_
          exact fz_top (by first | (simp only [ff_pm, if_neg c_6, if_pos c_7]; done) | rfl | contradiction) K
        · refine lv_iconst (v := 1) (pc := 147) hx hb d_FS_act_147 (by decide) ?_
          refine lv_goto (tgt := 152) (pc := 148) hx hb d_FS_act_148 (by decide) ?_
          exact fz_top (by first | (simp only [ff_pm, if_neg c_6, if_neg c_7]; done) | rfl | contradiction) K
    refine pt_FS_permit (ws' := [(h0, FSo qa qd og md nx (ff_ps (ff_to (ff_rd a) s1) ps) lt ac gd bd op (ff_pm a s1) (ff_em ah a em))]) (pc := 152) hx hb hts hown hK hP hD hS 0 rfl (Nat.le_of_ble_eq_true rfl) rfl (ff_pm_bz a s1) d_FS_act_152 (fun H locs hP hD hS => ?_)
    refine lv_iload_n (pc := 155) hx hb d_FS_act_155 rfl (lv_at hl 4 rfl) ?_
    refine lv_bipush (v := 6) (pc := 156) hx hb d_FS_act_156 (by decide) ?_
    refine lv_icmp_ne (tgt := 170) (pc := 158) hx hb d_FS_act_158 (by decide) (fun c_8 => ?_) (fun c_8 => ?_)
    · refine lv_aload_n (pc := 170) hx hb d_FS_act_170 rfl (lv_at hl 3 rfl) ?_
      refine lv_iload_n (pc := 171) hx hb d_FS_act_171 rfl (lv_at hl 2 rfl) ?_
      refine lv_iload_n (pc := 172) hx hb d_FS_act_172 rfl (lv_at hl 4 rfl) ?_
      refine fz_cM (pc := 173) (As := [.int s1, .int a]) (rest := []) (q0 := 0) (ws' := [(h0, FSo qa qd og md nx (ff_ps (ff_to (ff_rd a) s1) ps) s1 a (ff_tg s1 a gd) (ff_tb s1 bd) op (ff_pm a s1) (ff_em ah a em))]) ⟨hx, hb, hml, hown, hts⟩ (c_FS_told l dC dI cI cZ cC cS h0 qa qd og md nx (ff_ps (ff_to (ff_rd a) s1) ps) lt ac gd bd op (ff_pm a s1) (ff_em ah a em) s1 a) (cs_FS_71 hts ⟨(Nat.le_of_ble_eq_true rfl), (Nat.le_of_ble_eq_true rfl)⟩) (fz_preV (q0 := 0) (ci := 0) hK hP rfl rfl (hP.sub [0] rfl)) rfl hl.1 rfl (Nat.le_of_ble_eq_true rfl) d_FS_act_173 ⟨(Nat.le_of_ble_eq_true rfl), (Nat.le_of_ble_eq_true rfl)⟩ hP hD hS rfl rfl (fun H locs hP hD hS => ?_)
      exact fz_retM (q0 := 0) hx hb hr hlk hP hS rfl (by first | (simp only [ff_md, if_neg c_8]; done) | rfl | contradiction) (by first | (simp only [ff_md, if_neg c_8]; done) | rfl | contradiction) d_FS_act_176
    · refine lv_iload_n (pc := 161) hx hb d_FS_act_161 rfl (lv_at hl 2 rfl) ?_
      refine lv_if_ne (tgt := 170) (pc := 162) hx hb d_FS_act_162 (by decide) (fun c_9 => ?_) (fun c_9 => ?_)
      · refine lv_aload_n (pc := 170) hx hb d_FS_act_170 rfl (lv_at hl 3 rfl) ?_
        refine lv_iload_n (pc := 171) hx hb d_FS_act_171 rfl (lv_at hl 2 rfl) ?_
        refine lv_iload_n (pc := 172) hx hb d_FS_act_172 rfl (lv_at hl 4 rfl) ?_
        refine fz_cM (pc := 173) (As := [.int s1, .int a]) (rest := []) (q0 := 0) (ws' := [(h0, FSo qa qd og md nx (ff_ps (ff_to (ff_rd a) s1) ps) s1 a (ff_tg s1 a gd) (ff_tb s1 bd) op (ff_pm a s1) (ff_em ah a em))]) ⟨hx, hb, hml, hown, hts⟩ (c_FS_told l dC dI cI cZ cC cS h0 qa qd og md nx (ff_ps (ff_to (ff_rd a) s1) ps) lt ac gd bd op (ff_pm a s1) (ff_em ah a em) s1 a) (cs_FS_71 hts ⟨(Nat.le_of_ble_eq_true rfl), (Nat.le_of_ble_eq_true rfl)⟩) (fz_preV (q0 := 0) (ci := 0) hK hP rfl rfl (hP.sub [0] rfl)) rfl hl.1 rfl (Nat.le_of_ble_eq_true rfl) d_FS_act_173 ⟨(Nat.le_of_ble_eq_true rfl), (Nat.le_of_ble_eq_true rfl)⟩ hP hD hS rfl rfl (fun H locs hP hD hS => ?_)
        exact fz_retM (q0 := 0) hx hb hr hlk hP hS rfl (by first | (simp only [ff_md, if_pos c_8, if_neg c_9]; done) | rfl | contradiction) (by first | (simp only [ff_md, if_pos c_8, if_neg c_9]; done) | rfl | contradiction) d_FS_act_176
      · refine lv_aload_n (pc := 165) hx hb d_FS_act_165 rfl (lv_at hl 3 rfl) ?_
        refine lv_iconst (v := (-1)) (pc := 166) hx hb d_FS_act_166 (by decide) ?_
        refine pt_FS_mode (ws' := [(h0, FSo qa qd og (-1) nx (ff_ps (ff_to (ff_rd a) s1) ps) lt ac gd bd op (ff_pm a s1) (ff_em ah a em))]) (pc := 167) hx hb hts hown hK hP hD hS 0 rfl (Nat.le_of_ble_eq_true rfl) rfl d_FS_act_167 (fun H locs hP hD hS => ?_)
        refine lv_aload_n (pc := 170) hx hb d_FS_act_170 rfl (lv_at hl 3 rfl) ?_
        refine lv_iload_n (pc := 171) hx hb d_FS_act_171 rfl (lv_at hl 2 rfl) ?_
        refine lv_iload_n (pc := 172) hx hb d_FS_act_172 rfl (lv_at hl 4 rfl) ?_
        refine fz_cM (pc := 173) (As := [.int s1, .int a]) (rest := []) (q0 := 0) (ws' := [(h0, FSo qa qd og (-1) nx (ff_ps (ff_to (ff_rd a) s1) ps) s1 a (ff_tg s1 a gd) (ff_tb s1 bd) op (ff_pm a s1) (ff_em ah a em))]) ⟨hx, hb, hml, hown, hts⟩ (c_FS_told l dC dI cI cZ cC cS h0 qa qd og (-1) nx (ff_ps (ff_to (ff_rd a) s1) ps) lt ac gd bd op (ff_pm a s1) (ff_em ah a em) s1 a) (cs_FS_71 hts ⟨(Nat.le_of_ble_eq_true rfl), (Nat.le_of_ble_eq_true rfl)⟩) (fz_preV (q0 := 0) (ci := 0) hK hP rfl rfl (hP.sub [0] rfl)) rfl hl.1 rfl (Nat.le_of_ble_eq_true rfl) d_FS_act_173 ⟨(Nat.le_of_ble_eq_true rfl), (Nat.le_of_ble_eq_true rfl)⟩ hP hD hS rfl rfl (fun H locs hP hD hS => ?_)
        exact fz_retM (q0 := 0) hx hb hr hlk hP hS rfl (by first | (simp only [ff_md, if_pos c_8, if_pos c_9]; done) | rfl | contradiction) (by first | (simp only [ff_md, if_pos c_8, if_pos c_9]; done) | rfl | contradiction) d_FS_act_176
  refine lv_iload_n (pc := 0) hx hb d_FS_act_0 rfl (lv_at hl 1 rfl) ?_
  refine lv_if_lt (tgt := 13) (pc := 1) hx hb d_FS_act_1 (by decide) (fun c_10 => ?_) (fun c_10 => ?_)
  · exact absurd c_10 h00
  · refine lv_iload_n (pc := 4) hx hb d_FS_act_4 rfl (lv_at hl 1 rfl) ?_
    refine lv_aload_n (pc := 5) hx hb d_FS_act_5 rfl (lv_at hl 0 rfl) ?_
    refine gt_FS_acts (pc := 6) hx hb hts hown hK hP 0 rfl rfl d_FS_act_6 ?_
    refine va_alen (pc := 9) (v := 7) hx hb hK.1 hP 1 2 rfl rfl rfl d_FS_act_9 ?_
    refine lv_icmp_lt (tgt := 16) (pc := 10) hx hb d_FS_act_10 (by decide) (fun c_11 => ?_) (fun c_11 => ?_)
    · refine lv_aload_n (pc := 16) hx hb d_FS_act_16 rfl (lv_at hl 0 rfl) ?_
      refine lv_iload_n (pc := 17) hx hb d_FS_act_17 rfl (lv_at hl 1 rfl) ?_
      refine fz_rV (pc := 18) (As := [.int a]) (rest := []) ⟨hx, hb, hml, hown, hts⟩ (c_FS_ahead l dC dI cI cZ cC cS h0 qa qd og md nx ps lt ac gd bd op pm em fA ak mk sk br fm a hk hA ho) (cs_FS_86 hts ⟨(Nat.le_of_ble_eq_true rfl), (Nat.le_of_ble_eq_true rfl)⟩) (fz_preV (q0 := 0) (ci := 0) hK hP rfl rfl (hP.sub [0, 1, 2, 3] rfl)) rfl hl.1 rfl (Nat.le_of_ble_eq_true rfl) d_FS_act_18 ⟨(Nat.le_of_ble_eq_true rfl), (Nat.le_of_ble_eq_true rfl)⟩ ?_
      refine fz_top eah ?_
      refine lv_istore_n (lv' := [(3, .int ah), (0, .ref h0), (1, .int a), (2, .int b)]) (pc := 21) hx hb d_FS_act_21 rfl hl (by decide) rfl (fun ls hl => ?_)
      refine lv_iload_n (pc := 22) hx hb d_FS_act_22 rfl (lv_at hl 0 rfl) ?_
      refine lv_iconst (v := (-1)) (pc := 23) hx hb d_FS_act_23 (by decide) ?_
      refine lv_icmp_ne (tgt := 78) (pc := 24) hx hb d_FS_act_24 (by decide) (fun c_12 => ?_) (fun c_12 => ?_)
      · exact K78 _ _ _ (by rw [show ff_em ah a em = em from by simp only [ff_em, if_neg c_12]]; exact hP.sub [0] rfl) hS (by rw [show s1 = ah from by rw [es1]; simp only [ff_st, if_neg c_12]]; exact lv_sub hl [0, 1, 2, 3] rfl)
      · refine fz_cut (F0 m 57 ls [.int (ff_s1 a em (fa_sts fr b))]) (fun K => ?_) ?_
        · refine lv_iload_n (pc := 27) hx hb d_FS_act_27 rfl (lv_at hl 2 rfl) ?_
          refine lv_if_ne (tgt := 43) (pc := 28) hx hb d_FS_act_28 (by decide) (fun c_13 => ?_) (fun c_13 => ?_)
          · refine lv_aload_n (pc := 43) hx hb d_FS_act_43 rfl (lv_at hl 1 rfl) ?_
            refine gt_FS_acts (pc := 44) hx hb hts hown hK hP 0 rfl rfl d_FS_act_44 ?_
            refine lv_iload_n (pc := 47) hx hb d_FS_act_47 rfl (lv_at hl 2 rfl) ?_
            refine fz_ldC (pc := 48) hx hb hK hP (q0 := 1) rfl hk hA d_FS_act_48 ?_
            refine lv_aload_n (pc := 49) hx hb d_FS_act_49 rfl (lv_at hl 1 rfl) ?_
            refine gt_FS_organisation (pc := 50) hx hb hts hown hK hP 0 rfl rfl d_FS_act_50 ?_
            refine lv_iload_n (pc := 53) hx hb d_FS_act_53 rfl (lv_at hl 3 rfl) ?_
            refine fz_rV (pc := 54) (As := [.int og, .int b]) (rest := []) ⟨hx, hb, hml, hown, hts⟩ (c_AC_status l dC dI cI cZ cC cS ak mk sk br fs fr rk og b ho hs) (cs_FS_89 hts ⟨(Nat.le_of_ble_eq_true rfl), (Nat.le_of_ble_eq_true rfl)⟩) (fz_preV (q0 := 2) (ci := 1) hK hP rfl rfl (hP.sub [2, 4, 5] rfl)) rfl hl.1 rfl (Nat.le_of_ble_eq_true rfl) d_FS_act_54 ⟨(Nat.le_of_ble_eq_true rfl), (Nat.le_of_ble_eq_true rfl)⟩ ?_
            exact fz_top (by first | (simp only [ff_s1, if_neg c_10, if_pos c_11, if_pos c_12, if_neg c_13]; done) | rfl | contradiction) K
          · refine lv_aload_n (pc := 31) hx hb d_FS_act_31 rfl (lv_at hl 1 rfl) ?_
            refine gt_FS_empty (pc := 32) hx hb hts hown hK hP 0 rfl rfl d_FS_act_32 ?_
            refine lv_if_eq (tgt := 43) (pc := 35) hx hb d_FS_act_35 (by decide) (fun c_14 => ?_) (fun c_14 => ?_)
            · refine lv_aload_n (pc := 43) hx hb d_FS_act_43 rfl (lv_at hl 1 rfl) ?_
              refine gt_FS_acts (pc := 44) hx hb hts hown hK hP 0 rfl rfl d_FS_act_44 ?_
              refine lv_iload_n (pc := 47) hx hb d_FS_act_47 rfl (lv_at hl 2 rfl) ?_
              refine fz_ldC (pc := 48) hx hb hK hP (q0 := 1) rfl hk hA d_FS_act_48 ?_
              refine lv_aload_n (pc := 49) hx hb d_FS_act_49 rfl (lv_at hl 1 rfl) ?_
              refine gt_FS_organisation (pc := 50) hx hb hts hown hK hP 0 rfl rfl d_FS_act_50 ?_
              refine lv_iload_n (pc := 53) hx hb d_FS_act_53 rfl (lv_at hl 3 rfl) ?_
              refine fz_rV (pc := 54) (As := [.int og, .int b]) (rest := []) ⟨hx, hb, hml, hown, hts⟩ (c_AC_status l dC dI cI cZ cC cS ak mk sk br fs fr rk og b ho hs) (cs_FS_89 hts ⟨(Nat.le_of_ble_eq_true rfl), (Nat.le_of_ble_eq_true rfl)⟩) (fz_preV (q0 := 2) (ci := 1) hK hP rfl rfl (hP.sub [2, 4, 5] rfl)) rfl hl.1 rfl (Nat.le_of_ble_eq_true rfl) d_FS_act_54 ⟨(Nat.le_of_ble_eq_true rfl), (Nat.le_of_ble_eq_true rfl)⟩ ?_
              exact fz_top (by first | (simp only [ff_s1, if_neg c_10, if_pos c_11, if_pos c_12, if_pos c_13, if_pos c_14]; done) | rfl | contradiction) K
            · refine lv_bipush (v := 10) (pc := 38) hx hb d_FS_act_38 (by decide) ?_
              refine lv_goto (tgt := 57) (pc := 40) hx hb d_FS_act_40 (by decide) ?_
              exact fz_top (by first | (simp only [ff_s1, if_neg c_10, if_pos c_11, if_pos c_12, if_pos c_13, if_neg c_14]; done) | rfl | contradiction) K
        refine lv_istore_n (lv' := [(3, .int (ff_s1 a em (fa_sts fr b))), (0, .ref h0), (1, .int a), (2, .int b)]) (pc := 57) hx hb d_FS_act_57 rfl hl (by decide) rfl (fun ls hl => ?_)
        refine lv_aload_n (pc := 58) hx hb d_FS_act_58 rfl (lv_at hl 1 rfl) ?_
        have hP := hP.sub (ws' := [(h0, FSo qa qd og md nx ps lt ac gd bd op pm em)]) [0] rfl
        have hD : va_D (fun q => q = h0) [(h0, FSo qa qd og md nx ps lt ac gd bd op pm em)] := fz_D1
        refine fz_cut (F0 m 75 ls [.int (ff_e1 a em), .ref h0]) (fun K => ?_) ?_
        · refine lv_aload_n (pc := 59) hx hb d_FS_act_59 rfl (lv_at hl 1 rfl) ?_
          refine gt_FS_empty (pc := 60) hx hb hts hown hK hP 0 rfl rfl d_FS_act_60 ?_
          refine lv_if_eq (tgt := 74) (pc := 63) hx hb d_FS_act_63 (by decide) (fun c_15 => ?_) (fun c_15 => ?_)
          · refine lv_iconst (v := 0) (pc := 74) hx hb d_FS_act_74 (by decide) ?_
            exact fz_top (by first | (simp only [ff_e1, if_neg c_10, if_pos c_11, if_pos c_12, if_pos c_15]; done) | rfl | contradiction) K
          · refine lv_iload_n (pc := 66) hx hb d_FS_act_66 rfl (lv_at hl 2 rfl) ?_
            refine lv_if_eq (tgt := 74) (pc := 67) hx hb d_FS_act_67 (by decide) (fun c_16 => ?_) (fun c_16 => ?_)
            · refine lv_iconst (v := 0) (pc := 74) hx hb d_FS_act_74 (by decide) ?_
              exact fz_top (by first | (simp only [ff_e1, if_neg c_10, if_pos c_11, if_pos c_12, if_neg c_15, if_pos c_16]; done) | rfl | contradiction) K
            · refine lv_iconst (v := 1) (pc := 70) hx hb d_FS_act_70 (by decide) ?_
              refine lv_goto (tgt := 75) (pc := 71) hx hb d_FS_act_71 (by decide) ?_
              exact fz_top (by first | (simp only [ff_e1, if_neg c_10, if_pos c_11, if_pos c_12, if_neg c_15, if_neg c_16]; done) | rfl | contradiction) K
        refine pt_FS_empty (ws' := [(h0, FSo qa qd og md nx ps lt ac gd bd op pm (ff_e1 a em))]) (pc := 75) hx hb hts hown hK hP hD hS 0 rfl (Nat.le_of_ble_eq_true rfl) rfl (ff_e1_bz a em) d_FS_act_75 (fun H locs hP hD hS => ?_)
        exact K78 _ _ _ (by rw [show ff_em ah a em = ff_e1 a em from by simp only [ff_em, if_pos c_12]]; exact hP) hS (by rw [show s1 = ff_s1 a em (fa_sts fr b) from by rw [es1]; simp only [ff_st, if_pos c_12]]; exact lv_sub hl [0, 1, 2, 3] rfl)
    · exact absurd h7 c_11
end
section
theorem fz_cutH {P : Prop} {p : Program} {l : Launch} {e : Env} {R : Room} {s : State} {m : MethodId} {args : Array Value} {below : List Frame} {meth : Method} {c : Code} {H : Heap} {locs : List Loc} {cells slots : Nat} {Q : State → Prop} {g : JFrame} (g2 : JFrame) (h : (P → W p l e R s m args below meth c H locs cells slots Q g2) → W p l e R s m args below meth c H locs cells slots Q g) (k : P → W p l e R s m args below meth c H locs cells slots Q g2) : W p l e R s m args below meth c H locs cells slots Q g := h k
theorem mm_p0_bz (s : Int32) : mm_p0 s = 0 ∨ mm_p0 s = 1 := by
  unfold mm_p0
  split
  · exact Or.inr rfl
  · split
    · exact Or.inr rfl
    · split
      · exact Or.inr rfl
      · exact Or.inl rfl
theorem mm_pm_bz (k s : Int32) : mm_pm k s = 0 ∨ mm_pm k s = 1 := by
  unfold mm_pm
  split
  · exact mm_p0_bz s
  · split
    · exact mm_p0_bz s
    · exact Or.inl rfl
theorem ff_ome_bz (s nx : Int32) : ff_ome s nx = 0 ∨ ff_ome s nx = 1 := by
  unfold ff_ome
  split
  · split
    · exact Or.inr rfl
    · split
      · exact Or.inr rfl
      · exact Or.inl rfl
  · exact Or.inl rfl
set_option maxHeartbeats 4000000 in
set_option maxRecDepth 100000 in
theorem c_MD_kindOf (l : Launch) (dC : Nat → ClassId) (dI : Nat → Nat → Nat) (cI cZ cC cS : ClassId) (a : Int32) : Met l y_MD_kindOf (.code y_MD_kindOf b_MD_kindOf 2 ((some .int)) :: tw) rm_MD_kindOf (va_Pc [.int a] (P0 dC dI cI cZ cC cS [])) (QcRead (mm_kd a)) 0 0 (fun _ => False) := by
  refine Met.ofW (cc := b_MD_kindOf) (maxL := 2) (ret := (some .int)) (by decide) rfl ?_
  intro p e s m args below meth c s₁ B hml hv
  obtain ⟨rfl, hK, hP⟩ := hv
  have hx := B.exec
  have hb := B.bytes
  have hr := B.returns
  have hts : ∀ w ∈ tw, w.before _ s = true := fun w h => atoms_spec (ws := .code y_MD_kindOf b_MD_kindOf 2 ((some .int)) :: tw) B.pre w (List.mem_cons_of_mem _ h)
  have hown : s.vm.findClass "FileStatusModel" = some m.cls := findClass_of_methodNamed B.named
  have hlk := B.notSynchronized
  have hP : va_P (dC, dI) classes [] s.heap := hP
  have hl := lv_entry [.int a] (n := 2) (Nat.le_of_ble_eq_true rfl)
  rw [lg_entry_eq]
  generalize (lg_sl [.int a] ++ List.replicate (2 - (lg_sl [.int a]).length) Slot.unset).toArray = ls at hl ⊢
  have hl : lv_has ls 2 [(0, .int a)] := hl
  refine lv_iload_n (pc := 0) hx hb d_MD_kindOf_0 rfl (lv_at hl 0 rfl) ?_
  refine lv_bipush (v := 10) (pc := 1) hx hb d_MD_kindOf_1 (by decide) ?_
  refine lv_idiv (pc := 3) hx hb d_MD_kindOf_3 (by decide) ?_
  refine lv_istore_n (lv' := [(1, .int (a / 10)), (0, .int a)]) (pc := 4) hx hb d_MD_kindOf_4 rfl hl (by decide) rfl (fun ls hl => ?_)
  refine lv_iload_n (pc := 5) hx hb d_MD_kindOf_5 rfl (lv_at hl 0 rfl) ?_
  refine lv_iconst (v := 5) (pc := 6) hx hb d_MD_kindOf_6 (by decide) ?_
  refine lv_icmp_ge (tgt := 14) (pc := 7) hx hb d_MD_kindOf_7 (by decide) (fun c_1 => ?_) (fun c_1 => ?_)
  · refine lv_iload_n (pc := 14) hx hb d_MD_kindOf_14 rfl (lv_at hl 0 rfl) ?_
    refine lv_bipush (v := 7) (pc := 15) hx hb d_MD_kindOf_15 (by decide) ?_
    refine lv_icmp_ge (tgt := 24) (pc := 17) hx hb d_MD_kindOf_17 (by decide) (fun c_2 => ?_) (fun c_2 => ?_)
    · refine lv_bipush (v := 6) (pc := 24) hx hb d_MD_kindOf_24 (by decide) ?_
      exact fz_retR hx hb hr hlk (by first | (simp only [mm_kd, mm_kd2, if_pos c_1, if_pos c_2]; done) | rfl | contradiction) d_MD_kindOf_26
    · refine lv_iconst (v := 5) (pc := 20) hx hb d_MD_kindOf_20 (by decide) ?_
      refine lv_goto (tgt := 26) (pc := 21) hx hb d_MD_kindOf_21 (by decide) ?_
      exact fz_retR hx hb hr hlk (by first | (simp only [mm_kd, mm_kd2, if_pos c_1, if_neg c_2]; done) | rfl | contradiction) d_MD_kindOf_26
  · refine lv_iload_n (pc := 10) hx hb d_MD_kindOf_10 rfl (lv_at hl 0 rfl) ?_
    refine lv_goto (tgt := 26) (pc := 11) hx hb d_MD_kindOf_11 (by decide) ?_
    exact fz_retR hx hb hr hlk (by first | (simp only [mm_kd, mm_kd2, if_neg c_1]; done) | rfl | contradiction) d_MD_kindOf_26
set_option maxHeartbeats 4000000 in
set_option maxRecDepth 100000 in
theorem c_MD_moved (l : Launch) (dC : Nat → ClassId) (dI : Nat → Nat → Nat) (cI cZ cC cS : ClassId) (a : Int32) : Met l y_MD_moved (.code y_MD_moved b_MD_moved 1 ((some .int)) :: tw) rm_MD_moved (va_Pc [.int a] (P0 dC dI cI cZ cC cS [])) (QcRead (mm_mov a)) 0 0 (fun _ => False) := by
  refine Met.ofW (cc := b_MD_moved) (maxL := 1) (ret := (some .int)) (by decide) rfl ?_
  intro p e s m args below meth c s₁ B hml hv
  obtain ⟨rfl, hK, hP⟩ := hv
  have hx := B.exec
  have hb := B.bytes
  have hr := B.returns
  have hts : ∀ w ∈ tw, w.before _ s = true := fun w h => atoms_spec (ws := .code y_MD_moved b_MD_moved 1 ((some .int)) :: tw) B.pre w (List.mem_cons_of_mem _ h)
  have hown : s.vm.findClass "FileStatusModel" = some m.cls := findClass_of_methodNamed B.named
  have hlk := B.notSynchronized
  have hP : va_P (dC, dI) classes [] s.heap := hP
  have hl := lv_entry [.int a] (n := 1) (Nat.le_of_ble_eq_true rfl)
  rw [lg_entry_eq]
  generalize (lg_sl [.int a] ++ List.replicate (1 - (lg_sl [.int a]).length) Slot.unset).toArray = ls at hl ⊢
  have hl : lv_has ls 1 [(0, .int a)] := hl
  refine lv_iload_n (pc := 0) hx hb d_MD_moved_0 rfl (lv_at hl 0 rfl) ?_
  refine lv_if_eq (tgt := 14) (pc := 1) hx hb d_MD_moved_1 (by decide) (fun c_1 => ?_) (fun c_1 => ?_)
  · refine lv_iconst (v := 1) (pc := 14) hx hb d_MD_moved_14 (by decide) ?_
    exact fz_retR hx hb hr hlk (by first | (simp only [mm_mov, if_pos c_1]; done) | rfl | contradiction) d_MD_moved_15
  · refine lv_iload_n (pc := 4) hx hb d_MD_moved_4 rfl (lv_at hl 0 rfl) ?_
    refine lv_iconst (v := 2) (pc := 5) hx hb d_MD_moved_5 (by decide) ?_
    refine lv_icmp_eq (tgt := 14) (pc := 6) hx hb d_MD_moved_6 (by decide) (fun c_2 => ?_) (fun c_2 => ?_)
    · refine lv_iconst (v := 1) (pc := 14) hx hb d_MD_moved_14 (by decide) ?_
      exact fz_retR hx hb hr hlk (by first | (simp only [mm_mov, if_neg c_1, if_pos c_2]; done) | rfl | contradiction) d_MD_moved_15
    · refine lv_iload_n (pc := 9) hx hb d_MD_moved_9 rfl (lv_at hl 0 rfl) ?_
      refine lv_iconst (v := 4) (pc := 10) hx hb d_MD_moved_10 (by decide) ?_
      refine lv_icmp_ne (tgt := 16) (pc := 11) hx hb d_MD_moved_11 (by decide) (fun c_3 => ?_) (fun c_3 => ?_)
      · refine lv_iload_n (pc := 16) hx hb d_MD_moved_16 rfl (lv_at hl 0 rfl) ?_
        refine lv_bipush (v := 10) (pc := 17) hx hb d_MD_moved_17 (by decide) ?_
        refine lv_icmp_ne (tgt := 24) (pc := 19) hx hb d_MD_moved_19 (by decide) (fun c_4 => ?_) (fun c_4 => ?_)
        · refine lv_iload_n (pc := 24) hx hb d_MD_moved_24 rfl (lv_at hl 0 rfl) ?_
          refine lv_bipush (v := 14) (pc := 25) hx hb d_MD_moved_25 (by decide) ?_
          refine lv_icmp_eq (tgt := 42) (pc := 27) hx hb d_MD_moved_27 (by decide) (fun c_5 => ?_) (fun c_5 => ?_)
          · refine lv_iconst (v := 3) (pc := 42) hx hb d_MD_moved_42 (by decide) ?_
            refine lv_goto (tgt := 47) (pc := 43) hx hb d_MD_moved_43 (by decide) ?_
            exact fz_retR hx hb hr hlk (by first | (simp only [mm_mov, if_neg c_1, if_neg c_2, if_neg c_3, if_neg c_4, if_pos c_5]; done) | rfl | contradiction) d_MD_moved_47
          · refine lv_iload_n (pc := 30) hx hb d_MD_moved_30 rfl (lv_at hl 0 rfl) ?_
            refine lv_bipush (v := 23) (pc := 31) hx hb d_MD_moved_31 (by decide) ?_
            refine lv_icmp_eq (tgt := 42) (pc := 33) hx hb d_MD_moved_33 (by decide) (fun c_6 => ?_) (fun c_6 => ?_)
            · refine lv_iconst (v := 3) (pc := 42) hx hb d_MD_moved_42 (by decide) ?_
              refine lv_goto (tgt := 47) (pc := 43) hx hb d_MD_moved_43 (by decide) ?_
              exact fz_retR hx hb hr hlk (by first | (simp only [mm_mov, if_neg c_1, if_neg c_2, if_neg c_3, if_neg c_4, if_neg c_5, if_pos c_6]; done) | rfl | contradiction) d_MD_moved_47
            · refine lv_iload_n (pc := 36) hx hb d_MD_moved_36 rfl (lv_at hl 0 rfl) ?_
              refine lv_bipush (v := 46) (pc := 37) hx hb d_MD_moved_37 (by decide) ?_
              refine lv_icmp_ne (tgt := 46) (pc := 39) hx hb d_MD_moved_39 (by decide) (fun c_7 => ?_) (fun c_7 => ?_)
              · refine lv_iconst (v := 0) (pc := 46) hx hb d_MD_moved_46 (by decide) ?_
                exact fz_retR hx hb hr hlk (by first | (simp only [mm_mov, if_neg c_1, if_neg c_2, if_neg c_3, if_neg c_4, if_neg c_5, if_neg c_6, if_neg c_7]; done) | rfl | contradiction) d_MD_moved_47
              · refine lv_iconst (v := 3) (pc := 42) hx hb d_MD_moved_42 (by decide) ?_
                refine lv_goto (tgt := 47) (pc := 43) hx hb d_MD_moved_43 (by decide) ?_
                exact fz_retR hx hb hr hlk (by first | (simp only [mm_mov, if_neg c_1, if_neg c_2, if_neg c_3, if_neg c_4, if_neg c_5, if_neg c_6, if_pos c_7]; done) | rfl | contradiction) d_MD_moved_47
        · refine lv_iconst (v := 2) (pc := 22) hx hb d_MD_moved_22 (by decide) ?_
          exact fz_retR hx hb hr hlk (by first | (simp only [mm_mov, if_neg c_1, if_neg c_2, if_neg c_3, if_pos c_4]; done) | rfl | contradiction) d_MD_moved_23
      · refine lv_iconst (v := 1) (pc := 14) hx hb d_MD_moved_14 (by decide) ?_
        exact fz_retR hx hb hr hlk (by first | (simp only [mm_mov, if_neg c_1, if_neg c_2, if_pos c_3]; done) | rfl | contradiction) d_MD_moved_15
set_option maxHeartbeats 4000000 in
set_option maxRecDepth 100000 in
theorem c_MD_reads (l : Launch) (dC : Nat → ClassId) (dI : Nat → Nat → Nat) (cI cZ cC cS : ClassId) (h0 qd : Nat) (cd og mo ps lt ac gd bd io pm op no : Int32) : Met l y_MD_reads (.code y_MD_reads b_MD_reads 1 ((some .boolean)) :: tw) rm_MD_reads (va_Pc [.ref h0] (P0 dC dI cI cZ cC cS [(h0, MDo qd cd og mo ps lt ac gd bd io pm op no)])) (QcRead (mm_rds mo)) 0 0 (fun _ => False) := by
  refine Met.ofW (cc := b_MD_reads) (maxL := 1) (ret := (some .boolean)) (by decide) rfl ?_
  intro p e s m args below meth c s₁ B hml hv
  obtain ⟨rfl, hK, hP⟩ := hv
  have hx := B.exec
  have hb := B.bytes
  have hr := B.returns
  have hts : ∀ w ∈ tw, w.before _ s = true := fun w h => atoms_spec (ws := .code y_MD_reads b_MD_reads 1 ((some .boolean)) :: tw) B.pre w (List.mem_cons_of_mem _ h)
  have hown : s.vm.findClass "FileStatusModel" = some m.cls := findClass_of_methodNamed B.named
  have hlk := B.notSynchronized
  have hP : va_P (dC, dI) classes [(h0, MDo qd cd og mo ps lt ac gd bd io pm op no)] s.heap := hP
  have hl := lv_entry [.ref h0] (n := 1) (Nat.le_of_ble_eq_true rfl)
  rw [lg_entry_eq]
  generalize (lg_sl [.ref h0] ++ List.replicate (1 - (lg_sl [.ref h0]).length) Slot.unset).toArray = ls at hl ⊢
  have hl : lv_has ls 1 [(0, .ref h0)] := hl
  refine lv_aload_n (pc := 0) hx hb d_MD_reads_0 rfl (lv_at hl 0 rfl) ?_
  refine gt_MD_mode (pc := 1) hx hb hts hown hK hP 0 rfl rfl d_MD_reads_1 ?_
  refine lv_if_eq (tgt := 15) (pc := 4) hx hb d_MD_reads_4 (by decide) (fun c_1 => ?_) (fun c_1 => ?_)
  · refine lv_iconst (v := 1) (pc := 15) hx hb d_MD_reads_15 (by decide) ?_
    refine lv_goto (tgt := 20) (pc := 16) hx hb d_MD_reads_16 (by decide) ?_
    exact fz_retZ hx hb hr hlk rfl (by first | (simp only [mm_rds, if_pos c_1]; done) | rfl | contradiction) d_MD_reads_20
  · refine lv_aload_n (pc := 7) hx hb d_MD_reads_7 rfl (lv_at hl 0 rfl) ?_
    refine gt_MD_mode (pc := 8) hx hb hts hown hK hP 0 rfl rfl d_MD_reads_8 ?_
    refine lv_iconst (v := 2) (pc := 11) hx hb d_MD_reads_11 (by decide) ?_
    refine lv_icmp_ne (tgt := 19) (pc := 12) hx hb d_MD_reads_12 (by decide) (fun c_2 => ?_) (fun c_2 => ?_)
    · refine lv_iconst (v := 0) (pc := 19) hx hb d_MD_reads_19 (by decide) ?_
      exact fz_retZ hx hb hr hlk rfl (by first | (simp only [mm_rds, if_neg c_1, if_neg c_2]; done) | rfl | contradiction) d_MD_reads_20
    · refine lv_iconst (v := 1) (pc := 15) hx hb d_MD_reads_15 (by decide) ?_
      refine lv_goto (tgt := 20) (pc := 16) hx hb d_MD_reads_16 (by decide) ?_
      exact fz_retZ hx hb hr hlk rfl (by first | (simp only [mm_rds, if_neg c_1, if_pos c_2]; done) | rfl | contradiction) d_MD_reads_20
set_option maxHeartbeats 4000000 in
set_option maxRecDepth 100000 in
theorem c_MD_opened (l : Launch) (dC : Nat → ClassId) (dI : Nat → Nat → Nat) (cI cZ cC cS : ClassId) (h0 qd : Nat) (cd og mo ps lt ac gd bd io pm op no : Int32) (a : Int32) : Met l y_MD_opened (.code y_MD_opened b_MD_opened 2 ((some .int)) :: tw) rm_MD_opened (va_Pc [.ref h0, .int a] (P0 dC dI cI cZ cC cS [(h0, MDo qd cd og mo ps lt ac gd bd io pm op no)])) (QcRead (mm_opn io mo op a)) 0 0 (fun _ => False) := by
  refine Met.ofW (cc := b_MD_opened) (maxL := 2) (ret := (some .int)) (by decide) rfl ?_
  intro p e s m args below meth c s₁ B hml hv
  obtain ⟨rfl, hK, hP⟩ := hv
  have hx := B.exec
  have hb := B.bytes
  have hr := B.returns
  have hts : ∀ w ∈ tw, w.before _ s = true := fun w h => atoms_spec (ws := .code y_MD_opened b_MD_opened 2 ((some .int)) :: tw) B.pre w (List.mem_cons_of_mem _ h)
  have hown : s.vm.findClass "FileStatusModel" = some m.cls := findClass_of_methodNamed B.named
  have hlk := B.notSynchronized
  have hP : va_P (dC, dI) classes [(h0, MDo qd cd og mo ps lt ac gd bd io pm op no)] s.heap := hP
  have hl := lv_entry [.ref h0, .int a] (n := 2) (Nat.le_of_ble_eq_true rfl)
  rw [lg_entry_eq]
  generalize (lg_sl [.ref h0, .int a] ++ List.replicate (2 - (lg_sl [.ref h0, .int a]).length) Slot.unset).toArray = ls at hl ⊢
  have hl : lv_has ls 2 [(0, .ref h0), (1, .int a)] := hl
  refine lv_aload_n (pc := 0) hx hb d_MD_opened_0 rfl (lv_at hl 0 rfl) ?_
  refine gt_MD_isOpen (pc := 1) hx hb hts hown hK hP 0 rfl rfl d_MD_opened_1 ?_
  refine lv_if_eq (tgt := 10) (pc := 4) hx hb d_MD_opened_4 (by decide) (fun c_1 => ?_) (fun c_1 => ?_)
  · refine lv_iload_n (pc := 10) hx hb d_MD_opened_10 rfl (lv_at hl 1 rfl) ?_
    by_cases c_2 : a = 0
    · refine lv_tableIn (tgt := 52) (off := 41) (pc := 11) hx hb d_MD_opened_11 (by rw [c_2]; first | done | decide) (by rw [c_2]; first | done | decide) (by rw [c_2]; first | done | decide) (by decide) ?_
      refine lv_iconst (v := 0) (pc := 52) hx hb d_MD_opened_52 (by decide) ?_
      exact fz_retR hx hb hr hlk (by first | (simp only [mm_opn, if_pos c_1, if_pos c_2]; done) | rfl | contradiction) d_MD_opened_53
    by_cases c_3 : a = 1
    · refine lv_tableIn (tgt := 54) (off := 43) (pc := 11) hx hb d_MD_opened_11 (by rw [c_3]; first | done | decide) (by rw [c_3]; first | done | decide) (by rw [c_3]; first | done | decide) (by decide) ?_
      refine lv_aload_n (pc := 54) hx hb d_MD_opened_54 rfl (lv_at hl 0 rfl) ?_
      refine gt_MD_mode (pc := 55) hx hb hts hown hK hP 0 rfl rfl d_MD_opened_55 ?_
      refine lv_iconst (v := 1) (pc := 58) hx hb d_MD_opened_58 (by decide) ?_
      refine lv_icmp_ne (tgt := 66) (pc := 59) hx hb d_MD_opened_59 (by decide) (fun c_4 => ?_) (fun c_4 => ?_)
      · refine lv_aload_n (pc := 66) hx hb d_MD_opened_66 rfl (lv_at hl 0 rfl) ?_
        refine gt_MD_optional (pc := 67) hx hb hts hown hK hP 0 rfl rfl d_MD_opened_67 ?_
        refine lv_if_eq (tgt := 77) (pc := 70) hx hb d_MD_opened_70 (by decide) (fun c_5 => ?_) (fun c_5 => ?_)
        · refine lv_bipush (v := 35) (pc := 77) hx hb d_MD_opened_77 (by decide) ?_
          exact fz_retR hx hb hr hlk (by first | (simp only [mm_opn, if_pos c_1, if_neg c_2, if_pos c_3, if_neg c_4, if_pos c_5]; done) | rfl | contradiction) d_MD_opened_79
        · refine lv_iconst (v := 5) (pc := 73) hx hb d_MD_opened_73 (by decide) ?_
          refine lv_goto (tgt := 79) (pc := 74) hx hb d_MD_opened_74 (by decide) ?_
          exact fz_retR hx hb hr hlk (by first | (simp only [mm_opn, if_pos c_1, if_neg c_2, if_pos c_3, if_neg c_4, if_neg c_5]; done) | rfl | contradiction) d_MD_opened_79
      · refine lv_iconst (v := 0) (pc := 62) hx hb d_MD_opened_62 (by decide) ?_
        refine lv_goto (tgt := 79) (pc := 63) hx hb d_MD_opened_63 (by decide) ?_
        exact fz_retR hx hb hr hlk (by first | (simp only [mm_opn, if_pos c_1, if_neg c_2, if_pos c_3, if_pos c_4]; done) | rfl | contradiction) d_MD_opened_79
    by_cases c_6 : a = 2
    · refine lv_tableIn (tgt := 80) (off := 69) (pc := 11) hx hb d_MD_opened_11 (by rw [c_6]; first | done | decide) (by rw [c_6]; first | done | decide) (by rw [c_6]; first | done | decide) (by decide) ?_
      refine lv_bipush (v := 37) (pc := 80) hx hb d_MD_opened_80 (by decide) ?_
      exact fz_retR hx hb hr hlk (by first | (simp only [mm_opn, if_pos c_1, if_neg c_2, if_neg c_3, if_pos c_6]; done) | rfl | contradiction) d_MD_opened_82
    by_cases c_7 : a = 3
    · refine lv_tableIn (tgt := 83) (off := 72) (pc := 11) hx hb d_MD_opened_11 (by rw [c_7]; first | done | decide) (by rw [c_7]; first | done | decide) (by rw [c_7]; first | done | decide) (by decide) ?_
      refine lv_bipush (v := 39) (pc := 83) hx hb d_MD_opened_83 (by decide) ?_
      exact fz_retR hx hb hr hlk (by first | (simp only [mm_opn, if_pos c_1, if_neg c_2, if_neg c_3, if_neg c_6, if_pos c_7]; done) | rfl | contradiction) d_MD_opened_85
    by_cases c_8 : a = 4
    · refine lv_tableIn (tgt := 86) (off := 75) (pc := 11) hx hb d_MD_opened_11 (by rw [c_8]; first | done | decide) (by rw [c_8]; first | done | decide) (by rw [c_8]; first | done | decide) (by decide) ?_
      refine lv_bipush (v := 38) (pc := 86) hx hb d_MD_opened_86 (by decide) ?_
      exact fz_retR hx hb hr hlk (by first | (simp only [mm_opn, if_pos c_1, if_neg c_2, if_neg c_3, if_neg c_6, if_neg c_7, if_pos c_8]; done) | rfl | contradiction) d_MD_opened_88
    by_cases c_9 : a = 5
    · refine lv_tableIn (tgt := 89) (off := 78) (pc := 11) hx hb d_MD_opened_11 (by rw [c_9]; first | done | decide) (by rw [c_9]; first | done | decide) (by rw [c_9]; first | done | decide) (by decide) ?_
      refine lv_bipush (v := 30) (pc := 89) hx hb d_MD_opened_89 (by decide) ?_
      exact fz_retR hx hb hr hlk (by first | (simp only [mm_opn, if_pos c_1, if_neg c_2, if_neg c_3, if_neg c_6, if_neg c_7, if_neg c_8, if_pos c_9]; done) | rfl | contradiction) d_MD_opened_91
    by_cases c_10 : a = 6
    · refine lv_tableIn (tgt := 92) (off := 81) (pc := 11) hx hb d_MD_opened_11 (by rw [c_10]; first | done | decide) (by rw [c_10]; first | done | decide) (by rw [c_10]; first | done | decide) (by decide) ?_
      refine lv_bipush (v := 61) (pc := 92) hx hb d_MD_opened_92 (by decide) ?_
      exact fz_retR hx hb hr hlk (by first | (simp only [mm_opn, if_pos c_1, if_neg c_2, if_neg c_3, if_neg c_6, if_neg c_7, if_neg c_8, if_neg c_9, if_pos c_10]; done) | rfl | contradiction) d_MD_opened_94
    have n_2 := lv_neT (a := 0) c_2 rfl
    have n_3 := lv_neT (a := 1) c_3 rfl
    have n_6 := lv_neT (a := 2) c_6 rfl
    have n_7 := lv_neT (a := 3) c_7 rfl
    have n_8 := lv_neT (a := 4) c_8 rfl
    have n_9 := lv_neT (a := 5) c_9 rfl
    have n_10 := lv_neT (a := 6) c_10 rfl
    refine lv_tableOut (tgt := 95) (pc := 11) hx hb d_MD_opened_11 (by omega) (by decide) ?_
    refine lv_bipush (v := 90) (pc := 95) hx hb d_MD_opened_95 (by decide) ?_
    exact fz_retR hx hb hr hlk (by first | (simp only [mm_opn, if_pos c_1, if_neg c_2, if_neg c_3, if_neg c_6, if_neg c_7, if_neg c_8, if_neg c_9, if_neg c_10]; done) | rfl | contradiction) d_MD_opened_97
  · refine lv_bipush (v := 41) (pc := 7) hx hb d_MD_opened_7 (by decide) ?_
    exact fz_retR hx hb hr hlk (by first | (simp only [mm_opn, if_neg c_1]; done) | rfl | contradiction) d_MD_opened_9
set_option maxHeartbeats 4000000 in
set_option maxRecDepth 100000 in
theorem c_MD_byOutcome (l : Launch) (dC : Nat → ClassId) (dI : Nat → Nat → Nat) (cI cZ cC cS : ClassId) (h0 qd : Nat) (cd og mo ps lt ac gd bd io pm op no : Int32) (a b : Int32) : Met l y_MD_byOutcome (.code y_MD_byOutcome b_MD_byOutcome 5 ((some .int)) :: tw) rm_MD_byOutcome (va_Pc [.ref h0, .int a, .int b] (P0 dC dI cI cZ cC cS [(h0, MDo qd cd og mo ps lt ac gd bd io pm op no)])) (QcRead (mm_by a b og (mm_key og) (mm_idx og))) 0 0 (fun _ => False) := by
  refine Met.ofW (cc := b_MD_byOutcome) (maxL := 5) (ret := (some .int)) (by decide) rfl ?_
  intro p e s m args below meth c s₁ B hml hv
  obtain ⟨rfl, hK, hP⟩ := hv
  have hx := B.exec
  have hb := B.bytes
  have hr := B.returns
  have hts : ∀ w ∈ tw, w.before _ s = true := fun w h => atoms_spec (ws := .code y_MD_byOutcome b_MD_byOutcome 5 ((some .int)) :: tw) B.pre w (List.mem_cons_of_mem _ h)
  have hown : s.vm.findClass "FileStatusModel" = some m.cls := findClass_of_methodNamed B.named
  have hlk := B.notSynchronized
  have hP : va_P (dC, dI) classes [(h0, MDo qd cd og mo ps lt ac gd bd io pm op no)] s.heap := hP
  have hl := lv_entry [.ref h0, .int a, .int b] (n := 5) (Nat.le_of_ble_eq_true rfl)
  rw [lg_entry_eq]
  generalize (lg_sl [.ref h0, .int a, .int b] ++ List.replicate (5 - (lg_sl [.ref h0, .int a, .int b]).length) Slot.unset).toArray = ls at hl ⊢
  have hl : lv_has ls 5 [(0, .ref h0), (1, .int a), (2, .int b)] := hl
  refine fz_cut (F0 m 12 ls [.int (mm_key og)]) (fun K => ?_) ?_
  · refine lv_aload_n (pc := 0) hx hb d_MD_byOutcome_0 rfl (lv_at hl 0 rfl) ?_
    refine gt_MD_organisation (pc := 1) hx hb hts hown hK hP 0 rfl rfl d_MD_byOutcome_1 ?_
    refine lv_if_le (tgt := 11) (pc := 4) hx hb d_MD_byOutcome_4 (by decide) (fun c_1 => ?_) (fun c_1 => ?_)
    · refine lv_iconst (v := 0) (pc := 11) hx hb d_MD_byOutcome_11 (by decide) ?_
      exact fz_top (by first | (simp only [mm_key, if_pos c_1]; done) | rfl | contradiction) K
    · refine lv_iconst (v := 1) (pc := 7) hx hb d_MD_byOutcome_7 (by decide) ?_
      refine lv_goto (tgt := 12) (pc := 8) hx hb d_MD_byOutcome_8 (by decide) ?_
      exact fz_top (by first | (simp only [mm_key, if_neg c_1]; done) | rfl | contradiction) K
  refine lv_istore_n (lv' := [(3, .int (mm_key og)), (0, .ref h0), (1, .int a), (2, .int b)]) (pc := 12) hx hb d_MD_byOutcome_12 rfl hl (by decide) rfl (fun ls hl => ?_)
  refine fz_cut (F0 m 26 ls [.int (mm_idx og)]) (fun K => ?_) ?_
  · refine lv_aload_n (pc := 13) hx hb d_MD_byOutcome_13 rfl (lv_at hl 1 rfl) ?_
    refine gt_MD_organisation (pc := 14) hx hb hts hown hK hP 0 rfl rfl d_MD_byOutcome_14 ?_
    refine lv_iconst (v := 2) (pc := 17) hx hb d_MD_byOutcome_17 (by decide) ?_
    refine lv_icmp_ne (tgt := 25) (pc := 18) hx hb d_MD_byOutcome_18 (by decide) (fun c_2 => ?_) (fun c_2 => ?_)
    · refine lv_iconst (v := 0) (pc := 25) hx hb d_MD_byOutcome_25 (by decide) ?_
      exact fz_top (by first | (simp only [mm_idx, if_neg c_2]; done) | rfl | contradiction) K
    · refine lv_iconst (v := 1) (pc := 21) hx hb d_MD_byOutcome_21 (by decide) ?_
      refine lv_goto (tgt := 26) (pc := 22) hx hb d_MD_byOutcome_22 (by decide) ?_
      exact fz_top (by first | (simp only [mm_idx, if_pos c_2]; done) | rfl | contradiction) K
  refine lv_istore (lv' := [(4, .int (mm_idx og)), (3, .int (mm_key og)), (0, .ref h0), (1, .int a), (2, .int b)]) (pc := 26) hx hb d_MD_byOutcome_26 hl (by decide) rfl (fun ls hl => ?_)
  refine lv_iload_n (pc := 28) hx hb d_MD_byOutcome_28 rfl (lv_at hl 4 rfl) ?_
  by_cases c_3 : b = 0
  · refine lv_tableIn (tgt := 80) (off := 51) (pc := 29) hx hb d_MD_byOutcome_29 (by rw [c_3]; first | done | decide) (by rw [c_3]; first | done | decide) (by rw [c_3]; first | done | decide) (by decide) ?_
    refine lv_iconst (v := 0) (pc := 80) hx hb d_MD_byOutcome_80 (by decide) ?_
    exact fz_retR hx hb hr hlk (by first | (simp only [mm_by, if_pos c_3]; done) | rfl | contradiction) d_MD_byOutcome_81
  by_cases c_4 : b = 1
  · refine lv_tableIn (tgt := 82) (off := 53) (pc := 29) hx hb d_MD_byOutcome_29 (by rw [c_4]; first | done | decide) (by rw [c_4]; first | done | decide) (by rw [c_4]; first | done | decide) (by decide) ?_
    refine lv_iload_n (pc := 82) hx hb d_MD_byOutcome_82 rfl (lv_at hl 3 rfl) ?_
    refine lv_if_ne (tgt := 89) (pc := 83) hx hb d_MD_byOutcome_83 (by decide) (fun c_5 => ?_) (fun c_5 => ?_)
    · refine lv_iload_n (pc := 89) hx hb d_MD_byOutcome_89 rfl (lv_at hl 3 rfl) ?_
      refine lv_iconst (v := 1) (pc := 90) hx hb d_MD_byOutcome_90 (by decide) ?_
      refine lv_icmp_eq (tgt := 113) (pc := 91) hx hb d_MD_byOutcome_91 (by decide) (fun c_6 => ?_) (fun c_6 => ?_)
      · refine lv_bipush (v := 23) (pc := 113) hx hb d_MD_byOutcome_113 (by decide) ?_
        refine lv_goto (tgt := 120) (pc := 115) hx hb d_MD_byOutcome_115 (by decide) ?_
        exact fz_retR hx hb hr hlk (by first | (simp only [mm_by, if_neg c_3, if_pos c_4, if_neg c_5, if_pos c_6]; done) | rfl | contradiction) d_MD_byOutcome_120
      · refine lv_iload_n (pc := 94) hx hb d_MD_byOutcome_94 rfl (lv_at hl 3 rfl) ?_
        refine lv_iconst (v := 4) (pc := 95) hx hb d_MD_byOutcome_95 (by decide) ?_
        refine lv_icmp_eq (tgt := 113) (pc := 96) hx hb d_MD_byOutcome_96 (by decide) (fun c_7 => ?_) (fun c_7 => ?_)
        · refine lv_bipush (v := 23) (pc := 113) hx hb d_MD_byOutcome_113 (by decide) ?_
          refine lv_goto (tgt := 120) (pc := 115) hx hb d_MD_byOutcome_115 (by decide) ?_
          exact fz_retR hx hb hr hlk (by first | (simp only [mm_by, if_neg c_3, if_pos c_4, if_neg c_5, if_neg c_6, if_pos c_7]; done) | rfl | contradiction) d_MD_byOutcome_120
        · refine lv_iload_n (pc := 99) hx hb d_MD_byOutcome_99 rfl (lv_at hl 3 rfl) ?_
          refine lv_iconst (v := 5) (pc := 100) hx hb d_MD_byOutcome_100 (by decide) ?_
          refine lv_icmp_eq (tgt := 113) (pc := 101) hx hb d_MD_byOutcome_101 (by decide) (fun c_8 => ?_) (fun c_8 => ?_)
          · refine lv_bipush (v := 23) (pc := 113) hx hb d_MD_byOutcome_113 (by decide) ?_
            refine lv_goto (tgt := 120) (pc := 115) hx hb d_MD_byOutcome_115 (by decide) ?_
            exact fz_retR hx hb hr hlk (by first | (simp only [mm_by, if_neg c_3, if_pos c_4, if_neg c_5, if_neg c_6, if_neg c_7, if_pos c_8]; done) | rfl | contradiction) d_MD_byOutcome_120
          · refine lv_iload_n (pc := 104) hx hb d_MD_byOutcome_104 rfl (lv_at hl 3 rfl) ?_
            refine lv_iconst (v := 3) (pc := 105) hx hb d_MD_byOutcome_105 (by decide) ?_
            refine lv_icmp_ne (tgt := 118) (pc := 106) hx hb d_MD_byOutcome_106 (by decide) (fun c_9 => ?_) (fun c_9 => ?_)
            · refine lv_bipush (v := 90) (pc := 118) hx hb d_MD_byOutcome_118 (by decide) ?_
              exact fz_retR hx hb hr hlk (by first | (simp only [mm_by, if_neg c_3, if_pos c_4, if_neg c_5, if_neg c_6, if_neg c_7, if_neg c_8, if_neg c_9]; done) | rfl | contradiction) d_MD_byOutcome_120
            · refine lv_iload_n (pc := 109) hx hb d_MD_byOutcome_109 rfl (lv_at hl 1 rfl) ?_
              refine lv_if_eq (tgt := 118) (pc := 110) hx hb d_MD_byOutcome_110 (by decide) (fun c_10 => ?_) (fun c_10 => ?_)
              · refine lv_bipush (v := 90) (pc := 118) hx hb d_MD_byOutcome_118 (by decide) ?_
                exact fz_retR hx hb hr hlk (by first | (simp only [mm_by, if_neg c_3, if_pos c_4, if_neg c_5, if_neg c_6, if_neg c_7, if_neg c_8, if_pos c_9, if_pos c_10]; done) | rfl | contradiction) d_MD_byOutcome_120
              · refine lv_bipush (v := 23) (pc := 113) hx hb d_MD_byOutcome_113 (by decide) ?_
                refine lv_goto (tgt := 120) (pc := 115) hx hb d_MD_byOutcome_115 (by decide) ?_
                exact fz_retR hx hb hr hlk (by first | (simp only [mm_by, if_neg c_3, if_pos c_4, if_neg c_5, if_neg c_6, if_neg c_7, if_neg c_8, if_pos c_9, if_neg c_10]; done) | rfl | contradiction) d_MD_byOutcome_120
    · refine lv_bipush (v := 10) (pc := 86) hx hb d_MD_byOutcome_86 (by decide) ?_
      exact fz_retR hx hb hr hlk (by first | (simp only [mm_by, if_neg c_3, if_pos c_4, if_pos c_5]; done) | rfl | contradiction) d_MD_byOutcome_88
  by_cases c_11 : b = 2
  · refine lv_tableIn (tgt := 121) (off := 92) (pc := 29) hx hb d_MD_byOutcome_29 (by rw [c_11]; first | done | decide) (by rw [c_11]; first | done | decide) (by rw [c_11]; first | done | decide) (by decide) ?_
    refine lv_iload (pc := 121) hx hb d_MD_byOutcome_121 (lv_at hl 0 rfl) ?_
    refine lv_if_eq (tgt := 135) (pc := 123) hx hb d_MD_byOutcome_123 (by decide) (fun c_12 => ?_) (fun c_12 => ?_)
    · refine lv_bipush (v := 90) (pc := 135) hx hb d_MD_byOutcome_135 (by decide) ?_
      exact fz_retR hx hb hr hlk (by first | (simp only [mm_by, if_neg c_3, if_neg c_4, if_pos c_11, if_pos c_12]; done) | rfl | contradiction) d_MD_byOutcome_137
    · refine lv_iload_n (pc := 126) hx hb d_MD_byOutcome_126 rfl (lv_at hl 3 rfl) ?_
      refine lv_iconst (v := 4) (pc := 127) hx hb d_MD_byOutcome_127 (by decide) ?_
      refine lv_icmp_ge (tgt := 135) (pc := 128) hx hb d_MD_byOutcome_128 (by decide) (fun c_13 => ?_) (fun c_13 => ?_)
      · refine lv_bipush (v := 90) (pc := 135) hx hb d_MD_byOutcome_135 (by decide) ?_
        exact fz_retR hx hb hr hlk (by first | (simp only [mm_by, if_neg c_3, if_neg c_4, if_pos c_11, if_neg c_12, if_pos c_13]; done) | rfl | contradiction) d_MD_byOutcome_137
      · refine lv_iconst (v := 2) (pc := 131) hx hb d_MD_byOutcome_131 (by decide) ?_
        refine lv_goto (tgt := 137) (pc := 132) hx hb d_MD_byOutcome_132 (by decide) ?_
        exact fz_retR hx hb hr hlk (by first | (simp only [mm_by, if_neg c_3, if_neg c_4, if_pos c_11, if_neg c_12, if_neg c_13]; done) | rfl | contradiction) d_MD_byOutcome_137
  by_cases c_14 : b = 3
  · refine lv_tableIn (tgt := 138) (off := 109) (pc := 29) hx hb d_MD_byOutcome_29 (by rw [c_14]; first | done | decide) (by rw [c_14]; first | done | decide) (by rw [c_14]; first | done | decide) (by decide) ?_
    refine lv_iload_n (pc := 138) hx hb d_MD_byOutcome_138 rfl (lv_at hl 3 rfl) ?_
    refine lv_iconst (v := 2) (pc := 139) hx hb d_MD_byOutcome_139 (by decide) ?_
    refine lv_icmp_ne (tgt := 147) (pc := 140) hx hb d_MD_byOutcome_140 (by decide) (fun c_15 => ?_) (fun c_15 => ?_)
    · refine lv_iload_n (pc := 147) hx hb d_MD_byOutcome_147 rfl (lv_at hl 3 rfl) ?_
      refine lv_iconst (v := 3) (pc := 148) hx hb d_MD_byOutcome_148 (by decide) ?_
      refine lv_icmp_ne (tgt := 162) (pc := 149) hx hb d_MD_byOutcome_149 (by decide) (fun c_16 => ?_) (fun c_16 => ?_)
      · refine lv_bipush (v := 90) (pc := 162) hx hb d_MD_byOutcome_162 (by decide) ?_
        exact fz_retR hx hb hr hlk (by first | (simp only [mm_by, if_neg c_3, if_neg c_4, if_neg c_11, if_pos c_14, if_neg c_15, if_neg c_16]; done) | rfl | contradiction) d_MD_byOutcome_164
      · refine lv_iload (pc := 152) hx hb d_MD_byOutcome_152 (lv_at hl 0 rfl) ?_
        refine lv_if_eq (tgt := 162) (pc := 154) hx hb d_MD_byOutcome_154 (by decide) (fun c_17 => ?_) (fun c_17 => ?_)
        · refine lv_bipush (v := 90) (pc := 162) hx hb d_MD_byOutcome_162 (by decide) ?_
          exact fz_retR hx hb hr hlk (by first | (simp only [mm_by, if_neg c_3, if_neg c_4, if_neg c_11, if_pos c_14, if_neg c_15, if_pos c_16, if_pos c_17]; done) | rfl | contradiction) d_MD_byOutcome_164
        · refine lv_bipush (v := 22) (pc := 157) hx hb d_MD_byOutcome_157 (by decide) ?_
          refine lv_goto (tgt := 164) (pc := 159) hx hb d_MD_byOutcome_159 (by decide) ?_
          exact fz_retR hx hb hr hlk (by first | (simp only [mm_by, if_neg c_3, if_neg c_4, if_neg c_11, if_pos c_14, if_neg c_15, if_pos c_16, if_neg c_17]; done) | rfl | contradiction) d_MD_byOutcome_164
    · refine lv_iload_n (pc := 143) hx hb d_MD_byOutcome_143 rfl (lv_at hl 1 rfl) ?_
      refine lv_if_ne (tgt := 157) (pc := 144) hx hb d_MD_byOutcome_144 (by decide) (fun c_18 => ?_) (fun c_18 => ?_)
      · refine lv_bipush (v := 22) (pc := 157) hx hb d_MD_byOutcome_157 (by decide) ?_
        refine lv_goto (tgt := 164) (pc := 159) hx hb d_MD_byOutcome_159 (by decide) ?_
        exact fz_retR hx hb hr hlk (by first | (simp only [mm_by, if_neg c_3, if_neg c_4, if_neg c_11, if_pos c_14, if_pos c_15, if_neg c_18]; done) | rfl | contradiction) d_MD_byOutcome_164
      · refine lv_iload_n (pc := 147) hx hb d_MD_byOutcome_147 rfl (lv_at hl 3 rfl) ?_
        refine lv_iconst (v := 3) (pc := 148) hx hb d_MD_byOutcome_148 (by decide) ?_
        refine lv_icmp_ne (tgt := 162) (pc := 149) hx hb d_MD_byOutcome_149 (by decide) (fun c_19 => ?_) (fun c_19 => ?_)
        · refine lv_bipush (v := 90) (pc := 162) hx hb d_MD_byOutcome_162 (by decide) ?_
          exact fz_retR hx hb hr hlk (by first | (simp only [mm_by, if_neg c_3, if_neg c_4, if_neg c_11, if_pos c_14, if_pos c_15, if_pos c_18, if_neg c_19]; done) | rfl | contradiction) d_MD_byOutcome_164
        · refine lv_iload (pc := 152) hx hb d_MD_byOutcome_152 (lv_at hl 0 rfl) ?_
          refine lv_if_eq (tgt := 162) (pc := 154) hx hb d_MD_byOutcome_154 (by decide) (fun c_20 => ?_) (fun c_20 => ?_)
          · refine lv_bipush (v := 90) (pc := 162) hx hb d_MD_byOutcome_162 (by decide) ?_
            exact fz_retR hx hb hr hlk (by first | (simp only [mm_by, if_neg c_3, if_neg c_4, if_neg c_11, if_pos c_14, if_pos c_15, if_pos c_18, if_pos c_19, if_pos c_20]; done) | rfl | contradiction) d_MD_byOutcome_164
          · refine lv_bipush (v := 22) (pc := 157) hx hb d_MD_byOutcome_157 (by decide) ?_
            refine lv_goto (tgt := 164) (pc := 159) hx hb d_MD_byOutcome_159 (by decide) ?_
            exact fz_retR hx hb hr hlk (by first | (simp only [mm_by, if_neg c_3, if_neg c_4, if_neg c_11, if_pos c_14, if_pos c_15, if_pos c_18, if_pos c_19, if_neg c_20]; done) | rfl | contradiction) d_MD_byOutcome_164
  by_cases c_21 : b = 4
  · refine lv_tableIn (tgt := 165) (off := 136) (pc := 29) hx hb d_MD_byOutcome_29 (by rw [c_21]; first | done | decide) (by rw [c_21]; first | done | decide) (by rw [c_21]; first | done | decide) (by decide) ?_
    refine lv_iload_n (pc := 165) hx hb d_MD_byOutcome_165 rfl (lv_at hl 3 rfl) ?_
    refine lv_iconst (v := 2) (pc := 166) hx hb d_MD_byOutcome_166 (by decide) ?_
    refine lv_icmp_ne (tgt := 182) (pc := 167) hx hb d_MD_byOutcome_167 (by decide) (fun c_22 => ?_) (fun c_22 => ?_)
    · refine lv_iload_n (pc := 182) hx hb d_MD_byOutcome_182 rfl (lv_at hl 3 rfl) ?_
      refine lv_if_ne (tgt := 199) (pc := 183) hx hb d_MD_byOutcome_183 (by decide) (fun c_23 => ?_) (fun c_23 => ?_)
      · refine lv_bipush (v := 90) (pc := 199) hx hb d_MD_byOutcome_199 (by decide) ?_
        exact fz_retR hx hb hr hlk (by first | (simp only [mm_by, if_neg c_3, if_neg c_4, if_neg c_11, if_neg c_14, if_pos c_21, if_neg c_22, if_neg c_23]; done) | rfl | contradiction) d_MD_byOutcome_201
      · refine lv_aload_n (pc := 186) hx hb d_MD_byOutcome_186 rfl (lv_at hl 2 rfl) ?_
        refine gt_MD_organisation (pc := 187) hx hb hts hown hK hP 0 rfl rfl d_MD_byOutcome_187 ?_
        refine lv_iconst (v := 1) (pc := 190) hx hb d_MD_byOutcome_190 (by decide) ?_
        refine lv_icmp_ne (tgt := 199) (pc := 191) hx hb d_MD_byOutcome_191 (by decide) (fun c_24 => ?_) (fun c_24 => ?_)
        · refine lv_bipush (v := 90) (pc := 199) hx hb d_MD_byOutcome_199 (by decide) ?_
          exact fz_retR hx hb hr hlk (by first | (simp only [mm_by, if_neg c_3, if_neg c_4, if_neg c_11, if_neg c_14, if_pos c_21, if_neg c_22, if_pos c_23, if_neg c_24]; done) | rfl | contradiction) d_MD_byOutcome_201
        · refine lv_bipush (v := 14) (pc := 194) hx hb d_MD_byOutcome_194 (by decide) ?_
          refine lv_goto (tgt := 201) (pc := 196) hx hb d_MD_byOutcome_196 (by decide) ?_
          exact fz_retR hx hb hr hlk (by first | (simp only [mm_by, if_neg c_3, if_neg c_4, if_neg c_11, if_neg c_14, if_pos c_21, if_neg c_22, if_pos c_23, if_pos c_24]; done) | rfl | contradiction) d_MD_byOutcome_201
    · refine lv_iload_n (pc := 170) hx hb d_MD_byOutcome_170 rfl (lv_at hl 1 rfl) ?_
      refine lv_if_eq (tgt := 179) (pc := 171) hx hb d_MD_byOutcome_171 (by decide) (fun c_25 => ?_) (fun c_25 => ?_)
      · refine lv_bipush (v := 34) (pc := 179) hx hb d_MD_byOutcome_179 (by decide) ?_
        exact fz_retR hx hb hr hlk (by first | (simp only [mm_by, if_neg c_3, if_neg c_4, if_neg c_11, if_neg c_14, if_pos c_21, if_pos c_22, if_pos c_25]; done) | rfl | contradiction) d_MD_byOutcome_181
      · refine lv_bipush (v := 24) (pc := 174) hx hb d_MD_byOutcome_174 (by decide) ?_
        refine lv_goto (tgt := 181) (pc := 176) hx hb d_MD_byOutcome_176 (by decide) ?_
        exact fz_retR hx hb hr hlk (by first | (simp only [mm_by, if_neg c_3, if_neg c_4, if_neg c_11, if_neg c_14, if_pos c_21, if_pos c_22, if_neg c_25]; done) | rfl | contradiction) d_MD_byOutcome_181
  by_cases c_26 : b = 5
  · refine lv_tableIn (tgt := 202) (off := 173) (pc := 29) hx hb d_MD_byOutcome_29 (by rw [c_26]; first | done | decide) (by rw [c_26]; first | done | decide) (by rw [c_26]; first | done | decide) (by decide) ?_
    refine lv_bipush (v := 30) (pc := 202) hx hb d_MD_byOutcome_202 (by decide) ?_
    exact fz_retR hx hb hr hlk (by first | (simp only [mm_by, if_neg c_3, if_neg c_4, if_neg c_11, if_neg c_14, if_neg c_21, if_pos c_26]; done) | rfl | contradiction) d_MD_byOutcome_204
  by_cases c_27 : b = 6
  · refine lv_tableIn (tgt := 205) (off := 176) (pc := 29) hx hb d_MD_byOutcome_29 (by rw [c_27]; first | done | decide) (by rw [c_27]; first | done | decide) (by rw [c_27]; first | done | decide) (by decide) ?_
    refine lv_iload_n (pc := 205) hx hb d_MD_byOutcome_205 rfl (lv_at hl 3 rfl) ?_
    refine lv_bipush (v := 6) (pc := 206) hx hb d_MD_byOutcome_206 (by decide) ?_
    refine lv_icmp_ge (tgt := 216) (pc := 208) hx hb d_MD_byOutcome_208 (by decide) (fun c_28 => ?_) (fun c_28 => ?_)
    · refine lv_bipush (v := 90) (pc := 216) hx hb d_MD_byOutcome_216 (by decide) ?_
      exact fz_retR hx hb hr hlk (by first | (simp only [mm_by, if_neg c_3, if_neg c_4, if_neg c_11, if_neg c_14, if_neg c_21, if_neg c_26, if_pos c_27, if_pos c_28]; done) | rfl | contradiction) d_MD_byOutcome_218
    · refine lv_bipush (v := 51) (pc := 211) hx hb d_MD_byOutcome_211 (by decide) ?_
      refine lv_goto (tgt := 218) (pc := 213) hx hb d_MD_byOutcome_213 (by decide) ?_
      exact fz_retR hx hb hr hlk (by first | (simp only [mm_by, if_neg c_3, if_neg c_4, if_neg c_11, if_neg c_14, if_neg c_21, if_neg c_26, if_pos c_27, if_neg c_28]; done) | rfl | contradiction) d_MD_byOutcome_218
  by_cases c_29 : b = 7
  · refine lv_tableIn (tgt := 219) (off := 190) (pc := 29) hx hb d_MD_byOutcome_29 (by rw [c_29]; first | done | decide) (by rw [c_29]; first | done | decide) (by rw [c_29]; first | done | decide) (by decide) ?_
    refine lv_iload_n (pc := 219) hx hb d_MD_byOutcome_219 rfl (lv_at hl 3 rfl) ?_
    refine lv_iconst (v := 2) (pc := 220) hx hb d_MD_byOutcome_220 (by decide) ?_
    refine lv_icmp_ge (tgt := 228) (pc := 221) hx hb d_MD_byOutcome_221 (by decide) (fun c_30 => ?_) (fun c_30 => ?_)
    · refine lv_iload_n (pc := 228) hx hb d_MD_byOutcome_228 rfl (lv_at hl 3 rfl) ?_
      refine lv_iconst (v := 4) (pc := 229) hx hb d_MD_byOutcome_229 (by decide) ?_
      refine lv_icmp_ge (tgt := 238) (pc := 230) hx hb d_MD_byOutcome_230 (by decide) (fun c_31 => ?_) (fun c_31 => ?_)
      · refine lv_bipush (v := 90) (pc := 238) hx hb d_MD_byOutcome_238 (by decide) ?_
        exact fz_retR hx hb hr hlk (by first | (simp only [mm_by, if_neg c_3, if_neg c_4, if_neg c_11, if_neg c_14, if_neg c_21, if_neg c_26, if_neg c_27, if_pos c_29, if_pos c_30, if_pos c_31]; done) | rfl | contradiction) d_MD_byOutcome_240
      · refine lv_bipush (v := 44) (pc := 233) hx hb d_MD_byOutcome_233 (by decide) ?_
        refine lv_goto (tgt := 240) (pc := 235) hx hb d_MD_byOutcome_235 (by decide) ?_
        exact fz_retR hx hb hr hlk (by first | (simp only [mm_by, if_neg c_3, if_neg c_4, if_neg c_11, if_neg c_14, if_neg c_21, if_neg c_26, if_neg c_27, if_pos c_29, if_pos c_30, if_neg c_31]; done) | rfl | contradiction) d_MD_byOutcome_240
    · refine lv_iconst (v := 4) (pc := 224) hx hb d_MD_byOutcome_224 (by decide) ?_
      refine lv_goto (tgt := 240) (pc := 225) hx hb d_MD_byOutcome_225 (by decide) ?_
      exact fz_retR hx hb hr hlk (by first | (simp only [mm_by, if_neg c_3, if_neg c_4, if_neg c_11, if_neg c_14, if_neg c_21, if_neg c_26, if_neg c_27, if_pos c_29, if_neg c_30]; done) | rfl | contradiction) d_MD_byOutcome_240
  by_cases c_32 : b = 8
  · refine lv_tableIn (tgt := 241) (off := 212) (pc := 29) hx hb d_MD_byOutcome_29 (by rw [c_32]; first | done | decide) (by rw [c_32]; first | done | decide) (by rw [c_32]; first | done | decide) (by decide) ?_
    refine lv_iload (pc := 241) hx hb d_MD_byOutcome_241 (lv_at hl 0 rfl) ?_
    refine lv_if_eq (tgt := 261) (pc := 243) hx hb d_MD_byOutcome_243 (by decide) (fun c_33 => ?_) (fun c_33 => ?_)
    · refine lv_bipush (v := 90) (pc := 261) hx hb d_MD_byOutcome_261 (by decide) ?_
      exact fz_retR hx hb hr hlk (by first | (simp only [mm_by, if_neg c_3, if_neg c_4, if_neg c_11, if_neg c_14, if_neg c_21, if_neg c_26, if_neg c_27, if_neg c_29, if_pos c_32, if_pos c_33]; done) | rfl | contradiction) d_MD_byOutcome_263
    · refine lv_iload_n (pc := 246) hx hb d_MD_byOutcome_246 rfl (lv_at hl 3 rfl) ?_
      refine lv_iconst (v := 2) (pc := 247) hx hb d_MD_byOutcome_247 (by decide) ?_
      refine lv_icmp_eq (tgt := 256) (pc := 248) hx hb d_MD_byOutcome_248 (by decide) (fun c_34 => ?_) (fun c_34 => ?_)
      · refine lv_bipush (v := 21) (pc := 256) hx hb d_MD_byOutcome_256 (by decide) ?_
        refine lv_goto (tgt := 263) (pc := 258) hx hb d_MD_byOutcome_258 (by decide) ?_
        exact fz_retR hx hb hr hlk (by first | (simp only [mm_by, if_neg c_3, if_neg c_4, if_neg c_11, if_neg c_14, if_neg c_21, if_neg c_26, if_neg c_27, if_neg c_29, if_pos c_32, if_neg c_33, if_pos c_34]; done) | rfl | contradiction) d_MD_byOutcome_263
      · refine lv_iload_n (pc := 251) hx hb d_MD_byOutcome_251 rfl (lv_at hl 3 rfl) ?_
        refine lv_iconst (v := 3) (pc := 252) hx hb d_MD_byOutcome_252 (by decide) ?_
        refine lv_icmp_ne (tgt := 261) (pc := 253) hx hb d_MD_byOutcome_253 (by decide) (fun c_35 => ?_) (fun c_35 => ?_)
        · refine lv_bipush (v := 90) (pc := 261) hx hb d_MD_byOutcome_261 (by decide) ?_
          exact fz_retR hx hb hr hlk (by first | (simp only [mm_by, if_neg c_3, if_neg c_4, if_neg c_11, if_neg c_14, if_neg c_21, if_neg c_26, if_neg c_27, if_neg c_29, if_pos c_32, if_neg c_33, if_neg c_34, if_neg c_35]; done) | rfl | contradiction) d_MD_byOutcome_263
        · refine lv_bipush (v := 21) (pc := 256) hx hb d_MD_byOutcome_256 (by decide) ?_
          refine lv_goto (tgt := 263) (pc := 258) hx hb d_MD_byOutcome_258 (by decide) ?_
          exact fz_retR hx hb hr hlk (by first | (simp only [mm_by, if_neg c_3, if_neg c_4, if_neg c_11, if_neg c_14, if_neg c_21, if_neg c_26, if_neg c_27, if_neg c_29, if_pos c_32, if_neg c_33, if_neg c_34, if_pos c_35]; done) | rfl | contradiction) d_MD_byOutcome_263
  have n_3 := lv_neT (a := 0) c_3 rfl
  have n_4 := lv_neT (a := 1) c_4 rfl
  have n_11 := lv_neT (a := 2) c_11 rfl
  have n_14 := lv_neT (a := 3) c_14 rfl
  have n_21 := lv_neT (a := 4) c_21 rfl
  have n_26 := lv_neT (a := 5) c_26 rfl
  have n_27 := lv_neT (a := 6) c_27 rfl
  have n_29 := lv_neT (a := 7) c_29 rfl
  have n_32 := lv_neT (a := 8) c_32 rfl
  refine lv_tableOut (tgt := 264) (pc := 29) hx hb d_MD_byOutcome_29 (by omega) (by decide) ?_
  refine lv_bipush (v := 90) (pc := 264) hx hb d_MD_byOutcome_264 (by decide) ?_
  exact fz_retR hx hb hr hlk (by first | (simp only [mm_by, if_neg c_3, if_neg c_4, if_neg c_11, if_neg c_14, if_neg c_21, if_neg c_26, if_neg c_27, if_neg c_29, if_neg c_32]; done) | rfl | contradiction) d_MD_byOutcome_266
set_option maxHeartbeats 4000000 in
set_option maxRecDepth 100000 in
theorem c_MD_ahead (l : Launch) (dC : Nat → ClassId) (dI : Nat → Nat → Nat) (cI cZ cC cS : ClassId) (h0 qd : Nat) (cd og mo ps lt ac gd bd io pm op no : Int32) (a : Int32) : Met l y_MD_ahead (.code y_MD_ahead b_MD_ahead 2 ((some .int)) :: tw) rm_MD_ahead (va_Pc [.ref h0, .int a] (P0 dC dI cI cZ cC cS [(h0, MDo qd cd og mo ps lt ac gd bd io pm op no)])) (QcRead (mm_ah io og a mo ps pm)) 0 0 (fun _ => False) := by
  refine Met.ofW (cc := b_MD_ahead) (maxL := 2) (ret := (some .int)) (by decide) rfl ?_
  intro p e s m args below meth c s₁ B hml hv
  obtain ⟨rfl, hK, hP⟩ := hv
  have hx := B.exec
  have hb := B.bytes
  have hr := B.returns
  have hts : ∀ w ∈ tw, w.before _ s = true := fun w h => atoms_spec (ws := .code y_MD_ahead b_MD_ahead 2 ((some .int)) :: tw) B.pre w (List.mem_cons_of_mem _ h)
  have hown : s.vm.findClass "FileStatusModel" = some m.cls := findClass_of_methodNamed B.named
  have hlk := B.notSynchronized
  have hP : va_P (dC, dI) classes [(h0, MDo qd cd og mo ps lt ac gd bd io pm op no)] s.heap := hP
  have hl := lv_entry [.ref h0, .int a] (n := 2) (Nat.le_of_ble_eq_true rfl)
  rw [lg_entry_eq]
  generalize (lg_sl [.ref h0, .int a] ++ List.replicate (2 - (lg_sl [.ref h0, .int a]).length) Slot.unset).toArray = ls at hl ⊢
  have hl : lv_has ls 2 [(0, .ref h0), (1, .int a)] := hl
  refine lv_aload_n (pc := 0) hx hb d_MD_ahead_0 rfl (lv_at hl 0 rfl) ?_
  refine gt_MD_isOpen (pc := 1) hx hb hts hown hK hP 0 rfl rfl d_MD_ahead_1 ?_
  refine lv_if_ne (tgt := 10) (pc := 4) hx hb d_MD_ahead_4 (by decide) (fun c_1 => ?_) (fun c_1 => ?_)
  · refine fz_cutH (P := ¬ mm_c1 og a = 1) (F0 m 35 ls []) (fun K => ?_) (fun q_1 => ?_)
    · refine lv_aload_n (pc := 10) hx hb d_MD_ahead_10 rfl (lv_at hl 0 rfl) ?_
      refine gt_MD_organisation (pc := 11) hx hb hts hown hK hP 0 rfl rfl d_MD_ahead_11 ?_
      refine lv_if_ne (tgt := 35) (pc := 14) hx hb d_MD_ahead_14 (by decide) (fun c_2 => ?_) (fun c_2 => ?_)
      · exact K (by rw [show mm_c1 og a = 0 from (by first | (simp only [mm_c1, if_neg c_2]; done) | rfl | contradiction)]; decide)
      · refine lv_iload_n (pc := 17) hx hb d_MD_ahead_17 rfl (lv_at hl 1 rfl) ?_
        refine lv_iconst (v := 1) (pc := 18) hx hb d_MD_ahead_18 (by decide) ?_
        refine lv_icmp_eq (tgt := 32) (pc := 19) hx hb d_MD_ahead_19 (by decide) (fun c_3 => ?_) (fun c_3 => ?_)
        · refine lv_bipush (v := 90) (pc := 32) hx hb d_MD_ahead_32 (by decide) ?_
          exact fz_retR hx hb hr hlk (by have h : mm_c1 og a = 1 := (by first | (simp only [mm_c1, if_pos c_2, if_pos c_3]; done) | rfl | contradiction); simp only [mm_ah, if_neg c_1, if_pos h]) d_MD_ahead_34
        · refine lv_iload_n (pc := 22) hx hb d_MD_ahead_22 rfl (lv_at hl 1 rfl) ?_
          refine lv_iconst (v := 4) (pc := 23) hx hb d_MD_ahead_23 (by decide) ?_
          refine lv_icmp_eq (tgt := 32) (pc := 24) hx hb d_MD_ahead_24 (by decide) (fun c_4 => ?_) (fun c_4 => ?_)
          · refine lv_bipush (v := 90) (pc := 32) hx hb d_MD_ahead_32 (by decide) ?_
            exact fz_retR hx hb hr hlk (by have h : mm_c1 og a = 1 := (by first | (simp only [mm_c1, if_pos c_2, if_neg c_3, if_pos c_4]; done) | rfl | contradiction); simp only [mm_ah, if_neg c_1, if_pos h]) d_MD_ahead_34
          · refine lv_iload_n (pc := 27) hx hb d_MD_ahead_27 rfl (lv_at hl 1 rfl) ?_
            refine lv_iconst (v := 5) (pc := 28) hx hb d_MD_ahead_28 (by decide) ?_
            refine lv_icmp_ne (tgt := 35) (pc := 29) hx hb d_MD_ahead_29 (by decide) (fun c_5 => ?_) (fun c_5 => ?_)
            · exact K (by rw [show mm_c1 og a = 0 from (by first | (simp only [mm_c1, if_pos c_2, if_neg c_3, if_neg c_4, if_neg c_5]; done) | rfl | contradiction)]; decide)
            · refine lv_bipush (v := 90) (pc := 32) hx hb d_MD_ahead_32 (by decide) ?_
              exact fz_retR hx hb hr hlk (by have h : mm_c1 og a = 1 := (by first | (simp only [mm_c1, if_pos c_2, if_neg c_3, if_neg c_4, if_pos c_5]; done) | rfl | contradiction); simp only [mm_ah, if_neg c_1, if_pos h]) d_MD_ahead_34
    refine fz_cutH (P := ¬ mm_c2 a mo = 1) (F0 m 59 ls []) (fun K => ?_) (fun q_2 => ?_)
    · refine lv_iload_n (pc := 35) hx hb d_MD_ahead_35 rfl (lv_at hl 1 rfl) ?_
      refine lv_if_eq (tgt := 49) (pc := 36) hx hb d_MD_ahead_36 (by decide) (fun c_6 => ?_) (fun c_6 => ?_)
      · refine lv_aload_n (pc := 49) hx hb d_MD_ahead_49 rfl (lv_at hl 0 rfl) ?_
        refine fz_rV (pc := 50) (As := []) (rest := []) ⟨hx, hb, hml, hown, hts⟩ (c_MD_reads l dC dI cI cZ cC cS h0 qd cd og mo ps lt ac gd bd io pm op no) (cs_MD_59 hts ⟨(Nat.le_of_ble_eq_true rfl), (Nat.le_of_ble_eq_true rfl)⟩) (fz_preV (q0 := 0) (ci := 2) hK hP rfl rfl (hP.sub [0] rfl)) rfl hl.1 rfl (Nat.le_of_ble_eq_true rfl) d_MD_ahead_50 ⟨(Nat.le_of_ble_eq_true rfl), (Nat.le_of_ble_eq_true rfl)⟩ ?_
        refine lv_if_ne (tgt := 59) (pc := 53) hx hb d_MD_ahead_53 (by decide) (fun c_7 => ?_) (fun c_7 => ?_)
        · exact K (by rw [show mm_c2 a mo = 0 from (by first | (simp only [mm_c2, if_pos c_6, if_neg c_7]; done) | rfl | contradiction)]; decide)
        · refine lv_bipush (v := 47) (pc := 56) hx hb d_MD_ahead_56 (by decide) ?_
          exact fz_retR hx hb hr hlk (by have h : mm_c2 a mo = 1 := (by first | (simp only [mm_c2, if_pos c_6, if_pos c_7]; done) | rfl | contradiction); simp only [mm_ah, if_neg c_1, if_neg q_1, if_pos h]) d_MD_ahead_58
      · refine lv_iload_n (pc := 39) hx hb d_MD_ahead_39 rfl (lv_at hl 1 rfl) ?_
        refine lv_iconst (v := 1) (pc := 40) hx hb d_MD_ahead_40 (by decide) ?_
        refine lv_icmp_eq (tgt := 49) (pc := 41) hx hb d_MD_ahead_41 (by decide) (fun c_8 => ?_) (fun c_8 => ?_)
        · refine lv_aload_n (pc := 49) hx hb d_MD_ahead_49 rfl (lv_at hl 0 rfl) ?_
          refine fz_rV (pc := 50) (As := []) (rest := []) ⟨hx, hb, hml, hown, hts⟩ (c_MD_reads l dC dI cI cZ cC cS h0 qd cd og mo ps lt ac gd bd io pm op no) (cs_MD_59 hts ⟨(Nat.le_of_ble_eq_true rfl), (Nat.le_of_ble_eq_true rfl)⟩) (fz_preV (q0 := 0) (ci := 2) hK hP rfl rfl (hP.sub [0] rfl)) rfl hl.1 rfl (Nat.le_of_ble_eq_true rfl) d_MD_ahead_50 ⟨(Nat.le_of_ble_eq_true rfl), (Nat.le_of_ble_eq_true rfl)⟩ ?_
          refine lv_if_ne (tgt := 59) (pc := 53) hx hb d_MD_ahead_53 (by decide) (fun c_9 => ?_) (fun c_9 => ?_)
          · exact K (by rw [show mm_c2 a mo = 0 from (by first | (simp only [mm_c2, if_neg c_6, if_pos c_8, if_neg c_9]; done) | rfl | contradiction)]; decide)
          · refine lv_bipush (v := 47) (pc := 56) hx hb d_MD_ahead_56 (by decide) ?_
            exact fz_retR hx hb hr hlk (by have h : mm_c2 a mo = 1 := (by first | (simp only [mm_c2, if_neg c_6, if_pos c_8, if_pos c_9]; done) | rfl | contradiction); simp only [mm_ah, if_neg c_1, if_neg q_1, if_pos h]) d_MD_ahead_58
        · refine lv_iload_n (pc := 44) hx hb d_MD_ahead_44 rfl (lv_at hl 1 rfl) ?_
          refine lv_iconst (v := 5) (pc := 45) hx hb d_MD_ahead_45 (by decide) ?_
          refine lv_icmp_ne (tgt := 59) (pc := 46) hx hb d_MD_ahead_46 (by decide) (fun c_10 => ?_) (fun c_10 => ?_)
          · exact K (by rw [show mm_c2 a mo = 0 from (by first | (simp only [mm_c2, if_neg c_6, if_neg c_8, if_neg c_10]; done) | rfl | contradiction)]; decide)
          · refine lv_aload_n (pc := 49) hx hb d_MD_ahead_49 rfl (lv_at hl 0 rfl) ?_
            refine fz_rV (pc := 50) (As := []) (rest := []) ⟨hx, hb, hml, hown, hts⟩ (c_MD_reads l dC dI cI cZ cC cS h0 qd cd og mo ps lt ac gd bd io pm op no) (cs_MD_59 hts ⟨(Nat.le_of_ble_eq_true rfl), (Nat.le_of_ble_eq_true rfl)⟩) (fz_preV (q0 := 0) (ci := 2) hK hP rfl rfl (hP.sub [0] rfl)) rfl hl.1 rfl (Nat.le_of_ble_eq_true rfl) d_MD_ahead_50 ⟨(Nat.le_of_ble_eq_true rfl), (Nat.le_of_ble_eq_true rfl)⟩ ?_
            refine lv_if_ne (tgt := 59) (pc := 53) hx hb d_MD_ahead_53 (by decide) (fun c_11 => ?_) (fun c_11 => ?_)
            · exact K (by rw [show mm_c2 a mo = 0 from (by first | (simp only [mm_c2, if_neg c_6, if_neg c_8, if_pos c_10, if_neg c_11]; done) | rfl | contradiction)]; decide)
            · refine lv_bipush (v := 47) (pc := 56) hx hb d_MD_ahead_56 (by decide) ?_
              exact fz_retR hx hb hr hlk (by have h : mm_c2 a mo = 1 := (by first | (simp only [mm_c2, if_neg c_6, if_neg c_8, if_pos c_10, if_pos c_11]; done) | rfl | contradiction); simp only [mm_ah, if_neg c_1, if_neg q_1, if_pos h]) d_MD_ahead_58
    refine fz_cutH (P := ¬ mm_c3 a mo og = 1) (F0 m 89 ls []) (fun K => ?_) (fun q_3 => ?_)
    · refine lv_iload_n (pc := 59) hx hb d_MD_ahead_59 rfl (lv_at hl 1 rfl) ?_
      refine lv_iconst (v := 2) (pc := 60) hx hb d_MD_ahead_60 (by decide) ?_
      refine lv_icmp_ne (tgt := 89) (pc := 61) hx hb d_MD_ahead_61 (by decide) (fun c_12 => ?_) (fun c_12 => ?_)
      · exact K (by rw [show mm_c3 a mo og = 0 from (by first | (simp only [mm_c3, if_neg c_12]; done) | rfl | contradiction)]; decide)
      · refine lv_aload_n (pc := 64) hx hb d_MD_ahead_64 rfl (lv_at hl 0 rfl) ?_
        refine gt_MD_mode (pc := 65) hx hb hts hown hK hP 0 rfl rfl d_MD_ahead_65 ?_
        refine lv_if_eq (tgt := 86) (pc := 68) hx hb d_MD_ahead_68 (by decide) (fun c_13 => ?_) (fun c_13 => ?_)
        · refine lv_bipush (v := 48) (pc := 86) hx hb d_MD_ahead_86 (by decide) ?_
          exact fz_retR hx hb hr hlk (by have h : mm_c3 a mo og = 1 := (by first | (simp only [mm_c3, if_pos c_12, if_pos c_13]; done) | rfl | contradiction); simp only [mm_ah, if_neg c_1, if_neg q_1, if_neg q_2, if_pos h]) d_MD_ahead_88
        · refine lv_aload_n (pc := 71) hx hb d_MD_ahead_71 rfl (lv_at hl 0 rfl) ?_
          refine gt_MD_mode (pc := 72) hx hb hts hown hK hP 0 rfl rfl d_MD_ahead_72 ?_
          refine lv_iconst (v := 2) (pc := 75) hx hb d_MD_ahead_75 (by decide) ?_
          refine lv_icmp_ne (tgt := 89) (pc := 76) hx hb d_MD_ahead_76 (by decide) (fun c_14 => ?_) (fun c_14 => ?_)
          · exact K (by rw [show mm_c3 a mo og = 0 from (by first | (simp only [mm_c3, if_pos c_12, if_neg c_13, if_neg c_14]; done) | rfl | contradiction)]; decide)
          · refine lv_aload_n (pc := 79) hx hb d_MD_ahead_79 rfl (lv_at hl 0 rfl) ?_
            refine gt_MD_organisation (pc := 80) hx hb hts hown hK hP 0 rfl rfl d_MD_ahead_80 ?_
            refine lv_if_ne (tgt := 89) (pc := 83) hx hb d_MD_ahead_83 (by decide) (fun c_15 => ?_) (fun c_15 => ?_)
            · exact K (by rw [show mm_c3 a mo og = 0 from (by first | (simp only [mm_c3, if_pos c_12, if_neg c_13, if_pos c_14, if_neg c_15]; done) | rfl | contradiction)]; decide)
            · refine lv_bipush (v := 48) (pc := 86) hx hb d_MD_ahead_86 (by decide) ?_
              exact fz_retR hx hb hr hlk (by have h : mm_c3 a mo og = 1 := (by first | (simp only [mm_c3, if_pos c_12, if_neg c_13, if_pos c_14, if_pos c_15]; done) | rfl | contradiction); simp only [mm_ah, if_neg c_1, if_neg q_1, if_neg q_2, if_pos h]) d_MD_ahead_88
    refine fz_cutH (P := ¬ mm_c4 a mo = 1) (F0 m 110 ls []) (fun K => ?_) (fun q_4 => ?_)
    · refine lv_iload_n (pc := 89) hx hb d_MD_ahead_89 rfl (lv_at hl 1 rfl) ?_
      refine lv_iconst (v := 3) (pc := 90) hx hb d_MD_ahead_90 (by decide) ?_
      refine lv_icmp_eq (tgt := 99) (pc := 91) hx hb d_MD_ahead_91 (by decide) (fun c_16 => ?_) (fun c_16 => ?_)
      · refine lv_aload_n (pc := 99) hx hb d_MD_ahead_99 rfl (lv_at hl 0 rfl) ?_
        refine gt_MD_mode (pc := 100) hx hb hts hown hK hP 0 rfl rfl d_MD_ahead_100 ?_
        refine lv_iconst (v := 2) (pc := 103) hx hb d_MD_ahead_103 (by decide) ?_
        refine lv_icmp_eq (tgt := 110) (pc := 104) hx hb d_MD_ahead_104 (by decide) (fun c_17 => ?_) (fun c_17 => ?_)
        · exact K (by rw [show mm_c4 a mo = 0 from (by first | (simp only [mm_c4, if_pos c_16, if_pos c_17]; done) | rfl | contradiction)]; decide)
        · refine lv_bipush (v := 49) (pc := 107) hx hb d_MD_ahead_107 (by decide) ?_
          exact fz_retR hx hb hr hlk (by have h : mm_c4 a mo = 1 := (by first | (simp only [mm_c4, if_pos c_16, if_neg c_17]; done) | rfl | contradiction); simp only [mm_ah, if_neg c_1, if_neg q_1, if_neg q_2, if_neg q_3, if_pos h]) d_MD_ahead_109
      · refine lv_iload_n (pc := 94) hx hb d_MD_ahead_94 rfl (lv_at hl 1 rfl) ?_
        refine lv_iconst (v := 4) (pc := 95) hx hb d_MD_ahead_95 (by decide) ?_
        refine lv_icmp_ne (tgt := 110) (pc := 96) hx hb d_MD_ahead_96 (by decide) (fun c_18 => ?_) (fun c_18 => ?_)
        · exact K (by rw [show mm_c4 a mo = 0 from (by first | (simp only [mm_c4, if_neg c_16, if_neg c_18]; done) | rfl | contradiction)]; decide)
        · refine lv_aload_n (pc := 99) hx hb d_MD_ahead_99 rfl (lv_at hl 0 rfl) ?_
          refine gt_MD_mode (pc := 100) hx hb hts hown hK hP 0 rfl rfl d_MD_ahead_100 ?_
          refine lv_iconst (v := 2) (pc := 103) hx hb d_MD_ahead_103 (by decide) ?_
          refine lv_icmp_eq (tgt := 110) (pc := 104) hx hb d_MD_ahead_104 (by decide) (fun c_19 => ?_) (fun c_19 => ?_)
          · exact K (by rw [show mm_c4 a mo = 0 from (by first | (simp only [mm_c4, if_neg c_16, if_pos c_18, if_pos c_19]; done) | rfl | contradiction)]; decide)
          · refine lv_bipush (v := 49) (pc := 107) hx hb d_MD_ahead_107 (by decide) ?_
            exact fz_retR hx hb hr hlk (by have h : mm_c4 a mo = 1 := (by first | (simp only [mm_c4, if_neg c_16, if_pos c_18, if_neg c_19]; done) | rfl | contradiction); simp only [mm_ah, if_neg c_1, if_neg q_1, if_neg q_2, if_neg q_3, if_pos h]) d_MD_ahead_109
    refine fz_cutH (P := ¬ mm_c5 a og pm = 1) (F0 m 132 ls []) (fun K => ?_) (fun q_5 => ?_)
    · refine lv_iload_n (pc := 110) hx hb d_MD_ahead_110 rfl (lv_at hl 1 rfl) ?_
      refine lv_iconst (v := 3) (pc := 111) hx hb d_MD_ahead_111 (by decide) ?_
      refine lv_icmp_ne (tgt := 132) (pc := 112) hx hb d_MD_ahead_112 (by decide) (fun c_20 => ?_) (fun c_20 => ?_)
      · exact K (by rw [show mm_c5 a og pm = 0 from (by first | (simp only [mm_c5, if_neg c_20]; done) | rfl | contradiction)]; decide)
      · refine lv_aload_n (pc := 115) hx hb d_MD_ahead_115 rfl (lv_at hl 0 rfl) ?_
        refine gt_MD_organisation (pc := 116) hx hb hts hown hK hP 0 rfl rfl d_MD_ahead_116 ?_
        refine lv_if_ne (tgt := 132) (pc := 119) hx hb d_MD_ahead_119 (by decide) (fun c_21 => ?_) (fun c_21 => ?_)
        · exact K (by rw [show mm_c5 a og pm = 0 from (by first | (simp only [mm_c5, if_pos c_20, if_neg c_21]; done) | rfl | contradiction)]; decide)
        · refine lv_aload_n (pc := 122) hx hb d_MD_ahead_122 rfl (lv_at hl 0 rfl) ?_
          refine gt_MD_permit (pc := 123) hx hb hts hown hK hP 0 rfl rfl d_MD_ahead_123 ?_
          refine lv_if_ne (tgt := 132) (pc := 126) hx hb d_MD_ahead_126 (by decide) (fun c_22 => ?_) (fun c_22 => ?_)
          · exact K (by rw [show mm_c5 a og pm = 0 from (by first | (simp only [mm_c5, if_pos c_20, if_pos c_21, if_neg c_22]; done) | rfl | contradiction)]; decide)
          · refine lv_bipush (v := 43) (pc := 129) hx hb d_MD_ahead_129 (by decide) ?_
            exact fz_retR hx hb hr hlk (by have h : mm_c5 a og pm = 1 := (by first | (simp only [mm_c5, if_pos c_20, if_pos c_21, if_pos c_22]; done) | rfl | contradiction); simp only [mm_ah, if_neg c_1, if_neg q_1, if_neg q_2, if_neg q_3, if_neg q_4, if_pos h]) d_MD_ahead_131
    refine fz_cutH (P := ¬ mm_c6 a ps = 1) (F0 m 155 ls []) (fun K => ?_) (fun q_6 => ?_)
    · refine lv_iload_n (pc := 132) hx hb d_MD_ahead_132 rfl (lv_at hl 1 rfl) ?_
      refine lv_if_ne (tgt := 155) (pc := 133) hx hb d_MD_ahead_133 (by decide) (fun c_23 => ?_) (fun c_23 => ?_)
      · exact K (by rw [show mm_c6 a ps = 0 from (by first | (simp only [mm_c6, if_neg c_23]; done) | rfl | contradiction)]; decide)
      · refine lv_aload_n (pc := 136) hx hb d_MD_ahead_136 rfl (lv_at hl 0 rfl) ?_
        refine gt_MD_position (pc := 137) hx hb hts hown hK hP 0 rfl rfl d_MD_ahead_137 ?_
        refine lv_iconst (v := 2) (pc := 140) hx hb d_MD_ahead_140 (by decide) ?_
        refine lv_icmp_eq (tgt := 152) (pc := 141) hx hb d_MD_ahead_141 (by decide) (fun c_24 => ?_) (fun c_24 => ?_)
        · refine lv_bipush (v := 46) (pc := 152) hx hb d_MD_ahead_152 (by decide) ?_
          exact fz_retR hx hb hr hlk (by have h : mm_c6 a ps = 1 := (by first | (simp only [mm_c6, if_pos c_23, if_pos c_24]; done) | rfl | contradiction); simp only [mm_ah, if_neg c_1, if_neg q_1, if_neg q_2, if_neg q_3, if_neg q_4, if_neg q_5, if_pos h]) d_MD_ahead_154
        · refine lv_aload_n (pc := 144) hx hb d_MD_ahead_144 rfl (lv_at hl 0 rfl) ?_
          refine gt_MD_position (pc := 145) hx hb hts hown hK hP 0 rfl rfl d_MD_ahead_145 ?_
          refine lv_iconst (v := 3) (pc := 148) hx hb d_MD_ahead_148 (by decide) ?_
          refine lv_icmp_ne (tgt := 155) (pc := 149) hx hb d_MD_ahead_149 (by decide) (fun c_25 => ?_) (fun c_25 => ?_)
          · exact K (by rw [show mm_c6 a ps = 0 from (by first | (simp only [mm_c6, if_pos c_23, if_neg c_24, if_neg c_25]; done) | rfl | contradiction)]; decide)
          · refine lv_bipush (v := 46) (pc := 152) hx hb d_MD_ahead_152 (by decide) ?_
            exact fz_retR hx hb hr hlk (by have h : mm_c6 a ps = 1 := (by first | (simp only [mm_c6, if_pos c_23, if_neg c_24, if_pos c_25]; done) | rfl | contradiction); simp only [mm_ah, if_neg c_1, if_neg q_1, if_neg q_2, if_neg q_3, if_neg q_4, if_neg q_5, if_pos h]) d_MD_ahead_154
    refine lv_iconst (v := 0) (pc := 155) hx hb d_MD_ahead_155 (by decide) ?_
    exact fz_retR hx hb hr hlk (by simp only [mm_ah, if_neg c_1, if_neg q_1, if_neg q_2, if_neg q_3, if_neg q_4, if_neg q_5, if_neg q_6]) d_MD_ahead_156
  · refine lv_bipush (v := 42) (pc := 7) hx hb d_MD_ahead_7 (by decide) ?_
    exact fz_retR hx hb hr hlk (by first | (simp only [mm_ah, if_pos c_1]; done) | rfl | contradiction) d_MD_ahead_9
set_option maxHeartbeats 4000000 in
set_option maxRecDepth 100000 in
theorem c_MD_told (l : Launch) (dC : Nat → ClassId) (dI : Nat → Nat → Nat) (cI cZ cC cS : ClassId) (h0 qd : Nat) (cd og mo ps lt ac gd bd io pm op no : Int32) (a b : Int32) : Met l y_MD_told (.code y_MD_told b_MD_told 3 ((some .int)) :: tw) rm_MD_told (va_Pc [.ref h0, .int a, .int b] (P0 dC dI cI cZ cC cS [(h0, MDo qd cd og mo ps lt ac gd bd io pm op no)])) (QM dC dI h0 a (MDo qd cd og mo ps a b (gd + mm_g a) (bd + mm_b a) io pm op no)) 0 0 (fun q => q = h0) := by
  refine Met.ofW (cc := b_MD_told) (maxL := 3) (ret := (some .int)) (by decide) rfl ?_
  intro p e s m args below meth c s₁ B hml hv
  obtain ⟨rfl, hK, hP⟩ := hv
  have hx := B.exec
  have hb := B.bytes
  have hr := B.returns
  have hts : ∀ w ∈ tw, w.before _ s = true := fun w h => atoms_spec (ws := .code y_MD_told b_MD_told 3 ((some .int)) :: tw) B.pre w (List.mem_cons_of_mem _ h)
  have hown : s.vm.findClass "FileStatusModel" = some m.cls := findClass_of_methodNamed B.named
  have hlk := B.notSynchronized
  have hP : va_P (dC, dI) classes [(h0, MDo qd cd og mo ps lt ac gd bd io pm op no)] s.heap := hP
  have hl := lv_entry [.ref h0, .int a, .int b] (n := 3) (Nat.le_of_ble_eq_true rfl)
  rw [lg_entry_eq]
  generalize (lg_sl [.ref h0, .int a, .int b] ++ List.replicate (3 - (lg_sl [.ref h0, .int a, .int b]).length) Slot.unset).toArray = ls at hl ⊢
  have hl : lv_has ls 3 [(0, .ref h0), (1, .int a), (2, .int b)] := hl
  have hD : va_D (fun q => q = h0) [(h0, MDo qd cd og mo ps lt ac gd bd io pm op no)] := fz_D1
  have hS : va_S (fun q => q = h0) s.heap s.heap [] := va_S.rf
  refine lv_aload_n (pc := 0) hx hb d_MD_told_0 rfl (lv_at hl 0 rfl) ?_
  refine lv_iload_n (pc := 1) hx hb d_MD_told_1 rfl (lv_at hl 1 rfl) ?_
  refine pt_MD_latest (ws' := [(h0, MDo qd cd og mo ps a ac gd bd io pm op no)]) (pc := 2) hx hb hts hown hK hP hD hS 0 rfl (Nat.le_of_ble_eq_true rfl) rfl d_MD_told_2 (fun H locs hP hD hS => ?_)
  refine lv_aload_n (pc := 5) hx hb d_MD_told_5 rfl (lv_at hl 0 rfl) ?_
  refine lv_iload_n (pc := 6) hx hb d_MD_told_6 rfl (lv_at hl 2 rfl) ?_
  refine pt_MD_act (ws' := [(h0, MDo qd cd og mo ps a b gd bd io pm op no)]) (pc := 7) hx hb hts hown hK hP hD hS 0 rfl (Nat.le_of_ble_eq_true rfl) rfl d_MD_told_7 (fun H locs hP hD hS => ?_)
  refine lv_aload_n (pc := 10) hx hb d_MD_told_10 rfl (lv_at hl 0 rfl) ?_
  refine lv_dup (pc := 11) hx hb d_MD_told_11 rfl ?_
  refine gt_MD_good (pc := 12) hx hb hts hown hK hP 0 rfl rfl d_MD_told_12 ?_
  refine lv_iload_n (pc := 15) hx hb d_MD_told_15 rfl (lv_at hl 1 rfl) ?_
  refine lv_bipush (v := 10) (pc := 16) hx hb d_MD_told_16 (by decide) ?_
  refine lv_icmp_ge (tgt := 25) (pc := 18) hx hb d_MD_told_18 (by decide) (fun c_1 => ?_) (fun c_1 => ?_)
  · refine lv_iconst (v := 0) (pc := 25) hx hb d_MD_told_25 (by decide) ?_
    refine lv_iadd (pc := 26) hx hb d_MD_told_26 ?_
    refine pt_MD_good (ws' := [(h0, MDo qd cd og mo ps a b (gd + 0) bd io pm op no)]) (pc := 27) hx hb hts hown hK hP hD hS 0 rfl (Nat.le_of_ble_eq_true rfl) rfl d_MD_told_27 (fun H locs hP hD hS => ?_)
    refine lv_aload_n (pc := 30) hx hb d_MD_told_30 rfl (lv_at hl 0 rfl) ?_
    refine lv_dup (pc := 31) hx hb d_MD_told_31 rfl ?_
    refine gt_MD_bad (pc := 32) hx hb hts hown hK hP 0 rfl rfl d_MD_told_32 ?_
    refine lv_iload_n (pc := 35) hx hb d_MD_told_35 rfl (lv_at hl 1 rfl) ?_
    refine lv_bipush (v := 10) (pc := 36) hx hb d_MD_told_36 (by decide) ?_
    refine lv_icmp_ge (tgt := 45) (pc := 38) hx hb d_MD_told_38 (by decide) (fun c_2 => ?_) (fun c_2 => ?_)
    · refine lv_iconst (v := 1) (pc := 45) hx hb d_MD_told_45 (by decide) ?_
      refine lv_iadd (pc := 46) hx hb d_MD_told_46 ?_
      refine pt_MD_bad (ws' := [(h0, MDo qd cd og mo ps a b (gd + 0) (bd + 1) io pm op no)]) (pc := 47) hx hb hts hown hK hP hD hS 0 rfl (Nat.le_of_ble_eq_true rfl) rfl d_MD_told_47 (fun H locs hP hD hS => ?_)
      refine lv_iload_n (pc := 50) hx hb d_MD_told_50 rfl (lv_at hl 1 rfl) ?_
      exact fz_retM (q0 := 0) hx hb hr hlk hP hS rfl (by first | (simp only [mm_g, mm_b, if_pos c_1, if_pos c_2]; done) | rfl | contradiction) (by first | (simp only [mm_g, mm_b, if_pos c_1, if_pos c_2]; done) | rfl | contradiction) d_MD_told_51
    · refine lv_iconst (v := 0) (pc := 41) hx hb d_MD_told_41 (by decide) ?_
      refine lv_goto (tgt := 46) (pc := 42) hx hb d_MD_told_42 (by decide) ?_
      refine lv_iadd (pc := 46) hx hb d_MD_told_46 ?_
      refine pt_MD_bad (ws' := [(h0, MDo qd cd og mo ps a b (gd + 0) (bd + 0) io pm op no)]) (pc := 47) hx hb hts hown hK hP hD hS 0 rfl (Nat.le_of_ble_eq_true rfl) rfl d_MD_told_47 (fun H locs hP hD hS => ?_)
      refine lv_iload_n (pc := 50) hx hb d_MD_told_50 rfl (lv_at hl 1 rfl) ?_
      exact fz_retM (q0 := 0) hx hb hr hlk hP hS rfl (by first | (simp only [mm_g, mm_b, if_pos c_1, if_neg c_2]; done) | rfl | contradiction) (by first | (simp only [mm_g, mm_b, if_pos c_1, if_neg c_2]; done) | rfl | contradiction) d_MD_told_51
  · refine lv_iconst (v := 1) (pc := 21) hx hb d_MD_told_21 (by decide) ?_
    refine lv_goto (tgt := 26) (pc := 22) hx hb d_MD_told_22 (by decide) ?_
    refine lv_iadd (pc := 26) hx hb d_MD_told_26 ?_
    refine pt_MD_good (ws' := [(h0, MDo qd cd og mo ps a b (gd + 1) bd io pm op no)]) (pc := 27) hx hb hts hown hK hP hD hS 0 rfl (Nat.le_of_ble_eq_true rfl) rfl d_MD_told_27 (fun H locs hP hD hS => ?_)
    refine lv_aload_n (pc := 30) hx hb d_MD_told_30 rfl (lv_at hl 0 rfl) ?_
    refine lv_dup (pc := 31) hx hb d_MD_told_31 rfl ?_
    refine gt_MD_bad (pc := 32) hx hb hts hown hK hP 0 rfl rfl d_MD_told_32 ?_
    refine lv_iload_n (pc := 35) hx hb d_MD_told_35 rfl (lv_at hl 1 rfl) ?_
    refine lv_bipush (v := 10) (pc := 36) hx hb d_MD_told_36 (by decide) ?_
    refine lv_icmp_ge (tgt := 45) (pc := 38) hx hb d_MD_told_38 (by decide) (fun c_3 => ?_) (fun c_3 => ?_)
    · refine lv_iconst (v := 1) (pc := 45) hx hb d_MD_told_45 (by decide) ?_
      refine lv_iadd (pc := 46) hx hb d_MD_told_46 ?_
      refine pt_MD_bad (ws' := [(h0, MDo qd cd og mo ps a b (gd + 1) (bd + 1) io pm op no)]) (pc := 47) hx hb hts hown hK hP hD hS 0 rfl (Nat.le_of_ble_eq_true rfl) rfl d_MD_told_47 (fun H locs hP hD hS => ?_)
      refine lv_iload_n (pc := 50) hx hb d_MD_told_50 rfl (lv_at hl 1 rfl) ?_
      exact fz_retM (q0 := 0) hx hb hr hlk hP hS rfl (by first | (simp only [mm_g, mm_b, if_neg c_1, if_pos c_3]; done) | rfl | contradiction) (by first | (simp only [mm_g, mm_b, if_neg c_1, if_pos c_3]; done) | rfl | contradiction) d_MD_told_51
    · refine lv_iconst (v := 0) (pc := 41) hx hb d_MD_told_41 (by decide) ?_
      refine lv_goto (tgt := 46) (pc := 42) hx hb d_MD_told_42 (by decide) ?_
      refine lv_iadd (pc := 46) hx hb d_MD_told_46 ?_
      refine pt_MD_bad (ws' := [(h0, MDo qd cd og mo ps a b (gd + 1) (bd + 0) io pm op no)]) (pc := 47) hx hb hts hown hK hP hD hS 0 rfl (Nat.le_of_ble_eq_true rfl) rfl d_MD_told_47 (fun H locs hP hD hS => ?_)
      refine lv_iload_n (pc := 50) hx hb d_MD_told_50 rfl (lv_at hl 1 rfl) ?_
      exact fz_retM (q0 := 0) hx hb hr hlk hP hS rfl (by first | (simp only [mm_g, mm_b, if_neg c_1, if_neg c_3]; done) | rfl | contradiction) (by first | (simp only [mm_g, mm_b, if_neg c_1, if_neg c_3]; done) | rfl | contradiction) d_MD_told_51
set_option maxHeartbeats 4000000 in
set_option maxRecDepth 100000 in
theorem c_MD_mode (l : Launch) (dC : Nat → ClassId) (dI : Nat → Nat → Nat) (cI cZ cC cS : ClassId) (h0 qd : Nat) (cd og mo ps lt ac gd bd io pm op no : Int32) (a : Int32) : Met l y_MD_mode (.code y_MD_mode b_MD_mode 3 ((some .int)) :: tw) rm_MD_mode (va_Pc [.ref h0, .int a] (P0 dC dI cI cZ cC cS [(h0, MDo qd cd og mo ps lt ac gd bd io pm op no)])) (QM dC dI h0 (mm_mor io mo a) (MDo qd 0 og (mm_mon io mo a) ps lt ac gd bd io pm op no)) 0 0 (fun q => q = h0) := by
  refine Met.ofW (cc := b_MD_mode) (maxL := 3) (ret := (some .int)) (by decide) rfl ?_
  intro p e s m args below meth c s₁ B hml hv
  obtain ⟨rfl, hK, hP⟩ := hv
  have hx := B.exec
  have hb := B.bytes
  have hr := B.returns
  have hts : ∀ w ∈ tw, w.before _ s = true := fun w h => atoms_spec (ws := .code y_MD_mode b_MD_mode 3 ((some .int)) :: tw) B.pre w (List.mem_cons_of_mem _ h)
  have hown : s.vm.findClass "FileStatusModel" = some m.cls := findClass_of_methodNamed B.named
  have hlk := B.notSynchronized
  have hP : va_P (dC, dI) classes [(h0, MDo qd cd og mo ps lt ac gd bd io pm op no)] s.heap := hP
  have hl := lv_entry [.ref h0, .int a] (n := 3) (Nat.le_of_ble_eq_true rfl)
  rw [lg_entry_eq]
  generalize (lg_sl [.ref h0, .int a] ++ List.replicate (3 - (lg_sl [.ref h0, .int a]).length) Slot.unset).toArray = ls at hl ⊢
  have hl : lv_has ls 3 [(0, .ref h0), (1, .int a)] := hl
  have hD : va_D (fun q => q = h0) [(h0, MDo qd cd og mo ps lt ac gd bd io pm op no)] := fz_D1
  have hS : va_S (fun q => q = h0) s.heap s.heap [] := va_S.rf
  refine lv_aload_n (pc := 0) hx hb d_MD_mode_0 rfl (lv_at hl 0 rfl) ?_
  refine lv_iconst (v := 0) (pc := 1) hx hb d_MD_mode_1 (by decide) ?_
  refine pt_MD_code (ws' := [(h0, MDo qd 0 og mo ps lt ac gd bd io pm op no)]) (pc := 2) hx hb hts hown hK hP hD hS 0 rfl (Nat.le_of_ble_eq_true rfl) rfl d_MD_mode_2 (fun H locs hP hD hS => ?_)
  refine lv_aload_n (pc := 5) hx hb d_MD_mode_5 rfl (lv_at hl 0 rfl) ?_
  refine gt_MD_isOpen (pc := 6) hx hb hts hown hK hP 0 rfl rfl d_MD_mode_6 ?_
  refine lv_if_eq (tgt := 15) (pc := 9) hx hb d_MD_mode_9 (by decide) (fun c_1 => ?_) (fun c_1 => ?_)
  · refine lv_iload_n (pc := 15) hx hb d_MD_mode_15 rfl (lv_at hl 1 rfl) ?_
    refine lv_if_lt (tgt := 24) (pc := 16) hx hb d_MD_mode_16 (by decide) (fun c_2 => ?_) (fun c_2 => ?_)
    · refine lv_bipush (v := (-4)) (pc := 24) hx hb d_MD_mode_24 (by decide) ?_
      exact fz_retM (q0 := 0) hx hb hr hlk hP hS rfl (by first | (simp only [mm_mor, mm_mon, if_pos c_1, if_pos c_2]; done) | rfl | contradiction) (by first | (simp only [mm_mor, mm_mon, if_pos c_1, if_pos c_2]; done) | rfl | contradiction) d_MD_mode_26
    · refine lv_iload_n (pc := 19) hx hb d_MD_mode_19 rfl (lv_at hl 1 rfl) ?_
      refine lv_iconst (v := 3) (pc := 20) hx hb d_MD_mode_20 (by decide) ?_
      refine lv_icmp_le (tgt := 27) (pc := 21) hx hb d_MD_mode_21 (by decide) (fun c_3 => ?_) (fun c_3 => ?_)
      · refine lv_aload_n (pc := 27) hx hb d_MD_mode_27 rfl (lv_at hl 0 rfl) ?_
        refine gt_MD_mode (pc := 28) hx hb hts hown hK hP 0 rfl rfl d_MD_mode_28 ?_
        refine lv_istore_n (lv' := [(2, .int mo), (0, .ref h0), (1, .int a)]) (pc := 31) hx hb d_MD_mode_31 rfl hl (by decide) rfl (fun ls hl => ?_)
        refine lv_aload_n (pc := 32) hx hb d_MD_mode_32 rfl (lv_at hl 1 rfl) ?_
        refine lv_iload_n (pc := 33) hx hb d_MD_mode_33 rfl (lv_at hl 2 rfl) ?_
        refine pt_MD_mode (ws' := [(h0, MDo qd 0 og a ps lt ac gd bd io pm op no)]) (pc := 34) hx hb hts hown hK hP hD hS 0 rfl (Nat.le_of_ble_eq_true rfl) rfl d_MD_mode_34 (fun H locs hP hD hS => ?_)
        refine lv_iload_n (pc := 37) hx hb d_MD_mode_37 rfl (lv_at hl 0 rfl) ?_
        exact fz_retM (q0 := 0) hx hb hr hlk hP hS rfl (by first | (simp only [mm_mor, mm_mon, if_pos c_1, if_neg c_2, if_pos c_3]; done) | rfl | contradiction) (by first | (simp only [mm_mor, mm_mon, if_pos c_1, if_neg c_2, if_pos c_3]; done) | rfl | contradiction) d_MD_mode_38
      · refine lv_bipush (v := (-4)) (pc := 24) hx hb d_MD_mode_24 (by decide) ?_
        exact fz_retM (q0 := 0) hx hb hr hlk hP hS rfl (by first | (simp only [mm_mor, mm_mon, if_pos c_1, if_neg c_2, if_neg c_3]; done) | rfl | contradiction) (by first | (simp only [mm_mor, mm_mon, if_pos c_1, if_neg c_2, if_neg c_3]; done) | rfl | contradiction) d_MD_mode_26
  · refine lv_bipush (v := (-5)) (pc := 12) hx hb d_MD_mode_12 (by decide) ?_
    exact fz_retM (q0 := 0) hx hb hr hlk hP hS rfl (by first | (simp only [mm_mor, mm_mon, if_neg c_1]; done) | rfl | contradiction) (by first | (simp only [mm_mor, mm_mon, if_neg c_1]; done) | rfl | contradiction) d_MD_mode_14
set_option maxHeartbeats 4000000 in
set_option maxRecDepth 100000 in
theorem c_MD_optional (l : Launch) (dC : Nat → ClassId) (dI : Nat → Nat → Nat) (cI cZ cC cS : ClassId) (h0 qd : Nat) (cd og mo ps lt ac gd bd io pm op no : Int32) (a : Int32) (ha : a = 0 ∨ a = 1) : Met l y_MD_optional (.code y_MD_optional b_MD_optional 3 ((some .int)) :: tw) rm_MD_optional (va_Pc [.ref h0, .int a] (P0 dC dI cI cZ cC cS [(h0, MDo qd cd og mo ps lt ac gd bd io pm op no)])) (QM dC dI h0 (mm_opr io op) (MDo qd 0 og mo ps lt ac gd bd io pm (mm_opo io op a) no)) 0 0 (fun q => q = h0) := by
  refine Met.ofW (cc := b_MD_optional) (maxL := 3) (ret := (some .int)) (by decide) rfl ?_
  intro p e s m args below meth c s₁ B hml hv
  obtain ⟨rfl, hK, hP⟩ := hv
  have hx := B.exec
  have hb := B.bytes
  have hr := B.returns
  have hts : ∀ w ∈ tw, w.before _ s = true := fun w h => atoms_spec (ws := .code y_MD_optional b_MD_optional 3 ((some .int)) :: tw) B.pre w (List.mem_cons_of_mem _ h)
  have hown : s.vm.findClass "FileStatusModel" = some m.cls := findClass_of_methodNamed B.named
  have hlk := B.notSynchronized
  have hP : va_P (dC, dI) classes [(h0, MDo qd cd og mo ps lt ac gd bd io pm op no)] s.heap := hP
  have hl := lv_entry [.ref h0, .int a] (n := 3) (Nat.le_of_ble_eq_true rfl)
  rw [lg_entry_eq]
  generalize (lg_sl [.ref h0, .int a] ++ List.replicate (3 - (lg_sl [.ref h0, .int a]).length) Slot.unset).toArray = ls at hl ⊢
  have hl : lv_has ls 3 [(0, .ref h0), (1, .int a)] := hl
  have hD : va_D (fun q => q = h0) [(h0, MDo qd cd og mo ps lt ac gd bd io pm op no)] := fz_D1
  have hS : va_S (fun q => q = h0) s.heap s.heap [] := va_S.rf
  refine lv_aload_n (pc := 0) hx hb d_MD_optional_0 rfl (lv_at hl 0 rfl) ?_
  refine lv_iconst (v := 0) (pc := 1) hx hb d_MD_optional_1 (by decide) ?_
  refine pt_MD_code (ws' := [(h0, MDo qd 0 og mo ps lt ac gd bd io pm op no)]) (pc := 2) hx hb hts hown hK hP hD hS 0 rfl (Nat.le_of_ble_eq_true rfl) rfl d_MD_optional_2 (fun H locs hP hD hS => ?_)
  refine lv_aload_n (pc := 5) hx hb d_MD_optional_5 rfl (lv_at hl 0 rfl) ?_
  refine gt_MD_isOpen (pc := 6) hx hb hts hown hK hP 0 rfl rfl d_MD_optional_6 ?_
  refine lv_if_eq (tgt := 15) (pc := 9) hx hb d_MD_optional_9 (by decide) (fun c_1 => ?_) (fun c_1 => ?_)
  · refine lv_aload_n (pc := 15) hx hb d_MD_optional_15 rfl (lv_at hl 0 rfl) ?_
    refine gt_MD_optional (pc := 16) hx hb hts hown hK hP 0 rfl rfl d_MD_optional_16 ?_
    refine lv_if_eq (tgt := 26) (pc := 19) hx hb d_MD_optional_19 (by decide) (fun c_2 => ?_) (fun c_2 => ?_)
    · refine lv_iconst (v := 0) (pc := 26) hx hb d_MD_optional_26 (by decide) ?_
      refine lv_istore_n (lv' := [(2, .int 0), (0, .ref h0), (1, .int a)]) (pc := 27) hx hb d_MD_optional_27 rfl hl (by decide) rfl (fun ls hl => ?_)
      refine lv_aload_n (pc := 28) hx hb d_MD_optional_28 rfl (lv_at hl 1 rfl) ?_
      refine lv_iload_n (pc := 29) hx hb d_MD_optional_29 rfl (lv_at hl 2 rfl) ?_
      refine pt_MD_optional (ws' := [(h0, MDo qd 0 og mo ps lt ac gd bd io pm a no)]) (pc := 30) hx hb hts hown hK hP hD hS 0 rfl (Nat.le_of_ble_eq_true rfl) rfl ha d_MD_optional_30 (fun H locs hP hD hS => ?_)
      refine lv_iload_n (pc := 33) hx hb d_MD_optional_33 rfl (lv_at hl 0 rfl) ?_
      exact fz_retM (q0 := 0) hx hb hr hlk hP hS rfl (by first | (simp only [mm_opr, mm_opo, ff_b01, if_pos c_1, if_pos c_2]; done) | rfl | contradiction) (by first | (simp only [mm_opr, mm_opo, ff_b01, if_pos c_1, if_pos c_2]; done) | rfl | contradiction) d_MD_optional_34
    · refine lv_iconst (v := 1) (pc := 22) hx hb d_MD_optional_22 (by decide) ?_
      refine lv_goto (tgt := 27) (pc := 23) hx hb d_MD_optional_23 (by decide) ?_
      refine lv_istore_n (lv' := [(2, .int 1), (0, .ref h0), (1, .int a)]) (pc := 27) hx hb d_MD_optional_27 rfl hl (by decide) rfl (fun ls hl => ?_)
      refine lv_aload_n (pc := 28) hx hb d_MD_optional_28 rfl (lv_at hl 1 rfl) ?_
      refine lv_iload_n (pc := 29) hx hb d_MD_optional_29 rfl (lv_at hl 2 rfl) ?_
      refine pt_MD_optional (ws' := [(h0, MDo qd 0 og mo ps lt ac gd bd io pm a no)]) (pc := 30) hx hb hts hown hK hP hD hS 0 rfl (Nat.le_of_ble_eq_true rfl) rfl ha d_MD_optional_30 (fun H locs hP hD hS => ?_)
      refine lv_iload_n (pc := 33) hx hb d_MD_optional_33 rfl (lv_at hl 0 rfl) ?_
      exact fz_retM (q0 := 0) hx hb hr hlk hP hS rfl (by first | (simp only [mm_opr, mm_opo, ff_b01, if_pos c_1, if_neg c_2]; done) | rfl | contradiction) (by first | (simp only [mm_opr, mm_opo, ff_b01, if_pos c_1, if_neg c_2]; done) | rfl | contradiction) d_MD_optional_34
  · refine lv_bipush (v := (-5)) (pc := 12) hx hb d_MD_optional_12 (by decide) ?_
    exact fz_retM (q0 := 0) hx hb hr hlk hP hS rfl (by first | (simp only [mm_opr, mm_opo, ff_b01, if_neg c_1]; done) | rfl | contradiction) (by first | (simp only [mm_opr, mm_opo, ff_b01, if_neg c_1]; done) | rfl | contradiction) d_MD_optional_14
set_option maxHeartbeats 4000000 in
set_option maxRecDepth 100000 in
theorem c_MD_exception (l : Launch) (dC : Nat → ClassId) (dI : Nat → Nat → Nat) (cI cZ cC cS : ClassId) (h0 qd : Nat) (cd og mo ps lt ac gd bd io pm op no : Int32) (a : Int32) : Met l y_MD_exception (.code y_MD_exception b_MD_exception 2 ((some .int)) :: tw) rm_MD_exception (va_Pc [.ref h0, .int a] (P0 dC dI cI cZ cC cS [(h0, MDo qd cd og mo ps lt ac gd bd io pm op no)])) (QM dC dI h0 (mm_exc a) (MDo qd 0 og mo ps lt ac gd bd io pm op no)) 0 0 (fun q => q = h0) := by
  refine Met.ofW (cc := b_MD_exception) (maxL := 2) (ret := (some .int)) (by decide) rfl ?_
  intro p e s m args below meth c s₁ B hml hv
  obtain ⟨rfl, hK, hP⟩ := hv
  have hx := B.exec
  have hb := B.bytes
  have hr := B.returns
  have hts : ∀ w ∈ tw, w.before _ s = true := fun w h => atoms_spec (ws := .code y_MD_exception b_MD_exception 2 ((some .int)) :: tw) B.pre w (List.mem_cons_of_mem _ h)
  have hown : s.vm.findClass "FileStatusModel" = some m.cls := findClass_of_methodNamed B.named
  have hlk := B.notSynchronized
  have hP : va_P (dC, dI) classes [(h0, MDo qd cd og mo ps lt ac gd bd io pm op no)] s.heap := hP
  have hl := lv_entry [.ref h0, .int a] (n := 2) (Nat.le_of_ble_eq_true rfl)
  rw [lg_entry_eq]
  generalize (lg_sl [.ref h0, .int a] ++ List.replicate (2 - (lg_sl [.ref h0, .int a]).length) Slot.unset).toArray = ls at hl ⊢
  have hl : lv_has ls 2 [(0, .ref h0), (1, .int a)] := hl
  have hD : va_D (fun q => q = h0) [(h0, MDo qd cd og mo ps lt ac gd bd io pm op no)] := fz_D1
  have hS : va_S (fun q => q = h0) s.heap s.heap [] := va_S.rf
  refine lv_aload_n (pc := 0) hx hb d_MD_exception_0 rfl (lv_at hl 0 rfl) ?_
  refine lv_iconst (v := 0) (pc := 1) hx hb d_MD_exception_1 (by decide) ?_
  refine pt_MD_code (ws' := [(h0, MDo qd 0 og mo ps lt ac gd bd io pm op no)]) (pc := 2) hx hb hts hown hK hP hD hS 0 rfl (Nat.le_of_ble_eq_true rfl) rfl d_MD_exception_2 (fun H locs hP hD hS => ?_)
  refine lv_iload_n (pc := 5) hx hb d_MD_exception_5 rfl (lv_at hl 1 rfl) ?_
  refine fz_rS (pc := 6) (As := [.int a]) (rest := []) ⟨hx, hb, hml, hown, hts⟩ (c_MD_isStatus l dC dI cI cZ cC cS a) (cs_MD_72 hts ⟨(Nat.le_of_ble_eq_true rfl), (Nat.le_of_ble_eq_true rfl)⟩) (fz_pre0 hK (hP.sub [] rfl)) rfl hl.1 rfl (Nat.le_of_ble_eq_true rfl) d_MD_exception_6 ⟨(Nat.le_of_ble_eq_true rfl), (Nat.le_of_ble_eq_true rfl)⟩ ?_
  refine lv_if_eq (tgt := 19) (pc := 9) hx hb d_MD_exception_9 (by decide) (fun c_1 => ?_) (fun c_1 => ?_)
  · refine lv_iconst (v := (-1)) (pc := 19) hx hb d_MD_exception_19 (by decide) ?_
    exact fz_retM (q0 := 0) hx hb hr hlk hP hS rfl (by first | (simp only [mm_exc, if_pos c_1]; done) | rfl | contradiction) (by first | (simp only [mm_exc, if_pos c_1]; done) | rfl | contradiction) d_MD_exception_20
  · refine lv_iload_n (pc := 12) hx hb d_MD_exception_12 rfl (lv_at hl 1 rfl) ?_
    refine fz_rS (pc := 13) (As := [.int a]) (rest := []) ⟨hx, hb, hml, hown, hts⟩ (c_MD_kindOf l dC dI cI cZ cC cS a) (cs_MD_76 hts ⟨(Nat.le_of_ble_eq_true rfl), (Nat.le_of_ble_eq_true rfl)⟩) (fz_pre0 hK (hP.sub [] rfl)) rfl hl.1 rfl (Nat.le_of_ble_eq_true rfl) d_MD_exception_13 ⟨(Nat.le_of_ble_eq_true rfl), (Nat.le_of_ble_eq_true rfl)⟩ ?_
    refine lv_goto (tgt := 20) (pc := 16) hx hb d_MD_exception_16 (by decide) ?_
    exact fz_retM (q0 := 0) hx hb hr hlk hP hS rfl (by first | (simp only [mm_exc, if_neg c_1]; done) | rfl | contradiction) (by first | (simp only [mm_exc, if_neg c_1]; done) | rfl | contradiction) d_MD_exception_20
set_option maxHeartbeats 4000000 in
set_option maxRecDepth 100000 in
theorem c_MD_position (l : Launch) (dC : Nat → ClassId) (dI : Nat → Nat → Nat) (cI cZ cC cS : ClassId) (h0 qd : Nat) (cd og mo ps lt ac gd bd io pm op no : Int32) (a : Int32) : Met l y_MD_position (.code y_MD_position b_MD_position 2 ((some .int)) :: tw) rm_MD_position (va_Pc [.ref h0, .int a] (P0 dC dI cI cZ cC cS [(h0, MDo qd cd og mo ps lt ac gd bd io pm op no)])) (QM dC dI h0 (mm_pos a) (MDo qd 0 og mo ps lt ac gd bd io pm op no)) 0 0 (fun q => q = h0) := by
  refine Met.ofW (cc := b_MD_position) (maxL := 2) (ret := (some .int)) (by decide) rfl ?_
  intro p e s m args below meth c s₁ B hml hv
  obtain ⟨rfl, hK, hP⟩ := hv
  have hx := B.exec
  have hb := B.bytes
  have hr := B.returns
  have hts : ∀ w ∈ tw, w.before _ s = true := fun w h => atoms_spec (ws := .code y_MD_position b_MD_position 2 ((some .int)) :: tw) B.pre w (List.mem_cons_of_mem _ h)
  have hown : s.vm.findClass "FileStatusModel" = some m.cls := findClass_of_methodNamed B.named
  have hlk := B.notSynchronized
  have hP : va_P (dC, dI) classes [(h0, MDo qd cd og mo ps lt ac gd bd io pm op no)] s.heap := hP
  have hl := lv_entry [.ref h0, .int a] (n := 2) (Nat.le_of_ble_eq_true rfl)
  rw [lg_entry_eq]
  generalize (lg_sl [.ref h0, .int a] ++ List.replicate (2 - (lg_sl [.ref h0, .int a]).length) Slot.unset).toArray = ls at hl ⊢
  have hl : lv_has ls 2 [(0, .ref h0), (1, .int a)] := hl
  have hD : va_D (fun q => q = h0) [(h0, MDo qd cd og mo ps lt ac gd bd io pm op no)] := fz_D1
  have hS : va_S (fun q => q = h0) s.heap s.heap [] := va_S.rf
  refine lv_aload_n (pc := 0) hx hb d_MD_position_0 rfl (lv_at hl 0 rfl) ?_
  refine lv_iconst (v := 0) (pc := 1) hx hb d_MD_position_1 (by decide) ?_
  refine pt_MD_code (ws' := [(h0, MDo qd 0 og mo ps lt ac gd bd io pm op no)]) (pc := 2) hx hb hts hown hK hP hD hS 0 rfl (Nat.le_of_ble_eq_true rfl) rfl d_MD_position_2 (fun H locs hP hD hS => ?_)
  refine lv_iload_n (pc := 5) hx hb d_MD_position_5 rfl (lv_at hl 1 rfl) ?_
  refine fz_rS (pc := 6) (As := [.int a]) (rest := []) ⟨hx, hb, hml, hown, hts⟩ (c_MD_isStatus l dC dI cI cZ cC cS a) (cs_MD_72 hts ⟨(Nat.le_of_ble_eq_true rfl), (Nat.le_of_ble_eq_true rfl)⟩) (fz_pre0 hK (hP.sub [] rfl)) rfl hl.1 rfl (Nat.le_of_ble_eq_true rfl) d_MD_position_6 ⟨(Nat.le_of_ble_eq_true rfl), (Nat.le_of_ble_eq_true rfl)⟩ ?_
  refine lv_if_eq (tgt := 19) (pc := 9) hx hb d_MD_position_9 (by decide) (fun c_1 => ?_) (fun c_1 => ?_)
  · refine lv_iconst (v := (-1)) (pc := 19) hx hb d_MD_position_19 (by decide) ?_
    exact fz_retM (q0 := 0) hx hb hr hlk hP hS rfl (by first | (simp only [mm_pos, if_pos c_1]; done) | rfl | contradiction) (by first | (simp only [mm_pos, if_pos c_1]; done) | rfl | contradiction) d_MD_position_20
  · refine lv_iload_n (pc := 12) hx hb d_MD_position_12 rfl (lv_at hl 1 rfl) ?_
    refine fz_rS (pc := 13) (As := [.int a]) (rest := []) ⟨hx, hb, hml, hown, hts⟩ (c_MD_moved l dC dI cI cZ cC cS a) (cs_MD_69 hts ⟨(Nat.le_of_ble_eq_true rfl), (Nat.le_of_ble_eq_true rfl)⟩) (fz_pre0 hK (hP.sub [] rfl)) rfl hl.1 rfl (Nat.le_of_ble_eq_true rfl) d_MD_position_13 ⟨(Nat.le_of_ble_eq_true rfl), (Nat.le_of_ble_eq_true rfl)⟩ ?_
    refine lv_goto (tgt := 20) (pc := 16) hx hb d_MD_position_16 (by decide) ?_
    exact fz_retM (q0 := 0) hx hb hr hlk hP hS rfl (by first | (simp only [mm_pos, if_neg c_1]; done) | rfl | contradiction) (by first | (simp only [mm_pos, if_neg c_1]; done) | rfl | contradiction) d_MD_position_20
set_option maxHeartbeats 4000000 in
set_option maxRecDepth 100000 in
theorem c_MD_both (l : Launch) (dC : Nat → ClassId) (dI : Nat → Nat → Nat) (cI cZ cC cS : ClassId) (h0 qd : Nat) (cd og mo ps lt ac gd bd io pm op no : Int32) (a b : Int32) : Met l y_MD_both (.code y_MD_both b_MD_both 3 ((some .int)) :: tw) rm_MD_both (va_Pc [.ref h0, .int a, .int b] (P0 dC dI cI cZ cC cS [(h0, MDo qd cd og mo ps lt ac gd bd io pm op no)])) (QM dC dI h0 (mm_both a b) (MDo qd 0 og mo ps lt ac gd bd io pm op no)) 0 0 (fun q => q = h0) := by
  refine Met.ofW (cc := b_MD_both) (maxL := 3) (ret := (some .int)) (by decide) rfl ?_
  intro p e s m args below meth c s₁ B hml hv
  obtain ⟨rfl, hK, hP⟩ := hv
  have hx := B.exec
  have hb := B.bytes
  have hr := B.returns
  have hts : ∀ w ∈ tw, w.before _ s = true := fun w h => atoms_spec (ws := .code y_MD_both b_MD_both 3 ((some .int)) :: tw) B.pre w (List.mem_cons_of_mem _ h)
  have hown : s.vm.findClass "FileStatusModel" = some m.cls := findClass_of_methodNamed B.named
  have hlk := B.notSynchronized
  have hP : va_P (dC, dI) classes [(h0, MDo qd cd og mo ps lt ac gd bd io pm op no)] s.heap := hP
  have hl := lv_entry [.ref h0, .int a, .int b] (n := 3) (Nat.le_of_ble_eq_true rfl)
  rw [lg_entry_eq]
  generalize (lg_sl [.ref h0, .int a, .int b] ++ List.replicate (3 - (lg_sl [.ref h0, .int a, .int b]).length) Slot.unset).toArray = ls at hl ⊢
  have hl : lv_has ls 3 [(0, .ref h0), (1, .int a), (2, .int b)] := hl
  have hD : va_D (fun q => q = h0) [(h0, MDo qd cd og mo ps lt ac gd bd io pm op no)] := fz_D1
  have hS : va_S (fun q => q = h0) s.heap s.heap [] := va_S.rf
  refine lv_aload_n (pc := 0) hx hb d_MD_both_0 rfl (lv_at hl 0 rfl) ?_
  refine lv_iconst (v := 0) (pc := 1) hx hb d_MD_both_1 (by decide) ?_
  refine pt_MD_code (ws' := [(h0, MDo qd 0 og mo ps lt ac gd bd io pm op no)]) (pc := 2) hx hb hts hown hK hP hD hS 0 rfl (Nat.le_of_ble_eq_true rfl) rfl d_MD_both_2 (fun H locs hP hD hS => ?_)
  refine lv_iload_n (pc := 5) hx hb d_MD_both_5 rfl (lv_at hl 1 rfl) ?_
  refine fz_rS (pc := 6) (As := [.int a]) (rest := []) ⟨hx, hb, hml, hown, hts⟩ (c_MD_isStatus l dC dI cI cZ cC cS a) (cs_MD_72 hts ⟨(Nat.le_of_ble_eq_true rfl), (Nat.le_of_ble_eq_true rfl)⟩) (fz_pre0 hK (hP.sub [] rfl)) rfl hl.1 rfl (Nat.le_of_ble_eq_true rfl) d_MD_both_6 ⟨(Nat.le_of_ble_eq_true rfl), (Nat.le_of_ble_eq_true rfl)⟩ ?_
  refine lv_if_eq (tgt := 19) (pc := 9) hx hb d_MD_both_9 (by decide) (fun c_1 => ?_) (fun c_1 => ?_)
  · refine lv_iconst (v := (-1)) (pc := 19) hx hb d_MD_both_19 (by decide) ?_
    exact fz_retM (q0 := 0) hx hb hr hlk hP hS rfl (by first | (simp only [mm_both, if_pos c_1]; done) | rfl | contradiction) (by first | (simp only [mm_both, if_pos c_1]; done) | rfl | contradiction) d_MD_both_20
  · refine lv_iload_n (pc := 12) hx hb d_MD_both_12 rfl (lv_at hl 2 rfl) ?_
    refine fz_rS (pc := 13) (As := [.int b]) (rest := []) ⟨hx, hb, hml, hown, hts⟩ (c_MD_isStatus l dC dI cI cZ cC cS b) (cs_MD_72 hts ⟨(Nat.le_of_ble_eq_true rfl), (Nat.le_of_ble_eq_true rfl)⟩) (fz_pre0 hK (hP.sub [] rfl)) rfl hl.1 rfl (Nat.le_of_ble_eq_true rfl) d_MD_both_13 ⟨(Nat.le_of_ble_eq_true rfl), (Nat.le_of_ble_eq_true rfl)⟩ ?_
    refine lv_if_ne (tgt := 21) (pc := 16) hx hb d_MD_both_16 (by decide) (fun c_2 => ?_) (fun c_2 => ?_)
    · refine lv_iload_n (pc := 21) hx hb d_MD_both_21 rfl (lv_at hl 1 rfl) ?_
      refine fz_rS (pc := 22) (As := [.int a]) (rest := []) ⟨hx, hb, hml, hown, hts⟩ (c_MD_kindOf l dC dI cI cZ cC cS a) (cs_MD_76 hts ⟨(Nat.le_of_ble_eq_true rfl), (Nat.le_of_ble_eq_true rfl)⟩) (fz_pre0 hK (hP.sub [] rfl)) rfl hl.1 rfl (Nat.le_of_ble_eq_true rfl) d_MD_both_22 ⟨(Nat.le_of_ble_eq_true rfl), (Nat.le_of_ble_eq_true rfl)⟩ ?_
      refine lv_iload_n (pc := 25) hx hb d_MD_both_25 rfl (lv_at hl 2 rfl) ?_
      refine fz_rS (pc := 26) (As := [.int b]) (rest := [.int (mm_kd a)]) ⟨hx, hb, hml, hown, hts⟩ (c_MD_kindOf l dC dI cI cZ cC cS b) (cs_MD_76 hts ⟨(Nat.le_of_ble_eq_true rfl), (Nat.le_of_ble_eq_true rfl)⟩) (fz_pre0 hK (hP.sub [] rfl)) rfl hl.1 rfl (Nat.le_of_ble_eq_true rfl) d_MD_both_26 ⟨(Nat.le_of_ble_eq_true rfl), (Nat.le_of_ble_eq_true rfl)⟩ ?_
      refine lv_icmp_eq (tgt := 49) (pc := 29) hx hb d_MD_both_29 (by decide) (fun c_3 => ?_) (fun c_3 => ?_)
      · refine lv_iload_n (pc := 49) hx hb d_MD_both_49 rfl (lv_at hl 1 rfl) ?_
        refine lv_iload_n (pc := 50) hx hb d_MD_both_50 rfl (lv_at hl 2 rfl) ?_
        refine lv_icmp_ge (tgt := 58) (pc := 51) hx hb d_MD_both_51 (by decide) (fun c_4 => ?_) (fun c_4 => ?_)
        · refine lv_iload_n (pc := 58) hx hb d_MD_both_58 rfl (lv_at hl 2 rfl) ?_
          exact fz_retM (q0 := 0) hx hb hr hlk hP hS rfl (by first | (simp only [mm_both, if_neg c_1, if_neg c_2, if_pos c_3, if_pos c_4]; done) | rfl | contradiction) (by first | (simp only [mm_both, if_neg c_1, if_neg c_2, if_pos c_3, if_pos c_4]; done) | rfl | contradiction) d_MD_both_59
        · refine lv_iload_n (pc := 54) hx hb d_MD_both_54 rfl (lv_at hl 1 rfl) ?_
          refine lv_goto (tgt := 59) (pc := 55) hx hb d_MD_both_55 (by decide) ?_
          exact fz_retM (q0 := 0) hx hb hr hlk hP hS rfl (by first | (simp only [mm_both, if_neg c_1, if_neg c_2, if_pos c_3, if_neg c_4]; done) | rfl | contradiction) (by first | (simp only [mm_both, if_neg c_1, if_neg c_2, if_pos c_3, if_neg c_4]; done) | rfl | contradiction) d_MD_both_59
      · refine lv_iload_n (pc := 32) hx hb d_MD_both_32 rfl (lv_at hl 1 rfl) ?_
        refine fz_rS (pc := 33) (As := [.int a]) (rest := []) ⟨hx, hb, hml, hown, hts⟩ (c_MD_kindOf l dC dI cI cZ cC cS a) (cs_MD_76 hts ⟨(Nat.le_of_ble_eq_true rfl), (Nat.le_of_ble_eq_true rfl)⟩) (fz_pre0 hK (hP.sub [] rfl)) rfl hl.1 rfl (Nat.le_of_ble_eq_true rfl) d_MD_both_33 ⟨(Nat.le_of_ble_eq_true rfl), (Nat.le_of_ble_eq_true rfl)⟩ ?_
        refine lv_iload_n (pc := 36) hx hb d_MD_both_36 rfl (lv_at hl 2 rfl) ?_
        refine fz_rS (pc := 37) (As := [.int b]) (rest := [.int (mm_kd a)]) ⟨hx, hb, hml, hown, hts⟩ (c_MD_kindOf l dC dI cI cZ cC cS b) (cs_MD_76 hts ⟨(Nat.le_of_ble_eq_true rfl), (Nat.le_of_ble_eq_true rfl)⟩) (fz_pre0 hK (hP.sub [] rfl)) rfl hl.1 rfl (Nat.le_of_ble_eq_true rfl) d_MD_both_37 ⟨(Nat.le_of_ble_eq_true rfl), (Nat.le_of_ble_eq_true rfl)⟩ ?_
        refine lv_icmp_le (tgt := 47) (pc := 40) hx hb d_MD_both_40 (by decide) (fun c_5 => ?_) (fun c_5 => ?_)
        · refine lv_iload_n (pc := 47) hx hb d_MD_both_47 rfl (lv_at hl 2 rfl) ?_
          exact fz_retM (q0 := 0) hx hb hr hlk hP hS rfl (by first | (simp only [mm_both, if_neg c_1, if_neg c_2, if_neg c_3, if_pos c_5]; done) | rfl | contradiction) (by first | (simp only [mm_both, if_neg c_1, if_neg c_2, if_neg c_3, if_pos c_5]; done) | rfl | contradiction) d_MD_both_48
        · refine lv_iload_n (pc := 43) hx hb d_MD_both_43 rfl (lv_at hl 1 rfl) ?_
          refine lv_goto (tgt := 48) (pc := 44) hx hb d_MD_both_44 (by decide) ?_
          exact fz_retM (q0 := 0) hx hb hr hlk hP hS rfl (by first | (simp only [mm_both, if_neg c_1, if_neg c_2, if_neg c_3, if_neg c_5]; done) | rfl | contradiction) (by first | (simp only [mm_both, if_neg c_1, if_neg c_2, if_neg c_3, if_neg c_5]; done) | rfl | contradiction) d_MD_both_48
    · refine lv_iconst (v := (-1)) (pc := 19) hx hb d_MD_both_19 (by decide) ?_
      exact fz_retM (q0 := 0) hx hb hr hlk hP hS rfl (by first | (simp only [mm_both, if_neg c_1, if_pos c_2]; done) | rfl | contradiction) (by first | (simp only [mm_both, if_neg c_1, if_pos c_2]; done) | rfl | contradiction) d_MD_both_20
set_option maxHeartbeats 4000000 in
set_option maxRecDepth 100000 in
theorem c_MD_extended (l : Launch) (dC : Nat → ClassId) (dI : Nat → Nat → Nat) (cI cZ cC cS : ClassId) (h0 qd : Nat) (cd og mo ps lt ac gd bd io pm op no : Int32) (a : Int32) : Met l y_MD_extended (.code y_MD_extended b_MD_extended 2 ((some .int)) :: tw) rm_MD_extended (va_Pc [.ref h0, .int a] (P0 dC dI cI cZ cC cS [(h0, MDo qd cd og mo ps lt ac gd bd io pm op no)])) (QM dC dI h0 (ff_ext a og ac) (MDo qd 0 og mo ps lt ac gd bd io pm op no)) 0 0 (fun q => q = h0) := by
  refine Met.ofW (cc := b_MD_extended) (maxL := 2) (ret := (some .int)) (by decide) rfl ?_
  intro p e s m args below meth c s₁ B hml hv
  obtain ⟨rfl, hK, hP⟩ := hv
  have hx := B.exec
  have hb := B.bytes
  have hr := B.returns
  have hts : ∀ w ∈ tw, w.before _ s = true := fun w h => atoms_spec (ws := .code y_MD_extended b_MD_extended 2 ((some .int)) :: tw) B.pre w (List.mem_cons_of_mem _ h)
  have hown : s.vm.findClass "FileStatusModel" = some m.cls := findClass_of_methodNamed B.named
  have hlk := B.notSynchronized
  have hP : va_P (dC, dI) classes [(h0, MDo qd cd og mo ps lt ac gd bd io pm op no)] s.heap := hP
  have hl := lv_entry [.ref h0, .int a] (n := 2) (Nat.le_of_ble_eq_true rfl)
  rw [lg_entry_eq]
  generalize (lg_sl [.ref h0, .int a] ++ List.replicate (2 - (lg_sl [.ref h0, .int a]).length) Slot.unset).toArray = ls at hl ⊢
  have hl : lv_has ls 2 [(0, .ref h0), (1, .int a)] := hl
  have hD : va_D (fun q => q = h0) [(h0, MDo qd cd og mo ps lt ac gd bd io pm op no)] := fz_D1
  have hS : va_S (fun q => q = h0) s.heap s.heap [] := va_S.rf
  refine lv_aload_n (pc := 0) hx hb d_MD_extended_0 rfl (lv_at hl 0 rfl) ?_
  refine lv_iconst (v := 0) (pc := 1) hx hb d_MD_extended_1 (by decide) ?_
  refine pt_MD_code (ws' := [(h0, MDo qd 0 og mo ps lt ac gd bd io pm op no)]) (pc := 2) hx hb hts hown hK hP hD hS 0 rfl (Nat.le_of_ble_eq_true rfl) rfl d_MD_extended_2 (fun H locs hP hD hS => ?_)
  refine lv_iload_n (pc := 5) hx hb d_MD_extended_5 rfl (lv_at hl 1 rfl) ?_
  refine fz_rS (pc := 6) (As := [.int a]) (rest := []) ⟨hx, hb, hml, hown, hts⟩ (c_MD_isStatus l dC dI cI cZ cC cS a) (cs_MD_72 hts ⟨(Nat.le_of_ble_eq_true rfl), (Nat.le_of_ble_eq_true rfl)⟩) (fz_pre0 hK (hP.sub [] rfl)) rfl hl.1 rfl (Nat.le_of_ble_eq_true rfl) d_MD_extended_6 ⟨(Nat.le_of_ble_eq_true rfl), (Nat.le_of_ble_eq_true rfl)⟩ ?_
  refine lv_if_eq (tgt := 32) (pc := 9) hx hb d_MD_extended_9 (by decide) (fun c_1 => ?_) (fun c_1 => ?_)
  · refine lv_iconst (v := (-1)) (pc := 32) hx hb d_MD_extended_32 (by decide) ?_
    exact fz_retM (q0 := 0) hx hb hr hlk hP hS rfl (by first | (simp only [ff_ext, if_pos c_1]; done) | rfl | contradiction) (by first | (simp only [ff_ext, if_pos c_1]; done) | rfl | contradiction) d_MD_extended_33
  · refine lv_bipush (v := 100) (pc := 12) hx hb d_MD_extended_12 (by decide) ?_
    refine lv_iload_n (pc := 14) hx hb d_MD_extended_14 rfl (lv_at hl 1 rfl) ?_
    refine lv_imul (pc := 15) hx hb d_MD_extended_15 ?_
    refine lv_bipush (v := 10) (pc := 16) hx hb d_MD_extended_16 (by decide) ?_
    refine lv_aload_n (pc := 18) hx hb d_MD_extended_18 rfl (lv_at hl 0 rfl) ?_
    refine gt_MD_organisation (pc := 19) hx hb hts hown hK hP 0 rfl rfl d_MD_extended_19 ?_
    refine lv_imul (pc := 22) hx hb d_MD_extended_22 ?_
    refine lv_iadd (pc := 23) hx hb d_MD_extended_23 ?_
    refine lv_aload_n (pc := 24) hx hb d_MD_extended_24 rfl (lv_at hl 0 rfl) ?_
    refine gt_MD_act (pc := 25) hx hb hts hown hK hP 0 rfl rfl d_MD_extended_25 ?_
    refine lv_iadd (pc := 28) hx hb d_MD_extended_28 ?_
    refine lv_goto (tgt := 33) (pc := 29) hx hb d_MD_extended_29 (by decide) ?_
    exact fz_retM (q0 := 0) hx hb hr hlk hP hS rfl (by first | (simp only [ff_ext, if_neg c_1]; done) | rfl | contradiction) (by first | (simp only [ff_ext, if_neg c_1]; done) | rfl | contradiction) d_MD_extended_33
set_option maxHeartbeats 4000000 in
set_option maxRecDepth 100000 in
theorem c_MD_area (l : Launch) (dC : Nat → ClassId) (dI : Nat → Nat → Nat) (cI cZ cC cS : ClassId) (h0 qd : Nat) (cd og mo ps lt ac gd bd io pm op no : Int32) (a : Int32) : Met l y_MD_area (.code y_MD_area b_MD_area 2 ((some .int)) :: tw) rm_MD_area (va_Pc [.ref h0, .int a] (P0 dC dI cI cZ cC cS [(h0, MDo qd cd og mo ps lt ac gd bd io pm op no)])) (QM dC dI h0 (ff_area a) (MDo qd 0 og mo ps lt ac gd bd io pm op no)) 0 0 (fun q => q = h0) := by
  refine Met.ofW (cc := b_MD_area) (maxL := 2) (ret := (some .int)) (by decide) rfl ?_
  intro p e s m args below meth c s₁ B hml hv
  obtain ⟨rfl, hK, hP⟩ := hv
  have hx := B.exec
  have hb := B.bytes
  have hr := B.returns
  have hts : ∀ w ∈ tw, w.before _ s = true := fun w h => atoms_spec (ws := .code y_MD_area b_MD_area 2 ((some .int)) :: tw) B.pre w (List.mem_cons_of_mem _ h)
  have hown : s.vm.findClass "FileStatusModel" = some m.cls := findClass_of_methodNamed B.named
  have hlk := B.notSynchronized
  have hP : va_P (dC, dI) classes [(h0, MDo qd cd og mo ps lt ac gd bd io pm op no)] s.heap := hP
  have hl := lv_entry [.ref h0, .int a] (n := 2) (Nat.le_of_ble_eq_true rfl)
  rw [lg_entry_eq]
  generalize (lg_sl [.ref h0, .int a] ++ List.replicate (2 - (lg_sl [.ref h0, .int a]).length) Slot.unset).toArray = ls at hl ⊢
  have hl : lv_has ls 2 [(0, .ref h0), (1, .int a)] := hl
  have hD : va_D (fun q => q = h0) [(h0, MDo qd cd og mo ps lt ac gd bd io pm op no)] := fz_D1
  have hS : va_S (fun q => q = h0) s.heap s.heap [] := va_S.rf
  refine lv_aload_n (pc := 0) hx hb d_MD_area_0 rfl (lv_at hl 0 rfl) ?_
  refine lv_iconst (v := 0) (pc := 1) hx hb d_MD_area_1 (by decide) ?_
  refine pt_MD_code (ws' := [(h0, MDo qd 0 og mo ps lt ac gd bd io pm op no)]) (pc := 2) hx hb hts hown hK hP hD hS 0 rfl (Nat.le_of_ble_eq_true rfl) rfl d_MD_area_2 (fun H locs hP hD hS => ?_)
  refine lv_iload_n (pc := 5) hx hb d_MD_area_5 rfl (lv_at hl 1 rfl) ?_
  refine fz_rS (pc := 6) (As := [.int a]) (rest := []) ⟨hx, hb, hml, hown, hts⟩ (c_MD_isStatus l dC dI cI cZ cC cS a) (cs_MD_72 hts ⟨(Nat.le_of_ble_eq_true rfl), (Nat.le_of_ble_eq_true rfl)⟩) (fz_pre0 hK (hP.sub [] rfl)) rfl hl.1 rfl (Nat.le_of_ble_eq_true rfl) d_MD_area_6 ⟨(Nat.le_of_ble_eq_true rfl), (Nat.le_of_ble_eq_true rfl)⟩ ?_
  refine lv_if_ne (tgt := 14) (pc := 9) hx hb d_MD_area_9 (by decide) (fun c_1 => ?_) (fun c_1 => ?_)
  · refine lv_iload_n (pc := 14) hx hb d_MD_area_14 rfl (lv_at hl 1 rfl) ?_
    refine lv_if_eq (tgt := 23) (pc := 15) hx hb d_MD_area_15 (by decide) (fun c_2 => ?_) (fun c_2 => ?_)
    · refine lv_iconst (v := 1) (pc := 23) hx hb d_MD_area_23 (by decide) ?_
      refine lv_goto (tgt := 37) (pc := 24) hx hb d_MD_area_24 (by decide) ?_
      exact fz_retM (q0 := 0) hx hb hr hlk hP hS rfl (by first | (simp only [ff_area, if_neg c_1, if_pos c_2]; done) | rfl | contradiction) (by first | (simp only [ff_area, if_neg c_1, if_pos c_2]; done) | rfl | contradiction) d_MD_area_37
    · refine lv_iload_n (pc := 18) hx hb d_MD_area_18 rfl (lv_at hl 1 rfl) ?_
      refine lv_iconst (v := 2) (pc := 19) hx hb d_MD_area_19 (by decide) ?_
      refine lv_icmp_ne (tgt := 27) (pc := 20) hx hb d_MD_area_20 (by decide) (fun c_3 => ?_) (fun c_3 => ?_)
      · refine lv_iload_n (pc := 27) hx hb d_MD_area_27 rfl (lv_at hl 1 rfl) ?_
        refine lv_iconst (v := 4) (pc := 28) hx hb d_MD_area_28 (by decide) ?_
        refine lv_icmp_ne (tgt := 36) (pc := 29) hx hb d_MD_area_29 (by decide) (fun c_4 => ?_) (fun c_4 => ?_)
        · refine lv_iconst (v := 0) (pc := 36) hx hb d_MD_area_36 (by decide) ?_
          exact fz_retM (q0 := 0) hx hb hr hlk hP hS rfl (by first | (simp only [ff_area, if_neg c_1, if_neg c_2, if_neg c_3, if_neg c_4]; done) | rfl | contradiction) (by first | (simp only [ff_area, if_neg c_1, if_neg c_2, if_neg c_3, if_neg c_4]; done) | rfl | contradiction) d_MD_area_37
        · refine lv_iconst (v := 2) (pc := 32) hx hb d_MD_area_32 (by decide) ?_
          refine lv_goto (tgt := 37) (pc := 33) hx hb d_MD_area_33 (by decide) ?_
          exact fz_retM (q0 := 0) hx hb hr hlk hP hS rfl (by first | (simp only [ff_area, if_neg c_1, if_neg c_2, if_neg c_3, if_pos c_4]; done) | rfl | contradiction) (by first | (simp only [ff_area, if_neg c_1, if_neg c_2, if_neg c_3, if_pos c_4]; done) | rfl | contradiction) d_MD_area_37
      · refine lv_iconst (v := 1) (pc := 23) hx hb d_MD_area_23 (by decide) ?_
        refine lv_goto (tgt := 37) (pc := 24) hx hb d_MD_area_24 (by decide) ?_
        exact fz_retM (q0 := 0) hx hb hr hlk hP hS rfl (by first | (simp only [ff_area, if_neg c_1, if_neg c_2, if_pos c_3]; done) | rfl | contradiction) (by first | (simp only [ff_area, if_neg c_1, if_neg c_2, if_pos c_3]; done) | rfl | contradiction) d_MD_area_37
  · refine lv_iconst (v := (-1)) (pc := 12) hx hb d_MD_area_12 (by decide) ?_
    exact fz_retM (q0 := 0) hx hb hr hlk hP hS rfl (by first | (simp only [ff_area, if_pos c_1]; done) | rfl | contradiction) (by first | (simp only [ff_area, if_pos c_1]; done) | rfl | contradiction) d_MD_area_13
set_option maxHeartbeats 4000000 in
set_option maxRecDepth 100000 in
theorem c_MD_count (l : Launch) (dC : Nat → ClassId) (dI : Nat → Nat → Nat) (cI cZ cC cS : ClassId) (h0 qd : Nat) (cd og mo ps lt ac gd bd io pm op no : Int32) (a : Int32) : Met l y_MD_count (.code y_MD_count b_MD_count 2 ((some .int)) :: tw) rm_MD_count (va_Pc [.ref h0, .int a] (P0 dC dI cI cZ cC cS [(h0, MDo qd cd og mo ps lt ac gd bd io pm op no)])) (QM dC dI h0 (mm_cnt a io mo ps pm lt gd bd og) (MDo qd 0 og mo ps lt ac gd bd io pm op no)) 0 0 (fun q => q = h0) := by
  refine Met.ofW (cc := b_MD_count) (maxL := 2) (ret := (some .int)) (by decide) rfl ?_
  intro p e s m args below meth c s₁ B hml hv
  obtain ⟨rfl, hK, hP⟩ := hv
  have hx := B.exec
  have hb := B.bytes
  have hr := B.returns
  have hts : ∀ w ∈ tw, w.before _ s = true := fun w h => atoms_spec (ws := .code y_MD_count b_MD_count 2 ((some .int)) :: tw) B.pre w (List.mem_cons_of_mem _ h)
  have hown : s.vm.findClass "FileStatusModel" = some m.cls := findClass_of_methodNamed B.named
  have hlk := B.notSynchronized
  have hP : va_P (dC, dI) classes [(h0, MDo qd cd og mo ps lt ac gd bd io pm op no)] s.heap := hP
  have hl := lv_entry [.ref h0, .int a] (n := 2) (Nat.le_of_ble_eq_true rfl)
  rw [lg_entry_eq]
  generalize (lg_sl [.ref h0, .int a] ++ List.replicate (2 - (lg_sl [.ref h0, .int a]).length) Slot.unset).toArray = ls at hl ⊢
  have hl : lv_has ls 2 [(0, .ref h0), (1, .int a)] := hl
  have hD : va_D (fun q => q = h0) [(h0, MDo qd cd og mo ps lt ac gd bd io pm op no)] := fz_D1
  have hS : va_S (fun q => q = h0) s.heap s.heap [] := va_S.rf
  refine lv_aload_n (pc := 0) hx hb d_MD_count_0 rfl (lv_at hl 0 rfl) ?_
  refine lv_iconst (v := 0) (pc := 1) hx hb d_MD_count_1 (by decide) ?_
  refine pt_MD_code (ws' := [(h0, MDo qd 0 og mo ps lt ac gd bd io pm op no)]) (pc := 2) hx hb hts hown hK hP hD hS 0 rfl (Nat.le_of_ble_eq_true rfl) rfl d_MD_count_2 (fun H locs hP hD hS => ?_)
  refine lv_iload_n (pc := 5) hx hb d_MD_count_5 rfl (lv_at hl 1 rfl) ?_
  by_cases c_1 : a = 0
  · refine lv_tableIn (tgt := 48) (off := 42) (pc := 6) hx hb d_MD_count_6 (by rw [c_1]; first | done | decide) (by rw [c_1]; first | done | decide) (by rw [c_1]; first | done | decide) (by decide) ?_
    refine lv_aload_n (pc := 48) hx hb d_MD_count_48 rfl (lv_at hl 0 rfl) ?_
    refine gt_MD_isOpen (pc := 49) hx hb hts hown hK hP 0 rfl rfl d_MD_count_49 ?_
    refine lv_if_eq (tgt := 62) (pc := 52) hx hb d_MD_count_52 (by decide) (fun c_2 => ?_) (fun c_2 => ?_)
    · refine lv_iconst (v := (-1)) (pc := 62) hx hb d_MD_count_62 (by decide) ?_
      exact fz_retM (q0 := 0) hx hb hr hlk hP hS rfl (by first | (simp only [mm_cnt, if_pos c_1, if_pos c_2]; done) | rfl | contradiction) (by first | (simp only [mm_cnt, if_pos c_1, if_pos c_2]; done) | rfl | contradiction) d_MD_count_63
    · refine lv_aload_n (pc := 55) hx hb d_MD_count_55 rfl (lv_at hl 0 rfl) ?_
      refine gt_MD_mode (pc := 56) hx hb hts hown hK hP 0 rfl rfl d_MD_count_56 ?_
      refine lv_goto (tgt := 63) (pc := 59) hx hb d_MD_count_59 (by decide) ?_
      exact fz_retM (q0 := 0) hx hb hr hlk hP hS rfl (by first | (simp only [mm_cnt, if_pos c_1, if_neg c_2]; done) | rfl | contradiction) (by first | (simp only [mm_cnt, if_pos c_1, if_neg c_2]; done) | rfl | contradiction) d_MD_count_63
  by_cases c_3 : a = 1
  · refine lv_tableIn (tgt := 64) (off := 58) (pc := 6) hx hb d_MD_count_6 (by rw [c_3]; first | done | decide) (by rw [c_3]; first | done | decide) (by rw [c_3]; first | done | decide) (by decide) ?_
    refine lv_aload_n (pc := 64) hx hb d_MD_count_64 rfl (lv_at hl 0 rfl) ?_
    refine gt_MD_position (pc := 65) hx hb hts hown hK hP 0 rfl rfl d_MD_count_65 ?_
    exact fz_retM (q0 := 0) hx hb hr hlk hP hS rfl (by first | (simp only [mm_cnt, if_neg c_1, if_pos c_3]; done) | rfl | contradiction) (by first | (simp only [mm_cnt, if_neg c_1, if_pos c_3]; done) | rfl | contradiction) d_MD_count_68
  by_cases c_4 : a = 2
  · refine lv_tableIn (tgt := 69) (off := 63) (pc := 6) hx hb d_MD_count_6 (by rw [c_4]; first | done | decide) (by rw [c_4]; first | done | decide) (by rw [c_4]; first | done | decide) (by decide) ?_
    refine lv_aload_n (pc := 69) hx hb d_MD_count_69 rfl (lv_at hl 0 rfl) ?_
    refine gt_MD_permit (pc := 70) hx hb hts hown hK hP 0 rfl rfl d_MD_count_70 ?_
    refine lv_if_eq (tgt := 80) (pc := 73) hx hb d_MD_count_73 (by decide) (fun c_5 => ?_) (fun c_5 => ?_)
    · refine lv_iconst (v := 0) (pc := 80) hx hb d_MD_count_80 (by decide) ?_
      exact fz_retM (q0 := 0) hx hb hr hlk hP hS rfl (by first | (simp only [mm_cnt, if_neg c_1, if_neg c_3, if_pos c_4, if_pos c_5]; done) | rfl | contradiction) (by first | (simp only [mm_cnt, if_neg c_1, if_neg c_3, if_pos c_4, if_pos c_5]; done) | rfl | contradiction) d_MD_count_81
    · refine lv_iconst (v := 1) (pc := 76) hx hb d_MD_count_76 (by decide) ?_
      refine lv_goto (tgt := 81) (pc := 77) hx hb d_MD_count_77 (by decide) ?_
      exact fz_retM (q0 := 0) hx hb hr hlk hP hS rfl (by first | (simp only [mm_cnt, if_neg c_1, if_neg c_3, if_pos c_4, if_neg c_5]; done) | rfl | contradiction) (by first | (simp only [mm_cnt, if_neg c_1, if_neg c_3, if_pos c_4, if_neg c_5]; done) | rfl | contradiction) d_MD_count_81
  by_cases c_6 : a = 3
  · refine lv_tableIn (tgt := 82) (off := 76) (pc := 6) hx hb d_MD_count_6 (by rw [c_6]; first | done | decide) (by rw [c_6]; first | done | decide) (by rw [c_6]; first | done | decide) (by decide) ?_
    refine lv_aload_n (pc := 82) hx hb d_MD_count_82 rfl (lv_at hl 0 rfl) ?_
    refine gt_MD_latest (pc := 83) hx hb hts hown hK hP 0 rfl rfl d_MD_count_83 ?_
    exact fz_retM (q0 := 0) hx hb hr hlk hP hS rfl (by first | (simp only [mm_cnt, if_neg c_1, if_neg c_3, if_neg c_4, if_pos c_6]; done) | rfl | contradiction) (by first | (simp only [mm_cnt, if_neg c_1, if_neg c_3, if_neg c_4, if_pos c_6]; done) | rfl | contradiction) d_MD_count_86
  by_cases c_7 : a = 4
  · refine lv_tableIn (tgt := 87) (off := 81) (pc := 6) hx hb d_MD_count_6 (by rw [c_7]; first | done | decide) (by rw [c_7]; first | done | decide) (by rw [c_7]; first | done | decide) (by decide) ?_
    refine lv_aload_n (pc := 87) hx hb d_MD_count_87 rfl (lv_at hl 0 rfl) ?_
    refine gt_MD_good (pc := 88) hx hb hts hown hK hP 0 rfl rfl d_MD_count_88 ?_
    exact fz_retM (q0 := 0) hx hb hr hlk hP hS rfl (by first | (simp only [mm_cnt, if_neg c_1, if_neg c_3, if_neg c_4, if_neg c_6, if_pos c_7]; done) | rfl | contradiction) (by first | (simp only [mm_cnt, if_neg c_1, if_neg c_3, if_neg c_4, if_neg c_6, if_pos c_7]; done) | rfl | contradiction) d_MD_count_91
  by_cases c_8 : a = 5
  · refine lv_tableIn (tgt := 92) (off := 86) (pc := 6) hx hb d_MD_count_6 (by rw [c_8]; first | done | decide) (by rw [c_8]; first | done | decide) (by rw [c_8]; first | done | decide) (by decide) ?_
    refine lv_aload_n (pc := 92) hx hb d_MD_count_92 rfl (lv_at hl 0 rfl) ?_
    refine gt_MD_bad (pc := 93) hx hb hts hown hK hP 0 rfl rfl d_MD_count_93 ?_
    exact fz_retM (q0 := 0) hx hb hr hlk hP hS rfl (by first | (simp only [mm_cnt, if_neg c_1, if_neg c_3, if_neg c_4, if_neg c_6, if_neg c_7, if_pos c_8]; done) | rfl | contradiction) (by first | (simp only [mm_cnt, if_neg c_1, if_neg c_3, if_neg c_4, if_neg c_6, if_neg c_7, if_pos c_8]; done) | rfl | contradiction) d_MD_count_96
  by_cases c_9 : a = 6
  · refine lv_tableIn (tgt := 97) (off := 91) (pc := 6) hx hb d_MD_count_6 (by rw [c_9]; first | done | decide) (by rw [c_9]; first | done | decide) (by rw [c_9]; first | done | decide) (by decide) ?_
    refine lv_aload_n (pc := 97) hx hb d_MD_count_97 rfl (lv_at hl 0 rfl) ?_
    refine gt_MD_organisation (pc := 98) hx hb hts hown hK hP 0 rfl rfl d_MD_count_98 ?_
    exact fz_retM (q0 := 0) hx hb hr hlk hP hS rfl (by first | (simp only [mm_cnt, if_neg c_1, if_neg c_3, if_neg c_4, if_neg c_6, if_neg c_7, if_neg c_8, if_pos c_9]; done) | rfl | contradiction) (by first | (simp only [mm_cnt, if_neg c_1, if_neg c_3, if_neg c_4, if_neg c_6, if_neg c_7, if_neg c_8, if_pos c_9]; done) | rfl | contradiction) d_MD_count_101
  have n_1 := lv_neT (a := 0) c_1 rfl
  have n_3 := lv_neT (a := 1) c_3 rfl
  have n_4 := lv_neT (a := 2) c_4 rfl
  have n_6 := lv_neT (a := 3) c_6 rfl
  have n_7 := lv_neT (a := 4) c_7 rfl
  have n_8 := lv_neT (a := 5) c_8 rfl
  have n_9 := lv_neT (a := 6) c_9 rfl
  refine lv_tableOut (tgt := 102) (pc := 6) hx hb d_MD_count_6 (by omega) (by decide) ?_
  refine lv_iconst (v := (-1)) (pc := 102) hx hb d_MD_count_102 (by decide) ?_
  exact fz_retM (q0 := 0) hx hb hr hlk hP hS rfl (by first | (simp only [mm_cnt, if_neg c_1, if_neg c_3, if_neg c_4, if_neg c_6, if_neg c_7, if_neg c_8, if_neg c_9]; done) | rfl | contradiction) (by first | (simp only [mm_cnt, if_neg c_1, if_neg c_3, if_neg c_4, if_neg c_6, if_neg c_7, if_neg c_8, if_neg c_9]; done) | rfl | contradiction) d_MD_count_103
set_option maxHeartbeats 4000000 in
set_option maxRecDepth 100000 in
theorem c_MD_phrase (l : Launch) (dC : Nat → ClassId) (dI : Nat → Nat → Nat) (cI cZ cC cS : ClassId) (h0 qd : Nat) (cd og mo ps lt ac gd bd io pm op no : Int32) (f : Nat → Int32) (a : Int32) (hne : h0 ≠ qd) (hk : vp_in (mm_kd lt) 7) : Met l y_MD_phrase (.code y_MD_phrase b_MD_phrase 3 ((some .int)) :: tw) rm_MD_phrase (va_Pc [.ref h0, .int a] (P0 dC dI cI cZ cC cS [(h0, MDo qd cd og mo ps lt ac gd bd io pm op no), (qd, ARi cZ 7 f)])) (QM2 dC dI h0 qd (mm_phr (mm_kd lt) a (f (mm_kd lt).toNatClampNeg)) (MDo qd 0 og mo ps lt ac gd bd io pm op no) (ARi cZ 7 f)) 0 0 (fun q => q = h0 ∨ q = qd) := by
  refine Met.ofW (cc := b_MD_phrase) (maxL := 3) (ret := (some .int)) (by decide) rfl ?_
  intro p e s m args below meth c s₁ B hml hv
  obtain ⟨rfl, hK, hP⟩ := hv
  have hx := B.exec
  have hb := B.bytes
  have hr := B.returns
  have hts : ∀ w ∈ tw, w.before _ s = true := fun w h => atoms_spec (ws := .code y_MD_phrase b_MD_phrase 3 ((some .int)) :: tw) B.pre w (List.mem_cons_of_mem _ h)
  have hown : s.vm.findClass "FileStatusModel" = some m.cls := findClass_of_methodNamed B.named
  have hlk := B.notSynchronized
  have hP : va_P (dC, dI) classes [(h0, MDo qd cd og mo ps lt ac gd bd io pm op no), (qd, ARi cZ 7 f)] s.heap := hP
  have hl := lv_entry [.ref h0, .int a] (n := 3) (Nat.le_of_ble_eq_true rfl)
  rw [lg_entry_eq]
  generalize (lg_sl [.ref h0, .int a] ++ List.replicate (3 - (lg_sl [.ref h0, .int a]).length) Slot.unset).toArray = ls at hl ⊢
  have hl : lv_has ls 3 [(0, .ref h0), (1, .int a)] := hl
  have hD : va_D (fun q => q = h0 ∨ q = qd) [(h0, MDo qd cd og mo ps lt ac gd bd io pm op no), (qd, ARi cZ 7 f)] := fz_D2 hne
  have hS : va_S (fun q => q = h0 ∨ q = qd) s.heap s.heap [] := va_S.rf
  refine lv_aload_n (pc := 0) hx hb d_MD_phrase_0 rfl (lv_at hl 0 rfl) ?_
  refine lv_iconst (v := 0) (pc := 1) hx hb d_MD_phrase_1 (by decide) ?_
  refine pt_MD_code (ws' := [(h0, MDo qd 0 og mo ps lt ac gd bd io pm op no), (qd, ARi cZ 7 f)]) (pc := 2) hx hb hts hown hK hP hD hS 0 rfl (Nat.le_of_ble_eq_true rfl) rfl d_MD_phrase_2 (fun H locs hP hD hS => ?_)
  refine lv_aload_n (pc := 5) hx hb d_MD_phrase_5 rfl (lv_at hl 0 rfl) ?_
  refine gt_MD_latest (pc := 6) hx hb hts hown hK hP 0 rfl rfl d_MD_phrase_6 ?_
  refine fz_rS (pc := 9) (As := [.int lt]) (rest := []) ⟨hx, hb, hml, hown, hts⟩ (c_MD_kindOf l dC dI cI cZ cC cS lt) (cs_MD_76 hts ⟨(Nat.le_of_ble_eq_true rfl), (Nat.le_of_ble_eq_true rfl)⟩) (fz_pre0 hK (hP.sub [] rfl)) rfl hl.1 rfl (Nat.le_of_ble_eq_true rfl) d_MD_phrase_9 ⟨(Nat.le_of_ble_eq_true rfl), (Nat.le_of_ble_eq_true rfl)⟩ ?_
  refine lv_istore_n (lv' := [(2, .int (mm_kd lt)), (0, .ref h0), (1, .int a)]) (pc := 12) hx hb d_MD_phrase_12 rfl hl (by decide) rfl (fun ls hl => ?_)
  refine lv_iload_n (pc := 13) hx hb d_MD_phrase_13 rfl (lv_at hl 0 rfl) ?_
  refine lv_if_ne (tgt := 19) (pc := 14) hx hb d_MD_phrase_14 (by decide) (fun c_1 => ?_) (fun c_1 => ?_)
  · refine lv_iload_n (pc := 19) hx hb d_MD_phrase_19 rfl (lv_at hl 2 rfl) ?_
    refine lv_if_eq (tgt := 30) (pc := 20) hx hb d_MD_phrase_20 (by decide) (fun c_2 => ?_) (fun c_2 => ?_)
    · refine lv_aload_n (pc := 30) hx hb d_MD_phrase_30 rfl (lv_at hl 1 rfl) ?_
      refine gt_MD_declared (pc := 31) hx hb hts hown hK hP 0 rfl rfl d_MD_phrase_31 ?_
      refine lv_iload_n (pc := 34) hx hb d_MD_phrase_34 rfl (lv_at hl 0 rfl) ?_
      refine fz_ldZ (pc := 35) hx hb hK hP (q0 := 1) rfl hk d_MD_phrase_35 ?_
      refine lv_if_eq (tgt := 43) (pc := 36) hx hb d_MD_phrase_36 (by decide) (fun c_3 => ?_) (fun c_3 => ?_)
      · refine lv_iload_n (pc := 43) hx hb d_MD_phrase_43 rfl (lv_at hl 0 rfl) ?_
        refine lv_iconst (v := 2) (pc := 44) hx hb d_MD_phrase_44 (by decide) ?_
        refine lv_icmp_le (tgt := 52) (pc := 45) hx hb d_MD_phrase_45 (by decide) (fun c_4 => ?_) (fun c_4 => ?_)
        · refine lv_iconst (v := 4) (pc := 52) hx hb d_MD_phrase_52 (by decide) ?_
          exact fz_retM2 hx hb hr hlk hP hS (by first | (simp only [mm_phr, mm_phr1, if_neg c_1, if_pos c_2, if_pos c_3, if_pos c_4]; done) | rfl | contradiction) (by first | (simp only [mm_phr, mm_phr1, if_neg c_1, if_pos c_2, if_pos c_3, if_pos c_4]; done) | rfl | contradiction) (by first | (simp only [mm_phr, mm_phr1, if_neg c_1, if_pos c_2, if_pos c_3, if_pos c_4]; done) | rfl | contradiction) d_MD_phrase_53
        · refine lv_iconst (v := 3) (pc := 48) hx hb d_MD_phrase_48 (by decide) ?_
          refine lv_goto (tgt := 53) (pc := 49) hx hb d_MD_phrase_49 (by decide) ?_
          exact fz_retM2 hx hb hr hlk hP hS (by first | (simp only [mm_phr, mm_phr1, if_neg c_1, if_pos c_2, if_pos c_3, if_neg c_4]; done) | rfl | contradiction) (by first | (simp only [mm_phr, mm_phr1, if_neg c_1, if_pos c_2, if_pos c_3, if_neg c_4]; done) | rfl | contradiction) (by first | (simp only [mm_phr, mm_phr1, if_neg c_1, if_pos c_2, if_pos c_3, if_neg c_4]; done) | rfl | contradiction) d_MD_phrase_53
      · refine lv_iconst (v := 2) (pc := 39) hx hb d_MD_phrase_39 (by decide) ?_
        refine lv_goto (tgt := 53) (pc := 40) hx hb d_MD_phrase_40 (by decide) ?_
        exact fz_retM2 hx hb hr hlk hP hS (by first | (simp only [mm_phr, mm_phr1, if_neg c_1, if_pos c_2, if_neg c_3]; done) | rfl | contradiction) (by first | (simp only [mm_phr, mm_phr1, if_neg c_1, if_pos c_2, if_neg c_3]; done) | rfl | contradiction) (by first | (simp only [mm_phr, mm_phr1, if_neg c_1, if_pos c_2, if_neg c_3]; done) | rfl | contradiction) d_MD_phrase_53
    · refine lv_iload_n (pc := 23) hx hb d_MD_phrase_23 rfl (lv_at hl 0 rfl) ?_
      refine lv_iconst (v := 3) (pc := 24) hx hb d_MD_phrase_24 (by decide) ?_
      refine lv_icmp_ge (tgt := 30) (pc := 25) hx hb d_MD_phrase_25 (by decide) (fun c_5 => ?_) (fun c_5 => ?_)
      · refine lv_aload_n (pc := 30) hx hb d_MD_phrase_30 rfl (lv_at hl 1 rfl) ?_
        refine gt_MD_declared (pc := 31) hx hb hts hown hK hP 0 rfl rfl d_MD_phrase_31 ?_
        refine lv_iload_n (pc := 34) hx hb d_MD_phrase_34 rfl (lv_at hl 0 rfl) ?_
        refine fz_ldZ (pc := 35) hx hb hK hP (q0 := 1) rfl hk d_MD_phrase_35 ?_
        refine lv_if_eq (tgt := 43) (pc := 36) hx hb d_MD_phrase_36 (by decide) (fun c_6 => ?_) (fun c_6 => ?_)
        · refine lv_iload_n (pc := 43) hx hb d_MD_phrase_43 rfl (lv_at hl 0 rfl) ?_
          refine lv_iconst (v := 2) (pc := 44) hx hb d_MD_phrase_44 (by decide) ?_
          refine lv_icmp_le (tgt := 52) (pc := 45) hx hb d_MD_phrase_45 (by decide) (fun c_7 => ?_) (fun c_7 => ?_)
          · refine lv_iconst (v := 4) (pc := 52) hx hb d_MD_phrase_52 (by decide) ?_
            exact fz_retM2 hx hb hr hlk hP hS (by first | (simp only [mm_phr, mm_phr1, if_neg c_1, if_neg c_2, if_pos c_5, if_pos c_6, if_pos c_7]; done) | rfl | contradiction) (by first | (simp only [mm_phr, mm_phr1, if_neg c_1, if_neg c_2, if_pos c_5, if_pos c_6, if_pos c_7]; done) | rfl | contradiction) (by first | (simp only [mm_phr, mm_phr1, if_neg c_1, if_neg c_2, if_pos c_5, if_pos c_6, if_pos c_7]; done) | rfl | contradiction) d_MD_phrase_53
          · refine lv_iconst (v := 3) (pc := 48) hx hb d_MD_phrase_48 (by decide) ?_
            refine lv_goto (tgt := 53) (pc := 49) hx hb d_MD_phrase_49 (by decide) ?_
            exact fz_retM2 hx hb hr hlk hP hS (by first | (simp only [mm_phr, mm_phr1, if_neg c_1, if_neg c_2, if_pos c_5, if_pos c_6, if_neg c_7]; done) | rfl | contradiction) (by first | (simp only [mm_phr, mm_phr1, if_neg c_1, if_neg c_2, if_pos c_5, if_pos c_6, if_neg c_7]; done) | rfl | contradiction) (by first | (simp only [mm_phr, mm_phr1, if_neg c_1, if_neg c_2, if_pos c_5, if_pos c_6, if_neg c_7]; done) | rfl | contradiction) d_MD_phrase_53
        · refine lv_iconst (v := 2) (pc := 39) hx hb d_MD_phrase_39 (by decide) ?_
          refine lv_goto (tgt := 53) (pc := 40) hx hb d_MD_phrase_40 (by decide) ?_
          exact fz_retM2 hx hb hr hlk hP hS (by first | (simp only [mm_phr, mm_phr1, if_neg c_1, if_neg c_2, if_pos c_5, if_neg c_6]; done) | rfl | contradiction) (by first | (simp only [mm_phr, mm_phr1, if_neg c_1, if_neg c_2, if_pos c_5, if_neg c_6]; done) | rfl | contradiction) (by first | (simp only [mm_phr, mm_phr1, if_neg c_1, if_neg c_2, if_pos c_5, if_neg c_6]; done) | rfl | contradiction) d_MD_phrase_53
      · refine lv_iconst (v := 1) (pc := 28) hx hb d_MD_phrase_28 (by decide) ?_
        exact fz_retM2 hx hb hr hlk hP hS (by first | (simp only [mm_phr, mm_phr1, if_neg c_1, if_neg c_2, if_neg c_5]; done) | rfl | contradiction) (by first | (simp only [mm_phr, mm_phr1, if_neg c_1, if_neg c_2, if_neg c_5]; done) | rfl | contradiction) (by first | (simp only [mm_phr, mm_phr1, if_neg c_1, if_neg c_2, if_neg c_5]; done) | rfl | contradiction) d_MD_phrase_29
  · refine lv_iconst (v := 0) (pc := 17) hx hb d_MD_phrase_17 (by decide) ?_
    exact fz_retM2 hx hb hr hlk hP hS (by first | (simp only [mm_phr, mm_phr1, if_pos c_1]; done) | rfl | contradiction) (by first | (simp only [mm_phr, mm_phr1, if_pos c_1]; done) | rfl | contradiction) (by first | (simp only [mm_phr, mm_phr1, if_pos c_1]; done) | rfl | contradiction) d_MD_phrase_18
set_option maxHeartbeats 4000000 in
set_option maxRecDepth 100000 in
theorem c_MD_declarative (l : Launch) (dC : Nat → ClassId) (dI : Nat → Nat → Nat) (cI cZ cC cS : ClassId) (h0 qd : Nat) (cd og mo ps lt ac gd bd io pm op no : Int32) (f : Nat → Int32) (a b : Int32) (hne : h0 ≠ qd) (ha : b = 0 ∨ b = 1) : Met l y_MD_declarative (.code y_MD_declarative b_MD_declarative 4 ((some .int)) :: tw) rm_MD_declarative (va_Pc [.ref h0, .int a, .int b] (P0 dC dI cI cZ cC cS [(h0, MDo qd cd og mo ps lt ac gd bd io pm op no), (qd, ARi cZ 7 f)])) (QM2 dC dI h0 qd (ff_der a (f a.toNatClampNeg)) (MDo qd 0 og mo ps lt ac gd bd io pm op no) (ARi cZ 7 (ff_ded a b f))) 0 0 (fun q => q = h0 ∨ q = qd) := by
  refine Met.ofW (cc := b_MD_declarative) (maxL := 4) (ret := (some .int)) (by decide) rfl ?_
  intro p e s m args below meth c s₁ B hml hv
  obtain ⟨rfl, hK, hP⟩ := hv
  have hx := B.exec
  have hb := B.bytes
  have hr := B.returns
  have hts : ∀ w ∈ tw, w.before _ s = true := fun w h => atoms_spec (ws := .code y_MD_declarative b_MD_declarative 4 ((some .int)) :: tw) B.pre w (List.mem_cons_of_mem _ h)
  have hown : s.vm.findClass "FileStatusModel" = some m.cls := findClass_of_methodNamed B.named
  have hlk := B.notSynchronized
  have hP : va_P (dC, dI) classes [(h0, MDo qd cd og mo ps lt ac gd bd io pm op no), (qd, ARi cZ 7 f)] s.heap := hP
  have hl := lv_entry [.ref h0, .int a, .int b] (n := 4) (Nat.le_of_ble_eq_true rfl)
  rw [lg_entry_eq]
  generalize (lg_sl [.ref h0, .int a, .int b] ++ List.replicate (4 - (lg_sl [.ref h0, .int a, .int b]).length) Slot.unset).toArray = ls at hl ⊢
  have hl : lv_has ls 4 [(0, .ref h0), (1, .int a), (2, .int b)] := hl
  have hD : va_D (fun q => q = h0 ∨ q = qd) [(h0, MDo qd cd og mo ps lt ac gd bd io pm op no), (qd, ARi cZ 7 f)] := fz_D2 hne
  have hS : va_S (fun q => q = h0 ∨ q = qd) s.heap s.heap [] := va_S.rf
  refine lv_aload_n (pc := 0) hx hb d_MD_declarative_0 rfl (lv_at hl 0 rfl) ?_
  refine lv_iconst (v := 0) (pc := 1) hx hb d_MD_declarative_1 (by decide) ?_
  refine pt_MD_code (ws' := [(h0, MDo qd 0 og mo ps lt ac gd bd io pm op no), (qd, ARi cZ 7 f)]) (pc := 2) hx hb hts hown hK hP hD hS 0 rfl (Nat.le_of_ble_eq_true rfl) rfl d_MD_declarative_2 (fun H locs hP hD hS => ?_)
  refine lv_iload_n (pc := 5) hx hb d_MD_declarative_5 rfl (lv_at hl 1 rfl) ?_
  refine lv_iconst (v := 1) (pc := 6) hx hb d_MD_declarative_6 (by decide) ?_
  refine lv_icmp_lt (tgt := 16) (pc := 7) hx hb d_MD_declarative_7 (by decide) (fun c_1 => ?_) (fun c_1 => ?_)
  · refine lv_bipush (v := (-4)) (pc := 16) hx hb d_MD_declarative_16 (by decide) ?_
    exact fz_retM2 hx hb hr hlk hP hS (by first | (simp only [ff_der, ff_ded, ff_b01, if_pos c_1]; done) | rfl | contradiction) (by first | (simp only [ff_der, ff_ded, ff_b01, if_pos c_1]; done) | rfl | contradiction) (by first | (simp only [ff_der, ff_ded, ff_b01, if_pos c_1]; done) | rfl | contradiction) d_MD_declarative_18
  · refine lv_iload_n (pc := 10) hx hb d_MD_declarative_10 rfl (lv_at hl 1 rfl) ?_
    refine lv_bipush (v := 6) (pc := 11) hx hb d_MD_declarative_11 (by decide) ?_
    refine lv_icmp_le (tgt := 19) (pc := 13) hx hb d_MD_declarative_13 (by decide) (fun c_2 => ?_) (fun c_2 => ?_)
    · refine lv_aload_n (pc := 19) hx hb d_MD_declarative_19 rfl (lv_at hl 0 rfl) ?_
      refine gt_MD_declared (pc := 20) hx hb hts hown hK hP 0 rfl rfl d_MD_declarative_20 ?_
      refine lv_iload_n (pc := 23) hx hb d_MD_declarative_23 rfl (lv_at hl 1 rfl) ?_
      refine fz_ldZ (pc := 24) hx hb hK hP (q0 := 1) rfl (fz_i7 c_1 c_2) d_MD_declarative_24 ?_
      refine lv_if_eq (tgt := 32) (pc := 25) hx hb d_MD_declarative_25 (by decide) (fun c_3 => ?_) (fun c_3 => ?_)
      · refine lv_iconst (v := 0) (pc := 32) hx hb d_MD_declarative_32 (by decide) ?_
        refine lv_istore_n (lv' := [(3, .int 0), (0, .ref h0), (1, .int a), (2, .int b)]) (pc := 33) hx hb d_MD_declarative_33 rfl hl (by decide) rfl (fun ls hl => ?_)
        refine lv_aload_n (pc := 34) hx hb d_MD_declarative_34 rfl (lv_at hl 1 rfl) ?_
        refine gt_MD_declared (pc := 35) hx hb hts hown hK hP 0 rfl rfl d_MD_declarative_35 ?_
        refine lv_iload_n (pc := 38) hx hb d_MD_declarative_38 rfl (lv_at hl 2 rfl) ?_
        refine lv_iload_n (pc := 39) hx hb d_MD_declarative_39 rfl (lv_at hl 3 rfl) ?_
        refine fz_stZ (pc := 40) (q0 := 1) (ws' := [(h0, MDo qd 0 og mo ps lt ac gd bd io pm op no), (qd, ARi cZ 7 (upd f a.toNatClampNeg b))]) hx hb hK hP hD hS rfl (fz_i7 c_1 c_2) (fz_bz ha).2.2 rfl d_MD_declarative_40 (fun H locs hP hD hS => ?_)
        refine lv_iload_n (pc := 41) hx hb d_MD_declarative_41 rfl (lv_at hl 0 rfl) ?_
        exact fz_retM2 hx hb hr hlk hP hS (by first | (simp only [ff_der, ff_ded, ff_b01, if_neg c_1, if_pos c_2, if_pos c_3]; done) | rfl | contradiction) (by first | (simp only [ff_der, ff_ded, ff_b01, if_neg c_1, if_pos c_2, if_pos c_3]; done) | rfl | contradiction) (by first | (simp only [ff_der, ff_ded, ff_b01, if_neg c_1, if_pos c_2, if_pos c_3]; done) | rfl | contradiction) d_MD_declarative_42
      · refine lv_iconst (v := 1) (pc := 28) hx hb d_MD_declarative_28 (by decide) ?_
        refine lv_goto (tgt := 33) (pc := 29) hx hb d_MD_declarative_29 (by decide) ?_
        refine lv_istore_n (lv' := [(3, .int 1), (0, .ref h0), (1, .int a), (2, .int b)]) (pc := 33) hx hb d_MD_declarative_33 rfl hl (by decide) rfl (fun ls hl => ?_)
        refine lv_aload_n (pc := 34) hx hb d_MD_declarative_34 rfl (lv_at hl 1 rfl) ?_
        refine gt_MD_declared (pc := 35) hx hb hts hown hK hP 0 rfl rfl d_MD_declarative_35 ?_
        refine lv_iload_n (pc := 38) hx hb d_MD_declarative_38 rfl (lv_at hl 2 rfl) ?_
        refine lv_iload_n (pc := 39) hx hb d_MD_declarative_39 rfl (lv_at hl 3 rfl) ?_
        refine fz_stZ (pc := 40) (q0 := 1) (ws' := [(h0, MDo qd 0 og mo ps lt ac gd bd io pm op no), (qd, ARi cZ 7 (upd f a.toNatClampNeg b))]) hx hb hK hP hD hS rfl (fz_i7 c_1 c_2) (fz_bz ha).2.2 rfl d_MD_declarative_40 (fun H locs hP hD hS => ?_)
        refine lv_iload_n (pc := 41) hx hb d_MD_declarative_41 rfl (lv_at hl 0 rfl) ?_
        exact fz_retM2 hx hb hr hlk hP hS (by first | (simp only [ff_der, ff_ded, ff_b01, if_neg c_1, if_pos c_2, if_neg c_3]; done) | rfl | contradiction) (by first | (simp only [ff_der, ff_ded, ff_b01, if_neg c_1, if_pos c_2, if_neg c_3]; done) | rfl | contradiction) (by first | (simp only [ff_der, ff_ded, ff_b01, if_neg c_1, if_pos c_2, if_neg c_3]; done) | rfl | contradiction) d_MD_declarative_42
    · refine lv_bipush (v := (-4)) (pc := 16) hx hb d_MD_declarative_16 (by decide) ?_
      exact fz_retM2 hx hb hr hlk hP hS (by first | (simp only [ff_der, ff_ded, ff_b01, if_neg c_1, if_neg c_2]; done) | rfl | contradiction) (by first | (simp only [ff_der, ff_ded, ff_b01, if_neg c_1, if_neg c_2]; done) | rfl | contradiction) (by first | (simp only [ff_der, ff_ded, ff_b01, if_neg c_1, if_neg c_2]; done) | rfl | contradiction) d_MD_declarative_18
set_option maxHeartbeats 4000000 in
set_option maxRecDepth 100000 in
theorem c_MD_open (l : Launch) (dC : Nat → ClassId) (dI : Nat → Nat → Nat) (cI cZ cC cS : ClassId) (h0 qd : Nat) (cd og mo ps lt ac gd bd io pm op no : Int32) (a : Int32) : Met l y_MD_open (.code y_MD_open b_MD_open 4 ((some .int)) :: tw) rm_MD_open (va_Pc [.ref h0, .int a] (P0 dC dI cI cZ cC cS [(h0, MDo qd cd og mo ps lt ac gd bd io pm op no)])) (QM dC dI h0 (mm_opn io mo op a) (MDo qd 0 og mo (mm_ops (mm_opn io mo op a) ps) (mm_opn io mo op a) 7 gd (bd + mm_b (mm_opn io mo op a)) (mm_oio (mm_opn io mo op a) io) 0 op (mm_ono (mm_opn io mo op a) mo no))) 0 0 (fun q => q = h0) := by
  refine Met.ofW (cc := b_MD_open) (maxL := 4) (ret := (some .int)) (by decide) rfl ?_
  intro p e s m args below meth c s₁ B hml hv
  obtain ⟨rfl, hK, hP⟩ := hv
  have hx := B.exec
  have hb := B.bytes
  have hr := B.returns
  have hts : ∀ w ∈ tw, w.before _ s = true := fun w h => atoms_spec (ws := .code y_MD_open b_MD_open 4 ((some .int)) :: tw) B.pre w (List.mem_cons_of_mem _ h)
  have hown : s.vm.findClass "FileStatusModel" = some m.cls := findClass_of_methodNamed B.named
  have hlk := B.notSynchronized
  have hP : va_P (dC, dI) classes [(h0, MDo qd cd og mo ps lt ac gd bd io pm op no)] s.heap := hP
  have hl := lv_entry [.ref h0, .int a] (n := 4) (Nat.le_of_ble_eq_true rfl)
  rw [lg_entry_eq]
  generalize (lg_sl [.ref h0, .int a] ++ List.replicate (4 - (lg_sl [.ref h0, .int a]).length) Slot.unset).toArray = ls at hl ⊢
  have hl : lv_has ls 4 [(0, .ref h0), (1, .int a)] := hl
  have hD : va_D (fun q => q = h0) [(h0, MDo qd cd og mo ps lt ac gd bd io pm op no)] := fz_D1
  have hS : va_S (fun q => q = h0) s.heap s.heap [] := va_S.rf
  refine lv_aload_n (pc := 0) hx hb d_MD_open_0 rfl (lv_at hl 0 rfl) ?_
  refine lv_iconst (v := 0) (pc := 1) hx hb d_MD_open_1 (by decide) ?_
  refine pt_MD_code (ws' := [(h0, MDo qd 0 og mo ps lt ac gd bd io pm op no)]) (pc := 2) hx hb hts hown hK hP hD hS 0 rfl (Nat.le_of_ble_eq_true rfl) rfl d_MD_open_2 (fun H locs hP hD hS => ?_)
  refine lv_aload_n (pc := 5) hx hb d_MD_open_5 rfl (lv_at hl 0 rfl) ?_
  refine lv_iload_n (pc := 6) hx hb d_MD_open_6 rfl (lv_at hl 1 rfl) ?_
  refine fz_rV (pc := 7) (As := [.int a]) (rest := []) ⟨hx, hb, hml, hown, hts⟩ (c_MD_opened l dC dI cI cZ cC cS h0 qd 0 og mo ps lt ac gd bd io pm op no a) (cs_MD_39 hts ⟨(Nat.le_of_ble_eq_true rfl), (Nat.le_of_ble_eq_true rfl)⟩) (fz_preV (q0 := 0) (ci := 2) hK hP rfl rfl (hP.sub [0] rfl)) rfl hl.1 rfl (Nat.le_of_ble_eq_true rfl) d_MD_open_7 ⟨(Nat.le_of_ble_eq_true rfl), (Nat.le_of_ble_eq_true rfl)⟩ ?_
  refine lv_istore_n (lv' := [(2, .int (mm_opn io mo op a)), (0, .ref h0), (1, .int a)]) (pc := 10) hx hb d_MD_open_10 rfl hl (by decide) rfl (fun ls hl => ?_)
  refine lv_aload_n (pc := 11) hx hb d_MD_open_11 rfl (lv_at hl 1 rfl) ?_
  refine gt_MD_good (pc := 12) hx hb hts hown hK hP 0 rfl rfl d_MD_open_12 ?_
  refine lv_istore_n (lv' := [(3, .int gd), (2, .int (mm_opn io mo op a)), (0, .ref h0), (1, .int a)]) (pc := 15) hx hb d_MD_open_15 rfl hl (by decide) rfl (fun ls hl => ?_)
  refine lv_aload_n (pc := 16) hx hb d_MD_open_16 rfl (lv_at hl 2 rfl) ?_
  refine lv_iload_n (pc := 17) hx hb d_MD_open_17 rfl (lv_at hl 1 rfl) ?_
  refine lv_bipush (v := 7) (pc := 18) hx hb d_MD_open_18 (by decide) ?_
  refine fz_cM (pc := 20) (As := [.int (mm_opn io mo op a), .int 7]) (rest := []) (q0 := 0) (ws' := [(h0, MDo qd 0 og mo ps (mm_opn io mo op a) 7 (gd + mm_g (mm_opn io mo op a)) (bd + mm_b (mm_opn io mo op a)) io pm op no)]) ⟨hx, hb, hml, hown, hts⟩ (c_MD_told l dC dI cI cZ cC cS h0 qd 0 og mo ps lt ac gd bd io pm op no (mm_opn io mo op a) 7) (cs_MD_43 hts ⟨(Nat.le_of_ble_eq_true rfl), (Nat.le_of_ble_eq_true rfl)⟩) (fz_preV (q0 := 0) (ci := 2) hK hP rfl rfl (hP.sub [0] rfl)) rfl hl.1 rfl (Nat.le_of_ble_eq_true rfl) d_MD_open_20 ⟨(Nat.le_of_ble_eq_true rfl), (Nat.le_of_ble_eq_true rfl)⟩ hP hD hS rfl rfl (fun H locs hP hD hS => ?_)
  refine lv_pop (pc := 23) hx hb d_MD_open_23 rfl ?_
  refine lv_aload_n (pc := 24) hx hb d_MD_open_24 rfl (lv_at hl 2 rfl) ?_
  refine lv_iload_n (pc := 25) hx hb d_MD_open_25 rfl (lv_at hl 0 rfl) ?_
  refine pt_MD_good (ws' := [(h0, MDo qd 0 og mo ps (mm_opn io mo op a) 7 gd (bd + mm_b (mm_opn io mo op a)) io pm op no)]) (pc := 26) hx hb hts hown hK hP hD hS 0 rfl (Nat.le_of_ble_eq_true rfl) rfl d_MD_open_26 (fun H locs hP hD hS => ?_)
  refine lv_aload_n (pc := 29) hx hb d_MD_open_29 rfl (lv_at hl 2 rfl) ?_
  refine lv_iconst (v := 0) (pc := 30) hx hb d_MD_open_30 (by decide) ?_
  refine pt_MD_permit (ws' := [(h0, MDo qd 0 og mo ps (mm_opn io mo op a) 7 gd (bd + mm_b (mm_opn io mo op a)) io 0 op no)]) (pc := 31) hx hb hts hown hK hP hD hS 0 rfl (Nat.le_of_ble_eq_true rfl) rfl (Or.inl rfl) d_MD_open_31 (fun H locs hP hD hS => ?_)
  refine fz_cutH (P := mm_ok (mm_opn io mo op a) = 1) (F0 m 45 ls []) (fun K => ?_) (fun q_1 => ?_)
  · refine lv_iload_n (pc := 34) hx hb d_MD_open_34 rfl (lv_at hl 1 rfl) ?_
    refine lv_if_eq (tgt := 45) (pc := 35) hx hb d_MD_open_35 (by decide) (fun c_1 => ?_) (fun c_1 => ?_)
    · exact K (by first | (simp only [mm_ok, if_pos c_1]; done) | rfl | contradiction)
    · refine lv_iload_n (pc := 38) hx hb d_MD_open_38 rfl (lv_at hl 1 rfl) ?_
      refine lv_iconst (v := 5) (pc := 39) hx hb d_MD_open_39 (by decide) ?_
      refine lv_icmp_eq (tgt := 45) (pc := 40) hx hb d_MD_open_40 (by decide) (fun c_2 => ?_) (fun c_2 => ?_)
      · exact K (by first | (simp only [mm_ok, if_neg c_1, if_pos c_2]; done) | rfl | contradiction)
      · refine lv_iload_n (pc := 43) hx hb d_MD_open_43 rfl (lv_at hl 1 rfl) ?_
        have h : ¬ mm_ok (mm_opn io mo op a) = 1 := by rw [show mm_ok (mm_opn io mo op a) = 0 from (by first | (simp only [mm_ok, if_neg c_1, if_neg c_2]; done) | rfl | contradiction)]; decide
        exact fz_retM (q0 := 0) hx hb hr hlk hP hS rfl (by simp only [mm_oio, mm_ops, mm_ono, if_neg h]) rfl d_MD_open_44
  refine lv_aload_n (pc := 45) hx hb d_MD_open_45 rfl (lv_at hl 2 rfl) ?_
  refine lv_iconst (v := 1) (pc := 46) hx hb d_MD_open_46 (by decide) ?_
  refine pt_MD_isOpen (ws' := [(h0, MDo qd 0 og mo ps (mm_opn io mo op a) 7 gd (bd + mm_b (mm_opn io mo op a)) 1 0 op no)]) (pc := 47) hx hb hts hown hK hP hD hS 0 rfl (Nat.le_of_ble_eq_true rfl) rfl (Or.inr rfl) d_MD_open_47 (fun H locs hP hD hS => ?_)
  refine lv_aload_n (pc := 50) hx hb d_MD_open_50 rfl (lv_at hl 2 rfl) ?_
  refine lv_iconst (v := 0) (pc := 51) hx hb d_MD_open_51 (by decide) ?_
  refine pt_MD_position (ws' := [(h0, MDo qd 0 og mo 0 (mm_opn io mo op a) 7 gd (bd + mm_b (mm_opn io mo op a)) 1 0 op no)]) (pc := 52) hx hb hts hown hK hP hD hS 0 rfl (Nat.le_of_ble_eq_true rfl) rfl d_MD_open_52 (fun H locs hP hD hS => ?_)
  refine lv_aload_n (pc := 55) hx hb d_MD_open_55 rfl (lv_at hl 2 rfl) ?_
  refine lv_iload_n (pc := 56) hx hb d_MD_open_56 rfl (lv_at hl 1 rfl) ?_
  refine lv_iconst (v := 5) (pc := 57) hx hb d_MD_open_57 (by decide) ?_
  refine lv_icmp_ne (tgt := 80) (pc := 58) hx hb d_MD_open_58 (by decide) (fun c_3 => ?_) (fun c_3 => ?_)
  · refine lv_iconst (v := 0) (pc := 80) hx hb d_MD_open_80 (by decide) ?_
    refine pt_MD_nothing (ws' := [(h0, MDo qd 0 og mo 0 (mm_opn io mo op a) 7 gd (bd + mm_b (mm_opn io mo op a)) 1 0 op 0)]) (pc := 81) hx hb hts hown hK hP hD hS 0 rfl (Nat.le_of_ble_eq_true rfl) rfl (Or.inl rfl) d_MD_open_81 (fun H locs hP hD hS => ?_)
    refine lv_iload_n (pc := 84) hx hb d_MD_open_84 rfl (lv_at hl 1 rfl) ?_
    exact fz_retM (q0 := 0) hx hb hr hlk hP hS rfl (by simp only [mm_oio, mm_ops, mm_ono, if_pos q_1, ff_ome, if_neg c_3]) rfl d_MD_open_85
  · refine lv_aload_n (pc := 61) hx hb d_MD_open_61 rfl (lv_at hl 2 rfl) ?_
    refine gt_MD_mode (pc := 62) hx hb hts hown hK hP 0 rfl rfl d_MD_open_62 ?_
    refine lv_if_eq (tgt := 76) (pc := 65) hx hb d_MD_open_65 (by decide) (fun c_4 => ?_) (fun c_4 => ?_)
    · refine lv_iconst (v := 1) (pc := 76) hx hb d_MD_open_76 (by decide) ?_
      refine lv_goto (tgt := 81) (pc := 77) hx hb d_MD_open_77 (by decide) ?_
      refine pt_MD_nothing (ws' := [(h0, MDo qd 0 og mo 0 (mm_opn io mo op a) 7 gd (bd + mm_b (mm_opn io mo op a)) 1 0 op 1)]) (pc := 81) hx hb hts hown hK hP hD hS 0 rfl (Nat.le_of_ble_eq_true rfl) rfl (Or.inr rfl) d_MD_open_81 (fun H locs hP hD hS => ?_)
      refine lv_iload_n (pc := 84) hx hb d_MD_open_84 rfl (lv_at hl 1 rfl) ?_
      exact fz_retM (q0 := 0) hx hb hr hlk hP hS rfl (by simp only [mm_oio, mm_ops, mm_ono, if_pos q_1, ff_ome, if_pos c_3, if_pos c_4]) rfl d_MD_open_85
    · refine lv_aload_n (pc := 68) hx hb d_MD_open_68 rfl (lv_at hl 2 rfl) ?_
      refine gt_MD_mode (pc := 69) hx hb hts hown hK hP 0 rfl rfl d_MD_open_69 ?_
      refine lv_iconst (v := 2) (pc := 72) hx hb d_MD_open_72 (by decide) ?_
      refine lv_icmp_ne (tgt := 80) (pc := 73) hx hb d_MD_open_73 (by decide) (fun c_5 => ?_) (fun c_5 => ?_)
      · refine lv_iconst (v := 0) (pc := 80) hx hb d_MD_open_80 (by decide) ?_
        refine pt_MD_nothing (ws' := [(h0, MDo qd 0 og mo 0 (mm_opn io mo op a) 7 gd (bd + mm_b (mm_opn io mo op a)) 1 0 op 0)]) (pc := 81) hx hb hts hown hK hP hD hS 0 rfl (Nat.le_of_ble_eq_true rfl) rfl (Or.inl rfl) d_MD_open_81 (fun H locs hP hD hS => ?_)
        refine lv_iload_n (pc := 84) hx hb d_MD_open_84 rfl (lv_at hl 1 rfl) ?_
        exact fz_retM (q0 := 0) hx hb hr hlk hP hS rfl (by simp only [mm_oio, mm_ops, mm_ono, if_pos q_1, ff_ome, if_pos c_3, if_neg c_4, if_neg c_5]) rfl d_MD_open_85
      · refine lv_iconst (v := 1) (pc := 76) hx hb d_MD_open_76 (by decide) ?_
        refine lv_goto (tgt := 81) (pc := 77) hx hb d_MD_open_77 (by decide) ?_
        refine pt_MD_nothing (ws' := [(h0, MDo qd 0 og mo 0 (mm_opn io mo op a) 7 gd (bd + mm_b (mm_opn io mo op a)) 1 0 op 1)]) (pc := 81) hx hb hts hown hK hP hD hS 0 rfl (Nat.le_of_ble_eq_true rfl) rfl (Or.inr rfl) d_MD_open_81 (fun H locs hP hD hS => ?_)
        refine lv_iload_n (pc := 84) hx hb d_MD_open_84 rfl (lv_at hl 1 rfl) ?_
        exact fz_retM (q0 := 0) hx hb hr hlk hP hS rfl (by simp only [mm_oio, mm_ops, mm_ono, if_pos q_1, ff_ome, if_pos c_3, if_neg c_4, if_pos c_5]) rfl d_MD_open_85
set_option maxHeartbeats 4000000 in
set_option maxRecDepth 100000 in
theorem c_MD_act_out (l : Launch) (dC : Nat → ClassId) (dI : Nat → Nat → Nat) (cI cZ cC cS : ClassId) (h0 qd : Nat) (cd og mo ps lt ac gd bd io pm op no : Int32) (a b : Int32) (ho : ¬ a < 0 → ¬ a ≤ 6) : Met l y_MD_act (.code y_MD_act b_MD_act 6 ((some .int)) :: tw) rm_MD_act (va_Pc [.ref h0, .int a, .int b] (P0 dC dI cI cZ cC cS [(h0, MDo qd cd og mo ps lt ac gd bd io pm op no)])) (QM dC dI h0 (-4) (MDo qd 0 og mo ps lt ac gd bd io pm op no)) 0 0 (fun q => q = h0) := by
  refine Met.ofW (cc := b_MD_act) (maxL := 6) (ret := (some .int)) (by decide) rfl ?_
  intro p e s m args below meth c s₁ B hml hv
  obtain ⟨rfl, hK, hP⟩ := hv
  have hx := B.exec
  have hb := B.bytes
  have hr := B.returns
  have hts : ∀ w ∈ tw, w.before _ s = true := fun w h => atoms_spec (ws := .code y_MD_act b_MD_act 6 ((some .int)) :: tw) B.pre w (List.mem_cons_of_mem _ h)
  have hown : s.vm.findClass "FileStatusModel" = some m.cls := findClass_of_methodNamed B.named
  have hlk := B.notSynchronized
  have hP : va_P (dC, dI) classes [(h0, MDo qd cd og mo ps lt ac gd bd io pm op no)] s.heap := hP
  have hl := lv_entry [.ref h0, .int a, .int b] (n := 6) (Nat.le_of_ble_eq_true rfl)
  rw [lg_entry_eq]
  generalize (lg_sl [.ref h0, .int a, .int b] ++ List.replicate (6 - (lg_sl [.ref h0, .int a, .int b]).length) Slot.unset).toArray = ls at hl ⊢
  have hl : lv_has ls 6 [(0, .ref h0), (1, .int a), (2, .int b)] := hl
  have hD : va_D (fun q => q = h0) [(h0, MDo qd cd og mo ps lt ac gd bd io pm op no)] := fz_D1
  have hS : va_S (fun q => q = h0) s.heap s.heap [] := va_S.rf
  refine lv_aload_n (pc := 0) hx hb d_MD_act_0 rfl (lv_at hl 0 rfl) ?_
  refine lv_iconst (v := 0) (pc := 1) hx hb d_MD_act_1 (by decide) ?_
  refine pt_MD_code (ws' := [(h0, MDo qd 0 og mo ps lt ac gd bd io pm op no)]) (pc := 2) hx hb hts hown hK hP hD hS 0 rfl (Nat.le_of_ble_eq_true rfl) rfl d_MD_act_2 (fun H locs hP hD hS => ?_)
  refine lv_iload_n (pc := 5) hx hb d_MD_act_5 rfl (lv_at hl 1 rfl) ?_
  refine lv_if_lt (tgt := 15) (pc := 6) hx hb d_MD_act_6 (by decide) (fun c_1 => ?_) (fun c_1 => ?_)
  · refine lv_bipush (v := (-4)) (pc := 15) hx hb d_MD_act_15 (by decide) ?_
    exact fz_retM (q0 := 0) hx hb hr hlk hP hS rfl (by first | (simp only [if_pos c_1]; done) | rfl | contradiction) (by first | (simp only [if_pos c_1]; done) | rfl | contradiction) d_MD_act_17
  · refine lv_iload_n (pc := 9) hx hb d_MD_act_9 rfl (lv_at hl 1 rfl) ?_
    refine lv_bipush (v := 6) (pc := 10) hx hb d_MD_act_10 (by decide) ?_
    refine lv_icmp_le (tgt := 18) (pc := 12) hx hb d_MD_act_12 (by decide) (fun c_2 => ?_) (fun c_2 => ?_)
    · exact absurd c_2 (ho c_1)
    · refine lv_bipush (v := (-4)) (pc := 15) hx hb d_MD_act_15 (by decide) ?_
      exact fz_retM (q0 := 0) hx hb hr hlk hP hS rfl (by first | (simp only [if_neg c_1, if_neg c_2]; done) | rfl | contradiction) (by first | (simp only [if_neg c_1, if_neg c_2]; done) | rfl | contradiction) d_MD_act_17
set_option maxHeartbeats 4000000 in
set_option maxRecDepth 100000 in
theorem c_MD_act (l : Launch) (dC : Nat → ClassId) (dI : Nat → Nat → Nat) (cI cZ cC cS : ClassId) (h0 qd : Nat) (cd og mo ps lt ac gd bd io pm op no : Int32) (a b ah s1 : Int32) (h00 : ¬ a < 0) (h6 : a ≤ 6) (eah : ah = mm_ah io og a mo ps pm) (es1 : s1 = mm_st ah a no (mm_by a b og (mm_key og) (mm_idx og))) : Met l y_MD_act (.code y_MD_act b_MD_act 6 ((some .int)) :: tw) rm_MD_act (va_Pc [.ref h0, .int a, .int b] (P0 dC dI cI cZ cC cS [(h0, MDo qd cd og mo ps lt ac gd bd io pm op no)])) (QM dC dI h0 s1 (MDo qd 0 og mo (mm_ps (mm_to (ff_rd a) s1) io ps) s1 a (gd + mm_g s1) (bd + mm_b s1) (mm_io a s1 io) (mm_pm a s1) op (mm_no a io mo s1 no))) 0 0 (fun q => q = h0) := by
  refine Met.ofW (cc := b_MD_act) (maxL := 6) (ret := (some .int)) (by decide) rfl ?_
  intro p e s m args below meth c s₁ B hml hv
  obtain ⟨rfl, hK, hP⟩ := hv
  have hx := B.exec
  have hb := B.bytes
  have hr := B.returns
  have hts : ∀ w ∈ tw, w.before _ s = true := fun w h => atoms_spec (ws := .code y_MD_act b_MD_act 6 ((some .int)) :: tw) B.pre w (List.mem_cons_of_mem _ h)
  have hown : s.vm.findClass "FileStatusModel" = some m.cls := findClass_of_methodNamed B.named
  have hlk := B.notSynchronized
  have hP : va_P (dC, dI) classes [(h0, MDo qd cd og mo ps lt ac gd bd io pm op no)] s.heap := hP
  have hl := lv_entry [.ref h0, .int a, .int b] (n := 6) (Nat.le_of_ble_eq_true rfl)
  rw [lg_entry_eq]
  generalize (lg_sl [.ref h0, .int a, .int b] ++ List.replicate (6 - (lg_sl [.ref h0, .int a, .int b]).length) Slot.unset).toArray = ls at hl ⊢
  have hl : lv_has ls 6 [(0, .ref h0), (1, .int a), (2, .int b)] := hl
  have hD : va_D (fun q => q = h0) [(h0, MDo qd cd og mo ps lt ac gd bd io pm op no)] := fz_D1
  have hS : va_S (fun q => q = h0) s.heap s.heap [] := va_S.rf
  have K119 : ∀ (H : Heap) (locs : List Loc) (ls : Array Slot), va_P (dC, dI) classes [(h0, MDo qd 0 og mo ps s1 a (gd + mm_g s1) (bd + mm_b s1) io (mm_pm a s1) op (mm_no a io mo s1 no))] H → va_S (fun q => q = h0) s.heap H locs → lv_has ls 6 [(3, .int s1), (0, .ref h0), (1, .int a), (2, .int b)] → W p l e (headSpec (.code y_MD_act b_MD_act 6 ((some .int)) :: tw) rm_MD_act).room s m ([.ref h0, .int a, .int b] : List Value).toArray below meth c H locs 0 0 (MQ below (QM dC dI h0 s1 (MDo qd 0 og mo (mm_ps (mm_to (ff_rd a) s1) io ps) s1 a (gd + mm_g s1) (bd + mm_b s1) (mm_io a s1 io) (mm_pm a s1) op (mm_no a io mo s1 no))) ([.ref h0, .int a, .int b] : List Value).toArray s 0 0 (fun q => q = h0)) (F0 m 119 ls []) := by
    intro H locs ls hP hS hl
    have hD : va_D (fun q => q = h0) [(h0, MDo qd 0 og mo ps s1 a (gd + mm_g s1) (bd + mm_b s1) io (mm_pm a s1) op (mm_no a io mo s1 no))] := fz_D1
    refine fz_cut (F0 m 138 ls [.int (ff_rd a)]) (fun K => ?_) ?_
    · refine lv_iload_n (pc := 119) hx hb d_MD_act_119 rfl (lv_at hl 2 rfl) ?_
      refine lv_if_eq (tgt := 133) (pc := 120) hx hb d_MD_act_120 (by decide) (fun c_1 => ?_) (fun c_1 => ?_)
      · refine lv_iconst (v := 1) (pc := 133) hx hb d_MD_act_133 (by decide) ?_
        refine lv_goto (tgt := 138) (pc := 134) hx hb d_MD_act_134 (by decide) ?_
        exact fz_top (by first | (simp only [ff_rd, if_pos c_1]; done) | rfl | contradiction) K
      · refine lv_iload_n (pc := 123) hx hb d_MD_act_123 rfl (lv_at hl 2 rfl) ?_
        refine lv_iconst (v := 1) (pc := 124) hx hb d_MD_act_124 (by decide) ?_
        refine lv_icmp_eq (tgt := 133) (pc := 125) hx hb d_MD_act_125 (by decide) (fun c_2 => ?_) (fun c_2 => ?_)
        · refine lv_iconst (v := 1) (pc := 133) hx hb d_MD_act_133 (by decide) ?_
          refine lv_goto (tgt := 138) (pc := 134) hx hb d_MD_act_134 (by decide) ?_
          exact fz_top (by first | (simp only [ff_rd, if_neg c_1, if_pos c_2]; done) | rfl | contradiction) K
        · refine lv_iload_n (pc := 128) hx hb d_MD_act_128 rfl (lv_at hl 2 rfl) ?_
          refine lv_iconst (v := 5) (pc := 129) hx hb d_MD_act_129 (by decide) ?_
          refine lv_icmp_ne (tgt := 137) (pc := 130) hx hb d_MD_act_130 (by decide) (fun c_3 => ?_) (fun c_3 => ?_)
          · refine lv_iconst (v := 0) (pc := 137) hx hb d_MD_act_137 (by decide) ?_
            exact fz_top (by first | (simp only [ff_rd, if_neg c_1, if_neg c_2, if_neg c_3]; done) | rfl | contradiction) K
          · refine lv_iconst (v := 1) (pc := 133) hx hb d_MD_act_133 (by decide) ?_
            refine lv_goto (tgt := 138) (pc := 134) hx hb d_MD_act_134 (by decide) ?_
            exact fz_top (by first | (simp only [ff_rd, if_neg c_1, if_neg c_2, if_pos c_3]; done) | rfl | contradiction) K
    refine lv_istore (lv' := [(4, .int (ff_rd a)), (3, .int s1), (0, .ref h0), (1, .int a), (2, .int b)]) (pc := 138) hx hb d_MD_act_138 hl (by decide) rfl (fun ls hl => ?_)
    refine fz_cut (F0 m 153 ls [.int (mm_to (ff_rd a) s1)]) (fun K => ?_) ?_
    · refine lv_iload (pc := 140) hx hb d_MD_act_140 (lv_at hl 0 rfl) ?_
      refine lv_if_eq (tgt := 152) (pc := 142) hx hb d_MD_act_142 (by decide) (fun c_4 => ?_) (fun c_4 => ?_)
      · refine lv_iconst (v := 0) (pc := 152) hx hb d_MD_act_152 (by decide) ?_
        exact fz_top (by first | (simp only [mm_to, if_pos c_4]; done) | rfl | contradiction) K
      · refine lv_iload_n (pc := 145) hx hb d_MD_act_145 rfl (lv_at hl 1 rfl) ?_
        refine fz_rS (pc := 146) (As := [.int s1]) (rest := []) ⟨hx, hb, hml, hown, hts⟩ (c_MD_moved l dC dI cI cZ cC cS s1) (cs_MD_69 hts ⟨(Nat.le_of_ble_eq_true rfl), (Nat.le_of_ble_eq_true rfl)⟩) (fz_pre0 hK (hP.sub [] rfl)) rfl hl.1 rfl (Nat.le_of_ble_eq_true rfl) d_MD_act_146 ⟨(Nat.le_of_ble_eq_true rfl), (Nat.le_of_ble_eq_true rfl)⟩ ?_
        refine lv_goto (tgt := 153) (pc := 149) hx hb d_MD_act_149 (by decide) ?_
        exact fz_top (by first | (simp only [mm_to, if_neg c_4]; done) | rfl | contradiction) K
    refine lv_istore (lv' := [(5, .int (mm_to (ff_rd a) s1)), (4, .int (ff_rd a)), (3, .int s1), (0, .ref h0), (1, .int a), (2, .int b)]) (pc := 153) hx hb d_MD_act_153 hl (by decide) rfl (fun ls hl => ?_)
    refine lv_aload_n (pc := 155) hx hb d_MD_act_155 rfl (lv_at hl 3 rfl) ?_
    refine fz_cut (F0 m 177 ls [.int (mm_ps (mm_to (ff_rd a) s1) io ps), .ref h0]) (fun K => ?_) ?_
    · refine lv_iload (pc := 156) hx hb d_MD_act_156 (lv_at hl 0 rfl) ?_
      refine lv_if_eq (tgt := 168) (pc := 158) hx hb d_MD_act_158 (by decide) (fun c_5 => ?_) (fun c_5 => ?_)
      · refine lv_aload_n (pc := 168) hx hb d_MD_act_168 rfl (lv_at hl 3 rfl) ?_
        refine gt_MD_position (pc := 169) hx hb hts hown hK hP 0 rfl rfl d_MD_act_169 ?_
        refine lv_goto (tgt := 177) (pc := 172) hx hb d_MD_act_172 (by decide) ?_
        exact fz_top (by first | (simp only [mm_ps, if_pos c_5]; done) | rfl | contradiction) K
      · refine lv_aload_n (pc := 161) hx hb d_MD_act_161 rfl (lv_at hl 3 rfl) ?_
        refine gt_MD_isOpen (pc := 162) hx hb hts hown hK hP 0 rfl rfl d_MD_act_162 ?_
        refine lv_if_ne (tgt := 175) (pc := 165) hx hb d_MD_act_165 (by decide) (fun c_6 => ?_) (fun c_6 => ?_)
        · refine lv_iload (pc := 175) hx hb d_MD_act_175 (lv_at hl 0 rfl) ?_
          exact fz_top (by first | (simp only [mm_ps, if_neg c_5, if_neg c_6]; done) | rfl | contradiction) K
        · refine lv_aload_n (pc := 168) hx hb d_MD_act_168 rfl (lv_at hl 3 rfl) ?_
          refine gt_MD_position (pc := 169) hx hb hts hown hK hP 0 rfl rfl d_MD_act_169 ?_
          refine lv_goto (tgt := 177) (pc := 172) hx hb d_MD_act_172 (by decide) ?_
          exact fz_top (by first | (simp only [mm_ps, if_neg c_5, if_pos c_6]; done) | rfl | contradiction) K
    refine pt_MD_position (ws' := [(h0, MDo qd 0 og mo (mm_ps (mm_to (ff_rd a) s1) io ps) s1 a (gd + mm_g s1) (bd + mm_b s1) io (mm_pm a s1) op (mm_no a io mo s1 no))]) (pc := 177) hx hb hts hown hK hP hD hS 0 rfl (Nat.le_of_ble_eq_true rfl) rfl d_MD_act_177 (fun H locs hP hD hS => ?_)
    refine lv_iload_n (pc := 180) hx hb d_MD_act_180 rfl (lv_at hl 4 rfl) ?_
    refine lv_bipush (v := 6) (pc := 181) hx hb d_MD_act_181 (by decide) ?_
    refine lv_icmp_ne (tgt := 195) (pc := 183) hx hb d_MD_act_183 (by decide) (fun c_7 => ?_) (fun c_7 => ?_)
    · refine lv_iload_n (pc := 195) hx hb d_MD_act_195 rfl (lv_at hl 2 rfl) ?_
      exact fz_retM (q0 := 0) hx hb hr hlk hP hS rfl (by first | (simp only [mm_io, if_neg c_7]; done) | rfl | contradiction) (by first | (simp only [mm_io, if_neg c_7]; done) | rfl | contradiction) d_MD_act_196
    · refine lv_iload_n (pc := 186) hx hb d_MD_act_186 rfl (lv_at hl 2 rfl) ?_
      refine lv_if_ne (tgt := 195) (pc := 187) hx hb d_MD_act_187 (by decide) (fun c_8 => ?_) (fun c_8 => ?_)
      · refine lv_iload_n (pc := 195) hx hb d_MD_act_195 rfl (lv_at hl 2 rfl) ?_
        exact fz_retM (q0 := 0) hx hb hr hlk hP hS rfl (by first | (simp only [mm_io, if_pos c_7, if_neg c_8]; done) | rfl | contradiction) (by first | (simp only [mm_io, if_pos c_7, if_neg c_8]; done) | rfl | contradiction) d_MD_act_196
      · refine lv_aload_n (pc := 190) hx hb d_MD_act_190 rfl (lv_at hl 3 rfl) ?_
        refine lv_iconst (v := 0) (pc := 191) hx hb d_MD_act_191 (by decide) ?_
        refine pt_MD_isOpen (ws' := [(h0, MDo qd 0 og mo (mm_ps (mm_to (ff_rd a) s1) io ps) s1 a (gd + mm_g s1) (bd + mm_b s1) 0 (mm_pm a s1) op (mm_no a io mo s1 no))]) (pc := 192) hx hb hts hown hK hP hD hS 0 rfl (Nat.le_of_ble_eq_true rfl) rfl (Or.inl rfl) d_MD_act_192 (fun H locs hP hD hS => ?_)
        refine lv_iload_n (pc := 195) hx hb d_MD_act_195 rfl (lv_at hl 2 rfl) ?_
        exact fz_retM (q0 := 0) hx hb hr hlk hP hS rfl (by first | (simp only [mm_io, if_pos c_7, if_pos c_8]; done) | rfl | contradiction) (by first | (simp only [mm_io, if_pos c_7, if_pos c_8]; done) | rfl | contradiction) d_MD_act_196
  have K51 : ∀ (H : Heap) (locs : List Loc) (ls : Array Slot), va_P (dC, dI) classes [(h0, MDo qd 0 og mo ps lt ac gd bd io pm op no)] H → va_S (fun q => q = h0) s.heap H locs → lv_has ls 6 [(3, .int s1), (0, .ref h0), (1, .int a), (2, .int b)] → W p l e (headSpec (.code y_MD_act b_MD_act 6 ((some .int)) :: tw) rm_MD_act).room s m ([.ref h0, .int a, .int b] : List Value).toArray below meth c H locs 0 0 (MQ below (QM dC dI h0 s1 (MDo qd 0 og mo (mm_ps (mm_to (ff_rd a) s1) io ps) s1 a (gd + mm_g s1) (bd + mm_b s1) (mm_io a s1 io) (mm_pm a s1) op (mm_no a io mo s1 no))) ([.ref h0, .int a, .int b] : List Value).toArray s 0 0 (fun q => q = h0)) (F0 m 51 ls []) := by
    intro H locs ls hP hS hl
    have hD : va_D (fun q => q = h0) [(h0, MDo qd 0 og mo ps lt ac gd bd io pm op no)] := fz_D1
    refine lv_aload_n (pc := 51) hx hb d_MD_act_51 rfl (lv_at hl 1 rfl) ?_
    refine lv_iload_n (pc := 52) hx hb d_MD_act_52 rfl (lv_at hl 0 rfl) ?_
    refine lv_iload_n (pc := 53) hx hb d_MD_act_53 rfl (lv_at hl 2 rfl) ?_
    refine fz_cM (pc := 54) (As := [.int s1, .int a]) (rest := []) (q0 := 0) (ws' := [(h0, MDo qd 0 og mo ps s1 a (gd + mm_g s1) (bd + mm_b s1) io pm op no)]) ⟨hx, hb, hml, hown, hts⟩ (c_MD_told l dC dI cI cZ cC cS h0 qd 0 og mo ps lt ac gd bd io pm op no s1 a) (cs_MD_43 hts ⟨(Nat.le_of_ble_eq_true rfl), (Nat.le_of_ble_eq_true rfl)⟩) (fz_preV (q0 := 0) (ci := 2) hK hP rfl rfl (hP.sub [0] rfl)) rfl hl.1 rfl (Nat.le_of_ble_eq_true rfl) d_MD_act_54 ⟨(Nat.le_of_ble_eq_true rfl), (Nat.le_of_ble_eq_true rfl)⟩ hP hD hS rfl rfl (fun H locs hP hD hS => ?_)
    refine lv_pop (pc := 57) hx hb d_MD_act_57 rfl ?_
    refine lv_aload_n (pc := 58) hx hb d_MD_act_58 rfl (lv_at hl 1 rfl) ?_
    refine fz_cut (F0 m 87 ls [.int (mm_pm a s1), .ref h0]) (fun K => ?_) ?_
    · refine lv_iload_n (pc := 59) hx hb d_MD_act_59 rfl (lv_at hl 2 rfl) ?_
      refine lv_if_eq (tgt := 68) (pc := 60) hx hb d_MD_act_60 (by decide) (fun c_9 => ?_) (fun c_9 => ?_)
      · refine lv_iload_n (pc := 68) hx hb d_MD_act_68 rfl (lv_at hl 0 rfl) ?_
        refine lv_if_eq (tgt := 82) (pc := 69) hx hb d_MD_act_69 (by decide) (fun c_10 => ?_) (fun c_10 => ?_)
        · refine lv_iconst (v := 1) (pc := 82) hx hb d_MD_act_82 (by decide) ?_
          refine lv_goto (tgt := 87) (pc := 83) hx hb d_MD_act_83 (by decide) ?_
          exact fz_top (by first | (simp only [mm_pm, mm_p0, if_pos c_9, if_pos c_10]; done) | rfl | contradiction) K
        · refine lv_iload_n (pc := 72) hx hb d_MD_act_72 rfl (lv_at hl 0 rfl) ?_
          refine lv_iconst (v := 2) (pc := 73) hx hb d_MD_act_73 (by decide) ?_
          refine lv_icmp_eq (tgt := 82) (pc := 74) hx hb d_MD_act_74 (by decide) (fun c_11 => ?_) (fun c_11 => ?_)
          · refine lv_iconst (v := 1) (pc := 82) hx hb d_MD_act_82 (by decide) ?_
            refine lv_goto (tgt := 87) (pc := 83) hx hb d_MD_act_83 (by decide) ?_
            exact fz_top (by first | (simp only [mm_pm, mm_p0, if_pos c_9, if_neg c_10, if_pos c_11]; done) | rfl | contradiction) K
          · refine lv_iload_n (pc := 77) hx hb d_MD_act_77 rfl (lv_at hl 0 rfl) ?_
            refine lv_iconst (v := 4) (pc := 78) hx hb d_MD_act_78 (by decide) ?_
            refine lv_icmp_ne (tgt := 86) (pc := 79) hx hb d_MD_act_79 (by decide) (fun c_12 => ?_) (fun c_12 => ?_)
            · refine lv_iconst (v := 0) (pc := 86) hx hb d_MD_act_86 (by decide) ?_
              exact fz_top (by first | (simp only [mm_pm, mm_p0, if_pos c_9, if_neg c_10, if_neg c_11, if_neg c_12]; done) | rfl | contradiction) K
            · refine lv_iconst (v := 1) (pc := 82) hx hb d_MD_act_82 (by decide) ?_
              refine lv_goto (tgt := 87) (pc := 83) hx hb d_MD_act_83 (by decide) ?_
              exact fz_top (by first | (simp only [mm_pm, mm_p0, if_pos c_9, if_neg c_10, if_neg c_11, if_pos c_12]; done) | rfl | contradiction) K
      · refine lv_iload_n (pc := 63) hx hb d_MD_act_63 rfl (lv_at hl 2 rfl) ?_
        refine lv_iconst (v := 1) (pc := 64) hx hb d_MD_act_64 (by decide) ?_
        refine lv_icmp_ne (tgt := 86) (pc := 65) hx hb d_MD_act_65 (by decide) (fun c_13 => ?_) (fun c_13 => ?_)
        · refine lv_iconst (v := 0) (pc := 86) hx hb d_MD_act_86 (by decide) ?_
          exact fz_top (by first | (simp only [mm_pm, mm_p0, if_neg c_9, if_neg c_13]; done) | rfl | contradiction) K
        · refine lv_iload_n (pc := 68) hx hb d_MD_act_68 rfl (lv_at hl 0 rfl) ?_
          refine lv_if_eq (tgt := 82) (pc := 69) hx hb d_MD_act_69 (by decide) (fun c_14 => ?_) (fun c_14 => ?_)
          · refine lv_iconst (v := 1) (pc := 82) hx hb d_MD_act_82 (by decide) ?_
            refine lv_goto (tgt := 87) (pc := 83) hx hb d_MD_act_83 (by decide) ?_
            exact fz_top (by first | (simp only [mm_pm, mm_p0, if_neg c_9, if_pos c_13, if_pos c_14]; done) | rfl | contradiction) K
          · refine lv_iload_n (pc := 72) hx hb d_MD_act_72 rfl (lv_at hl 0 rfl) ?_
            refine lv_iconst (v := 2) (pc := 73) hx hb d_MD_act_73 (by decide) ?_
            refine lv_icmp_eq (tgt := 82) (pc := 74) hx hb d_MD_act_74 (by decide) (fun c_15 => ?_) (fun c_15 => ?_)
            · refine lv_iconst (v := 1) (pc := 82) hx hb d_MD_act_82 (by decide) ?_
              refine lv_goto (tgt := 87) (pc := 83) hx hb d_MD_act_83 (by decide) ?_
              exact fz_top (by first | (simp only [mm_pm, mm_p0, if_neg c_9, if_pos c_13, if_neg c_14, if_pos c_15]; done) | rfl | contradiction) K
            · refine lv_iload_n (pc := 77) hx hb d_MD_act_77 rfl (lv_at hl 0 rfl) ?_
              refine lv_iconst (v := 4) (pc := 78) hx hb d_MD_act_78 (by decide) ?_
              refine lv_icmp_ne (tgt := 86) (pc := 79) hx hb d_MD_act_79 (by decide) (fun c_16 => ?_) (fun c_16 => ?_)
              · refine lv_iconst (v := 0) (pc := 86) hx hb d_MD_act_86 (by decide) ?_
                exact fz_top (by first | (simp only [mm_pm, mm_p0, if_neg c_9, if_pos c_13, if_neg c_14, if_neg c_15, if_neg c_16]; done) | rfl | contradiction) K
              · refine lv_iconst (v := 1) (pc := 82) hx hb d_MD_act_82 (by decide) ?_
                refine lv_goto (tgt := 87) (pc := 83) hx hb d_MD_act_83 (by decide) ?_
                exact fz_top (by first | (simp only [mm_pm, mm_p0, if_neg c_9, if_pos c_13, if_neg c_14, if_neg c_15, if_pos c_16]; done) | rfl | contradiction) K
    refine pt_MD_permit (ws' := [(h0, MDo qd 0 og mo ps s1 a (gd + mm_g s1) (bd + mm_b s1) io (mm_pm a s1) op no)]) (pc := 87) hx hb hts hown hK hP hD hS 0 rfl (Nat.le_of_ble_eq_true rfl) rfl (mm_pm_bz a s1) d_MD_act_87 (fun H locs hP hD hS => ?_)
    refine lv_iload_n (pc := 90) hx hb d_MD_act_90 rfl (lv_at hl 2 rfl) ?_
    refine lv_if_ne (tgt := 119) (pc := 91) hx hb d_MD_act_91 (by decide) (fun c_17 => ?_) (fun c_17 => ?_)
    · exact K119 _ _ _ (by rw [show mm_no a io mo s1 no = no from (by first | (simp only [mm_no, if_neg c_17]; done) | rfl | contradiction)]; exact hP) hS (lv_sub hl [0, 1, 2, 3] rfl)
    · refine lv_aload_n (pc := 94) hx hb d_MD_act_94 rfl (lv_at hl 1 rfl) ?_
      refine gt_MD_isOpen (pc := 95) hx hb hts hown hK hP 0 rfl rfl d_MD_act_95 ?_
      refine lv_if_eq (tgt := 119) (pc := 98) hx hb d_MD_act_98 (by decide) (fun c_18 => ?_) (fun c_18 => ?_)
      · exact K119 _ _ _ (by rw [show mm_no a io mo s1 no = no from (by first | (simp only [mm_no, if_pos c_17, if_pos c_18]; done) | rfl | contradiction)]; exact hP) hS (lv_sub hl [0, 1, 2, 3] rfl)
      · refine lv_aload_n (pc := 101) hx hb d_MD_act_101 rfl (lv_at hl 1 rfl) ?_
        refine fz_rV (pc := 102) (As := []) (rest := []) ⟨hx, hb, hml, hown, hts⟩ (c_MD_reads l dC dI cI cZ cC cS h0 qd 0 og mo ps s1 a (gd + mm_g s1) (bd + mm_b s1) io (mm_pm a s1) op no) (cs_MD_59 hts ⟨(Nat.le_of_ble_eq_true rfl), (Nat.le_of_ble_eq_true rfl)⟩) (fz_preV (q0 := 0) (ci := 2) hK hP rfl rfl (hP.sub [0] rfl)) rfl hl.1 rfl (Nat.le_of_ble_eq_true rfl) d_MD_act_102 ⟨(Nat.le_of_ble_eq_true rfl), (Nat.le_of_ble_eq_true rfl)⟩ ?_
        refine lv_if_eq (tgt := 119) (pc := 105) hx hb d_MD_act_105 (by decide) (fun c_19 => ?_) (fun c_19 => ?_)
        · exact K119 _ _ _ (by rw [show mm_no a io mo s1 no = no from (by first | (simp only [mm_no, if_pos c_17, if_neg c_18, if_pos c_19]; done) | rfl | contradiction)]; exact hP) hS (lv_sub hl [0, 1, 2, 3] rfl)
        · refine lv_iload_n (pc := 108) hx hb d_MD_act_108 rfl (lv_at hl 0 rfl) ?_
          refine lv_bipush (v := 10) (pc := 109) hx hb d_MD_act_109 (by decide) ?_
          refine lv_icmp_ne (tgt := 119) (pc := 111) hx hb d_MD_act_111 (by decide) (fun c_20 => ?_) (fun c_20 => ?_)
          · exact K119 _ _ _ (by rw [show mm_no a io mo s1 no = no from (by first | (simp only [mm_no, if_pos c_17, if_neg c_18, if_neg c_19, if_neg c_20]; done) | rfl | contradiction)]; exact hP) hS (lv_sub hl [0, 1, 2, 3] rfl)
          · refine lv_aload_n (pc := 114) hx hb d_MD_act_114 rfl (lv_at hl 1 rfl) ?_
            refine lv_iconst (v := 0) (pc := 115) hx hb d_MD_act_115 (by decide) ?_
            refine pt_MD_nothing (ws' := [(h0, MDo qd 0 og mo ps s1 a (gd + mm_g s1) (bd + mm_b s1) io (mm_pm a s1) op 0)]) (pc := 116) hx hb hts hown hK hP hD hS 0 rfl (Nat.le_of_ble_eq_true rfl) rfl (Or.inl rfl) d_MD_act_116 (fun H locs hP hD hS => ?_)
            exact K119 _ _ _ (by rw [show mm_no a io mo s1 no = 0 from (by first | (simp only [mm_no, if_pos c_17, if_neg c_18, if_neg c_19, if_pos c_20]; done) | rfl | contradiction)]; exact hP) hS (lv_sub hl [0, 1, 2, 3] rfl)
  refine lv_aload_n (pc := 0) hx hb d_MD_act_0 rfl (lv_at hl 0 rfl) ?_
  refine lv_iconst (v := 0) (pc := 1) hx hb d_MD_act_1 (by decide) ?_
  refine pt_MD_code (ws' := [(h0, MDo qd 0 og mo ps lt ac gd bd io pm op no)]) (pc := 2) hx hb hts hown hK hP hD hS 0 rfl (Nat.le_of_ble_eq_true rfl) rfl d_MD_act_2 (fun H locs hP hD hS => ?_)
  refine lv_iload_n (pc := 5) hx hb d_MD_act_5 rfl (lv_at hl 1 rfl) ?_
  refine lv_if_lt (tgt := 15) (pc := 6) hx hb d_MD_act_6 (by decide) (fun c_21 => ?_) (fun c_21 => ?_)
  · exact absurd c_21 h00
  · refine lv_iload_n (pc := 9) hx hb d_MD_act_9 rfl (lv_at hl 1 rfl) ?_
    refine lv_bipush (v := 6) (pc := 10) hx hb d_MD_act_10 (by decide) ?_
    refine lv_icmp_le (tgt := 18) (pc := 12) hx hb d_MD_act_12 (by decide) (fun c_22 => ?_) (fun c_22 => ?_)
    · refine lv_aload_n (pc := 18) hx hb d_MD_act_18 rfl (lv_at hl 0 rfl) ?_
      refine lv_iload_n (pc := 19) hx hb d_MD_act_19 rfl (lv_at hl 1 rfl) ?_
      refine fz_rV (pc := 20) (As := [.int a]) (rest := []) ⟨hx, hb, hml, hown, hts⟩ (c_MD_ahead l dC dI cI cZ cC cS h0 qd 0 og mo ps lt ac gd bd io pm op no a) (cs_MD_63 hts ⟨(Nat.le_of_ble_eq_true rfl), (Nat.le_of_ble_eq_true rfl)⟩) (fz_preV (q0 := 0) (ci := 2) hK hP rfl rfl (hP.sub [0] rfl)) rfl hl.1 rfl (Nat.le_of_ble_eq_true rfl) d_MD_act_20 ⟨(Nat.le_of_ble_eq_true rfl), (Nat.le_of_ble_eq_true rfl)⟩ ?_
      refine fz_top eah ?_
      refine lv_istore_n (lv' := [(3, .int ah), (0, .ref h0), (1, .int a), (2, .int b)]) (pc := 23) hx hb d_MD_act_23 rfl hl (by decide) rfl (fun ls hl => ?_)
      refine lv_iload_n (pc := 24) hx hb d_MD_act_24 rfl (lv_at hl 0 rfl) ?_
      refine lv_if_ne (tgt := 51) (pc := 25) hx hb d_MD_act_25 (by decide) (fun c_23 => ?_) (fun c_23 => ?_)
      · exact K51 _ _ _ hP hS (by rw [show s1 = ah from by rw [es1]; simp only [mm_st, if_neg c_23]]; exact lv_sub hl [0, 1, 2, 3] rfl)
      · refine fz_cut (F0 m 50 ls [.int (mm_s1 a no (mm_by a b og (mm_key og) (mm_idx og)))]) (fun K => ?_) ?_
        · refine lv_iload_n (pc := 28) hx hb d_MD_act_28 rfl (lv_at hl 2 rfl) ?_
          refine lv_if_ne (tgt := 44) (pc := 29) hx hb d_MD_act_29 (by decide) (fun c_24 => ?_) (fun c_24 => ?_)
          · refine lv_aload_n (pc := 44) hx hb d_MD_act_44 rfl (lv_at hl 1 rfl) ?_
            refine lv_iload_n (pc := 45) hx hb d_MD_act_45 rfl (lv_at hl 2 rfl) ?_
            refine lv_iload_n (pc := 46) hx hb d_MD_act_46 rfl (lv_at hl 3 rfl) ?_
            refine fz_rV (pc := 47) (As := [.int a, .int b]) (rest := []) ⟨hx, hb, hml, hown, hts⟩ (c_MD_byOutcome l dC dI cI cZ cC cS h0 qd 0 og mo ps lt ac gd bd io pm op no a b) (cs_MD_66 hts ⟨(Nat.le_of_ble_eq_true rfl), (Nat.le_of_ble_eq_true rfl)⟩) (fz_preV (q0 := 0) (ci := 2) hK hP rfl rfl (hP.sub [0] rfl)) rfl hl.1 rfl (Nat.le_of_ble_eq_true rfl) d_MD_act_47 ⟨(Nat.le_of_ble_eq_true rfl), (Nat.le_of_ble_eq_true rfl)⟩ ?_
            exact fz_top (by first | (simp only [mm_s1, if_neg c_21, if_pos c_22, if_pos c_23, if_neg c_24]; done) | rfl | contradiction) K
          · refine lv_aload_n (pc := 32) hx hb d_MD_act_32 rfl (lv_at hl 1 rfl) ?_
            refine gt_MD_nothing (pc := 33) hx hb hts hown hK hP 0 rfl rfl d_MD_act_33 ?_
            refine lv_if_eq (tgt := 44) (pc := 36) hx hb d_MD_act_36 (by decide) (fun c_25 => ?_) (fun c_25 => ?_)
            · refine lv_aload_n (pc := 44) hx hb d_MD_act_44 rfl (lv_at hl 1 rfl) ?_
              refine lv_iload_n (pc := 45) hx hb d_MD_act_45 rfl (lv_at hl 2 rfl) ?_
              refine lv_iload_n (pc := 46) hx hb d_MD_act_46 rfl (lv_at hl 3 rfl) ?_
              refine fz_rV (pc := 47) (As := [.int a, .int b]) (rest := []) ⟨hx, hb, hml, hown, hts⟩ (c_MD_byOutcome l dC dI cI cZ cC cS h0 qd 0 og mo ps lt ac gd bd io pm op no a b) (cs_MD_66 hts ⟨(Nat.le_of_ble_eq_true rfl), (Nat.le_of_ble_eq_true rfl)⟩) (fz_preV (q0 := 0) (ci := 2) hK hP rfl rfl (hP.sub [0] rfl)) rfl hl.1 rfl (Nat.le_of_ble_eq_true rfl) d_MD_act_47 ⟨(Nat.le_of_ble_eq_true rfl), (Nat.le_of_ble_eq_true rfl)⟩ ?_
              exact fz_top (by first | (simp only [mm_s1, if_neg c_21, if_pos c_22, if_pos c_23, if_pos c_24, if_pos c_25]; done) | rfl | contradiction) K
            · refine lv_bipush (v := 10) (pc := 39) hx hb d_MD_act_39 (by decide) ?_
              refine lv_goto (tgt := 50) (pc := 41) hx hb d_MD_act_41 (by decide) ?_
              exact fz_top (by first | (simp only [mm_s1, if_neg c_21, if_pos c_22, if_pos c_23, if_pos c_24, if_neg c_25]; done) | rfl | contradiction) K
        refine lv_istore_n (lv' := [(3, .int (mm_s1 a no (mm_by a b og (mm_key og) (mm_idx og)))), (0, .ref h0), (1, .int a), (2, .int b)]) (pc := 50) hx hb d_MD_act_50 rfl hl (by decide) rfl (fun ls hl => ?_)
        exact K51 _ _ _ hP hS (by rw [show s1 = mm_s1 a no (mm_by a b og (mm_key og) (mm_idx og)) from by rw [es1]; simp only [mm_st, if_pos c_23]]; exact lv_sub hl [0, 1, 2, 3] rfl)
    · exact absurd h6 c_22
end
section
-- ===== worlds side by side =====
theorem fz_Pm {D : va_G} {cl : List vw_C} {ws : va_W} {H : Heap} : va_P D cl ws H ↔ ∀ q ∈ ws, va_at D cl q H := by
  constructor
  · intro h q hq
    obtain ⟨i, hi⟩ := List.getElem?_of_mem hq
    exact h i q hi
  · intro h k q hk
    exact h q (List.mem_of_getElem? hk)
theorem fz_Psub {D : va_G} {cl : List vw_C} {ws ws' : va_W} {H : Heap} (hP : va_P D cl ws H) (h : ∀ q ∈ ws', q ∈ ws) : va_P D cl ws' H := fz_Pm.mpr fun q hq => fz_Pm.mp hP q (h q hq)
theorem fz_Dnil {A : Nat → Prop} : va_D A [] := ⟨fun i j p q h => by simp at h, fun k q h => by simp at h⟩
theorem fz_Dcons {A : Nat → Prop} {x : Nat × va_E} {ws : va_W} : va_D A (x :: ws) ↔ (∀ q ∈ ws, x.1 ≠ q.1) ∧ A x.1 ∧ va_D A ws := by
  constructor
  · intro h
    refine ⟨fun q hq e => ?_, h.2 0 x rfl, ⟨fun i j p q hi hj hpq => ?_, fun k q hk => h.2 (k + 1) q (by simpa using hk)⟩⟩
    · obtain ⟨i, hi⟩ := List.getElem?_of_mem hq
      have := h.1 0 (i + 1) x q rfl (by simpa using hi) e
      omega
    · have := h.1 (i + 1) (j + 1) p q (by simpa using hi) (by simpa using hj) hpq
      omega
  · rintro ⟨h1, h2, h3⟩
    refine ⟨fun i j p q hi hj hpq => ?_, fun k q hk => ?_⟩
    · match i, j, hi, hj with
      | 0, 0, _, _ => rfl
      | 0, j + 1, hi, hj =>
        simp at hi hj
        subst hi
        exact absurd hpq (h1 q (List.mem_of_getElem? hj))
      | i + 1, 0, hi, hj =>
        simp at hi hj
        subst hj
        exact absurd hpq.symm (h1 p (List.mem_of_getElem? hi))
      | i + 1, j + 1, hi, hj =>
        simp at hi hj
        have := h3.1 i j p q hi hj hpq
        omega
    · match k, hk with
      | 0, hk => simp at hk; subst hk; exact h2
      | k + 1, hk => exact h3.2 k q (by simpa using hk)
theorem fz_Dm {A : Nat → Prop} : ∀ {ws : va_W}, va_D A ws ↔ (ws.map Prod.fst).Nodup ∧ ∀ q ∈ ws, A q.1
  | [] => ⟨fun _ => ⟨List.nodup_nil, fun q h => by simp at h⟩, fun _ => fz_Dnil⟩
  | x :: ws => by
    rw [fz_Dcons, fz_Dm (ws := ws)]
    simp only [List.map_cons, List.nodup_cons, List.mem_map, List.mem_cons, forall_eq_or_imp]
    constructor
    · rintro ⟨h1, h2, h3, h4⟩
      exact ⟨⟨fun ⟨q, hq, e⟩ => h1 q hq e.symm, h3⟩, h2, h4⟩
    · rintro ⟨⟨h1, h3⟩, h2, h4⟩
      exact ⟨fun q hq e => h1 ⟨q, hq, e.symm⟩, h2, h3, h4⟩
theorem fz_Dperm {A : Nat → Prop} {ws ws' : va_W} (hD : va_D A ws) (h : ws.Perm ws') : va_D A ws' := by
  rw [fz_Dm] at hD ⊢
  exact ⟨(h.map Prod.fst).nodup_iff.mp hD.1, fun q hq => hD.2 q (h.mem_iff.mpr hq)⟩
/-- behind a piece of code that works on the cells wc alone and makes new ones -/
theorem fz_join {A B : Nat → Prop} {D : va_G} {cl : List vw_C} {wr wc w1 : va_W} {H H1 : Heap} (hP : va_P D cl (wc ++ wr) H) (hD : va_D A (wc ++ wr)) (hP1 : va_P D cl w1 H1) (hD1 : va_D B w1) (hB : ∀ q, B q → (∃ p ∈ wc, p.1 = q) ∨ H.size ≤ q) (hBA : ∀ q, B q → A q) (hk : ∀ q, q < H.size → ¬ B q → H1[q]? = H[q]?) : va_P D cl (w1 ++ wr) H1 ∧ va_D A (w1 ++ wr) := by
  have hDm := fz_Dm.mp hD
  have hno : ∀ p ∈ wr, p.1 < H.size ∧ ¬ B p.1 := by
    intro p hp
    have hlt := (fz_Pm.mp hP p (List.mem_append_right _ hp)).lt
    refine ⟨hlt, fun hb => ?_⟩
    rcases hB p.1 hb with ⟨q, hq, e⟩ | h
    · have hn := hDm.1
      rw [List.map_append, List.nodup_append] at hn
      exact hn.2.2 q.1 (List.mem_map.mpr ⟨q, hq, rfl⟩) p.1 (List.mem_map.mpr ⟨p, hp, rfl⟩) e
    · omega
  have hD1m := fz_Dm.mp hD1
  refine ⟨va_P.app hP1 (fz_Pm.mpr fun q hq => (fz_Pm.mp hP q (List.mem_append_right _ hq)).kept (hk q.1 (hno q hq).1 (hno q hq).2)), fz_Dm.mpr ⟨?_, fun q hq => ?_⟩⟩
  · have hn := hDm.1
    rw [List.map_append, List.nodup_append] at hn ⊢
    refine ⟨hD1m.1, hn.2.1, fun a ha b hb e => ?_⟩
    obtain ⟨x, hx, rfl⟩ := List.mem_map.mp ha
    obtain ⟨y, hy, rfl⟩ := List.mem_map.mp hb
    exact (hno y hy).2 (by rw [← e]; exact hD1m.2 x hx)
  · rcases List.mem_append.mp hq with h | h
    · exact hBA _ (hD1m.2 q h)
    · exact hDm.2 q (List.mem_append_right _ h)
-- ===== what the tables hold =====
abbrev rwf (a b c d e f g : Int32) : Nat → Int32 := upd (upd (upd (upd (upd (upd (upd (upd (upd (fun _ => 0) 0 0) 1 a) 2 b) 3 c) 4 d) 5 30) 6 e) 7 f) 8 g
abbrev md3 (x y z : Int32) : Nat → Int32 := upd (upd (upd (fun _ => 0) 0 x) 1 y) 2 z
abbrev sq3 (r0 r1 r2 : Nat) : Nat → Option Nat := va_up (va_up (va_up (fun _ => none) 0 (some r0)) 1 (some r1)) 2 (some r2)
abbrev tbk (cI cS : ClassId) (a m s r0 r1 r2 : Nat) (br : Int32) (fm f0 f1 f2 : Nat → Int32) : va_W := [(a, ACo m br s), (m, ARi cI 3 fm), (s, ARq cS 3 (sq3 r0 r1 r2)), (r0, ARi cI 9 f0), (r1, ARi cI 9 f1), (r2, ARi cI 9 f2)]
set_option maxHeartbeats 4000000 in
set_option maxRecDepth 100000 in
theorem c_FS_row (l : Launch) (dC : Nat → ClassId) (dI : Nat → Nat → Nat) (cI cZ cC cS : ClassId) (sz : Nat) (a0 a1 a2 a3 a4 a5 a6 : Int32) : Met l y_FS_row (.code y_FS_row b_FS_row 7 ((some (.array .int))) :: tw) rm_FS_row (va_Pc [.int a0, .int a1, .int a2, .int a3, .int a4, .int a5, .int a6] (P1 dC dI cI cZ cC cS sz [])) (QN dC dI sz (ARi cI 9 (rwf a0 a1 a2 a3 a4 a5 a6))) 1 9 (fun q => sz ≤ q) := by
  refine Met.ofW (cc := b_FS_row) (maxL := 7) (ret := (some (.array .int))) (by decide) rfl ?_
  intro p e s m args below meth c s₁ B hml hv
  obtain ⟨rfl, hsz, hK, hP⟩ := hv
  have hx := B.exec
  have hb := B.bytes
  have hr := B.returns
  have hts : ∀ w ∈ tw, w.before _ s = true := fun w h => atoms_spec (ws := .code y_FS_row b_FS_row 7 ((some (.array .int))) :: tw) B.pre w (List.mem_cons_of_mem _ h)
  have hown : s.vm.findClass "FileStatus" = some m.cls := findClass_of_methodNamed B.named
  have hlk := B.notSynchronized
  have hP : va_P (dC, dI) classes [] s.heap := hP
  have hl := lv_entry [.int a0, .int a1, .int a2, .int a3, .int a4, .int a5, .int a6] (n := 7) (Nat.le_of_ble_eq_true rfl)
  rw [lg_entry_eq]
  generalize (lg_sl [.int a0, .int a1, .int a2, .int a3, .int a4, .int a5, .int a6] ++ List.replicate (7 - (lg_sl [.int a0, .int a1, .int a2, .int a3, .int a4, .int a5, .int a6]).length) Slot.unset).toArray = ls at hl ⊢
  have hl : lv_has ls 7 [(0, .int a0), (1, .int a1), (2, .int a2), (3, .int a3), (4, .int a4), (5, .int a5), (6, .int a6)] := hl
  subst hsz
  have hA : ∀ q : Nat, s.heap.size ≤ q → (fun q : Nat => s.heap.size ≤ q) q := fun _ h => h
  have hD : va_D (fun q : Nat => s.heap.size ≤ q) [] := ⟨fun i j p q h => by simp at h, fun k q h => by simp at h⟩
  have hS : va_S (fun q : Nat => s.heap.size ≤ q) s.heap s.heap [] := va_S.rf
  refine lv_bipush (v := 9) (pc := 0) hx hb d_FS_row_0 (by decide) ?_
  refine fz_newI (pc := 2) (N' := 9) hx hb (hts _ k_35) hK hP hD hS hA (by decide) (by decide) (by decide) (Nat.le_of_ble_eq_true rfl) (Nat.le_of_ble_eq_true rfl) d_FS_row_2 (fun q_2 H hP hD hS => ?_)
  have hP : va_P (dC, dI) classes [(q_2, ARi cI 9 (fun _ => 0))] H := hP
  have hD : va_D _ [(q_2, ARi cI 9 (fun _ => 0))] := hD
  refine lv_dup (pc := 4) hx hb d_FS_row_4 rfl ?_
  refine lv_iconst (v := 0) (pc := 5) hx hb d_FS_row_5 (by decide) ?_
  refine lv_iconst (v := 0) (pc := 6) hx hb d_FS_row_6 (by decide) ?_
  refine fz_stI (pc := 7) (q0 := 0) (ws' := [(q_2, ARi cI 9 (upd (fun _ => 0) 0 0))]) hx hb hK hP hD hS rfl (by unfold vp_in; decide) rfl d_FS_row_7 (fun H locs hP hD hS => ?_)
  refine lv_dup (pc := 8) hx hb d_FS_row_8 rfl ?_
  refine lv_iconst (v := 1) (pc := 9) hx hb d_FS_row_9 (by decide) ?_
  refine lv_iload_n (pc := 10) hx hb d_FS_row_10 rfl (lv_at hl 0 rfl) ?_
  refine fz_stI (pc := 11) (q0 := 0) (ws' := [(q_2, ARi cI 9 (upd (upd (fun _ => 0) 0 0) 1 a0))]) hx hb hK hP hD hS rfl (by unfold vp_in; decide) rfl d_FS_row_11 (fun H locs hP hD hS => ?_)
  refine lv_dup (pc := 12) hx hb d_FS_row_12 rfl ?_
  refine lv_iconst (v := 2) (pc := 13) hx hb d_FS_row_13 (by decide) ?_
  refine lv_iload_n (pc := 14) hx hb d_FS_row_14 rfl (lv_at hl 1 rfl) ?_
  refine fz_stI (pc := 15) (q0 := 0) (ws' := [(q_2, ARi cI 9 (upd (upd (upd (fun _ => 0) 0 0) 1 a0) 2 a1))]) hx hb hK hP hD hS rfl (by unfold vp_in; decide) rfl d_FS_row_15 (fun H locs hP hD hS => ?_)
  refine lv_dup (pc := 16) hx hb d_FS_row_16 rfl ?_
  refine lv_iconst (v := 3) (pc := 17) hx hb d_FS_row_17 (by decide) ?_
  refine lv_iload_n (pc := 18) hx hb d_FS_row_18 rfl (lv_at hl 2 rfl) ?_
  refine fz_stI (pc := 19) (q0 := 0) (ws' := [(q_2, ARi cI 9 (upd (upd (upd (upd (fun _ => 0) 0 0) 1 a0) 2 a1) 3 a2))]) hx hb hK hP hD hS rfl (by unfold vp_in; decide) rfl d_FS_row_19 (fun H locs hP hD hS => ?_)
  refine lv_dup (pc := 20) hx hb d_FS_row_20 rfl ?_
  refine lv_iconst (v := 4) (pc := 21) hx hb d_FS_row_21 (by decide) ?_
  refine lv_iload_n (pc := 22) hx hb d_FS_row_22 rfl (lv_at hl 3 rfl) ?_
  refine fz_stI (pc := 23) (q0 := 0) (ws' := [(q_2, ARi cI 9 (upd (upd (upd (upd (upd (fun _ => 0) 0 0) 1 a0) 2 a1) 3 a2) 4 a3))]) hx hb hK hP hD hS rfl (by unfold vp_in; decide) rfl d_FS_row_23 (fun H locs hP hD hS => ?_)
  refine lv_dup (pc := 24) hx hb d_FS_row_24 rfl ?_
  refine lv_iconst (v := 5) (pc := 25) hx hb d_FS_row_25 (by decide) ?_
  refine lv_bipush (v := 30) (pc := 26) hx hb d_FS_row_26 (by decide) ?_
  refine fz_stI (pc := 28) (q0 := 0) (ws' := [(q_2, ARi cI 9 (upd (upd (upd (upd (upd (upd (fun _ => 0) 0 0) 1 a0) 2 a1) 3 a2) 4 a3) 5 30))]) hx hb hK hP hD hS rfl (by unfold vp_in; decide) rfl d_FS_row_28 (fun H locs hP hD hS => ?_)
  refine lv_dup (pc := 29) hx hb d_FS_row_29 rfl ?_
  refine lv_bipush (v := 6) (pc := 30) hx hb d_FS_row_30 (by decide) ?_
  refine lv_iload (pc := 32) hx hb d_FS_row_32 (lv_at hl 4 rfl) ?_
  refine fz_stI (pc := 34) (q0 := 0) (ws' := [(q_2, ARi cI 9 (upd (upd (upd (upd (upd (upd (upd (fun _ => 0) 0 0) 1 a0) 2 a1) 3 a2) 4 a3) 5 30) 6 a4))]) hx hb hK hP hD hS rfl (by unfold vp_in; decide) rfl d_FS_row_34 (fun H locs hP hD hS => ?_)
  refine lv_dup (pc := 35) hx hb d_FS_row_35 rfl ?_
  refine lv_bipush (v := 7) (pc := 36) hx hb d_FS_row_36 (by decide) ?_
  refine lv_iload (pc := 38) hx hb d_FS_row_38 (lv_at hl 5 rfl) ?_
  refine fz_stI (pc := 40) (q0 := 0) (ws' := [(q_2, ARi cI 9 (upd (upd (upd (upd (upd (upd (upd (upd (fun _ => 0) 0 0) 1 a0) 2 a1) 3 a2) 4 a3) 5 30) 6 a4) 7 a5))]) hx hb hK hP hD hS rfl (by unfold vp_in; decide) rfl d_FS_row_40 (fun H locs hP hD hS => ?_)
  refine lv_dup (pc := 41) hx hb d_FS_row_41 rfl ?_
  refine lv_bipush (v := 8) (pc := 42) hx hb d_FS_row_42 (by decide) ?_
  refine lv_iload (pc := 44) hx hb d_FS_row_44 (lv_at hl 6 rfl) ?_
  refine fz_stI (pc := 46) (q0 := 0) (ws' := [(q_2, ARi cI 9 (upd (upd (upd (upd (upd (upd (upd (upd (upd (fun _ => 0) 0 0) 1 a0) 2 a1) 3 a2) 4 a3) 5 30) 6 a4) 7 a5) 8 a6))]) hx hb hK hP hD hS rfl (by unfold vp_in; decide) rfl d_FS_row_46 (fun H locs hP hD hS => ?_)
  exact W.aret (cells := 1) (slots := 9) hx hb hr (Or.inr ⟨_, rfl⟩) (Or.inr ⟨_, rfl⟩) (fun t ht _ => ⟨⟨(), q_2, rfl, trivial, by show va_P _ _ _ t.heap; rw [ht]; exact hP, hD.2 0 _ rfl⟩, hS.F ht⟩) hS.2.2 d_FS_row_47 hlk
set_option maxHeartbeats 4000000 in
set_option maxRecDepth 100000 in
theorem c_FS_nothing (l : Launch) (dC : Nat → ClassId) (dI : Nat → Nat → Nat) (cI cZ cC cS : ClassId) (sz : Nat) : Met l y_FS_nothing (.code y_FS_nothing b_FS_nothing 0 ((some (.array .int))) :: tw) rm_FS_nothing (va_Pc [] (P1 dC dI cI cZ cC cS sz [])) (QN dC dI sz (ARi cI 9 (rwf 90 90 90 90 90 90 90))) 1 9 (fun q => sz ≤ q) := by
  refine Met.ofW (cc := b_FS_nothing) (maxL := 0) (ret := (some (.array .int))) (by decide) rfl ?_
  intro p e s m args below meth c s₁ B hml hv
  obtain ⟨rfl, hsz, hK, hP⟩ := hv
  have hx := B.exec
  have hb := B.bytes
  have hr := B.returns
  have hts : ∀ w ∈ tw, w.before _ s = true := fun w h => atoms_spec (ws := .code y_FS_nothing b_FS_nothing 0 ((some (.array .int))) :: tw) B.pre w (List.mem_cons_of_mem _ h)
  have hown : s.vm.findClass "FileStatus" = some m.cls := findClass_of_methodNamed B.named
  have hlk := B.notSynchronized
  have hP : va_P (dC, dI) classes [] s.heap := hP
  have hl := lv_entry [] (n := 0) (Nat.le_of_ble_eq_true rfl)
  rw [lg_entry_eq]
  generalize (lg_sl [] ++ List.replicate (0 - (lg_sl []).length) Slot.unset).toArray = ls at hl ⊢
  have hl : lv_has ls 0 [] := hl
  subst hsz
  have hA : ∀ q : Nat, s.heap.size ≤ q → (fun q : Nat => s.heap.size ≤ q) q := fun _ h => h
  have hD : va_D (fun q : Nat => s.heap.size ≤ q) [] := ⟨fun i j p q h => by simp at h, fun k q h => by simp at h⟩
  have hS : va_S (fun q : Nat => s.heap.size ≤ q) s.heap s.heap [] := va_S.rf
  have hl := hl.1
  refine lv_bipush (v := 90) (pc := 0) hx hb d_FS_nothing_0 (by decide) ?_
  refine lv_bipush (v := 90) (pc := 2) hx hb d_FS_nothing_2 (by decide) ?_
  refine lv_bipush (v := 90) (pc := 4) hx hb d_FS_nothing_4 (by decide) ?_
  refine lv_bipush (v := 90) (pc := 6) hx hb d_FS_nothing_6 (by decide) ?_
  refine lv_bipush (v := 90) (pc := 8) hx hb d_FS_nothing_8 (by decide) ?_
  refine lv_bipush (v := 90) (pc := 10) hx hb d_FS_nothing_10 (by decide) ?_
  refine lv_bipush (v := 90) (pc := 12) hx hb d_FS_nothing_12 (by decide) ?_
  refine fz_cN (pc := 14) (As := [.int 90, .int 90, .int 90, .int 90, .int 90, .int 90, .int 90]) (rest := []) ⟨hx, hb, hml, hown, hts⟩ (c_FS_row l dC dI cI cZ cC cS s.heap.size 90 90 90 90 90 90 90) (cs_FS_3 hts ⟨(Nat.le_of_ble_eq_true rfl), (Nat.le_of_ble_eq_true rfl)⟩) (Nat.le_of_ble_eq_true rfl) (fz_pre1 hK (hP.sub [] rfl)) rfl hl rfl (Nat.le_of_ble_eq_true rfl) d_FS_nothing_14 ⟨(Nat.le_of_ble_eq_true rfl), (Nat.le_of_ble_eq_true rfl)⟩ hP hD hS hA (fun q_14 H locs hP hD hS => ?_)
  have hP : va_P (dC, dI) classes [(q_14, ARi cI 9 (rwf 90 90 90 90 90 90 90))] H := hP
  have hD : va_D _ [(q_14, ARi cI 9 (rwf 90 90 90 90 90 90 90))] := hD
  exact W.aret (cells := 1) (slots := 9) hx hb hr (Or.inr ⟨_, rfl⟩) (Or.inr ⟨_, rfl⟩) (fun t ht _ => ⟨⟨(), q_14, rfl, trivial, by show va_P _ _ _ t.heap; rw [ht]; exact hP, hD.2 0 _ rfl⟩, hS.F ht⟩) hS.2.2 d_FS_nothing_17 hlk
set_option maxHeartbeats 4000000 in
set_option maxRecDepth 100000 in
theorem c_AC_init (l : Launch) (dC : Nat → ClassId) (dI : Nat → Nat → Nat) (cI cZ cC cS : ClassId) (h0 qm qs : Nat) (b : Int32) : Met l y_AC_init (.code y_AC_init b_AC_init 4 (none) :: tw) rm_AC_init (va_Pc [.ref h0, .ref qm, .int b, .ref qs] (P0 dC dI cI cZ cC cS [(h0, .inr (1, [.null, .int 0, .null]))])) (QMv dC dI h0 (ACo qm b qs)) 0 0 (fun q => q = h0) := by
  refine Met.ofW (cc := b_AC_init) (maxL := 4) (ret := none) (by decide) rfl ?_
  intro p e s m args below meth c s₁ B hml hv
  obtain ⟨rfl, hK, hP⟩ := hv
  have hx := B.exec
  have hb := B.bytes
  have hr := B.returns
  have hts : ∀ w ∈ tw, w.before _ s = true := fun w h => atoms_spec (ws := .code y_AC_init b_AC_init 4 (none) :: tw) B.pre w (List.mem_cons_of_mem _ h)
  have hown : s.vm.findClass "FileStatus$Act" = some m.cls := findClass_of_methodNamed B.named
  have hlk := B.notSynchronized
  have hin : meth.name = "<init>" := (name_of_methodNamed B.named B.method).1
  have hP : va_P (dC, dI) classes [(h0, .inr (1, [.null, .int 0, .null]))] s.heap := hP
  have hl := lv_entry [.ref h0, .ref qm, .int b, .ref qs] (n := 4) (Nat.le_of_ble_eq_true rfl)
  rw [lg_entry_eq]
  generalize (lg_sl [.ref h0, .ref qm, .int b, .ref qs] ++ List.replicate (4 - (lg_sl [.ref h0, .ref qm, .int b, .ref qs]).length) Slot.unset).toArray = ls at hl ⊢
  have hl : lv_has ls 4 [(0, .ref h0), (1, .ref qm), (2, .int b), (3, .ref qs)] := hl
  have hD : va_D (fun q => q = h0) [(h0, .inr (1, [.null, .int 0, .null]))] := fz_D1
  have hS : va_S (fun q => q = h0) s.heap s.heap [] := va_S.rf
  refine lv_aload_n (pc := 0) hx hb d_AC_init_0 rfl (lv_at hl 0 rfl) ?_
  refine W.objInit hx hb hown (hts _ k_23) (hts _ k_10) (hts _ k_11) rfl (by rw [hml]; exact hl.1) rfl d_AC_init_1 (Nat.le_of_ble_eq_true rfl) (Nat.le_of_ble_eq_true rfl) ?_
  refine W.eq (g2 := F0 m 4 ls []) rfl ?_
  refine lv_aload_n (pc := 4) hx hb d_AC_init_4 rfl (lv_at hl 0 rfl) ?_
  refine lv_aload_n (pc := 5) hx hb d_AC_init_5 rfl (lv_at hl 1 rfl) ?_
  refine pt_AC_modes (ws' := [(h0, .inr (1, [.ref qm, .int 0, .null]))]) (pc := 6) hx hb hts hown hK hP hD hS hin 0 rfl (Nat.le_of_ble_eq_true rfl) rfl d_AC_init_6 (fun H locs hP hD hS => ?_)
  refine lv_aload_n (pc := 9) hx hb d_AC_init_9 rfl (lv_at hl 0 rfl) ?_
  refine lv_iload_n (pc := 10) hx hb d_AC_init_10 rfl (lv_at hl 2 rfl) ?_
  refine pt_AC_barred (ws' := [(h0, .inr (1, [.ref qm, .int b, .null]))]) (pc := 11) hx hb hts hown hK hP hD hS hin 0 rfl (Nat.le_of_ble_eq_true rfl) rfl d_AC_init_11 (fun H locs hP hD hS => ?_)
  refine lv_aload_n (pc := 14) hx hb d_AC_init_14 rfl (lv_at hl 0 rfl) ?_
  refine lv_aload_n (pc := 15) hx hb d_AC_init_15 rfl (lv_at hl 3 rfl) ?_
  refine pt_AC_statuses (ws' := [(h0, ACo qm b qs)]) (pc := 16) hx hb hts hown hK hP hD hS hin 0 rfl (Nat.le_of_ble_eq_true rfl) rfl d_AC_init_16 (fun H locs hP hD hS => ?_)
  exact fz_retV hx hb hr hlk hP hS rfl d_AC_init_19
set_option maxHeartbeats 4000000 in
set_option maxRecDepth 100000 in
theorem c_MD_init (l : Launch) (dC : Nat → ClassId) (dI : Nat → Nat → Nat) (cI cZ cC cS : ClassId) (sz : Nat) (h0 : Nat) (a : Int32) : Met l y_MD_init (.code y_MD_init b_MD_init 2 (none) :: tw) rm_MD_init (va_Pc [.ref h0, .int a] (P1 dC dI cI cZ cC cS sz [(h0, .inr (2, [.int 0, .int 0, .int 0, .int 0, .int 0, .int 0, .int 0, .int 0, .int 0, .int 0, .int 0, .int 0, .null]))])) (va_Qv (fun (_ : Unit) => True) (fun _ t => ∃ q : Nat, va_P (dC, dI) classes [(h0, MDo q 0 (ff_org a) 0 0 0 9 0 0 0 0 0 0), (q, ARi cZ 7 (fun _ => 0))] t.heap ∧ va_D (fun q => q = h0 ∨ sz ≤ q) [(h0, MDo q 0 (ff_org a) 0 0 0 9 0 0 0 0 0 0), (q, ARi cZ 7 (fun _ => 0))]) (fun q => q = h0 ∨ sz ≤ q)) 1 7 (fun q => q = h0 ∨ sz ≤ q) := by
  refine Met.ofW (cc := b_MD_init) (maxL := 2) (ret := none) (by decide) rfl ?_
  intro p e s m args below meth c s₁ B hml hv
  obtain ⟨rfl, hsz, hK, hP⟩ := hv
  have hx := B.exec
  have hb := B.bytes
  have hr := B.returns
  have hts : ∀ w ∈ tw, w.before _ s = true := fun w h => atoms_spec (ws := .code y_MD_init b_MD_init 2 (none) :: tw) B.pre w (List.mem_cons_of_mem _ h)
  have hown : s.vm.findClass "FileStatusModel" = some m.cls := findClass_of_methodNamed B.named
  have hlk := B.notSynchronized
  have hin : meth.name = "<init>" := (name_of_methodNamed B.named B.method).1
  have hP : va_P (dC, dI) classes [(h0, .inr (2, [.int 0, .int 0, .int 0, .int 0, .int 0, .int 0, .int 0, .int 0, .int 0, .int 0, .int 0, .int 0, .null]))] s.heap := hP
  have hl := lv_entry [.ref h0, .int a] (n := 2) (Nat.le_of_ble_eq_true rfl)
  rw [lg_entry_eq]
  generalize (lg_sl [.ref h0, .int a] ++ List.replicate (2 - (lg_sl [.ref h0, .int a]).length) Slot.unset).toArray = ls at hl ⊢
  have hl : lv_has ls 2 [(0, .ref h0), (1, .int a)] := hl
  subst hsz
  have hA : ∀ q : Nat, s.heap.size ≤ q → (fun q : Nat => q = h0 ∨ s.heap.size ≤ q) q := fun _ h => Or.inr h
  have hD : va_D (fun q : Nat => q = h0 ∨ s.heap.size ≤ q) [(h0, .inr (2, [.int 0, .int 0, .int 0, .int 0, .int 0, .int 0, .int 0, .int 0, .int 0, .int 0, .int 0, .int 0, .null]))] := fz_D1.weaken (fun _ _ _ h => Or.inl h)
  have hS : va_S (fun q : Nat => q = h0 ∨ s.heap.size ≤ q) s.heap s.heap [] := va_S.rf
  refine lv_aload_n (pc := 0) hx hb d_MD_init_0 rfl (lv_at hl 0 rfl) ?_
  refine W.objInit hx hb hown (hts _ k_166) (hts _ k_10) (hts _ k_11) rfl (by rw [hml]; exact hl.1) rfl d_MD_init_1 (Nat.le_of_ble_eq_true rfl) (Nat.le_of_ble_eq_true rfl) ?_
  refine W.eq (g2 := F0 m 4 ls []) rfl ?_
  refine lv_aload_n (pc := 4) hx hb d_MD_init_4 rfl (lv_at hl 0 rfl) ?_
  refine lv_bipush (v := 9) (pc := 5) hx hb d_MD_init_5 (by decide) ?_
  refine pt_MD_act (ws' := [(h0, .inr (2, [.int 0, .int 0, .int 0, .int 0, .int 0, .int 9, .int 0, .int 0, .int 0, .int 0, .int 0, .int 0, .null]))]) (pc := 7) hx hb hts hown hK hP hD hS 0 rfl (Nat.le_of_ble_eq_true rfl) rfl d_MD_init_7 (fun H locs hP hD hS => ?_)
  refine lv_aload_n (pc := 10) hx hb d_MD_init_10 rfl (lv_at hl 0 rfl) ?_
  refine lv_bipush (v := 7) (pc := 11) hx hb d_MD_init_11 (by decide) ?_
  refine fz_newZ (pc := 13) (N' := 7) hx hb (hts _ k_79) hK hP hD hS hA (by decide) (by decide) (by decide) (Nat.le_of_ble_eq_true rfl) (Nat.le_of_ble_eq_true rfl) d_MD_init_13 (fun q_13 H hP hD hS => ?_)
  have hP : va_P (dC, dI) classes [(h0, .inr (2, [.int 0, .int 0, .int 0, .int 0, .int 0, .int 9, .int 0, .int 0, .int 0, .int 0, .int 0, .int 0, .null])), (q_13, ARi cZ 7 (fun _ => 0))] H := hP
  have hD : va_D _ [(h0, .inr (2, [.int 0, .int 0, .int 0, .int 0, .int 0, .int 9, .int 0, .int 0, .int 0, .int 0, .int 0, .int 0, .null])), (q_13, ARi cZ 7 (fun _ => 0))] := hD
  refine pt_MD_declared (ws' := [(h0, MDo q_13 0 0 0 0 0 9 0 0 0 0 0 0), (q_13, ARi cZ 7 (fun _ => 0))]) (pc := 15) hx hb hts hown hK hP hD hS hin 0 rfl (Nat.le_of_ble_eq_true rfl) rfl d_MD_init_15 (fun H locs hP hD hS => ?_)
  refine lv_aload_n (pc := 18) hx hb d_MD_init_18 rfl (lv_at hl 0 rfl) ?_
  refine fz_cut (F0 m 37 ls [.int (ff_org a), .ref h0]) (fun K => ?_) ?_
  · refine lv_iload_n (pc := 19) hx hb d_MD_init_19 rfl (lv_at hl 1 rfl) ?_
    refine lv_if_ge (tgt := 27) (pc := 20) hx hb d_MD_init_20 (by decide) (fun c_1 => ?_) (fun c_1 => ?_)
    · refine lv_iload_n (pc := 27) hx hb d_MD_init_27 rfl (lv_at hl 1 rfl) ?_
      refine lv_iconst (v := 2) (pc := 28) hx hb d_MD_init_28 (by decide) ?_
      refine lv_icmp_le (tgt := 36) (pc := 29) hx hb d_MD_init_29 (by decide) (fun c_2 => ?_) (fun c_2 => ?_)
      · refine lv_iload_n (pc := 36) hx hb d_MD_init_36 rfl (lv_at hl 1 rfl) ?_
        exact fz_top (by first | (simp only [ff_org, if_pos c_1, if_pos c_2]; done) | rfl | contradiction) K
      · refine lv_iconst (v := 2) (pc := 32) hx hb d_MD_init_32 (by decide) ?_
        refine lv_goto (tgt := 37) (pc := 33) hx hb d_MD_init_33 (by decide) ?_
        exact fz_top (by first | (simp only [ff_org, if_pos c_1, if_neg c_2]; done) | rfl | contradiction) K
    · refine lv_iconst (v := 0) (pc := 23) hx hb d_MD_init_23 (by decide) ?_
      refine lv_goto (tgt := 37) (pc := 24) hx hb d_MD_init_24 (by decide) ?_
      exact fz_top (by first | (simp only [ff_org, if_neg c_1]; done) | rfl | contradiction) K
  refine pt_MD_organisation (ws' := [(h0, MDo q_13 0 (ff_org a) 0 0 0 9 0 0 0 0 0 0), (q_13, ARi cZ 7 (fun _ => 0))]) (pc := 37) hx hb hts hown hK hP hD hS hin 0 rfl (Nat.le_of_ble_eq_true rfl) rfl d_MD_init_37 (fun H locs hP hD hS => ?_)
  exact W.vret (cells := 1) (slots := 7) hx hb hr (fun t ht _ => ⟨⟨(), rfl, trivial, q_13, by rw [ht]; exact hP, hD⟩, hS.F ht⟩) hS.2.2 d_MD_init_40 hlk
end
section
set_option maxHeartbeats 4000000 in
set_option maxRecDepth 100000 in
theorem blk_0 {p : Program} {l : Launch} {e : Env} {R : Room} {s : State} {m : MethodId} {args : Array Value} {below : List Frame} {meth : Method} {c : Code} {Hs : Heap} {cells slots : Nat} {Q : State → Prop} {ls : Array Slot} {dC : Nat → ClassId} {dI : Nat → Nat → Nat} {cI cZ cC cS : ClassId} {qa h0 : Nat} {f : Nat → Option Nat} (hx : p.tables.exec = Jvm.exec) (hb : c.code = b_FS_init) (hml : c.maxLocals = 2) (hown : s.vm.findClass "FileStatus" = some m.cls) (hts : ∀ w ∈ tw, w.before args s = true) (hK : kK dC dI cI cZ cC cS s) (hl : ls.size = 2) (hR1 : 2 ≤ R.frames) (hR2 : 53 ≤ R.locals) (hc : cells + 6 ≤ R.cells) (hs : slots + 36 ≤ R.slots) (hP : va_P (dC, dI) classes [(qa, ARq cC 7 f)] Hs) (kk : ∀ (H1 : Heap) (locs1 : List Loc) (qq mm ss r0 r1 r2 : Nat), va_P (dC, dI) classes ((qa, ARq cC 7 (va_up f 0 (some qq))) :: tbk cI cS qq mm ss r0 r1 r2 47 (md3 5 5 5) (rwf 10 90 90 90 51 4 90) (rwf 10 90 90 14 51 4 90) (rwf 10 2 90 90 51 4 90)) H1 → va_D (fun q => q = qa ∨ Hs.size ≤ q) ((qa, ARq cC 7 (va_up f 0 (some qq))) :: tbk cI cS qq mm ss r0 r1 r2 47 (md3 5 5 5) (rwf 10 90 90 90 51 4 90) (rwf 10 90 90 14 51 4 90) (rwf 10 2 90 90 51 4 90)) → va_S (fun q => q = qa ∨ Hs.size ≤ q) Hs H1 locs1 → W p l e R s m args below meth c H1 locs1 (cells + 6) (slots + 36) Q (F0 m 97 ls [.ref qa, .ref h0])) : W p l e R s m args below meth c Hs [] cells slots Q (F0 m 10 ls [.ref qa, .ref h0]) := by
  have hA : ∀ q : Nat, Hs.size ≤ q → (fun q => q = qa ∨ Hs.size ≤ q) q := fun _ h => Or.inr h
  have hD : va_D (fun q => q = qa ∨ Hs.size ≤ q) [(qa, ARq cC 7 f)] := fz_D1.weaken (fun _ _ _ h => Or.inl h)
  have hS : va_S (fun q => q = qa ∨ Hs.size ≤ q) Hs Hs [] := va_S.rf
  refine lv_dup (pc := 10) hx hb d_FS_init_10 rfl ?_
  refine lv_iconst (v := 0) (pc := 11) hx hb d_FS_init_11 (by decide) ?_
  refine va_new (pc := 12) (ci := 1) (fs := [.null, .int 0, .null]) (C := "FileStatus$Act") (T := F_AC) (N := 3) hx hb hts i_AC t_AC t_AC_ok hown (hts _ k_12) (hts _ k_14) (hts _ k_2) hK.1 hP hD hS hA rfl (fun j hj => by rcases (show j = 0 ∨ j = 1 ∨ j = 2 by omega) with rfl | rfl | rfl <;> rfl) (by omega) (by omega) d_FS_init_12 (fun qq H hP hD hS => ?_)
  have hP : va_P (dC, dI) classes [(qa, ARq cC 7 f), (qq, .inr (1, [.null, .int 0, .null]))] H := hP
  have hD : va_D (fun q => q = qa ∨ Hs.size ≤ q) [(qa, ARq cC 7 f), (qq, .inr (1, [.null, .int 0, .null]))] := hD
  refine lv_dup (pc := 15) hx hb d_FS_init_15 rfl ?_
  refine lv_iconst (v := 3) (pc := 16) hx hb d_FS_init_16 (by decide) ?_
  refine fz_newI (pc := 17) (N' := 3) hx hb (hts _ k_35) hK hP hD hS hA (by decide) (by decide) (by decide) (by omega) (by omega) d_FS_init_17 (fun mm H hP hD hS => ?_)
  have hP : va_P (dC, dI) classes [(qa, ARq cC 7 f), (qq, .inr (1, [.null, .int 0, .null])), (mm, ARi cI 3 (fun _ => 0))] H := hP
  have hD : va_D (fun q => q = qa ∨ Hs.size ≤ q) [(qa, ARq cC 7 f), (qq, .inr (1, [.null, .int 0, .null])), (mm, ARi cI 3 (fun _ => 0))] := hD
  refine lv_dup (pc := 19) hx hb d_FS_init_19 rfl ?_
  refine lv_iconst (v := 0) (pc := 20) hx hb d_FS_init_20 (by decide) ?_
  refine lv_iconst (v := 5) (pc := 21) hx hb d_FS_init_21 (by decide) ?_
  refine fz_stI (pc := 22) (q0 := 2) (ws' := [(qa, ARq cC 7 f), (qq, .inr (1, [.null, .int 0, .null])), (mm, ARi cI 3 (upd (fun _ => 0) 0 5))]) hx hb hK hP hD hS rfl (by unfold vp_in; decide) rfl d_FS_init_22 (fun H locs hP hD hS => ?_)
  refine lv_dup (pc := 23) hx hb d_FS_init_23 rfl ?_
  refine lv_iconst (v := 1) (pc := 24) hx hb d_FS_init_24 (by decide) ?_
  refine lv_iconst (v := 5) (pc := 25) hx hb d_FS_init_25 (by decide) ?_
  refine fz_stI (pc := 26) (q0 := 2) (ws' := [(qa, ARq cC 7 f), (qq, .inr (1, [.null, .int 0, .null])), (mm, ARi cI 3 (upd (upd (fun _ => 0) 0 5) 1 5))]) hx hb hK hP hD hS rfl (by unfold vp_in; decide) rfl d_FS_init_26 (fun H locs hP hD hS => ?_)
  refine lv_dup (pc := 27) hx hb d_FS_init_27 rfl ?_
  refine lv_iconst (v := 2) (pc := 28) hx hb d_FS_init_28 (by decide) ?_
  refine lv_iconst (v := 5) (pc := 29) hx hb d_FS_init_29 (by decide) ?_
  refine fz_stI (pc := 30) (q0 := 2) (ws' := [(qa, ARq cC 7 f), (qq, .inr (1, [.null, .int 0, .null])), (mm, ARi cI 3 (upd (upd (upd (fun _ => 0) 0 5) 1 5) 2 5))]) hx hb hK hP hD hS rfl (by unfold vp_in; decide) rfl d_FS_init_30 (fun H locs hP hD hS => ?_)
  refine lv_bipush (v := 47) (pc := 31) hx hb d_FS_init_31 (by decide) ?_
  refine lv_iconst (v := 3) (pc := 33) hx hb d_FS_init_33 (by decide) ?_
  refine fz_newS (pc := 34) (N' := 3) hx hb hown (hts _ k_15) hK hP hD hS hA (by decide) (by decide) (by decide) (by omega) (by omega) d_FS_init_34 (fun ss H hP hD hS => ?_)
  have hP : va_P (dC, dI) classes [(qa, ARq cC 7 f), (qq, .inr (1, [.null, .int 0, .null])), (mm, ARi cI 3 (upd (upd (upd (fun _ => 0) 0 5) 1 5) 2 5)), (ss, ARq cS 3 (fun _ => none))] H := hP
  have hD : va_D (fun q => q = qa ∨ Hs.size ≤ q) [(qa, ARq cC 7 f), (qq, .inr (1, [.null, .int 0, .null])), (mm, ARi cI 3 (upd (upd (upd (fun _ => 0) 0 5) 1 5) 2 5)), (ss, ARq cS 3 (fun _ => none))] := hD
  refine lv_dup (pc := 37) hx hb d_FS_init_37 rfl ?_
  refine lv_iconst (v := 0) (pc := 38) hx hb d_FS_init_38 (by decide) ?_
  refine lv_bipush (v := 10) (pc := 39) hx hb d_FS_init_39 (by decide) ?_
  refine lv_bipush (v := 90) (pc := 41) hx hb d_FS_init_41 (by decide) ?_
  refine lv_bipush (v := 90) (pc := 43) hx hb d_FS_init_43 (by decide) ?_
  refine lv_bipush (v := 90) (pc := 45) hx hb d_FS_init_45 (by decide) ?_
  refine lv_bipush (v := 51) (pc := 47) hx hb d_FS_init_47 (by decide) ?_
  refine lv_iconst (v := 4) (pc := 49) hx hb d_FS_init_49 (by decide) ?_
  refine lv_bipush (v := 90) (pc := 50) hx hb d_FS_init_50 (by decide) ?_
  refine fz_cN (pc := 52) (As := [.int 10, .int 90, .int 90, .int 90, .int 51, .int 4, .int 90]) (rest := [.int 0, .ref ss, .ref ss, .int 47, .ref mm, .ref qq, .ref qq, .int 0, .ref qa, .ref qa, .ref h0]) ⟨hx, hb, hml, hown, hts⟩ (c_FS_row l dC dI cI cZ cC cS H.size 10 90 90 90 51 4 90) (cs_FS_3 hts ⟨(Nat.le_trans (by decide) hR1), (Nat.le_trans (by decide) hR2)⟩) (Nat.le_trans (by decide) hR2) (fz_pre1 hK (hP.sub [] rfl)) rfl hl rfl (Nat.le_of_ble_eq_true rfl) d_FS_init_52 ⟨by omega, by omega⟩ hP hD hS hA (fun r0 H locs hP hD hS => ?_)
  have hP : va_P (dC, dI) classes [(qa, ARq cC 7 f), (qq, .inr (1, [.null, .int 0, .null])), (mm, ARi cI 3 (upd (upd (upd (fun _ => 0) 0 5) 1 5) 2 5)), (ss, ARq cS 3 (fun _ => none)), (r0, ARi cI 9 (rwf 10 90 90 90 51 4 90))] H := hP
  have hD : va_D (fun q => q = qa ∨ Hs.size ≤ q) [(qa, ARq cC 7 f), (qq, .inr (1, [.null, .int 0, .null])), (mm, ARi cI 3 (upd (upd (upd (fun _ => 0) 0 5) 1 5) 2 5)), (ss, ARq cS 3 (fun _ => none)), (r0, ARi cI 9 (rwf 10 90 90 90 51 4 90))] := hD
  refine fz_stS (pc := 55) (q0 := 3) (qk := 4) (ws' := [(qa, ARq cC 7 f), (qq, .inr (1, [.null, .int 0, .null])), (mm, ARi cI 3 (upd (upd (upd (fun _ => 0) 0 5) 1 5) 2 5)), (ss, ARq cS 3 (va_up (fun _ => none) 0 (some r0))), (r0, ARi cI 9 (rwf 10 90 90 90 51 4 90))]) hx hb hK hP hD hS rfl rfl (by unfold vp_in; decide) rfl d_FS_init_55 (fun H locs hP hD hS => ?_)
  refine lv_dup (pc := 56) hx hb d_FS_init_56 rfl ?_
  refine lv_iconst (v := 1) (pc := 57) hx hb d_FS_init_57 (by decide) ?_
  refine lv_bipush (v := 10) (pc := 58) hx hb d_FS_init_58 (by decide) ?_
  refine lv_bipush (v := 90) (pc := 60) hx hb d_FS_init_60 (by decide) ?_
  refine lv_bipush (v := 90) (pc := 62) hx hb d_FS_init_62 (by decide) ?_
  refine lv_bipush (v := 14) (pc := 64) hx hb d_FS_init_64 (by decide) ?_
  refine lv_bipush (v := 51) (pc := 66) hx hb d_FS_init_66 (by decide) ?_
  refine lv_iconst (v := 4) (pc := 68) hx hb d_FS_init_68 (by decide) ?_
  refine lv_bipush (v := 90) (pc := 69) hx hb d_FS_init_69 (by decide) ?_
  refine fz_cN (pc := 71) (As := [.int 10, .int 90, .int 90, .int 14, .int 51, .int 4, .int 90]) (rest := [.int 1, .ref ss, .ref ss, .int 47, .ref mm, .ref qq, .ref qq, .int 0, .ref qa, .ref qa, .ref h0]) ⟨hx, hb, hml, hown, hts⟩ (c_FS_row l dC dI cI cZ cC cS H.size 10 90 90 14 51 4 90) (cs_FS_3 hts ⟨(Nat.le_trans (by decide) hR1), (Nat.le_trans (by decide) hR2)⟩) (Nat.le_trans (by decide) hR2) (fz_pre1 hK (hP.sub [] rfl)) rfl hl rfl (Nat.le_of_ble_eq_true rfl) d_FS_init_71 ⟨by omega, by omega⟩ hP hD hS hA (fun r1 H locs hP hD hS => ?_)
  have hP : va_P (dC, dI) classes [(qa, ARq cC 7 f), (qq, .inr (1, [.null, .int 0, .null])), (mm, ARi cI 3 (upd (upd (upd (fun _ => 0) 0 5) 1 5) 2 5)), (ss, ARq cS 3 (va_up (fun _ => none) 0 (some r0))), (r0, ARi cI 9 (rwf 10 90 90 90 51 4 90)), (r1, ARi cI 9 (rwf 10 90 90 14 51 4 90))] H := hP
  have hD : va_D (fun q => q = qa ∨ Hs.size ≤ q) [(qa, ARq cC 7 f), (qq, .inr (1, [.null, .int 0, .null])), (mm, ARi cI 3 (upd (upd (upd (fun _ => 0) 0 5) 1 5) 2 5)), (ss, ARq cS 3 (va_up (fun _ => none) 0 (some r0))), (r0, ARi cI 9 (rwf 10 90 90 90 51 4 90)), (r1, ARi cI 9 (rwf 10 90 90 14 51 4 90))] := hD
  refine fz_stS (pc := 74) (q0 := 3) (qk := 5) (ws' := [(qa, ARq cC 7 f), (qq, .inr (1, [.null, .int 0, .null])), (mm, ARi cI 3 (upd (upd (upd (fun _ => 0) 0 5) 1 5) 2 5)), (ss, ARq cS 3 (va_up (va_up (fun _ => none) 0 (some r0)) 1 (some r1))), (r0, ARi cI 9 (rwf 10 90 90 90 51 4 90)), (r1, ARi cI 9 (rwf 10 90 90 14 51 4 90))]) hx hb hK hP hD hS rfl rfl (by unfold vp_in; decide) rfl d_FS_init_74 (fun H locs hP hD hS => ?_)
  refine lv_dup (pc := 75) hx hb d_FS_init_75 rfl ?_
  refine lv_iconst (v := 2) (pc := 76) hx hb d_FS_init_76 (by decide) ?_
  refine lv_bipush (v := 10) (pc := 77) hx hb d_FS_init_77 (by decide) ?_
  refine lv_iconst (v := 2) (pc := 79) hx hb d_FS_init_79 (by decide) ?_
  refine lv_bipush (v := 90) (pc := 80) hx hb d_FS_init_80 (by decide) ?_
  refine lv_bipush (v := 90) (pc := 82) hx hb d_FS_init_82 (by decide) ?_
  refine lv_bipush (v := 51) (pc := 84) hx hb d_FS_init_84 (by decide) ?_
  refine lv_iconst (v := 4) (pc := 86) hx hb d_FS_init_86 (by decide) ?_
  refine lv_bipush (v := 90) (pc := 87) hx hb d_FS_init_87 (by decide) ?_
  refine fz_cN (pc := 89) (As := [.int 10, .int 2, .int 90, .int 90, .int 51, .int 4, .int 90]) (rest := [.int 2, .ref ss, .ref ss, .int 47, .ref mm, .ref qq, .ref qq, .int 0, .ref qa, .ref qa, .ref h0]) ⟨hx, hb, hml, hown, hts⟩ (c_FS_row l dC dI cI cZ cC cS H.size 10 2 90 90 51 4 90) (cs_FS_3 hts ⟨(Nat.le_trans (by decide) hR1), (Nat.le_trans (by decide) hR2)⟩) (Nat.le_trans (by decide) hR2) (fz_pre1 hK (hP.sub [] rfl)) rfl hl rfl (Nat.le_of_ble_eq_true rfl) d_FS_init_89 ⟨by omega, by omega⟩ hP hD hS hA (fun r2 H locs hP hD hS => ?_)
  have hP : va_P (dC, dI) classes [(qa, ARq cC 7 f), (qq, .inr (1, [.null, .int 0, .null])), (mm, ARi cI 3 (upd (upd (upd (fun _ => 0) 0 5) 1 5) 2 5)), (ss, ARq cS 3 (va_up (va_up (fun _ => none) 0 (some r0)) 1 (some r1))), (r0, ARi cI 9 (rwf 10 90 90 90 51 4 90)), (r1, ARi cI 9 (rwf 10 90 90 14 51 4 90)), (r2, ARi cI 9 (rwf 10 2 90 90 51 4 90))] H := hP
  have hD : va_D (fun q => q = qa ∨ Hs.size ≤ q) [(qa, ARq cC 7 f), (qq, .inr (1, [.null, .int 0, .null])), (mm, ARi cI 3 (upd (upd (upd (fun _ => 0) 0 5) 1 5) 2 5)), (ss, ARq cS 3 (va_up (va_up (fun _ => none) 0 (some r0)) 1 (some r1))), (r0, ARi cI 9 (rwf 10 90 90 90 51 4 90)), (r1, ARi cI 9 (rwf 10 90 90 14 51 4 90)), (r2, ARi cI 9 (rwf 10 2 90 90 51 4 90))] := hD
  refine fz_stS (pc := 92) (q0 := 3) (qk := 6) (ws' := [(qa, ARq cC 7 f), (qq, .inr (1, [.null, .int 0, .null])), (mm, ARi cI 3 (upd (upd (upd (fun _ => 0) 0 5) 1 5) 2 5)), (ss, ARq cS 3 (va_up (va_up (va_up (fun _ => none) 0 (some r0)) 1 (some r1)) 2 (some r2))), (r0, ARi cI 9 (rwf 10 90 90 90 51 4 90)), (r1, ARi cI 9 (rwf 10 90 90 14 51 4 90)), (r2, ARi cI 9 (rwf 10 2 90 90 51 4 90))]) hx hb hK hP hD hS rfl rfl (by unfold vp_in; decide) rfl d_FS_init_92 (fun H locs hP hD hS => ?_)
  refine fz_cI (pc := 93) (As := [.ref mm, .int 47, .ref ss]) (rest := [.ref qq, .int 0, .ref qa, .ref qa, .ref h0]) (q0 := 1) (ws' := [(qa, ARq cC 7 f), (qq, ACo mm 47 ss), (mm, ARi cI 3 (upd (upd (upd (fun _ => 0) 0 5) 1 5) 2 5)), (ss, ARq cS 3 (va_up (va_up (va_up (fun _ => none) 0 (some r0)) 1 (some r1)) 2 (some r2))), (r0, ARi cI 9 (rwf 10 90 90 90 51 4 90)), (r1, ARi cI 9 (rwf 10 90 90 14 51 4 90)), (r2, ARi cI 9 (rwf 10 2 90 90 51 4 90))]) ⟨hx, hb, hml, hown, hts⟩ (c_AC_init l dC dI cI cZ cC cS qq mm ss 47) (cs_FS_17 hts ⟨(Nat.le_trans (by decide) hR1), (Nat.le_trans (by decide) hR2)⟩) (fz_pre0 hK (hP.sub [1] rfl)) rfl hl rfl (Nat.le_of_ble_eq_true rfl) d_FS_init_93 ⟨by omega, by omega⟩ hP hD hS rfl rfl (fun H locs hP hD hS => ?_)
  refine fz_stC (pc := 96) (q0 := 0) (qk := 1) (ws' := [(qa, ARq cC 7 (va_up f 0 (some qq))), (qq, ACo mm 47 ss), (mm, ARi cI 3 (upd (upd (upd (fun _ => 0) 0 5) 1 5) 2 5)), (ss, ARq cS 3 (va_up (va_up (va_up (fun _ => none) 0 (some r0)) 1 (some r1)) 2 (some r2))), (r0, ARi cI 9 (rwf 10 90 90 90 51 4 90)), (r1, ARi cI 9 (rwf 10 90 90 14 51 4 90)), (r2, ARi cI 9 (rwf 10 2 90 90 51 4 90))]) hx hb hK hP hD hS rfl rfl (by unfold vp_in; decide) rfl d_FS_init_96 (fun H locs hP hD hS => ?_)
  exact kk H locs qq mm ss r0 r1 r2 hP hD hS
set_option maxHeartbeats 4000000 in
set_option maxRecDepth 100000 in
theorem blk_1 {p : Program} {l : Launch} {e : Env} {R : Room} {s : State} {m : MethodId} {args : Array Value} {below : List Frame} {meth : Method} {c : Code} {Hs : Heap} {cells slots : Nat} {Q : State → Prop} {ls : Array Slot} {dC : Nat → ClassId} {dI : Nat → Nat → Nat} {cI cZ cC cS : ClassId} {qa h0 : Nat} {f : Nat → Option Nat} (hx : p.tables.exec = Jvm.exec) (hb : c.code = b_FS_init) (hml : c.maxLocals = 2) (hown : s.vm.findClass "FileStatus" = some m.cls) (hts : ∀ w ∈ tw, w.before args s = true) (hK : kK dC dI cI cZ cC cS s) (hl : ls.size = 2) (hR1 : 2 ≤ R.frames) (hR2 : 53 ≤ R.locals) (hc : cells + 6 ≤ R.cells) (hs : slots + 36 ≤ R.slots) (hP : va_P (dC, dI) classes [(qa, ARq cC 7 f)] Hs) (kk : ∀ (H1 : Heap) (locs1 : List Loc) (qq mm ss r0 r1 r2 : Nat), va_P (dC, dI) classes ((qa, ARq cC 7 (va_up f 1 (some qq))) :: tbk cI cS qq mm ss r0 r1 r2 47 (md3 0 5 5) (rwf 90 90 90 90 90 90 90) (rwf 23 90 90 90 51 4 90) (rwf 23 2 90 90 51 4 90)) H1 → va_D (fun q => q = qa ∨ Hs.size ≤ q) ((qa, ARq cC 7 (va_up f 1 (some qq))) :: tbk cI cS qq mm ss r0 r1 r2 47 (md3 0 5 5) (rwf 90 90 90 90 90 90 90) (rwf 23 90 90 90 51 4 90) (rwf 23 2 90 90 51 4 90)) → va_S (fun q => q = qa ∨ Hs.size ≤ q) Hs H1 locs1 → W p l e R s m args below meth c H1 locs1 (cells + 6) (slots + 36) Q (F0 m 171 ls [.ref qa, .ref h0])) : W p l e R s m args below meth c Hs [] cells slots Q (F0 m 97 ls [.ref qa, .ref h0]) := by
  have hA : ∀ q : Nat, Hs.size ≤ q → (fun q => q = qa ∨ Hs.size ≤ q) q := fun _ h => Or.inr h
  have hD : va_D (fun q => q = qa ∨ Hs.size ≤ q) [(qa, ARq cC 7 f)] := fz_D1.weaken (fun _ _ _ h => Or.inl h)
  have hS : va_S (fun q => q = qa ∨ Hs.size ≤ q) Hs Hs [] := va_S.rf
  refine lv_dup (pc := 97) hx hb d_FS_init_97 rfl ?_
  refine lv_iconst (v := 1) (pc := 98) hx hb d_FS_init_98 (by decide) ?_
  refine va_new (pc := 99) (ci := 1) (fs := [.null, .int 0, .null]) (C := "FileStatus$Act") (T := F_AC) (N := 3) hx hb hts i_AC t_AC t_AC_ok hown (hts _ k_12) (hts _ k_14) (hts _ k_2) hK.1 hP hD hS hA rfl (fun j hj => by rcases (show j = 0 ∨ j = 1 ∨ j = 2 by omega) with rfl | rfl | rfl <;> rfl) (by omega) (by omega) d_FS_init_99 (fun qq H hP hD hS => ?_)
  have hP : va_P (dC, dI) classes [(qa, ARq cC 7 f), (qq, .inr (1, [.null, .int 0, .null]))] H := hP
  have hD : va_D (fun q => q = qa ∨ Hs.size ≤ q) [(qa, ARq cC 7 f), (qq, .inr (1, [.null, .int 0, .null]))] := hD
  refine lv_dup (pc := 102) hx hb d_FS_init_102 rfl ?_
  refine lv_iconst (v := 3) (pc := 103) hx hb d_FS_init_103 (by decide) ?_
  refine fz_newI (pc := 104) (N' := 3) hx hb (hts _ k_35) hK hP hD hS hA (by decide) (by decide) (by decide) (by omega) (by omega) d_FS_init_104 (fun mm H hP hD hS => ?_)
  have hP : va_P (dC, dI) classes [(qa, ARq cC 7 f), (qq, .inr (1, [.null, .int 0, .null])), (mm, ARi cI 3 (fun _ => 0))] H := hP
  have hD : va_D (fun q => q = qa ∨ Hs.size ≤ q) [(qa, ARq cC 7 f), (qq, .inr (1, [.null, .int 0, .null])), (mm, ARi cI 3 (fun _ => 0))] := hD
  refine lv_dup (pc := 106) hx hb d_FS_init_106 rfl ?_
  refine lv_iconst (v := 0) (pc := 107) hx hb d_FS_init_107 (by decide) ?_
  refine lv_iconst (v := 0) (pc := 108) hx hb d_FS_init_108 (by decide) ?_
  refine fz_stI (pc := 109) (q0 := 2) (ws' := [(qa, ARq cC 7 f), (qq, .inr (1, [.null, .int 0, .null])), (mm, ARi cI 3 (upd (fun _ => 0) 0 0))]) hx hb hK hP hD hS rfl (by unfold vp_in; decide) rfl d_FS_init_109 (fun H locs hP hD hS => ?_)
  refine lv_dup (pc := 110) hx hb d_FS_init_110 rfl ?_
  refine lv_iconst (v := 1) (pc := 111) hx hb d_FS_init_111 (by decide) ?_
  refine lv_iconst (v := 5) (pc := 112) hx hb d_FS_init_112 (by decide) ?_
  refine fz_stI (pc := 113) (q0 := 2) (ws' := [(qa, ARq cC 7 f), (qq, .inr (1, [.null, .int 0, .null])), (mm, ARi cI 3 (upd (upd (fun _ => 0) 0 0) 1 5))]) hx hb hK hP hD hS rfl (by unfold vp_in; decide) rfl d_FS_init_113 (fun H locs hP hD hS => ?_)
  refine lv_dup (pc := 114) hx hb d_FS_init_114 rfl ?_
  refine lv_iconst (v := 2) (pc := 115) hx hb d_FS_init_115 (by decide) ?_
  refine lv_iconst (v := 5) (pc := 116) hx hb d_FS_init_116 (by decide) ?_
  refine fz_stI (pc := 117) (q0 := 2) (ws' := [(qa, ARq cC 7 f), (qq, .inr (1, [.null, .int 0, .null])), (mm, ARi cI 3 (upd (upd (upd (fun _ => 0) 0 0) 1 5) 2 5))]) hx hb hK hP hD hS rfl (by unfold vp_in; decide) rfl d_FS_init_117 (fun H locs hP hD hS => ?_)
  refine lv_bipush (v := 47) (pc := 118) hx hb d_FS_init_118 (by decide) ?_
  refine lv_iconst (v := 3) (pc := 120) hx hb d_FS_init_120 (by decide) ?_
  refine fz_newS (pc := 121) (N' := 3) hx hb hown (hts _ k_15) hK hP hD hS hA (by decide) (by decide) (by decide) (by omega) (by omega) d_FS_init_121 (fun ss H hP hD hS => ?_)
  have hP : va_P (dC, dI) classes [(qa, ARq cC 7 f), (qq, .inr (1, [.null, .int 0, .null])), (mm, ARi cI 3 (upd (upd (upd (fun _ => 0) 0 0) 1 5) 2 5)), (ss, ARq cS 3 (fun _ => none))] H := hP
  have hD : va_D (fun q => q = qa ∨ Hs.size ≤ q) [(qa, ARq cC 7 f), (qq, .inr (1, [.null, .int 0, .null])), (mm, ARi cI 3 (upd (upd (upd (fun _ => 0) 0 0) 1 5) 2 5)), (ss, ARq cS 3 (fun _ => none))] := hD
  refine lv_dup (pc := 124) hx hb d_FS_init_124 rfl ?_
  refine lv_iconst (v := 0) (pc := 125) hx hb d_FS_init_125 (by decide) ?_
  refine fz_cN (pc := 126) (As := []) (rest := [.int 0, .ref ss, .ref ss, .int 47, .ref mm, .ref qq, .ref qq, .int 1, .ref qa, .ref qa, .ref h0]) ⟨hx, hb, hml, hown, hts⟩ (c_FS_nothing l dC dI cI cZ cC cS H.size) (cs_FS_20 hts ⟨(Nat.le_trans (by decide) hR1), (Nat.le_trans (by decide) hR2)⟩) (Nat.le_trans (by decide) hR2) (fz_pre1 hK (hP.sub [] rfl)) rfl hl rfl (Nat.le_of_ble_eq_true rfl) d_FS_init_126 ⟨by omega, by omega⟩ hP hD hS hA (fun r0 H locs hP hD hS => ?_)
  have hP : va_P (dC, dI) classes [(qa, ARq cC 7 f), (qq, .inr (1, [.null, .int 0, .null])), (mm, ARi cI 3 (upd (upd (upd (fun _ => 0) 0 0) 1 5) 2 5)), (ss, ARq cS 3 (fun _ => none)), (r0, ARi cI 9 (rwf 90 90 90 90 90 90 90))] H := hP
  have hD : va_D (fun q => q = qa ∨ Hs.size ≤ q) [(qa, ARq cC 7 f), (qq, .inr (1, [.null, .int 0, .null])), (mm, ARi cI 3 (upd (upd (upd (fun _ => 0) 0 0) 1 5) 2 5)), (ss, ARq cS 3 (fun _ => none)), (r0, ARi cI 9 (rwf 90 90 90 90 90 90 90))] := hD
  refine fz_stS (pc := 129) (q0 := 3) (qk := 4) (ws' := [(qa, ARq cC 7 f), (qq, .inr (1, [.null, .int 0, .null])), (mm, ARi cI 3 (upd (upd (upd (fun _ => 0) 0 0) 1 5) 2 5)), (ss, ARq cS 3 (va_up (fun _ => none) 0 (some r0))), (r0, ARi cI 9 (rwf 90 90 90 90 90 90 90))]) hx hb hK hP hD hS rfl rfl (by unfold vp_in; decide) rfl d_FS_init_129 (fun H locs hP hD hS => ?_)
  refine lv_dup (pc := 130) hx hb d_FS_init_130 rfl ?_
  refine lv_iconst (v := 1) (pc := 131) hx hb d_FS_init_131 (by decide) ?_
  refine lv_bipush (v := 23) (pc := 132) hx hb d_FS_init_132 (by decide) ?_
  refine lv_bipush (v := 90) (pc := 134) hx hb d_FS_init_134 (by decide) ?_
  refine lv_bipush (v := 90) (pc := 136) hx hb d_FS_init_136 (by decide) ?_
  refine lv_bipush (v := 90) (pc := 138) hx hb d_FS_init_138 (by decide) ?_
  refine lv_bipush (v := 51) (pc := 140) hx hb d_FS_init_140 (by decide) ?_
  refine lv_iconst (v := 4) (pc := 142) hx hb d_FS_init_142 (by decide) ?_
  refine lv_bipush (v := 90) (pc := 143) hx hb d_FS_init_143 (by decide) ?_
  refine fz_cN (pc := 145) (As := [.int 23, .int 90, .int 90, .int 90, .int 51, .int 4, .int 90]) (rest := [.int 1, .ref ss, .ref ss, .int 47, .ref mm, .ref qq, .ref qq, .int 1, .ref qa, .ref qa, .ref h0]) ⟨hx, hb, hml, hown, hts⟩ (c_FS_row l dC dI cI cZ cC cS H.size 23 90 90 90 51 4 90) (cs_FS_3 hts ⟨(Nat.le_trans (by decide) hR1), (Nat.le_trans (by decide) hR2)⟩) (Nat.le_trans (by decide) hR2) (fz_pre1 hK (hP.sub [] rfl)) rfl hl rfl (Nat.le_of_ble_eq_true rfl) d_FS_init_145 ⟨by omega, by omega⟩ hP hD hS hA (fun r1 H locs hP hD hS => ?_)
  have hP : va_P (dC, dI) classes [(qa, ARq cC 7 f), (qq, .inr (1, [.null, .int 0, .null])), (mm, ARi cI 3 (upd (upd (upd (fun _ => 0) 0 0) 1 5) 2 5)), (ss, ARq cS 3 (va_up (fun _ => none) 0 (some r0))), (r0, ARi cI 9 (rwf 90 90 90 90 90 90 90)), (r1, ARi cI 9 (rwf 23 90 90 90 51 4 90))] H := hP
  have hD : va_D (fun q => q = qa ∨ Hs.size ≤ q) [(qa, ARq cC 7 f), (qq, .inr (1, [.null, .int 0, .null])), (mm, ARi cI 3 (upd (upd (upd (fun _ => 0) 0 0) 1 5) 2 5)), (ss, ARq cS 3 (va_up (fun _ => none) 0 (some r0))), (r0, ARi cI 9 (rwf 90 90 90 90 90 90 90)), (r1, ARi cI 9 (rwf 23 90 90 90 51 4 90))] := hD
  refine fz_stS (pc := 148) (q0 := 3) (qk := 5) (ws' := [(qa, ARq cC 7 f), (qq, .inr (1, [.null, .int 0, .null])), (mm, ARi cI 3 (upd (upd (upd (fun _ => 0) 0 0) 1 5) 2 5)), (ss, ARq cS 3 (va_up (va_up (fun _ => none) 0 (some r0)) 1 (some r1))), (r0, ARi cI 9 (rwf 90 90 90 90 90 90 90)), (r1, ARi cI 9 (rwf 23 90 90 90 51 4 90))]) hx hb hK hP hD hS rfl rfl (by unfold vp_in; decide) rfl d_FS_init_148 (fun H locs hP hD hS => ?_)
  refine lv_dup (pc := 149) hx hb d_FS_init_149 rfl ?_
  refine lv_iconst (v := 2) (pc := 150) hx hb d_FS_init_150 (by decide) ?_
  refine lv_bipush (v := 23) (pc := 151) hx hb d_FS_init_151 (by decide) ?_
  refine lv_iconst (v := 2) (pc := 153) hx hb d_FS_init_153 (by decide) ?_
  refine lv_bipush (v := 90) (pc := 154) hx hb d_FS_init_154 (by decide) ?_
  refine lv_bipush (v := 90) (pc := 156) hx hb d_FS_init_156 (by decide) ?_
  refine lv_bipush (v := 51) (pc := 158) hx hb d_FS_init_158 (by decide) ?_
  refine lv_iconst (v := 4) (pc := 160) hx hb d_FS_init_160 (by decide) ?_
  refine lv_bipush (v := 90) (pc := 161) hx hb d_FS_init_161 (by decide) ?_
  refine fz_cN (pc := 163) (As := [.int 23, .int 2, .int 90, .int 90, .int 51, .int 4, .int 90]) (rest := [.int 2, .ref ss, .ref ss, .int 47, .ref mm, .ref qq, .ref qq, .int 1, .ref qa, .ref qa, .ref h0]) ⟨hx, hb, hml, hown, hts⟩ (c_FS_row l dC dI cI cZ cC cS H.size 23 2 90 90 51 4 90) (cs_FS_3 hts ⟨(Nat.le_trans (by decide) hR1), (Nat.le_trans (by decide) hR2)⟩) (Nat.le_trans (by decide) hR2) (fz_pre1 hK (hP.sub [] rfl)) rfl hl rfl (Nat.le_of_ble_eq_true rfl) d_FS_init_163 ⟨by omega, by omega⟩ hP hD hS hA (fun r2 H locs hP hD hS => ?_)
  have hP : va_P (dC, dI) classes [(qa, ARq cC 7 f), (qq, .inr (1, [.null, .int 0, .null])), (mm, ARi cI 3 (upd (upd (upd (fun _ => 0) 0 0) 1 5) 2 5)), (ss, ARq cS 3 (va_up (va_up (fun _ => none) 0 (some r0)) 1 (some r1))), (r0, ARi cI 9 (rwf 90 90 90 90 90 90 90)), (r1, ARi cI 9 (rwf 23 90 90 90 51 4 90)), (r2, ARi cI 9 (rwf 23 2 90 90 51 4 90))] H := hP
  have hD : va_D (fun q => q = qa ∨ Hs.size ≤ q) [(qa, ARq cC 7 f), (qq, .inr (1, [.null, .int 0, .null])), (mm, ARi cI 3 (upd (upd (upd (fun _ => 0) 0 0) 1 5) 2 5)), (ss, ARq cS 3 (va_up (va_up (fun _ => none) 0 (some r0)) 1 (some r1))), (r0, ARi cI 9 (rwf 90 90 90 90 90 90 90)), (r1, ARi cI 9 (rwf 23 90 90 90 51 4 90)), (r2, ARi cI 9 (rwf 23 2 90 90 51 4 90))] := hD
  refine fz_stS (pc := 166) (q0 := 3) (qk := 6) (ws' := [(qa, ARq cC 7 f), (qq, .inr (1, [.null, .int 0, .null])), (mm, ARi cI 3 (upd (upd (upd (fun _ => 0) 0 0) 1 5) 2 5)), (ss, ARq cS 3 (va_up (va_up (va_up (fun _ => none) 0 (some r0)) 1 (some r1)) 2 (some r2))), (r0, ARi cI 9 (rwf 90 90 90 90 90 90 90)), (r1, ARi cI 9 (rwf 23 90 90 90 51 4 90)), (r2, ARi cI 9 (rwf 23 2 90 90 51 4 90))]) hx hb hK hP hD hS rfl rfl (by unfold vp_in; decide) rfl d_FS_init_166 (fun H locs hP hD hS => ?_)
  refine fz_cI (pc := 167) (As := [.ref mm, .int 47, .ref ss]) (rest := [.ref qq, .int 1, .ref qa, .ref qa, .ref h0]) (q0 := 1) (ws' := [(qa, ARq cC 7 f), (qq, ACo mm 47 ss), (mm, ARi cI 3 (upd (upd (upd (fun _ => 0) 0 0) 1 5) 2 5)), (ss, ARq cS 3 (va_up (va_up (va_up (fun _ => none) 0 (some r0)) 1 (some r1)) 2 (some r2))), (r0, ARi cI 9 (rwf 90 90 90 90 90 90 90)), (r1, ARi cI 9 (rwf 23 90 90 90 51 4 90)), (r2, ARi cI 9 (rwf 23 2 90 90 51 4 90))]) ⟨hx, hb, hml, hown, hts⟩ (c_AC_init l dC dI cI cZ cC cS qq mm ss 47) (cs_FS_17 hts ⟨(Nat.le_trans (by decide) hR1), (Nat.le_trans (by decide) hR2)⟩) (fz_pre0 hK (hP.sub [1] rfl)) rfl hl rfl (Nat.le_of_ble_eq_true rfl) d_FS_init_167 ⟨by omega, by omega⟩ hP hD hS rfl rfl (fun H locs hP hD hS => ?_)
  refine fz_stC (pc := 170) (q0 := 0) (qk := 1) (ws' := [(qa, ARq cC 7 (va_up f 1 (some qq))), (qq, ACo mm 47 ss), (mm, ARi cI 3 (upd (upd (upd (fun _ => 0) 0 0) 1 5) 2 5)), (ss, ARq cS 3 (va_up (va_up (va_up (fun _ => none) 0 (some r0)) 1 (some r1)) 2 (some r2))), (r0, ARi cI 9 (rwf 90 90 90 90 90 90 90)), (r1, ARi cI 9 (rwf 23 90 90 90 51 4 90)), (r2, ARi cI 9 (rwf 23 2 90 90 51 4 90))]) hx hb hK hP hD hS rfl rfl (by unfold vp_in; decide) rfl d_FS_init_170 (fun H locs hP hD hS => ?_)
  exact kk H locs qq mm ss r0 r1 r2 hP hD hS
set_option maxHeartbeats 4000000 in
set_option maxRecDepth 100000 in
theorem blk_2 {p : Program} {l : Launch} {e : Env} {R : Room} {s : State} {m : MethodId} {args : Array Value} {below : List Frame} {meth : Method} {c : Code} {Hs : Heap} {cells slots : Nat} {Q : State → Prop} {ls : Array Slot} {dC : Nat → ClassId} {dI : Nat → Nat → Nat} {cI cZ cC cS : ClassId} {qa h0 : Nat} {f : Nat → Option Nat} (hx : p.tables.exec = Jvm.exec) (hb : c.code = b_FS_init) (hml : c.maxLocals = 2) (hown : s.vm.findClass "FileStatus" = some m.cls) (hts : ∀ w ∈ tw, w.before args s = true) (hK : kK dC dI cI cZ cC cS s) (hl : ls.size = 2) (hR1 : 2 ≤ R.frames) (hR2 : 53 ≤ R.locals) (hc : cells + 6 ≤ R.cells) (hs : slots + 36 ≤ R.slots) (hP : va_P (dC, dI) classes [(qa, ARq cC 7 f)] Hs) (kk : ∀ (H1 : Heap) (locs1 : List Loc) (qq mm ss r0 r1 r2 : Nat), va_P (dC, dI) classes ((qa, ARq cC 7 (va_up f 2 (some qq))) :: tbk cI cS qq mm ss r0 r1 r2 48 (md3 10 14 14) (rwf 90 90 90 34 51 44 90) (rwf 90 90 22 24 51 44 90) (rwf 90 2 22 24 51 44 21)) H1 → va_D (fun q => q = qa ∨ Hs.size ≤ q) ((qa, ARq cC 7 (va_up f 2 (some qq))) :: tbk cI cS qq mm ss r0 r1 r2 48 (md3 10 14 14) (rwf 90 90 90 34 51 44 90) (rwf 90 90 22 24 51 44 90) (rwf 90 2 22 24 51 44 21)) → va_S (fun q => q = qa ∨ Hs.size ≤ q) Hs H1 locs1 → W p l e R s m args below meth c H1 locs1 (cells + 6) (slots + 36) Q (F0 m 264 ls [.ref qa, .ref h0])) : W p l e R s m args below meth c Hs [] cells slots Q (F0 m 171 ls [.ref qa, .ref h0]) := by
  have hA : ∀ q : Nat, Hs.size ≤ q → (fun q => q = qa ∨ Hs.size ≤ q) q := fun _ h => Or.inr h
  have hD : va_D (fun q => q = qa ∨ Hs.size ≤ q) [(qa, ARq cC 7 f)] := fz_D1.weaken (fun _ _ _ h => Or.inl h)
  have hS : va_S (fun q => q = qa ∨ Hs.size ≤ q) Hs Hs [] := va_S.rf
  refine lv_dup (pc := 171) hx hb d_FS_init_171 rfl ?_
  refine lv_iconst (v := 2) (pc := 172) hx hb d_FS_init_172 (by decide) ?_
  refine va_new (pc := 173) (ci := 1) (fs := [.null, .int 0, .null]) (C := "FileStatus$Act") (T := F_AC) (N := 3) hx hb hts i_AC t_AC t_AC_ok hown (hts _ k_12) (hts _ k_14) (hts _ k_2) hK.1 hP hD hS hA rfl (fun j hj => by rcases (show j = 0 ∨ j = 1 ∨ j = 2 by omega) with rfl | rfl | rfl <;> rfl) (by omega) (by omega) d_FS_init_173 (fun qq H hP hD hS => ?_)
  have hP : va_P (dC, dI) classes [(qa, ARq cC 7 f), (qq, .inr (1, [.null, .int 0, .null]))] H := hP
  have hD : va_D (fun q => q = qa ∨ Hs.size ≤ q) [(qa, ARq cC 7 f), (qq, .inr (1, [.null, .int 0, .null]))] := hD
  refine lv_dup (pc := 176) hx hb d_FS_init_176 rfl ?_
  refine lv_iconst (v := 3) (pc := 177) hx hb d_FS_init_177 (by decide) ?_
  refine fz_newI (pc := 178) (N' := 3) hx hb (hts _ k_35) hK hP hD hS hA (by decide) (by decide) (by decide) (by omega) (by omega) d_FS_init_178 (fun mm H hP hD hS => ?_)
  have hP : va_P (dC, dI) classes [(qa, ARq cC 7 f), (qq, .inr (1, [.null, .int 0, .null])), (mm, ARi cI 3 (fun _ => 0))] H := hP
  have hD : va_D (fun q => q = qa ∨ Hs.size ≤ q) [(qa, ARq cC 7 f), (qq, .inr (1, [.null, .int 0, .null])), (mm, ARi cI 3 (fun _ => 0))] := hD
  refine lv_dup (pc := 180) hx hb d_FS_init_180 rfl ?_
  refine lv_iconst (v := 0) (pc := 181) hx hb d_FS_init_181 (by decide) ?_
  refine lv_bipush (v := 10) (pc := 182) hx hb d_FS_init_182 (by decide) ?_
  refine fz_stI (pc := 184) (q0 := 2) (ws' := [(qa, ARq cC 7 f), (qq, .inr (1, [.null, .int 0, .null])), (mm, ARi cI 3 (upd (fun _ => 0) 0 10))]) hx hb hK hP hD hS rfl (by unfold vp_in; decide) rfl d_FS_init_184 (fun H locs hP hD hS => ?_)
  refine lv_dup (pc := 185) hx hb d_FS_init_185 rfl ?_
  refine lv_iconst (v := 1) (pc := 186) hx hb d_FS_init_186 (by decide) ?_
  refine lv_bipush (v := 14) (pc := 187) hx hb d_FS_init_187 (by decide) ?_
  refine fz_stI (pc := 189) (q0 := 2) (ws' := [(qa, ARq cC 7 f), (qq, .inr (1, [.null, .int 0, .null])), (mm, ARi cI 3 (upd (upd (fun _ => 0) 0 10) 1 14))]) hx hb hK hP hD hS rfl (by unfold vp_in; decide) rfl d_FS_init_189 (fun H locs hP hD hS => ?_)
  refine lv_dup (pc := 190) hx hb d_FS_init_190 rfl ?_
  refine lv_iconst (v := 2) (pc := 191) hx hb d_FS_init_191 (by decide) ?_
  refine lv_bipush (v := 14) (pc := 192) hx hb d_FS_init_192 (by decide) ?_
  refine fz_stI (pc := 194) (q0 := 2) (ws' := [(qa, ARq cC 7 f), (qq, .inr (1, [.null, .int 0, .null])), (mm, ARi cI 3 (upd (upd (upd (fun _ => 0) 0 10) 1 14) 2 14))]) hx hb hK hP hD hS rfl (by unfold vp_in; decide) rfl d_FS_init_194 (fun H locs hP hD hS => ?_)
  refine lv_bipush (v := 48) (pc := 195) hx hb d_FS_init_195 (by decide) ?_
  refine lv_iconst (v := 3) (pc := 197) hx hb d_FS_init_197 (by decide) ?_
  refine fz_newS (pc := 198) (N' := 3) hx hb hown (hts _ k_15) hK hP hD hS hA (by decide) (by decide) (by decide) (by omega) (by omega) d_FS_init_198 (fun ss H hP hD hS => ?_)
  have hP : va_P (dC, dI) classes [(qa, ARq cC 7 f), (qq, .inr (1, [.null, .int 0, .null])), (mm, ARi cI 3 (upd (upd (upd (fun _ => 0) 0 10) 1 14) 2 14)), (ss, ARq cS 3 (fun _ => none))] H := hP
  have hD : va_D (fun q => q = qa ∨ Hs.size ≤ q) [(qa, ARq cC 7 f), (qq, .inr (1, [.null, .int 0, .null])), (mm, ARi cI 3 (upd (upd (upd (fun _ => 0) 0 10) 1 14) 2 14)), (ss, ARq cS 3 (fun _ => none))] := hD
  refine lv_dup (pc := 201) hx hb d_FS_init_201 rfl ?_
  refine lv_iconst (v := 0) (pc := 202) hx hb d_FS_init_202 (by decide) ?_
  refine lv_bipush (v := 90) (pc := 203) hx hb d_FS_init_203 (by decide) ?_
  refine lv_bipush (v := 90) (pc := 205) hx hb d_FS_init_205 (by decide) ?_
  refine lv_bipush (v := 90) (pc := 207) hx hb d_FS_init_207 (by decide) ?_
  refine lv_bipush (v := 34) (pc := 209) hx hb d_FS_init_209 (by decide) ?_
  refine lv_bipush (v := 51) (pc := 211) hx hb d_FS_init_211 (by decide) ?_
  refine lv_bipush (v := 44) (pc := 213) hx hb d_FS_init_213 (by decide) ?_
  refine lv_bipush (v := 90) (pc := 215) hx hb d_FS_init_215 (by decide) ?_
  refine fz_cN (pc := 217) (As := [.int 90, .int 90, .int 90, .int 34, .int 51, .int 44, .int 90]) (rest := [.int 0, .ref ss, .ref ss, .int 48, .ref mm, .ref qq, .ref qq, .int 2, .ref qa, .ref qa, .ref h0]) ⟨hx, hb, hml, hown, hts⟩ (c_FS_row l dC dI cI cZ cC cS H.size 90 90 90 34 51 44 90) (cs_FS_3 hts ⟨(Nat.le_trans (by decide) hR1), (Nat.le_trans (by decide) hR2)⟩) (Nat.le_trans (by decide) hR2) (fz_pre1 hK (hP.sub [] rfl)) rfl hl rfl (Nat.le_of_ble_eq_true rfl) d_FS_init_217 ⟨by omega, by omega⟩ hP hD hS hA (fun r0 H locs hP hD hS => ?_)
  have hP : va_P (dC, dI) classes [(qa, ARq cC 7 f), (qq, .inr (1, [.null, .int 0, .null])), (mm, ARi cI 3 (upd (upd (upd (fun _ => 0) 0 10) 1 14) 2 14)), (ss, ARq cS 3 (fun _ => none)), (r0, ARi cI 9 (rwf 90 90 90 34 51 44 90))] H := hP
  have hD : va_D (fun q => q = qa ∨ Hs.size ≤ q) [(qa, ARq cC 7 f), (qq, .inr (1, [.null, .int 0, .null])), (mm, ARi cI 3 (upd (upd (upd (fun _ => 0) 0 10) 1 14) 2 14)), (ss, ARq cS 3 (fun _ => none)), (r0, ARi cI 9 (rwf 90 90 90 34 51 44 90))] := hD
  refine fz_stS (pc := 220) (q0 := 3) (qk := 4) (ws' := [(qa, ARq cC 7 f), (qq, .inr (1, [.null, .int 0, .null])), (mm, ARi cI 3 (upd (upd (upd (fun _ => 0) 0 10) 1 14) 2 14)), (ss, ARq cS 3 (va_up (fun _ => none) 0 (some r0))), (r0, ARi cI 9 (rwf 90 90 90 34 51 44 90))]) hx hb hK hP hD hS rfl rfl (by unfold vp_in; decide) rfl d_FS_init_220 (fun H locs hP hD hS => ?_)
  refine lv_dup (pc := 221) hx hb d_FS_init_221 rfl ?_
  refine lv_iconst (v := 1) (pc := 222) hx hb d_FS_init_222 (by decide) ?_
  refine lv_bipush (v := 90) (pc := 223) hx hb d_FS_init_223 (by decide) ?_
  refine lv_bipush (v := 90) (pc := 225) hx hb d_FS_init_225 (by decide) ?_
  refine lv_bipush (v := 22) (pc := 227) hx hb d_FS_init_227 (by decide) ?_
  refine lv_bipush (v := 24) (pc := 229) hx hb d_FS_init_229 (by decide) ?_
  refine lv_bipush (v := 51) (pc := 231) hx hb d_FS_init_231 (by decide) ?_
  refine lv_bipush (v := 44) (pc := 233) hx hb d_FS_init_233 (by decide) ?_
  refine lv_bipush (v := 90) (pc := 235) hx hb d_FS_init_235 (by decide) ?_
  refine fz_cN (pc := 237) (As := [.int 90, .int 90, .int 22, .int 24, .int 51, .int 44, .int 90]) (rest := [.int 1, .ref ss, .ref ss, .int 48, .ref mm, .ref qq, .ref qq, .int 2, .ref qa, .ref qa, .ref h0]) ⟨hx, hb, hml, hown, hts⟩ (c_FS_row l dC dI cI cZ cC cS H.size 90 90 22 24 51 44 90) (cs_FS_3 hts ⟨(Nat.le_trans (by decide) hR1), (Nat.le_trans (by decide) hR2)⟩) (Nat.le_trans (by decide) hR2) (fz_pre1 hK (hP.sub [] rfl)) rfl hl rfl (Nat.le_of_ble_eq_true rfl) d_FS_init_237 ⟨by omega, by omega⟩ hP hD hS hA (fun r1 H locs hP hD hS => ?_)
  have hP : va_P (dC, dI) classes [(qa, ARq cC 7 f), (qq, .inr (1, [.null, .int 0, .null])), (mm, ARi cI 3 (upd (upd (upd (fun _ => 0) 0 10) 1 14) 2 14)), (ss, ARq cS 3 (va_up (fun _ => none) 0 (some r0))), (r0, ARi cI 9 (rwf 90 90 90 34 51 44 90)), (r1, ARi cI 9 (rwf 90 90 22 24 51 44 90))] H := hP
  have hD : va_D (fun q => q = qa ∨ Hs.size ≤ q) [(qa, ARq cC 7 f), (qq, .inr (1, [.null, .int 0, .null])), (mm, ARi cI 3 (upd (upd (upd (fun _ => 0) 0 10) 1 14) 2 14)), (ss, ARq cS 3 (va_up (fun _ => none) 0 (some r0))), (r0, ARi cI 9 (rwf 90 90 90 34 51 44 90)), (r1, ARi cI 9 (rwf 90 90 22 24 51 44 90))] := hD
  refine fz_stS (pc := 240) (q0 := 3) (qk := 5) (ws' := [(qa, ARq cC 7 f), (qq, .inr (1, [.null, .int 0, .null])), (mm, ARi cI 3 (upd (upd (upd (fun _ => 0) 0 10) 1 14) 2 14)), (ss, ARq cS 3 (va_up (va_up (fun _ => none) 0 (some r0)) 1 (some r1))), (r0, ARi cI 9 (rwf 90 90 90 34 51 44 90)), (r1, ARi cI 9 (rwf 90 90 22 24 51 44 90))]) hx hb hK hP hD hS rfl rfl (by unfold vp_in; decide) rfl d_FS_init_240 (fun H locs hP hD hS => ?_)
  refine lv_dup (pc := 241) hx hb d_FS_init_241 rfl ?_
  refine lv_iconst (v := 2) (pc := 242) hx hb d_FS_init_242 (by decide) ?_
  refine lv_bipush (v := 90) (pc := 243) hx hb d_FS_init_243 (by decide) ?_
  refine lv_iconst (v := 2) (pc := 245) hx hb d_FS_init_245 (by decide) ?_
  refine lv_bipush (v := 22) (pc := 246) hx hb d_FS_init_246 (by decide) ?_
  refine lv_bipush (v := 24) (pc := 248) hx hb d_FS_init_248 (by decide) ?_
  refine lv_bipush (v := 51) (pc := 250) hx hb d_FS_init_250 (by decide) ?_
  refine lv_bipush (v := 44) (pc := 252) hx hb d_FS_init_252 (by decide) ?_
  refine lv_bipush (v := 21) (pc := 254) hx hb d_FS_init_254 (by decide) ?_
  refine fz_cN (pc := 256) (As := [.int 90, .int 2, .int 22, .int 24, .int 51, .int 44, .int 21]) (rest := [.int 2, .ref ss, .ref ss, .int 48, .ref mm, .ref qq, .ref qq, .int 2, .ref qa, .ref qa, .ref h0]) ⟨hx, hb, hml, hown, hts⟩ (c_FS_row l dC dI cI cZ cC cS H.size 90 2 22 24 51 44 21) (cs_FS_3 hts ⟨(Nat.le_trans (by decide) hR1), (Nat.le_trans (by decide) hR2)⟩) (Nat.le_trans (by decide) hR2) (fz_pre1 hK (hP.sub [] rfl)) rfl hl rfl (Nat.le_of_ble_eq_true rfl) d_FS_init_256 ⟨by omega, by omega⟩ hP hD hS hA (fun r2 H locs hP hD hS => ?_)
  have hP : va_P (dC, dI) classes [(qa, ARq cC 7 f), (qq, .inr (1, [.null, .int 0, .null])), (mm, ARi cI 3 (upd (upd (upd (fun _ => 0) 0 10) 1 14) 2 14)), (ss, ARq cS 3 (va_up (va_up (fun _ => none) 0 (some r0)) 1 (some r1))), (r0, ARi cI 9 (rwf 90 90 90 34 51 44 90)), (r1, ARi cI 9 (rwf 90 90 22 24 51 44 90)), (r2, ARi cI 9 (rwf 90 2 22 24 51 44 21))] H := hP
  have hD : va_D (fun q => q = qa ∨ Hs.size ≤ q) [(qa, ARq cC 7 f), (qq, .inr (1, [.null, .int 0, .null])), (mm, ARi cI 3 (upd (upd (upd (fun _ => 0) 0 10) 1 14) 2 14)), (ss, ARq cS 3 (va_up (va_up (fun _ => none) 0 (some r0)) 1 (some r1))), (r0, ARi cI 9 (rwf 90 90 90 34 51 44 90)), (r1, ARi cI 9 (rwf 90 90 22 24 51 44 90)), (r2, ARi cI 9 (rwf 90 2 22 24 51 44 21))] := hD
  refine fz_stS (pc := 259) (q0 := 3) (qk := 6) (ws' := [(qa, ARq cC 7 f), (qq, .inr (1, [.null, .int 0, .null])), (mm, ARi cI 3 (upd (upd (upd (fun _ => 0) 0 10) 1 14) 2 14)), (ss, ARq cS 3 (va_up (va_up (va_up (fun _ => none) 0 (some r0)) 1 (some r1)) 2 (some r2))), (r0, ARi cI 9 (rwf 90 90 90 34 51 44 90)), (r1, ARi cI 9 (rwf 90 90 22 24 51 44 90)), (r2, ARi cI 9 (rwf 90 2 22 24 51 44 21))]) hx hb hK hP hD hS rfl rfl (by unfold vp_in; decide) rfl d_FS_init_259 (fun H locs hP hD hS => ?_)
  refine fz_cI (pc := 260) (As := [.ref mm, .int 48, .ref ss]) (rest := [.ref qq, .int 2, .ref qa, .ref qa, .ref h0]) (q0 := 1) (ws' := [(qa, ARq cC 7 f), (qq, ACo mm 48 ss), (mm, ARi cI 3 (upd (upd (upd (fun _ => 0) 0 10) 1 14) 2 14)), (ss, ARq cS 3 (va_up (va_up (va_up (fun _ => none) 0 (some r0)) 1 (some r1)) 2 (some r2))), (r0, ARi cI 9 (rwf 90 90 90 34 51 44 90)), (r1, ARi cI 9 (rwf 90 90 22 24 51 44 90)), (r2, ARi cI 9 (rwf 90 2 22 24 51 44 21))]) ⟨hx, hb, hml, hown, hts⟩ (c_AC_init l dC dI cI cZ cC cS qq mm ss 48) (cs_FS_17 hts ⟨(Nat.le_trans (by decide) hR1), (Nat.le_trans (by decide) hR2)⟩) (fz_pre0 hK (hP.sub [1] rfl)) rfl hl rfl (Nat.le_of_ble_eq_true rfl) d_FS_init_260 ⟨by omega, by omega⟩ hP hD hS rfl rfl (fun H locs hP hD hS => ?_)
  refine fz_stC (pc := 263) (q0 := 0) (qk := 1) (ws' := [(qa, ARq cC 7 (va_up f 2 (some qq))), (qq, ACo mm 48 ss), (mm, ARi cI 3 (upd (upd (upd (fun _ => 0) 0 10) 1 14) 2 14)), (ss, ARq cS 3 (va_up (va_up (va_up (fun _ => none) 0 (some r0)) 1 (some r1)) 2 (some r2))), (r0, ARi cI 9 (rwf 90 90 90 34 51 44 90)), (r1, ARi cI 9 (rwf 90 90 22 24 51 44 90)), (r2, ARi cI 9 (rwf 90 2 22 24 51 44 21))]) hx hb hK hP hD hS rfl rfl (by unfold vp_in; decide) rfl d_FS_init_263 (fun H locs hP hD hS => ?_)
  exact kk H locs qq mm ss r0 r1 r2 hP hD hS
set_option maxHeartbeats 4000000 in
set_option maxRecDepth 100000 in
theorem blk_3 {p : Program} {l : Launch} {e : Env} {R : Room} {s : State} {m : MethodId} {args : Array Value} {below : List Frame} {meth : Method} {c : Code} {Hs : Heap} {cells slots : Nat} {Q : State → Prop} {ls : Array Slot} {dC : Nat → ClassId} {dI : Nat → Nat → Nat} {cI cZ cC cS : ClassId} {qa h0 : Nat} {f : Nat → Option Nat} (hx : p.tables.exec = Jvm.exec) (hb : c.code = b_FS_init) (hml : c.maxLocals = 2) (hown : s.vm.findClass "FileStatus" = some m.cls) (hts : ∀ w ∈ tw, w.before args s = true) (hK : kK dC dI cI cZ cC cS s) (hl : ls.size = 2) (hR1 : 2 ≤ R.frames) (hR2 : 53 ≤ R.locals) (hc : cells + 6 ≤ R.cells) (hs : slots + 36 ≤ R.slots) (hP : va_P (dC, dI) classes [(qa, ARq cC 7 f)] Hs) (kk : ∀ (H1 : Heap) (locs1 : List Loc) (qq mm ss r0 r1 r2 : Nat), va_P (dC, dI) classes ((qa, ARq cC 7 (va_up f 3 (some qq))) :: tbk cI cS qq mm ss r0 r1 r2 49 (md3 4 4 4) (rwf 90 90 90 90 51 44 90) (rwf 23 90 90 90 51 44 90) (rwf 23 2 22 90 51 44 21)) H1 → va_D (fun q => q = qa ∨ Hs.size ≤ q) ((qa, ARq cC 7 (va_up f 3 (some qq))) :: tbk cI cS qq mm ss r0 r1 r2 49 (md3 4 4 4) (rwf 90 90 90 90 51 44 90) (rwf 23 90 90 90 51 44 90) (rwf 23 2 22 90 51 44 21)) → va_S (fun q => q = qa ∨ Hs.size ≤ q) Hs H1 locs1 → W p l e R s m args below meth c H1 locs1 (cells + 6) (slots + 36) Q (F0 m 354 ls [.ref qa, .ref h0])) : W p l e R s m args below meth c Hs [] cells slots Q (F0 m 264 ls [.ref qa, .ref h0]) := by
  have hA : ∀ q : Nat, Hs.size ≤ q → (fun q => q = qa ∨ Hs.size ≤ q) q := fun _ h => Or.inr h
  have hD : va_D (fun q => q = qa ∨ Hs.size ≤ q) [(qa, ARq cC 7 f)] := fz_D1.weaken (fun _ _ _ h => Or.inl h)
  have hS : va_S (fun q => q = qa ∨ Hs.size ≤ q) Hs Hs [] := va_S.rf
  refine lv_dup (pc := 264) hx hb d_FS_init_264 rfl ?_
  refine lv_iconst (v := 3) (pc := 265) hx hb d_FS_init_265 (by decide) ?_
  refine va_new (pc := 266) (ci := 1) (fs := [.null, .int 0, .null]) (C := "FileStatus$Act") (T := F_AC) (N := 3) hx hb hts i_AC t_AC t_AC_ok hown (hts _ k_12) (hts _ k_14) (hts _ k_2) hK.1 hP hD hS hA rfl (fun j hj => by rcases (show j = 0 ∨ j = 1 ∨ j = 2 by omega) with rfl | rfl | rfl <;> rfl) (by omega) (by omega) d_FS_init_266 (fun qq H hP hD hS => ?_)
  have hP : va_P (dC, dI) classes [(qa, ARq cC 7 f), (qq, .inr (1, [.null, .int 0, .null]))] H := hP
  have hD : va_D (fun q => q = qa ∨ Hs.size ≤ q) [(qa, ARq cC 7 f), (qq, .inr (1, [.null, .int 0, .null]))] := hD
  refine lv_dup (pc := 269) hx hb d_FS_init_269 rfl ?_
  refine lv_iconst (v := 3) (pc := 270) hx hb d_FS_init_270 (by decide) ?_
  refine fz_newI (pc := 271) (N' := 3) hx hb (hts _ k_35) hK hP hD hS hA (by decide) (by decide) (by decide) (by omega) (by omega) d_FS_init_271 (fun mm H hP hD hS => ?_)
  have hP : va_P (dC, dI) classes [(qa, ARq cC 7 f), (qq, .inr (1, [.null, .int 0, .null])), (mm, ARi cI 3 (fun _ => 0))] H := hP
  have hD : va_D (fun q => q = qa ∨ Hs.size ≤ q) [(qa, ARq cC 7 f), (qq, .inr (1, [.null, .int 0, .null])), (mm, ARi cI 3 (fun _ => 0))] := hD
  refine lv_dup (pc := 273) hx hb d_FS_init_273 rfl ?_
  refine lv_iconst (v := 0) (pc := 274) hx hb d_FS_init_274 (by decide) ?_
  refine lv_iconst (v := 4) (pc := 275) hx hb d_FS_init_275 (by decide) ?_
  refine fz_stI (pc := 276) (q0 := 2) (ws' := [(qa, ARq cC 7 f), (qq, .inr (1, [.null, .int 0, .null])), (mm, ARi cI 3 (upd (fun _ => 0) 0 4))]) hx hb hK hP hD hS rfl (by unfold vp_in; decide) rfl d_FS_init_276 (fun H locs hP hD hS => ?_)
  refine lv_dup (pc := 277) hx hb d_FS_init_277 rfl ?_
  refine lv_iconst (v := 1) (pc := 278) hx hb d_FS_init_278 (by decide) ?_
  refine lv_iconst (v := 4) (pc := 279) hx hb d_FS_init_279 (by decide) ?_
  refine fz_stI (pc := 280) (q0 := 2) (ws' := [(qa, ARq cC 7 f), (qq, .inr (1, [.null, .int 0, .null])), (mm, ARi cI 3 (upd (upd (fun _ => 0) 0 4) 1 4))]) hx hb hK hP hD hS rfl (by unfold vp_in; decide) rfl d_FS_init_280 (fun H locs hP hD hS => ?_)
  refine lv_dup (pc := 281) hx hb d_FS_init_281 rfl ?_
  refine lv_iconst (v := 2) (pc := 282) hx hb d_FS_init_282 (by decide) ?_
  refine lv_iconst (v := 4) (pc := 283) hx hb d_FS_init_283 (by decide) ?_
  refine fz_stI (pc := 284) (q0 := 2) (ws' := [(qa, ARq cC 7 f), (qq, .inr (1, [.null, .int 0, .null])), (mm, ARi cI 3 (upd (upd (upd (fun _ => 0) 0 4) 1 4) 2 4))]) hx hb hK hP hD hS rfl (by unfold vp_in; decide) rfl d_FS_init_284 (fun H locs hP hD hS => ?_)
  refine lv_bipush (v := 49) (pc := 285) hx hb d_FS_init_285 (by decide) ?_
  refine lv_iconst (v := 3) (pc := 287) hx hb d_FS_init_287 (by decide) ?_
  refine fz_newS (pc := 288) (N' := 3) hx hb hown (hts _ k_15) hK hP hD hS hA (by decide) (by decide) (by decide) (by omega) (by omega) d_FS_init_288 (fun ss H hP hD hS => ?_)
  have hP : va_P (dC, dI) classes [(qa, ARq cC 7 f), (qq, .inr (1, [.null, .int 0, .null])), (mm, ARi cI 3 (upd (upd (upd (fun _ => 0) 0 4) 1 4) 2 4)), (ss, ARq cS 3 (fun _ => none))] H := hP
  have hD : va_D (fun q => q = qa ∨ Hs.size ≤ q) [(qa, ARq cC 7 f), (qq, .inr (1, [.null, .int 0, .null])), (mm, ARi cI 3 (upd (upd (upd (fun _ => 0) 0 4) 1 4) 2 4)), (ss, ARq cS 3 (fun _ => none))] := hD
  refine lv_dup (pc := 291) hx hb d_FS_init_291 rfl ?_
  refine lv_iconst (v := 0) (pc := 292) hx hb d_FS_init_292 (by decide) ?_
  refine lv_bipush (v := 90) (pc := 293) hx hb d_FS_init_293 (by decide) ?_
  refine lv_bipush (v := 90) (pc := 295) hx hb d_FS_init_295 (by decide) ?_
  refine lv_bipush (v := 90) (pc := 297) hx hb d_FS_init_297 (by decide) ?_
  refine lv_bipush (v := 90) (pc := 299) hx hb d_FS_init_299 (by decide) ?_
  refine lv_bipush (v := 51) (pc := 301) hx hb d_FS_init_301 (by decide) ?_
  refine lv_bipush (v := 44) (pc := 303) hx hb d_FS_init_303 (by decide) ?_
  refine lv_bipush (v := 90) (pc := 305) hx hb d_FS_init_305 (by decide) ?_
  refine fz_cN (pc := 307) (As := [.int 90, .int 90, .int 90, .int 90, .int 51, .int 44, .int 90]) (rest := [.int 0, .ref ss, .ref ss, .int 49, .ref mm, .ref qq, .ref qq, .int 3, .ref qa, .ref qa, .ref h0]) ⟨hx, hb, hml, hown, hts⟩ (c_FS_row l dC dI cI cZ cC cS H.size 90 90 90 90 51 44 90) (cs_FS_3 hts ⟨(Nat.le_trans (by decide) hR1), (Nat.le_trans (by decide) hR2)⟩) (Nat.le_trans (by decide) hR2) (fz_pre1 hK (hP.sub [] rfl)) rfl hl rfl (Nat.le_of_ble_eq_true rfl) d_FS_init_307 ⟨by omega, by omega⟩ hP hD hS hA (fun r0 H locs hP hD hS => ?_)
  have hP : va_P (dC, dI) classes [(qa, ARq cC 7 f), (qq, .inr (1, [.null, .int 0, .null])), (mm, ARi cI 3 (upd (upd (upd (fun _ => 0) 0 4) 1 4) 2 4)), (ss, ARq cS 3 (fun _ => none)), (r0, ARi cI 9 (rwf 90 90 90 90 51 44 90))] H := hP
  have hD : va_D (fun q => q = qa ∨ Hs.size ≤ q) [(qa, ARq cC 7 f), (qq, .inr (1, [.null, .int 0, .null])), (mm, ARi cI 3 (upd (upd (upd (fun _ => 0) 0 4) 1 4) 2 4)), (ss, ARq cS 3 (fun _ => none)), (r0, ARi cI 9 (rwf 90 90 90 90 51 44 90))] := hD
  refine fz_stS (pc := 310) (q0 := 3) (qk := 4) (ws' := [(qa, ARq cC 7 f), (qq, .inr (1, [.null, .int 0, .null])), (mm, ARi cI 3 (upd (upd (upd (fun _ => 0) 0 4) 1 4) 2 4)), (ss, ARq cS 3 (va_up (fun _ => none) 0 (some r0))), (r0, ARi cI 9 (rwf 90 90 90 90 51 44 90))]) hx hb hK hP hD hS rfl rfl (by unfold vp_in; decide) rfl d_FS_init_310 (fun H locs hP hD hS => ?_)
  refine lv_dup (pc := 311) hx hb d_FS_init_311 rfl ?_
  refine lv_iconst (v := 1) (pc := 312) hx hb d_FS_init_312 (by decide) ?_
  refine lv_bipush (v := 23) (pc := 313) hx hb d_FS_init_313 (by decide) ?_
  refine lv_bipush (v := 90) (pc := 315) hx hb d_FS_init_315 (by decide) ?_
  refine lv_bipush (v := 90) (pc := 317) hx hb d_FS_init_317 (by decide) ?_
  refine lv_bipush (v := 90) (pc := 319) hx hb d_FS_init_319 (by decide) ?_
  refine lv_bipush (v := 51) (pc := 321) hx hb d_FS_init_321 (by decide) ?_
  refine lv_bipush (v := 44) (pc := 323) hx hb d_FS_init_323 (by decide) ?_
  refine lv_bipush (v := 90) (pc := 325) hx hb d_FS_init_325 (by decide) ?_
  refine fz_cN (pc := 327) (As := [.int 23, .int 90, .int 90, .int 90, .int 51, .int 44, .int 90]) (rest := [.int 1, .ref ss, .ref ss, .int 49, .ref mm, .ref qq, .ref qq, .int 3, .ref qa, .ref qa, .ref h0]) ⟨hx, hb, hml, hown, hts⟩ (c_FS_row l dC dI cI cZ cC cS H.size 23 90 90 90 51 44 90) (cs_FS_3 hts ⟨(Nat.le_trans (by decide) hR1), (Nat.le_trans (by decide) hR2)⟩) (Nat.le_trans (by decide) hR2) (fz_pre1 hK (hP.sub [] rfl)) rfl hl rfl (Nat.le_of_ble_eq_true rfl) d_FS_init_327 ⟨by omega, by omega⟩ hP hD hS hA (fun r1 H locs hP hD hS => ?_)
  have hP : va_P (dC, dI) classes [(qa, ARq cC 7 f), (qq, .inr (1, [.null, .int 0, .null])), (mm, ARi cI 3 (upd (upd (upd (fun _ => 0) 0 4) 1 4) 2 4)), (ss, ARq cS 3 (va_up (fun _ => none) 0 (some r0))), (r0, ARi cI 9 (rwf 90 90 90 90 51 44 90)), (r1, ARi cI 9 (rwf 23 90 90 90 51 44 90))] H := hP
  have hD : va_D (fun q => q = qa ∨ Hs.size ≤ q) [(qa, ARq cC 7 f), (qq, .inr (1, [.null, .int 0, .null])), (mm, ARi cI 3 (upd (upd (upd (fun _ => 0) 0 4) 1 4) 2 4)), (ss, ARq cS 3 (va_up (fun _ => none) 0 (some r0))), (r0, ARi cI 9 (rwf 90 90 90 90 51 44 90)), (r1, ARi cI 9 (rwf 23 90 90 90 51 44 90))] := hD
  refine fz_stS (pc := 330) (q0 := 3) (qk := 5) (ws' := [(qa, ARq cC 7 f), (qq, .inr (1, [.null, .int 0, .null])), (mm, ARi cI 3 (upd (upd (upd (fun _ => 0) 0 4) 1 4) 2 4)), (ss, ARq cS 3 (va_up (va_up (fun _ => none) 0 (some r0)) 1 (some r1))), (r0, ARi cI 9 (rwf 90 90 90 90 51 44 90)), (r1, ARi cI 9 (rwf 23 90 90 90 51 44 90))]) hx hb hK hP hD hS rfl rfl (by unfold vp_in; decide) rfl d_FS_init_330 (fun H locs hP hD hS => ?_)
  refine lv_dup (pc := 331) hx hb d_FS_init_331 rfl ?_
  refine lv_iconst (v := 2) (pc := 332) hx hb d_FS_init_332 (by decide) ?_
  refine lv_bipush (v := 23) (pc := 333) hx hb d_FS_init_333 (by decide) ?_
  refine lv_iconst (v := 2) (pc := 335) hx hb d_FS_init_335 (by decide) ?_
  refine lv_bipush (v := 22) (pc := 336) hx hb d_FS_init_336 (by decide) ?_
  refine lv_bipush (v := 90) (pc := 338) hx hb d_FS_init_338 (by decide) ?_
  refine lv_bipush (v := 51) (pc := 340) hx hb d_FS_init_340 (by decide) ?_
  refine lv_bipush (v := 44) (pc := 342) hx hb d_FS_init_342 (by decide) ?_
  refine lv_bipush (v := 21) (pc := 344) hx hb d_FS_init_344 (by decide) ?_
  refine fz_cN (pc := 346) (As := [.int 23, .int 2, .int 22, .int 90, .int 51, .int 44, .int 21]) (rest := [.int 2, .ref ss, .ref ss, .int 49, .ref mm, .ref qq, .ref qq, .int 3, .ref qa, .ref qa, .ref h0]) ⟨hx, hb, hml, hown, hts⟩ (c_FS_row l dC dI cI cZ cC cS H.size 23 2 22 90 51 44 21) (cs_FS_3 hts ⟨(Nat.le_trans (by decide) hR1), (Nat.le_trans (by decide) hR2)⟩) (Nat.le_trans (by decide) hR2) (fz_pre1 hK (hP.sub [] rfl)) rfl hl rfl (Nat.le_of_ble_eq_true rfl) d_FS_init_346 ⟨by omega, by omega⟩ hP hD hS hA (fun r2 H locs hP hD hS => ?_)
  have hP : va_P (dC, dI) classes [(qa, ARq cC 7 f), (qq, .inr (1, [.null, .int 0, .null])), (mm, ARi cI 3 (upd (upd (upd (fun _ => 0) 0 4) 1 4) 2 4)), (ss, ARq cS 3 (va_up (va_up (fun _ => none) 0 (some r0)) 1 (some r1))), (r0, ARi cI 9 (rwf 90 90 90 90 51 44 90)), (r1, ARi cI 9 (rwf 23 90 90 90 51 44 90)), (r2, ARi cI 9 (rwf 23 2 22 90 51 44 21))] H := hP
  have hD : va_D (fun q => q = qa ∨ Hs.size ≤ q) [(qa, ARq cC 7 f), (qq, .inr (1, [.null, .int 0, .null])), (mm, ARi cI 3 (upd (upd (upd (fun _ => 0) 0 4) 1 4) 2 4)), (ss, ARq cS 3 (va_up (va_up (fun _ => none) 0 (some r0)) 1 (some r1))), (r0, ARi cI 9 (rwf 90 90 90 90 51 44 90)), (r1, ARi cI 9 (rwf 23 90 90 90 51 44 90)), (r2, ARi cI 9 (rwf 23 2 22 90 51 44 21))] := hD
  refine fz_stS (pc := 349) (q0 := 3) (qk := 6) (ws' := [(qa, ARq cC 7 f), (qq, .inr (1, [.null, .int 0, .null])), (mm, ARi cI 3 (upd (upd (upd (fun _ => 0) 0 4) 1 4) 2 4)), (ss, ARq cS 3 (va_up (va_up (va_up (fun _ => none) 0 (some r0)) 1 (some r1)) 2 (some r2))), (r0, ARi cI 9 (rwf 90 90 90 90 51 44 90)), (r1, ARi cI 9 (rwf 23 90 90 90 51 44 90)), (r2, ARi cI 9 (rwf 23 2 22 90 51 44 21))]) hx hb hK hP hD hS rfl rfl (by unfold vp_in; decide) rfl d_FS_init_349 (fun H locs hP hD hS => ?_)
  refine fz_cI (pc := 350) (As := [.ref mm, .int 49, .ref ss]) (rest := [.ref qq, .int 3, .ref qa, .ref qa, .ref h0]) (q0 := 1) (ws' := [(qa, ARq cC 7 f), (qq, ACo mm 49 ss), (mm, ARi cI 3 (upd (upd (upd (fun _ => 0) 0 4) 1 4) 2 4)), (ss, ARq cS 3 (va_up (va_up (va_up (fun _ => none) 0 (some r0)) 1 (some r1)) 2 (some r2))), (r0, ARi cI 9 (rwf 90 90 90 90 51 44 90)), (r1, ARi cI 9 (rwf 23 90 90 90 51 44 90)), (r2, ARi cI 9 (rwf 23 2 22 90 51 44 21))]) ⟨hx, hb, hml, hown, hts⟩ (c_AC_init l dC dI cI cZ cC cS qq mm ss 49) (cs_FS_17 hts ⟨(Nat.le_trans (by decide) hR1), (Nat.le_trans (by decide) hR2)⟩) (fz_pre0 hK (hP.sub [1] rfl)) rfl hl rfl (Nat.le_of_ble_eq_true rfl) d_FS_init_350 ⟨by omega, by omega⟩ hP hD hS rfl rfl (fun H locs hP hD hS => ?_)
  refine fz_stC (pc := 353) (q0 := 0) (qk := 1) (ws' := [(qa, ARq cC 7 (va_up f 3 (some qq))), (qq, ACo mm 49 ss), (mm, ARi cI 3 (upd (upd (upd (fun _ => 0) 0 4) 1 4) 2 4)), (ss, ARq cS 3 (va_up (va_up (va_up (fun _ => none) 0 (some r0)) 1 (some r1)) 2 (some r2))), (r0, ARi cI 9 (rwf 90 90 90 90 51 44 90)), (r1, ARi cI 9 (rwf 23 90 90 90 51 44 90)), (r2, ARi cI 9 (rwf 23 2 22 90 51 44 21))]) hx hb hK hP hD hS rfl rfl (by unfold vp_in; decide) rfl d_FS_init_353 (fun H locs hP hD hS => ?_)
  exact kk H locs qq mm ss r0 r1 r2 hP hD hS
set_option maxHeartbeats 4000000 in
set_option maxRecDepth 100000 in
theorem blk_4 {p : Program} {l : Launch} {e : Env} {R : Room} {s : State} {m : MethodId} {args : Array Value} {below : List Frame} {meth : Method} {c : Code} {Hs : Heap} {cells slots : Nat} {Q : State → Prop} {ls : Array Slot} {dC : Nat → ClassId} {dI : Nat → Nat → Nat} {cI cZ cC cS : ClassId} {qa h0 : Nat} {f : Nat → Option Nat} (hx : p.tables.exec = Jvm.exec) (hb : c.code = b_FS_init) (hml : c.maxLocals = 2) (hown : s.vm.findClass "FileStatus" = some m.cls) (hts : ∀ w ∈ tw, w.before args s = true) (hK : kK dC dI cI cZ cC cS s) (hl : ls.size = 2) (hR1 : 2 ≤ R.frames) (hR2 : 53 ≤ R.locals) (hc : cells + 6 ≤ R.cells) (hs : slots + 36 ≤ R.slots) (hP : va_P (dC, dI) classes [(qa, ARq cC 7 f)] Hs) (kk : ∀ (H1 : Heap) (locs1 : List Loc) (qq mm ss r0 r1 r2 : Nat), va_P (dC, dI) classes ((qa, ARq cC 7 (va_up f 4 (some qq))) :: tbk cI cS qq mm ss r0 r1 r2 49 (md3 0 4 4) (rwf 90 90 90 90 90 90 90) (rwf 23 90 90 90 51 90 90) (rwf 23 90 90 90 51 90 90)) H1 → va_D (fun q => q = qa ∨ Hs.size ≤ q) ((qa, ARq cC 7 (va_up f 4 (some qq))) :: tbk cI cS qq mm ss r0 r1 r2 49 (md3 0 4 4) (rwf 90 90 90 90 90 90 90) (rwf 23 90 90 90 51 90 90) (rwf 23 90 90 90 51 90 90)) → va_S (fun q => q = qa ∨ Hs.size ≤ q) Hs H1 locs1 → W p l e R s m args below meth c H1 locs1 (cells + 6) (slots + 36) Q (F0 m 431 ls [.ref qa, .ref h0])) : W p l e R s m args below meth c Hs [] cells slots Q (F0 m 354 ls [.ref qa, .ref h0]) := by
  have hA : ∀ q : Nat, Hs.size ≤ q → (fun q => q = qa ∨ Hs.size ≤ q) q := fun _ h => Or.inr h
  have hD : va_D (fun q => q = qa ∨ Hs.size ≤ q) [(qa, ARq cC 7 f)] := fz_D1.weaken (fun _ _ _ h => Or.inl h)
  have hS : va_S (fun q => q = qa ∨ Hs.size ≤ q) Hs Hs [] := va_S.rf
  refine lv_dup (pc := 354) hx hb d_FS_init_354 rfl ?_
  refine lv_iconst (v := 4) (pc := 355) hx hb d_FS_init_355 (by decide) ?_
  refine va_new (pc := 356) (ci := 1) (fs := [.null, .int 0, .null]) (C := "FileStatus$Act") (T := F_AC) (N := 3) hx hb hts i_AC t_AC t_AC_ok hown (hts _ k_12) (hts _ k_14) (hts _ k_2) hK.1 hP hD hS hA rfl (fun j hj => by rcases (show j = 0 ∨ j = 1 ∨ j = 2 by omega) with rfl | rfl | rfl <;> rfl) (by omega) (by omega) d_FS_init_356 (fun qq H hP hD hS => ?_)
  have hP : va_P (dC, dI) classes [(qa, ARq cC 7 f), (qq, .inr (1, [.null, .int 0, .null]))] H := hP
  have hD : va_D (fun q => q = qa ∨ Hs.size ≤ q) [(qa, ARq cC 7 f), (qq, .inr (1, [.null, .int 0, .null]))] := hD
  refine lv_dup (pc := 359) hx hb d_FS_init_359 rfl ?_
  refine lv_iconst (v := 3) (pc := 360) hx hb d_FS_init_360 (by decide) ?_
  refine fz_newI (pc := 361) (N' := 3) hx hb (hts _ k_35) hK hP hD hS hA (by decide) (by decide) (by decide) (by omega) (by omega) d_FS_init_361 (fun mm H hP hD hS => ?_)
  have hP : va_P (dC, dI) classes [(qa, ARq cC 7 f), (qq, .inr (1, [.null, .int 0, .null])), (mm, ARi cI 3 (fun _ => 0))] H := hP
  have hD : va_D (fun q => q = qa ∨ Hs.size ≤ q) [(qa, ARq cC 7 f), (qq, .inr (1, [.null, .int 0, .null])), (mm, ARi cI 3 (fun _ => 0))] := hD
  refine lv_dup (pc := 363) hx hb d_FS_init_363 rfl ?_
  refine lv_iconst (v := 0) (pc := 364) hx hb d_FS_init_364 (by decide) ?_
  refine lv_iconst (v := 0) (pc := 365) hx hb d_FS_init_365 (by decide) ?_
  refine fz_stI (pc := 366) (q0 := 2) (ws' := [(qa, ARq cC 7 f), (qq, .inr (1, [.null, .int 0, .null])), (mm, ARi cI 3 (upd (fun _ => 0) 0 0))]) hx hb hK hP hD hS rfl (by unfold vp_in; decide) rfl d_FS_init_366 (fun H locs hP hD hS => ?_)
  refine lv_dup (pc := 367) hx hb d_FS_init_367 rfl ?_
  refine lv_iconst (v := 1) (pc := 368) hx hb d_FS_init_368 (by decide) ?_
  refine lv_iconst (v := 4) (pc := 369) hx hb d_FS_init_369 (by decide) ?_
  refine fz_stI (pc := 370) (q0 := 2) (ws' := [(qa, ARq cC 7 f), (qq, .inr (1, [.null, .int 0, .null])), (mm, ARi cI 3 (upd (upd (fun _ => 0) 0 0) 1 4))]) hx hb hK hP hD hS rfl (by unfold vp_in; decide) rfl d_FS_init_370 (fun H locs hP hD hS => ?_)
  refine lv_dup (pc := 371) hx hb d_FS_init_371 rfl ?_
  refine lv_iconst (v := 2) (pc := 372) hx hb d_FS_init_372 (by decide) ?_
  refine lv_iconst (v := 4) (pc := 373) hx hb d_FS_init_373 (by decide) ?_
  refine fz_stI (pc := 374) (q0 := 2) (ws' := [(qa, ARq cC 7 f), (qq, .inr (1, [.null, .int 0, .null])), (mm, ARi cI 3 (upd (upd (upd (fun _ => 0) 0 0) 1 4) 2 4))]) hx hb hK hP hD hS rfl (by unfold vp_in; decide) rfl d_FS_init_374 (fun H locs hP hD hS => ?_)
  refine lv_bipush (v := 49) (pc := 375) hx hb d_FS_init_375 (by decide) ?_
  refine lv_iconst (v := 3) (pc := 377) hx hb d_FS_init_377 (by decide) ?_
  refine fz_newS (pc := 378) (N' := 3) hx hb hown (hts _ k_15) hK hP hD hS hA (by decide) (by decide) (by decide) (by omega) (by omega) d_FS_init_378 (fun ss H hP hD hS => ?_)
  have hP : va_P (dC, dI) classes [(qa, ARq cC 7 f), (qq, .inr (1, [.null, .int 0, .null])), (mm, ARi cI 3 (upd (upd (upd (fun _ => 0) 0 0) 1 4) 2 4)), (ss, ARq cS 3 (fun _ => none))] H := hP
  have hD : va_D (fun q => q = qa ∨ Hs.size ≤ q) [(qa, ARq cC 7 f), (qq, .inr (1, [.null, .int 0, .null])), (mm, ARi cI 3 (upd (upd (upd (fun _ => 0) 0 0) 1 4) 2 4)), (ss, ARq cS 3 (fun _ => none))] := hD
  refine lv_dup (pc := 381) hx hb d_FS_init_381 rfl ?_
  refine lv_iconst (v := 0) (pc := 382) hx hb d_FS_init_382 (by decide) ?_
  refine fz_cN (pc := 383) (As := []) (rest := [.int 0, .ref ss, .ref ss, .int 49, .ref mm, .ref qq, .ref qq, .int 4, .ref qa, .ref qa, .ref h0]) ⟨hx, hb, hml, hown, hts⟩ (c_FS_nothing l dC dI cI cZ cC cS H.size) (cs_FS_20 hts ⟨(Nat.le_trans (by decide) hR1), (Nat.le_trans (by decide) hR2)⟩) (Nat.le_trans (by decide) hR2) (fz_pre1 hK (hP.sub [] rfl)) rfl hl rfl (Nat.le_of_ble_eq_true rfl) d_FS_init_383 ⟨by omega, by omega⟩ hP hD hS hA (fun r0 H locs hP hD hS => ?_)
  have hP : va_P (dC, dI) classes [(qa, ARq cC 7 f), (qq, .inr (1, [.null, .int 0, .null])), (mm, ARi cI 3 (upd (upd (upd (fun _ => 0) 0 0) 1 4) 2 4)), (ss, ARq cS 3 (fun _ => none)), (r0, ARi cI 9 (rwf 90 90 90 90 90 90 90))] H := hP
  have hD : va_D (fun q => q = qa ∨ Hs.size ≤ q) [(qa, ARq cC 7 f), (qq, .inr (1, [.null, .int 0, .null])), (mm, ARi cI 3 (upd (upd (upd (fun _ => 0) 0 0) 1 4) 2 4)), (ss, ARq cS 3 (fun _ => none)), (r0, ARi cI 9 (rwf 90 90 90 90 90 90 90))] := hD
  refine fz_stS (pc := 386) (q0 := 3) (qk := 4) (ws' := [(qa, ARq cC 7 f), (qq, .inr (1, [.null, .int 0, .null])), (mm, ARi cI 3 (upd (upd (upd (fun _ => 0) 0 0) 1 4) 2 4)), (ss, ARq cS 3 (va_up (fun _ => none) 0 (some r0))), (r0, ARi cI 9 (rwf 90 90 90 90 90 90 90))]) hx hb hK hP hD hS rfl rfl (by unfold vp_in; decide) rfl d_FS_init_386 (fun H locs hP hD hS => ?_)
  refine lv_dup (pc := 387) hx hb d_FS_init_387 rfl ?_
  refine lv_iconst (v := 1) (pc := 388) hx hb d_FS_init_388 (by decide) ?_
  refine lv_bipush (v := 23) (pc := 389) hx hb d_FS_init_389 (by decide) ?_
  refine lv_bipush (v := 90) (pc := 391) hx hb d_FS_init_391 (by decide) ?_
  refine lv_bipush (v := 90) (pc := 393) hx hb d_FS_init_393 (by decide) ?_
  refine lv_bipush (v := 90) (pc := 395) hx hb d_FS_init_395 (by decide) ?_
  refine lv_bipush (v := 51) (pc := 397) hx hb d_FS_init_397 (by decide) ?_
  refine lv_bipush (v := 90) (pc := 399) hx hb d_FS_init_399 (by decide) ?_
  refine lv_bipush (v := 90) (pc := 401) hx hb d_FS_init_401 (by decide) ?_
  refine fz_cN (pc := 403) (As := [.int 23, .int 90, .int 90, .int 90, .int 51, .int 90, .int 90]) (rest := [.int 1, .ref ss, .ref ss, .int 49, .ref mm, .ref qq, .ref qq, .int 4, .ref qa, .ref qa, .ref h0]) ⟨hx, hb, hml, hown, hts⟩ (c_FS_row l dC dI cI cZ cC cS H.size 23 90 90 90 51 90 90) (cs_FS_3 hts ⟨(Nat.le_trans (by decide) hR1), (Nat.le_trans (by decide) hR2)⟩) (Nat.le_trans (by decide) hR2) (fz_pre1 hK (hP.sub [] rfl)) rfl hl rfl (Nat.le_of_ble_eq_true rfl) d_FS_init_403 ⟨by omega, by omega⟩ hP hD hS hA (fun r1 H locs hP hD hS => ?_)
  have hP : va_P (dC, dI) classes [(qa, ARq cC 7 f), (qq, .inr (1, [.null, .int 0, .null])), (mm, ARi cI 3 (upd (upd (upd (fun _ => 0) 0 0) 1 4) 2 4)), (ss, ARq cS 3 (va_up (fun _ => none) 0 (some r0))), (r0, ARi cI 9 (rwf 90 90 90 90 90 90 90)), (r1, ARi cI 9 (rwf 23 90 90 90 51 90 90))] H := hP
  have hD : va_D (fun q => q = qa ∨ Hs.size ≤ q) [(qa, ARq cC 7 f), (qq, .inr (1, [.null, .int 0, .null])), (mm, ARi cI 3 (upd (upd (upd (fun _ => 0) 0 0) 1 4) 2 4)), (ss, ARq cS 3 (va_up (fun _ => none) 0 (some r0))), (r0, ARi cI 9 (rwf 90 90 90 90 90 90 90)), (r1, ARi cI 9 (rwf 23 90 90 90 51 90 90))] := hD
  refine fz_stS (pc := 406) (q0 := 3) (qk := 5) (ws' := [(qa, ARq cC 7 f), (qq, .inr (1, [.null, .int 0, .null])), (mm, ARi cI 3 (upd (upd (upd (fun _ => 0) 0 0) 1 4) 2 4)), (ss, ARq cS 3 (va_up (va_up (fun _ => none) 0 (some r0)) 1 (some r1))), (r0, ARi cI 9 (rwf 90 90 90 90 90 90 90)), (r1, ARi cI 9 (rwf 23 90 90 90 51 90 90))]) hx hb hK hP hD hS rfl rfl (by unfold vp_in; decide) rfl d_FS_init_406 (fun H locs hP hD hS => ?_)
  refine lv_dup (pc := 407) hx hb d_FS_init_407 rfl ?_
  refine lv_iconst (v := 2) (pc := 408) hx hb d_FS_init_408 (by decide) ?_
  refine lv_bipush (v := 23) (pc := 409) hx hb d_FS_init_409 (by decide) ?_
  refine lv_bipush (v := 90) (pc := 411) hx hb d_FS_init_411 (by decide) ?_
  refine lv_bipush (v := 90) (pc := 413) hx hb d_FS_init_413 (by decide) ?_
  refine lv_bipush (v := 90) (pc := 415) hx hb d_FS_init_415 (by decide) ?_
  refine lv_bipush (v := 51) (pc := 417) hx hb d_FS_init_417 (by decide) ?_
  refine lv_bipush (v := 90) (pc := 419) hx hb d_FS_init_419 (by decide) ?_
  refine lv_bipush (v := 90) (pc := 421) hx hb d_FS_init_421 (by decide) ?_
  refine fz_cN (pc := 423) (As := [.int 23, .int 90, .int 90, .int 90, .int 51, .int 90, .int 90]) (rest := [.int 2, .ref ss, .ref ss, .int 49, .ref mm, .ref qq, .ref qq, .int 4, .ref qa, .ref qa, .ref h0]) ⟨hx, hb, hml, hown, hts⟩ (c_FS_row l dC dI cI cZ cC cS H.size 23 90 90 90 51 90 90) (cs_FS_3 hts ⟨(Nat.le_trans (by decide) hR1), (Nat.le_trans (by decide) hR2)⟩) (Nat.le_trans (by decide) hR2) (fz_pre1 hK (hP.sub [] rfl)) rfl hl rfl (Nat.le_of_ble_eq_true rfl) d_FS_init_423 ⟨by omega, by omega⟩ hP hD hS hA (fun r2 H locs hP hD hS => ?_)
  have hP : va_P (dC, dI) classes [(qa, ARq cC 7 f), (qq, .inr (1, [.null, .int 0, .null])), (mm, ARi cI 3 (upd (upd (upd (fun _ => 0) 0 0) 1 4) 2 4)), (ss, ARq cS 3 (va_up (va_up (fun _ => none) 0 (some r0)) 1 (some r1))), (r0, ARi cI 9 (rwf 90 90 90 90 90 90 90)), (r1, ARi cI 9 (rwf 23 90 90 90 51 90 90)), (r2, ARi cI 9 (rwf 23 90 90 90 51 90 90))] H := hP
  have hD : va_D (fun q => q = qa ∨ Hs.size ≤ q) [(qa, ARq cC 7 f), (qq, .inr (1, [.null, .int 0, .null])), (mm, ARi cI 3 (upd (upd (upd (fun _ => 0) 0 0) 1 4) 2 4)), (ss, ARq cS 3 (va_up (va_up (fun _ => none) 0 (some r0)) 1 (some r1))), (r0, ARi cI 9 (rwf 90 90 90 90 90 90 90)), (r1, ARi cI 9 (rwf 23 90 90 90 51 90 90)), (r2, ARi cI 9 (rwf 23 90 90 90 51 90 90))] := hD
  refine fz_stS (pc := 426) (q0 := 3) (qk := 6) (ws' := [(qa, ARq cC 7 f), (qq, .inr (1, [.null, .int 0, .null])), (mm, ARi cI 3 (upd (upd (upd (fun _ => 0) 0 0) 1 4) 2 4)), (ss, ARq cS 3 (va_up (va_up (va_up (fun _ => none) 0 (some r0)) 1 (some r1)) 2 (some r2))), (r0, ARi cI 9 (rwf 90 90 90 90 90 90 90)), (r1, ARi cI 9 (rwf 23 90 90 90 51 90 90)), (r2, ARi cI 9 (rwf 23 90 90 90 51 90 90))]) hx hb hK hP hD hS rfl rfl (by unfold vp_in; decide) rfl d_FS_init_426 (fun H locs hP hD hS => ?_)
  refine fz_cI (pc := 427) (As := [.ref mm, .int 49, .ref ss]) (rest := [.ref qq, .int 4, .ref qa, .ref qa, .ref h0]) (q0 := 1) (ws' := [(qa, ARq cC 7 f), (qq, ACo mm 49 ss), (mm, ARi cI 3 (upd (upd (upd (fun _ => 0) 0 0) 1 4) 2 4)), (ss, ARq cS 3 (va_up (va_up (va_up (fun _ => none) 0 (some r0)) 1 (some r1)) 2 (some r2))), (r0, ARi cI 9 (rwf 90 90 90 90 90 90 90)), (r1, ARi cI 9 (rwf 23 90 90 90 51 90 90)), (r2, ARi cI 9 (rwf 23 90 90 90 51 90 90))]) ⟨hx, hb, hml, hown, hts⟩ (c_AC_init l dC dI cI cZ cC cS qq mm ss 49) (cs_FS_17 hts ⟨(Nat.le_trans (by decide) hR1), (Nat.le_trans (by decide) hR2)⟩) (fz_pre0 hK (hP.sub [1] rfl)) rfl hl rfl (Nat.le_of_ble_eq_true rfl) d_FS_init_427 ⟨by omega, by omega⟩ hP hD hS rfl rfl (fun H locs hP hD hS => ?_)
  refine fz_stC (pc := 430) (q0 := 0) (qk := 1) (ws' := [(qa, ARq cC 7 (va_up f 4 (some qq))), (qq, ACo mm 49 ss), (mm, ARi cI 3 (upd (upd (upd (fun _ => 0) 0 0) 1 4) 2 4)), (ss, ARq cS 3 (va_up (va_up (va_up (fun _ => none) 0 (some r0)) 1 (some r1)) 2 (some r2))), (r0, ARi cI 9 (rwf 90 90 90 90 90 90 90)), (r1, ARi cI 9 (rwf 23 90 90 90 51 90 90)), (r2, ARi cI 9 (rwf 23 90 90 90 51 90 90))]) hx hb hK hP hD hS rfl rfl (by unfold vp_in; decide) rfl d_FS_init_430 (fun H locs hP hD hS => ?_)
  exact kk H locs qq mm ss r0 r1 r2 hP hD hS
set_option maxHeartbeats 4000000 in
set_option maxRecDepth 100000 in
theorem blk_5 {p : Program} {l : Launch} {e : Env} {R : Room} {s : State} {m : MethodId} {args : Array Value} {below : List Frame} {meth : Method} {c : Code} {Hs : Heap} {cells slots : Nat} {Q : State → Prop} {ls : Array Slot} {dC : Nat → ClassId} {dI : Nat → Nat → Nat} {cI cZ cC cS : ClassId} {qa h0 : Nat} {f : Nat → Option Nat} (hx : p.tables.exec = Jvm.exec) (hb : c.code = b_FS_init) (hml : c.maxLocals = 2) (hown : s.vm.findClass "FileStatus" = some m.cls) (hts : ∀ w ∈ tw, w.before args s = true) (hK : kK dC dI cI cZ cC cS s) (hl : ls.size = 2) (hR1 : 2 ≤ R.frames) (hR2 : 53 ≤ R.locals) (hc : cells + 6 ≤ R.cells) (hs : slots + 36 ≤ R.slots) (hP : va_P (dC, dI) classes [(qa, ARq cC 7 f)] Hs) (kk : ∀ (H1 : Heap) (locs1 : List Loc) (qq mm ss r0 r1 r2 : Nat), va_P (dC, dI) classes ((qa, ARq cC 7 (va_up f 5 (some qq))) :: tbk cI cS qq mm ss r0 r1 r2 47 (md3 0 5 5) (rwf 90 90 90 90 90 90 90) (rwf 23 90 90 90 51 90 90) (rwf 23 90 90 90 51 90 90)) H1 → va_D (fun q => q = qa ∨ Hs.size ≤ q) ((qa, ARq cC 7 (va_up f 5 (some qq))) :: tbk cI cS qq mm ss r0 r1 r2 47 (md3 0 5 5) (rwf 90 90 90 90 90 90 90) (rwf 23 90 90 90 51 90 90) (rwf 23 90 90 90 51 90 90)) → va_S (fun q => q = qa ∨ Hs.size ≤ q) Hs H1 locs1 → W p l e R s m args below meth c H1 locs1 (cells + 6) (slots + 36) Q (F0 m 508 ls [.ref qa, .ref h0])) : W p l e R s m args below meth c Hs [] cells slots Q (F0 m 431 ls [.ref qa, .ref h0]) := by
  have hA : ∀ q : Nat, Hs.size ≤ q → (fun q => q = qa ∨ Hs.size ≤ q) q := fun _ h => Or.inr h
  have hD : va_D (fun q => q = qa ∨ Hs.size ≤ q) [(qa, ARq cC 7 f)] := fz_D1.weaken (fun _ _ _ h => Or.inl h)
  have hS : va_S (fun q => q = qa ∨ Hs.size ≤ q) Hs Hs [] := va_S.rf
  refine lv_dup (pc := 431) hx hb d_FS_init_431 rfl ?_
  refine lv_iconst (v := 5) (pc := 432) hx hb d_FS_init_432 (by decide) ?_
  refine va_new (pc := 433) (ci := 1) (fs := [.null, .int 0, .null]) (C := "FileStatus$Act") (T := F_AC) (N := 3) hx hb hts i_AC t_AC t_AC_ok hown (hts _ k_12) (hts _ k_14) (hts _ k_2) hK.1 hP hD hS hA rfl (fun j hj => by rcases (show j = 0 ∨ j = 1 ∨ j = 2 by omega) with rfl | rfl | rfl <;> rfl) (by omega) (by omega) d_FS_init_433 (fun qq H hP hD hS => ?_)
  have hP : va_P (dC, dI) classes [(qa, ARq cC 7 f), (qq, .inr (1, [.null, .int 0, .null]))] H := hP
  have hD : va_D (fun q => q = qa ∨ Hs.size ≤ q) [(qa, ARq cC 7 f), (qq, .inr (1, [.null, .int 0, .null]))] := hD
  refine lv_dup (pc := 436) hx hb d_FS_init_436 rfl ?_
  refine lv_iconst (v := 3) (pc := 437) hx hb d_FS_init_437 (by decide) ?_
  refine fz_newI (pc := 438) (N' := 3) hx hb (hts _ k_35) hK hP hD hS hA (by decide) (by decide) (by decide) (by omega) (by omega) d_FS_init_438 (fun mm H hP hD hS => ?_)
  have hP : va_P (dC, dI) classes [(qa, ARq cC 7 f), (qq, .inr (1, [.null, .int 0, .null])), (mm, ARi cI 3 (fun _ => 0))] H := hP
  have hD : va_D (fun q => q = qa ∨ Hs.size ≤ q) [(qa, ARq cC 7 f), (qq, .inr (1, [.null, .int 0, .null])), (mm, ARi cI 3 (fun _ => 0))] := hD
  refine lv_dup (pc := 440) hx hb d_FS_init_440 rfl ?_
  refine lv_iconst (v := 0) (pc := 441) hx hb d_FS_init_441 (by decide) ?_
  refine lv_iconst (v := 0) (pc := 442) hx hb d_FS_init_442 (by decide) ?_
  refine fz_stI (pc := 443) (q0 := 2) (ws' := [(qa, ARq cC 7 f), (qq, .inr (1, [.null, .int 0, .null])), (mm, ARi cI 3 (upd (fun _ => 0) 0 0))]) hx hb hK hP hD hS rfl (by unfold vp_in; decide) rfl d_FS_init_443 (fun H locs hP hD hS => ?_)
  refine lv_dup (pc := 444) hx hb d_FS_init_444 rfl ?_
  refine lv_iconst (v := 1) (pc := 445) hx hb d_FS_init_445 (by decide) ?_
  refine lv_iconst (v := 5) (pc := 446) hx hb d_FS_init_446 (by decide) ?_
  refine fz_stI (pc := 447) (q0 := 2) (ws' := [(qa, ARq cC 7 f), (qq, .inr (1, [.null, .int 0, .null])), (mm, ARi cI 3 (upd (upd (fun _ => 0) 0 0) 1 5))]) hx hb hK hP hD hS rfl (by unfold vp_in; decide) rfl d_FS_init_447 (fun H locs hP hD hS => ?_)
  refine lv_dup (pc := 448) hx hb d_FS_init_448 rfl ?_
  refine lv_iconst (v := 2) (pc := 449) hx hb d_FS_init_449 (by decide) ?_
  refine lv_iconst (v := 5) (pc := 450) hx hb d_FS_init_450 (by decide) ?_
  refine fz_stI (pc := 451) (q0 := 2) (ws' := [(qa, ARq cC 7 f), (qq, .inr (1, [.null, .int 0, .null])), (mm, ARi cI 3 (upd (upd (upd (fun _ => 0) 0 0) 1 5) 2 5))]) hx hb hK hP hD hS rfl (by unfold vp_in; decide) rfl d_FS_init_451 (fun H locs hP hD hS => ?_)
  refine lv_bipush (v := 47) (pc := 452) hx hb d_FS_init_452 (by decide) ?_
  refine lv_iconst (v := 3) (pc := 454) hx hb d_FS_init_454 (by decide) ?_
  refine fz_newS (pc := 455) (N' := 3) hx hb hown (hts _ k_15) hK hP hD hS hA (by decide) (by decide) (by decide) (by omega) (by omega) d_FS_init_455 (fun ss H hP hD hS => ?_)
  have hP : va_P (dC, dI) classes [(qa, ARq cC 7 f), (qq, .inr (1, [.null, .int 0, .null])), (mm, ARi cI 3 (upd (upd (upd (fun _ => 0) 0 0) 1 5) 2 5)), (ss, ARq cS 3 (fun _ => none))] H := hP
  have hD : va_D (fun q => q = qa ∨ Hs.size ≤ q) [(qa, ARq cC 7 f), (qq, .inr (1, [.null, .int 0, .null])), (mm, ARi cI 3 (upd (upd (upd (fun _ => 0) 0 0) 1 5) 2 5)), (ss, ARq cS 3 (fun _ => none))] := hD
  refine lv_dup (pc := 458) hx hb d_FS_init_458 rfl ?_
  refine lv_iconst (v := 0) (pc := 459) hx hb d_FS_init_459 (by decide) ?_
  refine fz_cN (pc := 460) (As := []) (rest := [.int 0, .ref ss, .ref ss, .int 47, .ref mm, .ref qq, .ref qq, .int 5, .ref qa, .ref qa, .ref h0]) ⟨hx, hb, hml, hown, hts⟩ (c_FS_nothing l dC dI cI cZ cC cS H.size) (cs_FS_20 hts ⟨(Nat.le_trans (by decide) hR1), (Nat.le_trans (by decide) hR2)⟩) (Nat.le_trans (by decide) hR2) (fz_pre1 hK (hP.sub [] rfl)) rfl hl rfl (Nat.le_of_ble_eq_true rfl) d_FS_init_460 ⟨by omega, by omega⟩ hP hD hS hA (fun r0 H locs hP hD hS => ?_)
  have hP : va_P (dC, dI) classes [(qa, ARq cC 7 f), (qq, .inr (1, [.null, .int 0, .null])), (mm, ARi cI 3 (upd (upd (upd (fun _ => 0) 0 0) 1 5) 2 5)), (ss, ARq cS 3 (fun _ => none)), (r0, ARi cI 9 (rwf 90 90 90 90 90 90 90))] H := hP
  have hD : va_D (fun q => q = qa ∨ Hs.size ≤ q) [(qa, ARq cC 7 f), (qq, .inr (1, [.null, .int 0, .null])), (mm, ARi cI 3 (upd (upd (upd (fun _ => 0) 0 0) 1 5) 2 5)), (ss, ARq cS 3 (fun _ => none)), (r0, ARi cI 9 (rwf 90 90 90 90 90 90 90))] := hD
  refine fz_stS (pc := 463) (q0 := 3) (qk := 4) (ws' := [(qa, ARq cC 7 f), (qq, .inr (1, [.null, .int 0, .null])), (mm, ARi cI 3 (upd (upd (upd (fun _ => 0) 0 0) 1 5) 2 5)), (ss, ARq cS 3 (va_up (fun _ => none) 0 (some r0))), (r0, ARi cI 9 (rwf 90 90 90 90 90 90 90))]) hx hb hK hP hD hS rfl rfl (by unfold vp_in; decide) rfl d_FS_init_463 (fun H locs hP hD hS => ?_)
  refine lv_dup (pc := 464) hx hb d_FS_init_464 rfl ?_
  refine lv_iconst (v := 1) (pc := 465) hx hb d_FS_init_465 (by decide) ?_
  refine lv_bipush (v := 23) (pc := 466) hx hb d_FS_init_466 (by decide) ?_
  refine lv_bipush (v := 90) (pc := 468) hx hb d_FS_init_468 (by decide) ?_
  refine lv_bipush (v := 90) (pc := 470) hx hb d_FS_init_470 (by decide) ?_
  refine lv_bipush (v := 90) (pc := 472) hx hb d_FS_init_472 (by decide) ?_
  refine lv_bipush (v := 51) (pc := 474) hx hb d_FS_init_474 (by decide) ?_
  refine lv_bipush (v := 90) (pc := 476) hx hb d_FS_init_476 (by decide) ?_
  refine lv_bipush (v := 90) (pc := 478) hx hb d_FS_init_478 (by decide) ?_
  refine fz_cN (pc := 480) (As := [.int 23, .int 90, .int 90, .int 90, .int 51, .int 90, .int 90]) (rest := [.int 1, .ref ss, .ref ss, .int 47, .ref mm, .ref qq, .ref qq, .int 5, .ref qa, .ref qa, .ref h0]) ⟨hx, hb, hml, hown, hts⟩ (c_FS_row l dC dI cI cZ cC cS H.size 23 90 90 90 51 90 90) (cs_FS_3 hts ⟨(Nat.le_trans (by decide) hR1), (Nat.le_trans (by decide) hR2)⟩) (Nat.le_trans (by decide) hR2) (fz_pre1 hK (hP.sub [] rfl)) rfl hl rfl (Nat.le_of_ble_eq_true rfl) d_FS_init_480 ⟨by omega, by omega⟩ hP hD hS hA (fun r1 H locs hP hD hS => ?_)
  have hP : va_P (dC, dI) classes [(qa, ARq cC 7 f), (qq, .inr (1, [.null, .int 0, .null])), (mm, ARi cI 3 (upd (upd (upd (fun _ => 0) 0 0) 1 5) 2 5)), (ss, ARq cS 3 (va_up (fun _ => none) 0 (some r0))), (r0, ARi cI 9 (rwf 90 90 90 90 90 90 90)), (r1, ARi cI 9 (rwf 23 90 90 90 51 90 90))] H := hP
  have hD : va_D (fun q => q = qa ∨ Hs.size ≤ q) [(qa, ARq cC 7 f), (qq, .inr (1, [.null, .int 0, .null])), (mm, ARi cI 3 (upd (upd (upd (fun _ => 0) 0 0) 1 5) 2 5)), (ss, ARq cS 3 (va_up (fun _ => none) 0 (some r0))), (r0, ARi cI 9 (rwf 90 90 90 90 90 90 90)), (r1, ARi cI 9 (rwf 23 90 90 90 51 90 90))] := hD
  refine fz_stS (pc := 483) (q0 := 3) (qk := 5) (ws' := [(qa, ARq cC 7 f), (qq, .inr (1, [.null, .int 0, .null])), (mm, ARi cI 3 (upd (upd (upd (fun _ => 0) 0 0) 1 5) 2 5)), (ss, ARq cS 3 (va_up (va_up (fun _ => none) 0 (some r0)) 1 (some r1))), (r0, ARi cI 9 (rwf 90 90 90 90 90 90 90)), (r1, ARi cI 9 (rwf 23 90 90 90 51 90 90))]) hx hb hK hP hD hS rfl rfl (by unfold vp_in; decide) rfl d_FS_init_483 (fun H locs hP hD hS => ?_)
  refine lv_dup (pc := 484) hx hb d_FS_init_484 rfl ?_
  refine lv_iconst (v := 2) (pc := 485) hx hb d_FS_init_485 (by decide) ?_
  refine lv_bipush (v := 23) (pc := 486) hx hb d_FS_init_486 (by decide) ?_
  refine lv_bipush (v := 90) (pc := 488) hx hb d_FS_init_488 (by decide) ?_
  refine lv_bipush (v := 90) (pc := 490) hx hb d_FS_init_490 (by decide) ?_
  refine lv_bipush (v := 90) (pc := 492) hx hb d_FS_init_492 (by decide) ?_
  refine lv_bipush (v := 51) (pc := 494) hx hb d_FS_init_494 (by decide) ?_
  refine lv_bipush (v := 90) (pc := 496) hx hb d_FS_init_496 (by decide) ?_
  refine lv_bipush (v := 90) (pc := 498) hx hb d_FS_init_498 (by decide) ?_
  refine fz_cN (pc := 500) (As := [.int 23, .int 90, .int 90, .int 90, .int 51, .int 90, .int 90]) (rest := [.int 2, .ref ss, .ref ss, .int 47, .ref mm, .ref qq, .ref qq, .int 5, .ref qa, .ref qa, .ref h0]) ⟨hx, hb, hml, hown, hts⟩ (c_FS_row l dC dI cI cZ cC cS H.size 23 90 90 90 51 90 90) (cs_FS_3 hts ⟨(Nat.le_trans (by decide) hR1), (Nat.le_trans (by decide) hR2)⟩) (Nat.le_trans (by decide) hR2) (fz_pre1 hK (hP.sub [] rfl)) rfl hl rfl (Nat.le_of_ble_eq_true rfl) d_FS_init_500 ⟨by omega, by omega⟩ hP hD hS hA (fun r2 H locs hP hD hS => ?_)
  have hP : va_P (dC, dI) classes [(qa, ARq cC 7 f), (qq, .inr (1, [.null, .int 0, .null])), (mm, ARi cI 3 (upd (upd (upd (fun _ => 0) 0 0) 1 5) 2 5)), (ss, ARq cS 3 (va_up (va_up (fun _ => none) 0 (some r0)) 1 (some r1))), (r0, ARi cI 9 (rwf 90 90 90 90 90 90 90)), (r1, ARi cI 9 (rwf 23 90 90 90 51 90 90)), (r2, ARi cI 9 (rwf 23 90 90 90 51 90 90))] H := hP
  have hD : va_D (fun q => q = qa ∨ Hs.size ≤ q) [(qa, ARq cC 7 f), (qq, .inr (1, [.null, .int 0, .null])), (mm, ARi cI 3 (upd (upd (upd (fun _ => 0) 0 0) 1 5) 2 5)), (ss, ARq cS 3 (va_up (va_up (fun _ => none) 0 (some r0)) 1 (some r1))), (r0, ARi cI 9 (rwf 90 90 90 90 90 90 90)), (r1, ARi cI 9 (rwf 23 90 90 90 51 90 90)), (r2, ARi cI 9 (rwf 23 90 90 90 51 90 90))] := hD
  refine fz_stS (pc := 503) (q0 := 3) (qk := 6) (ws' := [(qa, ARq cC 7 f), (qq, .inr (1, [.null, .int 0, .null])), (mm, ARi cI 3 (upd (upd (upd (fun _ => 0) 0 0) 1 5) 2 5)), (ss, ARq cS 3 (va_up (va_up (va_up (fun _ => none) 0 (some r0)) 1 (some r1)) 2 (some r2))), (r0, ARi cI 9 (rwf 90 90 90 90 90 90 90)), (r1, ARi cI 9 (rwf 23 90 90 90 51 90 90)), (r2, ARi cI 9 (rwf 23 90 90 90 51 90 90))]) hx hb hK hP hD hS rfl rfl (by unfold vp_in; decide) rfl d_FS_init_503 (fun H locs hP hD hS => ?_)
  refine fz_cI (pc := 504) (As := [.ref mm, .int 47, .ref ss]) (rest := [.ref qq, .int 5, .ref qa, .ref qa, .ref h0]) (q0 := 1) (ws' := [(qa, ARq cC 7 f), (qq, ACo mm 47 ss), (mm, ARi cI 3 (upd (upd (upd (fun _ => 0) 0 0) 1 5) 2 5)), (ss, ARq cS 3 (va_up (va_up (va_up (fun _ => none) 0 (some r0)) 1 (some r1)) 2 (some r2))), (r0, ARi cI 9 (rwf 90 90 90 90 90 90 90)), (r1, ARi cI 9 (rwf 23 90 90 90 51 90 90)), (r2, ARi cI 9 (rwf 23 90 90 90 51 90 90))]) ⟨hx, hb, hml, hown, hts⟩ (c_AC_init l dC dI cI cZ cC cS qq mm ss 47) (cs_FS_17 hts ⟨(Nat.le_trans (by decide) hR1), (Nat.le_trans (by decide) hR2)⟩) (fz_pre0 hK (hP.sub [1] rfl)) rfl hl rfl (Nat.le_of_ble_eq_true rfl) d_FS_init_504 ⟨by omega, by omega⟩ hP hD hS rfl rfl (fun H locs hP hD hS => ?_)
  refine fz_stC (pc := 507) (q0 := 0) (qk := 1) (ws' := [(qa, ARq cC 7 (va_up f 5 (some qq))), (qq, ACo mm 47 ss), (mm, ARi cI 3 (upd (upd (upd (fun _ => 0) 0 0) 1 5) 2 5)), (ss, ARq cS 3 (va_up (va_up (va_up (fun _ => none) 0 (some r0)) 1 (some r1)) 2 (some r2))), (r0, ARi cI 9 (rwf 90 90 90 90 90 90 90)), (r1, ARi cI 9 (rwf 23 90 90 90 51 90 90)), (r2, ARi cI 9 (rwf 23 90 90 90 51 90 90))]) hx hb hK hP hD hS rfl rfl (by unfold vp_in; decide) rfl d_FS_init_507 (fun H locs hP hD hS => ?_)
  exact kk H locs qq mm ss r0 r1 r2 hP hD hS
set_option maxHeartbeats 4000000 in
set_option maxRecDepth 100000 in
theorem blk_6 {p : Program} {l : Launch} {e : Env} {R : Room} {s : State} {m : MethodId} {args : Array Value} {below : List Frame} {meth : Method} {c : Code} {Hs : Heap} {cells slots : Nat} {Q : State → Prop} {ls : Array Slot} {dC : Nat → ClassId} {dI : Nat → Nat → Nat} {cI cZ cC cS : ClassId} {qa h0 : Nat} {f : Nat → Option Nat} (hx : p.tables.exec = Jvm.exec) (hb : c.code = b_FS_init) (hml : c.maxLocals = 2) (hown : s.vm.findClass "FileStatus" = some m.cls) (hts : ∀ w ∈ tw, w.before args s = true) (hK : kK dC dI cI cZ cC cS s) (hl : ls.size = 2) (hR1 : 2 ≤ R.frames) (hR2 : 53 ≤ R.locals) (hc : cells + 6 ≤ R.cells) (hs : slots + 36 ≤ R.slots) (hP : va_P (dC, dI) classes [(qa, ARq cC 7 f)] Hs) (kk : ∀ (H1 : Heap) (locs1 : List Loc) (qq mm ss r0 r1 r2 : Nat), va_P (dC, dI) classes ((qa, ARq cC 7 (va_up f 6 (some qq))) :: tbk cI cS qq mm ss r0 r1 r2 90 (md3 15 15 15) (rwf 90 90 90 90 90 90 90) (rwf 90 90 90 90 90 90 90) (rwf 90 90 90 90 90 90 90)) H1 → va_D (fun q => q = qa ∨ Hs.size ≤ q) ((qa, ARq cC 7 (va_up f 6 (some qq))) :: tbk cI cS qq mm ss r0 r1 r2 90 (md3 15 15 15) (rwf 90 90 90 90 90 90 90) (rwf 90 90 90 90 90 90 90) (rwf 90 90 90 90 90 90 90)) → va_S (fun q => q = qa ∨ Hs.size ≤ q) Hs H1 locs1 → W p l e R s m args below meth c H1 locs1 (cells + 6) (slots + 36) Q (F0 m 561 ls [.ref qa, .ref h0])) : W p l e R s m args below meth c Hs [] cells slots Q (F0 m 508 ls [.ref qa, .ref h0]) := by
  have hA : ∀ q : Nat, Hs.size ≤ q → (fun q => q = qa ∨ Hs.size ≤ q) q := fun _ h => Or.inr h
  have hD : va_D (fun q => q = qa ∨ Hs.size ≤ q) [(qa, ARq cC 7 f)] := fz_D1.weaken (fun _ _ _ h => Or.inl h)
  have hS : va_S (fun q => q = qa ∨ Hs.size ≤ q) Hs Hs [] := va_S.rf
  refine lv_dup (pc := 508) hx hb d_FS_init_508 rfl ?_
  refine lv_bipush (v := 6) (pc := 509) hx hb d_FS_init_509 (by decide) ?_
  refine va_new (pc := 511) (ci := 1) (fs := [.null, .int 0, .null]) (C := "FileStatus$Act") (T := F_AC) (N := 3) hx hb hts i_AC t_AC t_AC_ok hown (hts _ k_12) (hts _ k_14) (hts _ k_2) hK.1 hP hD hS hA rfl (fun j hj => by rcases (show j = 0 ∨ j = 1 ∨ j = 2 by omega) with rfl | rfl | rfl <;> rfl) (by omega) (by omega) d_FS_init_511 (fun qq H hP hD hS => ?_)
  have hP : va_P (dC, dI) classes [(qa, ARq cC 7 f), (qq, .inr (1, [.null, .int 0, .null]))] H := hP
  have hD : va_D (fun q => q = qa ∨ Hs.size ≤ q) [(qa, ARq cC 7 f), (qq, .inr (1, [.null, .int 0, .null]))] := hD
  refine lv_dup (pc := 514) hx hb d_FS_init_514 rfl ?_
  refine lv_iconst (v := 3) (pc := 515) hx hb d_FS_init_515 (by decide) ?_
  refine fz_newI (pc := 516) (N' := 3) hx hb (hts _ k_35) hK hP hD hS hA (by decide) (by decide) (by decide) (by omega) (by omega) d_FS_init_516 (fun mm H hP hD hS => ?_)
  have hP : va_P (dC, dI) classes [(qa, ARq cC 7 f), (qq, .inr (1, [.null, .int 0, .null])), (mm, ARi cI 3 (fun _ => 0))] H := hP
  have hD : va_D (fun q => q = qa ∨ Hs.size ≤ q) [(qa, ARq cC 7 f), (qq, .inr (1, [.null, .int 0, .null])), (mm, ARi cI 3 (fun _ => 0))] := hD
  refine lv_dup (pc := 518) hx hb d_FS_init_518 rfl ?_
  refine lv_iconst (v := 0) (pc := 519) hx hb d_FS_init_519 (by decide) ?_
  refine lv_bipush (v := 15) (pc := 520) hx hb d_FS_init_520 (by decide) ?_
  refine fz_stI (pc := 522) (q0 := 2) (ws' := [(qa, ARq cC 7 f), (qq, .inr (1, [.null, .int 0, .null])), (mm, ARi cI 3 (upd (fun _ => 0) 0 15))]) hx hb hK hP hD hS rfl (by unfold vp_in; decide) rfl d_FS_init_522 (fun H locs hP hD hS => ?_)
  refine lv_dup (pc := 523) hx hb d_FS_init_523 rfl ?_
  refine lv_iconst (v := 1) (pc := 524) hx hb d_FS_init_524 (by decide) ?_
  refine lv_bipush (v := 15) (pc := 525) hx hb d_FS_init_525 (by decide) ?_
  refine fz_stI (pc := 527) (q0 := 2) (ws' := [(qa, ARq cC 7 f), (qq, .inr (1, [.null, .int 0, .null])), (mm, ARi cI 3 (upd (upd (fun _ => 0) 0 15) 1 15))]) hx hb hK hP hD hS rfl (by unfold vp_in; decide) rfl d_FS_init_527 (fun H locs hP hD hS => ?_)
  refine lv_dup (pc := 528) hx hb d_FS_init_528 rfl ?_
  refine lv_iconst (v := 2) (pc := 529) hx hb d_FS_init_529 (by decide) ?_
  refine lv_bipush (v := 15) (pc := 530) hx hb d_FS_init_530 (by decide) ?_
  refine fz_stI (pc := 532) (q0 := 2) (ws' := [(qa, ARq cC 7 f), (qq, .inr (1, [.null, .int 0, .null])), (mm, ARi cI 3 (upd (upd (upd (fun _ => 0) 0 15) 1 15) 2 15))]) hx hb hK hP hD hS rfl (by unfold vp_in; decide) rfl d_FS_init_532 (fun H locs hP hD hS => ?_)
  refine lv_bipush (v := 90) (pc := 533) hx hb d_FS_init_533 (by decide) ?_
  refine lv_iconst (v := 3) (pc := 535) hx hb d_FS_init_535 (by decide) ?_
  refine fz_newS (pc := 536) (N' := 3) hx hb hown (hts _ k_15) hK hP hD hS hA (by decide) (by decide) (by decide) (by omega) (by omega) d_FS_init_536 (fun ss H hP hD hS => ?_)
  have hP : va_P (dC, dI) classes [(qa, ARq cC 7 f), (qq, .inr (1, [.null, .int 0, .null])), (mm, ARi cI 3 (upd (upd (upd (fun _ => 0) 0 15) 1 15) 2 15)), (ss, ARq cS 3 (fun _ => none))] H := hP
  have hD : va_D (fun q => q = qa ∨ Hs.size ≤ q) [(qa, ARq cC 7 f), (qq, .inr (1, [.null, .int 0, .null])), (mm, ARi cI 3 (upd (upd (upd (fun _ => 0) 0 15) 1 15) 2 15)), (ss, ARq cS 3 (fun _ => none))] := hD
  refine lv_dup (pc := 539) hx hb d_FS_init_539 rfl ?_
  refine lv_iconst (v := 0) (pc := 540) hx hb d_FS_init_540 (by decide) ?_
  refine fz_cN (pc := 541) (As := []) (rest := [.int 0, .ref ss, .ref ss, .int 90, .ref mm, .ref qq, .ref qq, .int 6, .ref qa, .ref qa, .ref h0]) ⟨hx, hb, hml, hown, hts⟩ (c_FS_nothing l dC dI cI cZ cC cS H.size) (cs_FS_20 hts ⟨(Nat.le_trans (by decide) hR1), (Nat.le_trans (by decide) hR2)⟩) (Nat.le_trans (by decide) hR2) (fz_pre1 hK (hP.sub [] rfl)) rfl hl rfl (Nat.le_of_ble_eq_true rfl) d_FS_init_541 ⟨by omega, by omega⟩ hP hD hS hA (fun r0 H locs hP hD hS => ?_)
  have hP : va_P (dC, dI) classes [(qa, ARq cC 7 f), (qq, .inr (1, [.null, .int 0, .null])), (mm, ARi cI 3 (upd (upd (upd (fun _ => 0) 0 15) 1 15) 2 15)), (ss, ARq cS 3 (fun _ => none)), (r0, ARi cI 9 (rwf 90 90 90 90 90 90 90))] H := hP
  have hD : va_D (fun q => q = qa ∨ Hs.size ≤ q) [(qa, ARq cC 7 f), (qq, .inr (1, [.null, .int 0, .null])), (mm, ARi cI 3 (upd (upd (upd (fun _ => 0) 0 15) 1 15) 2 15)), (ss, ARq cS 3 (fun _ => none)), (r0, ARi cI 9 (rwf 90 90 90 90 90 90 90))] := hD
  refine fz_stS (pc := 544) (q0 := 3) (qk := 4) (ws' := [(qa, ARq cC 7 f), (qq, .inr (1, [.null, .int 0, .null])), (mm, ARi cI 3 (upd (upd (upd (fun _ => 0) 0 15) 1 15) 2 15)), (ss, ARq cS 3 (va_up (fun _ => none) 0 (some r0))), (r0, ARi cI 9 (rwf 90 90 90 90 90 90 90))]) hx hb hK hP hD hS rfl rfl (by unfold vp_in; decide) rfl d_FS_init_544 (fun H locs hP hD hS => ?_)
  refine lv_dup (pc := 545) hx hb d_FS_init_545 rfl ?_
  refine lv_iconst (v := 1) (pc := 546) hx hb d_FS_init_546 (by decide) ?_
  refine fz_cN (pc := 547) (As := []) (rest := [.int 1, .ref ss, .ref ss, .int 90, .ref mm, .ref qq, .ref qq, .int 6, .ref qa, .ref qa, .ref h0]) ⟨hx, hb, hml, hown, hts⟩ (c_FS_nothing l dC dI cI cZ cC cS H.size) (cs_FS_20 hts ⟨(Nat.le_trans (by decide) hR1), (Nat.le_trans (by decide) hR2)⟩) (Nat.le_trans (by decide) hR2) (fz_pre1 hK (hP.sub [] rfl)) rfl hl rfl (Nat.le_of_ble_eq_true rfl) d_FS_init_547 ⟨by omega, by omega⟩ hP hD hS hA (fun r1 H locs hP hD hS => ?_)
  have hP : va_P (dC, dI) classes [(qa, ARq cC 7 f), (qq, .inr (1, [.null, .int 0, .null])), (mm, ARi cI 3 (upd (upd (upd (fun _ => 0) 0 15) 1 15) 2 15)), (ss, ARq cS 3 (va_up (fun _ => none) 0 (some r0))), (r0, ARi cI 9 (rwf 90 90 90 90 90 90 90)), (r1, ARi cI 9 (rwf 90 90 90 90 90 90 90))] H := hP
  have hD : va_D (fun q => q = qa ∨ Hs.size ≤ q) [(qa, ARq cC 7 f), (qq, .inr (1, [.null, .int 0, .null])), (mm, ARi cI 3 (upd (upd (upd (fun _ => 0) 0 15) 1 15) 2 15)), (ss, ARq cS 3 (va_up (fun _ => none) 0 (some r0))), (r0, ARi cI 9 (rwf 90 90 90 90 90 90 90)), (r1, ARi cI 9 (rwf 90 90 90 90 90 90 90))] := hD
  refine fz_stS (pc := 550) (q0 := 3) (qk := 5) (ws' := [(qa, ARq cC 7 f), (qq, .inr (1, [.null, .int 0, .null])), (mm, ARi cI 3 (upd (upd (upd (fun _ => 0) 0 15) 1 15) 2 15)), (ss, ARq cS 3 (va_up (va_up (fun _ => none) 0 (some r0)) 1 (some r1))), (r0, ARi cI 9 (rwf 90 90 90 90 90 90 90)), (r1, ARi cI 9 (rwf 90 90 90 90 90 90 90))]) hx hb hK hP hD hS rfl rfl (by unfold vp_in; decide) rfl d_FS_init_550 (fun H locs hP hD hS => ?_)
  refine lv_dup (pc := 551) hx hb d_FS_init_551 rfl ?_
  refine lv_iconst (v := 2) (pc := 552) hx hb d_FS_init_552 (by decide) ?_
  refine fz_cN (pc := 553) (As := []) (rest := [.int 2, .ref ss, .ref ss, .int 90, .ref mm, .ref qq, .ref qq, .int 6, .ref qa, .ref qa, .ref h0]) ⟨hx, hb, hml, hown, hts⟩ (c_FS_nothing l dC dI cI cZ cC cS H.size) (cs_FS_20 hts ⟨(Nat.le_trans (by decide) hR1), (Nat.le_trans (by decide) hR2)⟩) (Nat.le_trans (by decide) hR2) (fz_pre1 hK (hP.sub [] rfl)) rfl hl rfl (Nat.le_of_ble_eq_true rfl) d_FS_init_553 ⟨by omega, by omega⟩ hP hD hS hA (fun r2 H locs hP hD hS => ?_)
  have hP : va_P (dC, dI) classes [(qa, ARq cC 7 f), (qq, .inr (1, [.null, .int 0, .null])), (mm, ARi cI 3 (upd (upd (upd (fun _ => 0) 0 15) 1 15) 2 15)), (ss, ARq cS 3 (va_up (va_up (fun _ => none) 0 (some r0)) 1 (some r1))), (r0, ARi cI 9 (rwf 90 90 90 90 90 90 90)), (r1, ARi cI 9 (rwf 90 90 90 90 90 90 90)), (r2, ARi cI 9 (rwf 90 90 90 90 90 90 90))] H := hP
  have hD : va_D (fun q => q = qa ∨ Hs.size ≤ q) [(qa, ARq cC 7 f), (qq, .inr (1, [.null, .int 0, .null])), (mm, ARi cI 3 (upd (upd (upd (fun _ => 0) 0 15) 1 15) 2 15)), (ss, ARq cS 3 (va_up (va_up (fun _ => none) 0 (some r0)) 1 (some r1))), (r0, ARi cI 9 (rwf 90 90 90 90 90 90 90)), (r1, ARi cI 9 (rwf 90 90 90 90 90 90 90)), (r2, ARi cI 9 (rwf 90 90 90 90 90 90 90))] := hD
  refine fz_stS (pc := 556) (q0 := 3) (qk := 6) (ws' := [(qa, ARq cC 7 f), (qq, .inr (1, [.null, .int 0, .null])), (mm, ARi cI 3 (upd (upd (upd (fun _ => 0) 0 15) 1 15) 2 15)), (ss, ARq cS 3 (va_up (va_up (va_up (fun _ => none) 0 (some r0)) 1 (some r1)) 2 (some r2))), (r0, ARi cI 9 (rwf 90 90 90 90 90 90 90)), (r1, ARi cI 9 (rwf 90 90 90 90 90 90 90)), (r2, ARi cI 9 (rwf 90 90 90 90 90 90 90))]) hx hb hK hP hD hS rfl rfl (by unfold vp_in; decide) rfl d_FS_init_556 (fun H locs hP hD hS => ?_)
  refine fz_cI (pc := 557) (As := [.ref mm, .int 90, .ref ss]) (rest := [.ref qq, .int 6, .ref qa, .ref qa, .ref h0]) (q0 := 1) (ws' := [(qa, ARq cC 7 f), (qq, ACo mm 90 ss), (mm, ARi cI 3 (upd (upd (upd (fun _ => 0) 0 15) 1 15) 2 15)), (ss, ARq cS 3 (va_up (va_up (va_up (fun _ => none) 0 (some r0)) 1 (some r1)) 2 (some r2))), (r0, ARi cI 9 (rwf 90 90 90 90 90 90 90)), (r1, ARi cI 9 (rwf 90 90 90 90 90 90 90)), (r2, ARi cI 9 (rwf 90 90 90 90 90 90 90))]) ⟨hx, hb, hml, hown, hts⟩ (c_AC_init l dC dI cI cZ cC cS qq mm ss 90) (cs_FS_17 hts ⟨(Nat.le_trans (by decide) hR1), (Nat.le_trans (by decide) hR2)⟩) (fz_pre0 hK (hP.sub [1] rfl)) rfl hl rfl (Nat.le_of_ble_eq_true rfl) d_FS_init_557 ⟨by omega, by omega⟩ hP hD hS rfl rfl (fun H locs hP hD hS => ?_)
  refine fz_stC (pc := 560) (q0 := 0) (qk := 1) (ws' := [(qa, ARq cC 7 (va_up f 6 (some qq))), (qq, ACo mm 90 ss), (mm, ARi cI 3 (upd (upd (upd (fun _ => 0) 0 15) 1 15) 2 15)), (ss, ARq cS 3 (va_up (va_up (va_up (fun _ => none) 0 (some r0)) 1 (some r1)) 2 (some r2))), (r0, ARi cI 9 (rwf 90 90 90 90 90 90 90)), (r1, ARi cI 9 (rwf 90 90 90 90 90 90 90)), (r2, ARi cI 9 (rwf 90 90 90 90 90 90 90))]) hx hb hK hP hD hS rfl rfl (by unfold vp_in; decide) rfl d_FS_init_560 (fun H locs hP hD hS => ?_)
  exact kk H locs qq mm ss r0 r1 r2 hP hD hS
end
section
-- ===== the tables by kind and organisation =====
def tk_br (k : Nat) : Int32 := match k with
  | 0 => 47
  | 1 => 47
  | 2 => 48
  | 3 => 49
  | 4 => 49
  | 5 => 47
  | _ => 90
def tk_md (k : Nat) : Nat → Int32 := match k with
  | 0 => md3 5 5 5
  | 1 => md3 0 5 5
  | 2 => md3 10 14 14
  | 3 => md3 4 4 4
  | 4 => md3 0 4 4
  | 5 => md3 0 5 5
  | _ => md3 15 15 15
def tk_r0 (k : Nat) : Nat → Int32 := match k with
  | 0 => rwf 10 90 90 90 51 4 90
  | 2 => rwf 90 90 90 34 51 44 90
  | 3 => rwf 90 90 90 90 51 44 90
  | _ => rwf 90 90 90 90 90 90 90
def tk_r1 (k : Nat) : Nat → Int32 := match k with
  | 0 => rwf 10 90 90 14 51 4 90
  | 1 => rwf 23 90 90 90 51 4 90
  | 2 => rwf 90 90 22 24 51 44 90
  | 3 => rwf 23 90 90 90 51 44 90
  | 4 => rwf 23 90 90 90 51 90 90
  | 5 => rwf 23 90 90 90 51 90 90
  | _ => rwf 90 90 90 90 90 90 90
def tk_r2 (k : Nat) : Nat → Int32 := match k with
  | 0 => rwf 10 2 90 90 51 4 90
  | 1 => rwf 23 2 90 90 51 4 90
  | 2 => rwf 90 2 22 24 51 44 21
  | 3 => rwf 23 2 22 90 51 44 21
  | 4 => rwf 23 90 90 90 51 90 90
  | 5 => rwf 23 90 90 90 51 90 90
  | _ => rwf 90 90 90 90 90 90 90
/-- fA names n acts whose cells lie in T -/
def Tb (cI cS : ClassId) (n : Nat) (fA : Nat → Option Nat) (T : va_W) : Prop := ∀ k, k < n → ∃ (a m s r0 r1 r2 : Nat), fA k = some a ∧ ∀ q ∈ tbk cI cS a m s r0 r1 r2 (tk_br k) (tk_md k) (tk_r0 k) (tk_r1 k) (tk_r2 k), q ∈ T
theorem Tb_0 {cI cS : ClassId} {f : Nat → Option Nat} {T : va_W} : Tb cI cS 0 f T := fun k h => absurd h (Nat.not_lt_zero k)
theorem Tb_s {cI cS : ClassId} {n : Nat} {f : Nat → Option Nat} {T : va_W} (h : Tb cI cS n f T) (a m s r0 r1 r2 : Nat) : Tb cI cS (n + 1) (va_up f n (some a)) (tbk cI cS a m s r0 r1 r2 (tk_br n) (tk_md n) (tk_r0 n) (tk_r1 n) (tk_r2 n) ++ T) := by
  intro k hk
  by_cases e : k = n
  · subst e
    exact ⟨a, m, s, r0, r1, r2, va_up_self _ _ _, fun q hq => List.mem_append_left _ hq⟩
  · obtain ⟨a', m', s', x0, x1, x2, h1, h2⟩ := h k (by omega)
    exact ⟨a', m', s', x0, x1, x2, by rw [va_up_ne _ _ e]; exact h1, fun q hq => List.mem_append_right _ (h2 q hq)⟩
theorem fz_blkstep {A : Nat → Prop} {s : State} {dC : Nat → ClassId} {dI : Nat → Nat → Nat} {cI cC cS : ClassId} {qa h0 k : Nat} {f : Nat → Option Nat} {T : va_W} {d : va_E} {H H1 : Heap} {locs1 : List Loc} {qq mm ss r0 r1 r2 : Nat} (hA : ∀ q, s.heap.size ≤ q → A q) (hqa : s.heap.size ≤ qa) (hT : Tb cI cS k f T)
    (hP : va_P (dC, dI) classes ((qa, ARq cC 7 f) :: (T ++ [(h0, d)])) H) (hD : va_D A ((qa, ARq cC 7 f) :: (T ++ [(h0, d)]))) (hS : va_S A s.heap H [])
    (hP1 : va_P (dC, dI) classes ((qa, ARq cC 7 (va_up f k (some qq))) :: tbk cI cS qq mm ss r0 r1 r2 (tk_br k) (tk_md k) (tk_r0 k) (tk_r1 k) (tk_r2 k)) H1) (hD1 : va_D (fun q => q = qa ∨ H.size ≤ q) ((qa, ARq cC 7 (va_up f k (some qq))) :: tbk cI cS qq mm ss r0 r1 r2 (tk_br k) (tk_md k) (tk_r0 k) (tk_r1 k) (tk_r2 k)))
    (hS1 : va_S (fun q => q = qa ∨ H.size ≤ q) H H1 locs1) : ∃ (f1 : Nat → Option Nat) (T1 : va_W), Tb cI cS (k + 1) f1 T1 ∧ va_P (dC, dI) classes ((qa, ARq cC 7 f1) :: (T1 ++ [(h0, d)])) H1 ∧ va_D A ((qa, ARq cC 7 f1) :: (T1 ++ [(h0, d)])) ∧ va_S A s.heap H1 [] ∧ ∀ q ∈ locs1, s.heap.size ≤ q.base := by
  obtain ⟨g1, g2⟩ := fz_join (wc := [(qa, ARq cC 7 f)]) (wr := T ++ [(h0, d)]) hP hD hP1 hD1 (fun q h => by
    rcases h with h | h
    · exact Or.inl ⟨_, List.mem_singleton.mpr rfl, h.symm⟩
    · exact Or.inr h) (fun q h => by
    rcases h with h | h
    · rw [h]; exact hA _ hqa
    · exact hA q (Nat.le_trans hS.1 h)) hS1.2.1
  refine ⟨_, _, Tb_s hT qq mm ss r0 r1 r2, g1, g2, ⟨Nat.le_trans hS.1 hS1.1, fun q h1 h2 => ?_, fun q h => by cases h⟩, fun q hq => ?_⟩
  · rw [hS1.2.1 q (Nat.lt_of_lt_of_le h1 hS.1) (fun z => by rcases z with z | z <;> have := hS.1 <;> omega)]
    exact hS.2.1 q h1 h2
  · rcases hS1.2.2 q hq with h | h
    · rw [h]; exact hqa
    · exact Nat.le_trans hS.1 h
set_option maxHeartbeats 4000000 in
set_option maxRecDepth 100000 in
theorem c_FS_init (l : Launch) (dC : Nat → ClassId) (dI : Nat → Nat → Nat) (cI cZ cC cS : ClassId) (sz : Nat) (h0 : Nat) (a : Int32) : Met l y_FS_init (.code y_FS_init b_FS_init 2 (none) :: tw) rm_FS_init (va_Pc [.ref h0, .int a] (P1 dC dI cI cZ cC cS sz [(h0, .inr (0, [.null, .int 0, .int 0, .int 0, .int 0, .int 0, .int 0, .int 0, .int 0, .int 0, .int 0, .int 0, .null]))])) (va_Qv (fun (_ : Unit) => True) (fun _ t => ∃ (qa qd : Nat) (fA : Nat → Option Nat) (T : va_W), Tb cI cS 7 fA T ∧ va_P (dC, dI) classes ((h0, FSo qa qd (ff_org a) (-1) 0 0 0 9 0 0 0 0 0) :: (qa, ARq cC 7 fA) :: (T ++ [(qd, ARi cZ 7 (fun _ => 0))])) t.heap ∧ va_D (fun q => q = h0 ∨ sz ≤ q) ((h0, FSo qa qd (ff_org a) (-1) 0 0 0 9 0 0 0 0 0) :: (qa, ARq cC 7 fA) :: (T ++ [(qd, ARi cZ 7 (fun _ => 0))]))) (fun q => q = h0 ∨ sz ≤ q)) 44 266 (fun q => q = h0 ∨ sz ≤ q) := by
  refine Met.ofW (cc := b_FS_init) (maxL := 2) (ret := none) (by decide) rfl ?_
  intro p e s m args below meth c s₁ B hml hv
  obtain ⟨rfl, hsz, hK, hP⟩ := hv
  have hx := B.exec
  have hb := B.bytes
  have hr := B.returns
  have hts : ∀ w ∈ tw, w.before _ s = true := fun w h => atoms_spec (ws := .code y_FS_init b_FS_init 2 (none) :: tw) B.pre w (List.mem_cons_of_mem _ h)
  have hown : s.vm.findClass "FileStatus" = some m.cls := findClass_of_methodNamed B.named
  have hlk := B.notSynchronized
  have hin : meth.name = "<init>" := (name_of_methodNamed B.named B.method).1
  have hP : va_P (dC, dI) classes [(h0, .inr (0, [.null, .int 0, .int 0, .int 0, .int 0, .int 0, .int 0, .int 0, .int 0, .int 0, .int 0, .int 0, .null]))] s.heap := hP
  have hl := lv_entry [.ref h0, .int a] (n := 2) (Nat.le_of_ble_eq_true rfl)
  rw [lg_entry_eq]
  generalize (lg_sl [.ref h0, .int a] ++ List.replicate (2 - (lg_sl [.ref h0, .int a]).length) Slot.unset).toArray = ls at hl ⊢
  have hl : lv_has ls 2 [(0, .ref h0), (1, .int a)] := hl
  subst hsz
  have hA : ∀ q : Nat, s.heap.size ≤ q → (fun q : Nat => q = h0 ∨ s.heap.size ≤ q) q := fun _ h => Or.inr h
  have hD : va_D (fun q : Nat => q = h0 ∨ s.heap.size ≤ q) [(h0, .inr (0, [.null, .int 0, .int 0, .int 0, .int 0, .int 0, .int 0, .int 0, .int 0, .int 0, .int 0, .int 0, .null]))] := fz_D1.weaken (fun _ _ _ h => Or.inl h)
  have hS : va_S (fun q : Nat => q = h0 ∨ s.heap.size ≤ q) s.heap s.heap [] := va_S.rf
  refine lv_aload_n (pc := 0) hx hb d_FS_init_0 rfl (lv_at hl 0 rfl) ?_
  refine W.objInit hx hb hown (hts _ k_9) (hts _ k_10) (hts _ k_11) rfl (by rw [hml]; exact hl.1) rfl d_FS_init_1 (Nat.le_of_ble_eq_true rfl) (Nat.le_of_ble_eq_true rfl) ?_
  refine W.eq (g2 := F0 m 4 ls []) rfl ?_
  refine lv_aload_n (pc := 4) hx hb d_FS_init_4 rfl (lv_at hl 0 rfl) ?_
  refine lv_bipush (v := 7) (pc := 5) hx hb d_FS_init_5 (by decide) ?_
  refine fz_newC (pc := 7) (N' := 7) hx hb hown (hts _ k_12) hK hP hD hS hA (by decide) (by decide) (by decide) (Nat.le_of_ble_eq_true rfl) (Nat.le_of_ble_eq_true rfl) d_FS_init_7 (fun qa H hP hD hS => ?_)
  have hqa : s.heap.size ≤ qa := by
    have h0l : h0 < s.heap.size := by
      exact (‹va_P (dC, dI) classes [(h0, .inr (0, [.null, .int 0, .int 0, .int 0, .int 0, .int 0, .int 0, .int 0, .int 0, .int 0, .int 0, .int 0, .null]))] s.heap› 0 _ rfl).lt
    rcases hD.2 1 _ rfl with h | h
    · have := hD.1 1 0 _ _ rfl rfl h
      omega
    · exact h
  have hP : va_P (dC, dI) classes ((qa, ARq cC 7 (fun _ => none)) :: (([] : va_W) ++ [(h0, .inr (0, [.null, .int 0, .int 0, .int 0, .int 0, .int 0, .int 0, .int 0, .int 0, .int 0, .int 0, .int 0, .null]))])) H := hP.sub [1, 0] rfl
  have hD : va_D (fun q : Nat => q = h0 ∨ s.heap.size ≤ q) ((qa, ARq cC 7 (fun _ => none)) :: (([] : va_W) ++ [(h0, .inr (0, [.null, .int 0, .int 0, .int 0, .int 0, .int 0, .int 0, .int 0, .int 0, .int 0, .int 0, .int 0, .null]))])) := hD.sub [1, 0] (by decide) rfl
  have hT : Tb cI cS 0 (fun _ => none) [] := Tb_0
  refine blk_0 hx hb hml hown hts hK hl.1 (Nat.le_of_ble_eq_true rfl) (Nat.le_of_ble_eq_true rfl) (Nat.le_of_ble_eq_true rfl) (Nat.le_of_ble_eq_true rfl) (fz_one (q0 := 0) hP rfl) (fun H1 locs1 qq mm ss r0 r1 r2 hP1 hD1 hS1 => ?_)
  obtain ⟨f, T, hT, hP, hD, hS, hlc⟩ := fz_blkstep (k := 0) hA hqa hT hP hD hS hP1 hD1 hS1
  refine va_forget hlc ?_
  refine blk_1 hx hb hml hown hts hK hl.1 (Nat.le_of_ble_eq_true rfl) (Nat.le_of_ble_eq_true rfl) (Nat.le_of_ble_eq_true rfl) (Nat.le_of_ble_eq_true rfl) (fz_one (q0 := 0) hP rfl) (fun H1 locs1 qq mm ss r0 r1 r2 hP1 hD1 hS1 => ?_)
  obtain ⟨f, T, hT, hP, hD, hS, hlc⟩ := fz_blkstep (k := 1) hA hqa hT hP hD hS hP1 hD1 hS1
  refine va_forget hlc ?_
  refine blk_2 hx hb hml hown hts hK hl.1 (Nat.le_of_ble_eq_true rfl) (Nat.le_of_ble_eq_true rfl) (Nat.le_of_ble_eq_true rfl) (Nat.le_of_ble_eq_true rfl) (fz_one (q0 := 0) hP rfl) (fun H1 locs1 qq mm ss r0 r1 r2 hP1 hD1 hS1 => ?_)
  obtain ⟨f, T, hT, hP, hD, hS, hlc⟩ := fz_blkstep (k := 2) hA hqa hT hP hD hS hP1 hD1 hS1
  refine va_forget hlc ?_
  refine blk_3 hx hb hml hown hts hK hl.1 (Nat.le_of_ble_eq_true rfl) (Nat.le_of_ble_eq_true rfl) (Nat.le_of_ble_eq_true rfl) (Nat.le_of_ble_eq_true rfl) (fz_one (q0 := 0) hP rfl) (fun H1 locs1 qq mm ss r0 r1 r2 hP1 hD1 hS1 => ?_)
  obtain ⟨f, T, hT, hP, hD, hS, hlc⟩ := fz_blkstep (k := 3) hA hqa hT hP hD hS hP1 hD1 hS1
  refine va_forget hlc ?_
  refine blk_4 hx hb hml hown hts hK hl.1 (Nat.le_of_ble_eq_true rfl) (Nat.le_of_ble_eq_true rfl) (Nat.le_of_ble_eq_true rfl) (Nat.le_of_ble_eq_true rfl) (fz_one (q0 := 0) hP rfl) (fun H1 locs1 qq mm ss r0 r1 r2 hP1 hD1 hS1 => ?_)
  obtain ⟨f, T, hT, hP, hD, hS, hlc⟩ := fz_blkstep (k := 4) hA hqa hT hP hD hS hP1 hD1 hS1
  refine va_forget hlc ?_
  refine blk_5 hx hb hml hown hts hK hl.1 (Nat.le_of_ble_eq_true rfl) (Nat.le_of_ble_eq_true rfl) (Nat.le_of_ble_eq_true rfl) (Nat.le_of_ble_eq_true rfl) (fz_one (q0 := 0) hP rfl) (fun H1 locs1 qq mm ss r0 r1 r2 hP1 hD1 hS1 => ?_)
  obtain ⟨f, T, hT, hP, hD, hS, hlc⟩ := fz_blkstep (k := 5) hA hqa hT hP hD hS hP1 hD1 hS1
  refine va_forget hlc ?_
  refine blk_6 hx hb hml hown hts hK hl.1 (Nat.le_of_ble_eq_true rfl) (Nat.le_of_ble_eq_true rfl) (Nat.le_of_ble_eq_true rfl) (Nat.le_of_ble_eq_true rfl) (fz_one (q0 := 0) hP rfl) (fun H1 locs1 qq mm ss r0 r1 r2 hP1 hD1 hS1 => ?_)
  obtain ⟨f, T, hT, hP, hD, hS, hlc⟩ := fz_blkstep (k := 6) hA hqa hT hP hD hS hP1 hD1 hS1
  refine va_forget hlc ?_
  have hPm : ((qa, ARq cC 7 f) :: (T ++ [(h0, .inr (0, [.null, .int 0, .int 0, .int 0, .int 0, .int 0, .int 0, .int 0, .int 0, .int 0, .int 0, .int 0, .null]))])).Perm ((h0, .inr (0, [.null, .int 0, .int 0, .int 0, .int 0, .int 0, .int 0, .int 0, .int 0, .int 0, .int 0, .int 0, .null])) :: (qa, ARq cC 7 f) :: T) := ((List.perm_append_comm (l₁ := T) (l₂ := [(h0, .inr (0, [.null, .int 0, .int 0, .int 0, .int 0, .int 0, .int 0, .int 0, .int 0, .int 0, .int 0, .int 0, .null]))])).cons _).trans (List.Perm.swap _ _ _)
  have hP := fz_Psub hP (fun q hq => hPm.mem_iff.mpr hq)
  have hD := fz_Dperm hD hPm
  refine pt_FS_acts (ws' := ((h0, .inr (0, [.ref qa, .int 0, .int 0, .int 0, .int 0, .int 0, .int 0, .int 0, .int 0, .int 0, .int 0, .int 0, .null])) :: (qa, ARq cC 7 f) :: T)) (pc := 561) hx hb hts hown hK hP hD hS hin 0 rfl (Nat.le_of_ble_eq_true rfl) rfl d_FS_init_561 (fun H locs hP hD hS => ?_)
  refine lv_aload_n (pc := 564) hx hb d_FS_init_564 rfl (lv_at hl 0 rfl) ?_
  refine lv_iconst (v := (-1)) (pc := 565) hx hb d_FS_init_565 (by decide) ?_
  refine pt_FS_mode (ws' := ((h0, .inr (0, [.ref qa, .int 0, .int (-1), .int 0, .int 0, .int 0, .int 0, .int 0, .int 0, .int 0, .int 0, .int 0, .null])) :: (qa, ARq cC 7 f) :: T)) (pc := 566) hx hb hts hown hK hP hD hS 0 rfl (Nat.le_of_ble_eq_true rfl) rfl d_FS_init_566 (fun H locs hP hD hS => ?_)
  refine lv_aload_n (pc := 569) hx hb d_FS_init_569 rfl (lv_at hl 0 rfl) ?_
  refine lv_bipush (v := 9) (pc := 570) hx hb d_FS_init_570 (by decide) ?_
  refine pt_FS_act (ws' := ((h0, .inr (0, [.ref qa, .int 0, .int (-1), .int 0, .int 0, .int 0, .int 9, .int 0, .int 0, .int 0, .int 0, .int 0, .null])) :: (qa, ARq cC 7 f) :: T)) (pc := 572) hx hb hts hown hK hP hD hS 0 rfl (Nat.le_of_ble_eq_true rfl) rfl d_FS_init_572 (fun H locs hP hD hS => ?_)
  refine lv_aload_n (pc := 575) hx hb d_FS_init_575 rfl (lv_at hl 0 rfl) ?_
  refine lv_bipush (v := 7) (pc := 576) hx hb d_FS_init_576 (by decide) ?_
  refine fz_newZ (pc := 578) (N' := 7) hx hb (hts _ k_79) hK hP hD hS hA (by decide) (by decide) (by decide) (Nat.le_of_ble_eq_true rfl) (Nat.le_of_ble_eq_true rfl) d_FS_init_578 (fun qd H hP hD hS => ?_)
  have hP : va_P (dC, dI) classes ((h0, .inr (0, [.ref qa, .int 0, .int (-1), .int 0, .int 0, .int 0, .int 9, .int 0, .int 0, .int 0, .int 0, .int 0, .null])) :: (qa, ARq cC 7 f) :: (T ++ [(qd, ARi cZ 7 (fun _ => 0))])) H := hP
  have hD : va_D (fun q : Nat => q = h0 ∨ s.heap.size ≤ q) ((h0, .inr (0, [.ref qa, .int 0, .int (-1), .int 0, .int 0, .int 0, .int 9, .int 0, .int 0, .int 0, .int 0, .int 0, .null])) :: (qa, ARq cC 7 f) :: (T ++ [(qd, ARi cZ 7 (fun _ => 0))])) := hD
  refine pt_FS_declaratives (ws' := ((h0, FSo qa qd 0 (-1) 0 0 0 9 0 0 0 0 0) :: (qa, ARq cC 7 f) :: (T ++ [(qd, ARi cZ 7 (fun _ => 0))]))) (pc := 580) hx hb hts hown hK hP hD hS hin 0 rfl (Nat.le_of_ble_eq_true rfl) rfl d_FS_init_580 (fun H locs hP hD hS => ?_)
  refine lv_aload_n (pc := 583) hx hb d_FS_init_583 rfl (lv_at hl 0 rfl) ?_
  refine fz_cut (F0 m 602 ls [.int (ff_org a), .ref h0]) (fun K => ?_) ?_
  · refine lv_iload_n (pc := 584) hx hb d_FS_init_584 rfl (lv_at hl 1 rfl) ?_
    refine lv_if_ge (tgt := 592) (pc := 585) hx hb d_FS_init_585 (by decide) (fun c_1 => ?_) (fun c_1 => ?_)
    · refine lv_iload_n (pc := 592) hx hb d_FS_init_592 rfl (lv_at hl 1 rfl) ?_
      refine lv_iconst (v := 2) (pc := 593) hx hb d_FS_init_593 (by decide) ?_
      refine lv_icmp_le (tgt := 601) (pc := 594) hx hb d_FS_init_594 (by decide) (fun c_2 => ?_) (fun c_2 => ?_)
      · refine lv_iload_n (pc := 601) hx hb d_FS_init_601 rfl (lv_at hl 1 rfl) ?_
        exact fz_top (by first | (simp only [ff_org, if_pos c_1, if_pos c_2]; done) | rfl | contradiction) K
      · refine lv_iconst (v := 2) (pc := 597) hx hb d_FS_init_597 (by decide) ?_
        refine lv_goto (tgt := 602) (pc := 598) hx hb d_FS_init_598 (by decide) ?_
        exact fz_top (by first | (simp only [ff_org, if_pos c_1, if_neg c_2]; done) | rfl | contradiction) K
    · refine lv_iconst (v := 0) (pc := 588) hx hb d_FS_init_588 (by decide) ?_
      refine lv_goto (tgt := 602) (pc := 589) hx hb d_FS_init_589 (by decide) ?_
      exact fz_top (by first | (simp only [ff_org, if_neg c_1]; done) | rfl | contradiction) K
  refine pt_FS_organisation (ws' := ((h0, FSo qa qd (ff_org a) (-1) 0 0 0 9 0 0 0 0 0) :: (qa, ARq cC 7 f) :: (T ++ [(qd, ARi cZ 7 (fun _ => 0))]))) (pc := 602) hx hb hts hown hK hP hD hS hin 0 rfl (Nat.le_of_ble_eq_true rfl) rfl d_FS_init_602 (fun H locs hP hD hS => ?_)
  exact W.vret (cells := 44) (slots := 266) hx hb hr (fun t ht _ => ⟨⟨(), rfl, trivial, qa, qd, f, T, hT, by rw [ht]; exact hP, hD⟩, hS.F ht⟩) hS.2.2 d_FS_init_605 hlk
end
section
-- ===== THE PLAIN LAW: what the class computes is what the reference computes =====
def mdx (io nx : Int32) : Int32 := if io = 0 then -1 else nx
def tk_rw (k : Nat) (og : Int32) : Nat → Int32 := if og = 0 then tk_r0 k else if og = 1 then tk_r1 k else tk_r2 k
/-- what holds between two calls of the law: the ranges of the numbers -/
def Iv (og nx io ps lt pm em : Int32) : Prop := (∃ o : Fin 3, og = nI o.val) ∧ (∃ n : Fin 4, nx = nI n.val) ∧ (∃ i : Fin 2, io = nI i.val) ∧ (∃ q : Fin 4, ps = nI q.val) ∧ (∃ j : Fin 100, lt = nI j.val) ∧ (∃ q : Fin 2, pm = nI q.val) ∧ (∃ q : Fin 2, em = nI q.val)
theorem pl_isS {x : Int32} (h : ff_isS x = 1) : ∃ j : Fin 100, x = nI j.val := by
  unfold ff_isS at h
  split at h
  · exact absurd h (by decide)
  · rename_i h0
    split at h
    · exact absurd h (by decide)
    · rename_i h1
      obtain ⟨j, hj, rfl⟩ := nI_of h0
      have h2 : ¬ nI 100 ≤ nI j := h1
      have h3 : j < 100 := by
        rcases Nat.lt_or_ge j 100 with q | q
        · exact q
        · exact absurd (nI_le q hj) h2
      exact ⟨⟨j, h3⟩, rfl⟩
theorem pl_isS' : ∀ j : Fin 100, ff_isS (nI j.val) = 1 := by decide +kernel
theorem pl_isS2 (x : Int32) : ff_isS x = 0 ∨ ff_isS x = 1 := by
  unfold ff_isS
  split
  · exact Or.inl rfl
  · split
    · exact Or.inl rfl
    · exact Or.inr rfl
-- the status functions
theorem pl_exc0 : ∀ j : Fin 100, ff_ex2 (nI j.val / 10) = mm_kd (nI j.val) ∧ vp_in (mm_kd (nI j.val)) 7 := by
  have h : ∀ j : Fin 100, ff_ex2 (nI j.val / 10) = mm_kd (nI j.val) ∧ ¬ (mm_kd (nI j.val) < 0 ∨ 7 ≤ (mm_kd (nI j.val)).toNatClampNeg) := by decide +kernel
  exact h
theorem pl_exc (x : Int32) : ff_exc x = mm_exc x := by
  unfold ff_exc mm_exc
  rcases pl_isS2 x with h | h
  · rw [if_pos h, if_pos h]
  · obtain ⟨j, rfl⟩ := pl_isS h
    rw [h, if_neg (by decide), if_neg (by decide)]
    exact (pl_exc0 j).1
theorem pl_mov : ∀ j : Fin 100, ff_pos (nI j.val) = mm_mov (nI j.val) := by decide +kernel
theorem pl_pos (x : Int32) : ff_pos x = mm_pos x := by
  rcases pl_isS2 x with h | h
  · unfold ff_pos mm_pos
    rw [if_pos h, if_pos h]
  · obtain ⟨j, rfl⟩ := pl_isS h
    rw [pl_mov j]
    unfold mm_pos
    rw [h, if_neg (by decide)]
theorem pl_both0 : ∀ i j : Fin 7, (nI i.val - nI j.val = 0 ↔ nI i.val = nI j.val) ∧ (nI i.val - nI j.val ≤ 0 ↔ nI i.val ≤ nI j.val) := by decide +kernel
theorem pl_kd7 : ∀ j : Fin 100, ∃ i : Fin 7, mm_kd (nI j.val) = nI i.val := by decide +kernel
theorem pl_both (a b : Int32) : ff_both a b = mm_both a b := by
  unfold ff_both mm_both
  rcases pl_isS2 a with ha | ha
  · rw [if_pos ha, if_pos ha]
  · rcases pl_isS2 b with hb | hb
    · rw [if_pos hb, if_pos hb]
    · have na : ¬ ff_isS a = 0 := by rw [ha]; decide
      have nb : ¬ ff_isS b = 0 := by rw [hb]; decide
      rw [if_neg na, if_neg na, if_neg nb, if_neg nb, pl_exc a, pl_exc b]
      obtain ⟨i, rfl⟩ := pl_isS ha
      obtain ⟨j, rfl⟩ := pl_isS hb
      have e1 : mm_exc (nI i.val) = mm_kd (nI i.val) := by unfold mm_exc; rw [if_neg na]
      have e2 : mm_exc (nI j.val) = mm_kd (nI j.val) := by unfold mm_exc; rw [if_neg nb]
      rw [e1, e2]
      obtain ⟨u, eu⟩ := pl_kd7 i
      obtain ⟨v, ev⟩ := pl_kd7 j
      rw [eu, ev]
      obtain ⟨h1, h2⟩ := pl_both0 u v
      unfold ff_bo2
      simp only [h1, h2]
theorem pl_phr0 : ∀ (i : Fin 7) (dk : Int32), ff_phr1 (nI i.val) dk = mm_phr1 (nI i.val) dk := by
  intro i dk
  have h : ∀ i : Fin 7, (if 3 ≤ nI i.val then (3 : Int32) else 4) = (if nI i.val ≤ 2 then 4 else 3) := by decide +kernel
  unfold ff_phr1 mm_phr1 ff_phr2
  rw [h i]
theorem pl_phr (i : Fin 7) (th dk : Int32) : ff_phr (nI i.val) th dk = mm_phr (nI i.val) th dk := by
  unfold ff_phr mm_phr
  rw [pl_phr0 i dk]
  by_cases h0 : nI i.val = 0
  · rw [if_pos h0, if_pos h0]
  · rw [if_neg h0, if_neg h0]
    by_cases h1 : 3 ≤ nI i.val
    · rw [if_pos h1, if_pos h1]
      simp
    · rw [if_neg h1, if_neg h1]
theorem pl_cnt {io nx : Int32} (x ps pm lt gd bd og : Int32) : ff_cnt x (mdx io nx) ps pm lt gd bd og = mm_cnt x io nx ps pm lt gd bd og := rfl
theorem pl_mdx : ∀ (i : Fin 2) (n : Fin 4), (mdx (nI i.val) (nI n.val) = -1 ↔ nI i.val = 0) := by decide +kernel
-- mode
theorem pl_mode {og nx io ps lt pm em : Int32} (h : Iv og nx io ps lt pm em) (x : Int32) : ff_mor (mdx io nx) nx x = mm_mor io nx x ∧ ff_mon (mdx io nx) nx x = mm_mon io nx x ∧ mdx io nx = mdx io (mm_mon io nx x) ∧ Iv og (mm_mon io nx x) io ps lt pm em := by
  obtain ⟨ho, ⟨n, rfl⟩, ⟨i, rfl⟩, h4⟩ := h
  have hm := pl_mdx i n
  unfold ff_mor mm_mor ff_mon mm_mon
  simp only [hm]
  refine ⟨trivial, trivial, ?_, ho, ?_, ⟨i, rfl⟩, h4⟩
  · by_cases h0 : nI i.val = 0
    · simp only [mdx, if_pos h0]
    · simp only [if_neg h0]
  · by_cases h0 : nI i.val = 0
    · rw [if_pos h0]
      by_cases h1 : x < 0
      · rw [if_pos h1]; exact ⟨n, rfl⟩
      · rw [if_neg h1]
        by_cases h2 : x ≤ 3
        · rw [if_pos h2]
          obtain ⟨j, hj, rfl⟩ := nI_of2 (n := 3) (M := 3) rfl h1 h2
          exact ⟨⟨j, by omega⟩, rfl⟩
        · rw [if_neg h2]; exact ⟨n, rfl⟩
    · rw [if_neg h0]; exact ⟨n, rfl⟩
theorem pl_opt {og nx io ps lt pm em : Int32} (h : Iv og nx io ps lt pm em) (op x : Int32) : ff_opr (mdx io nx) op = mm_opr io op ∧ ff_opo (mdx io nx) op x = mm_opo io op x := by
  obtain ⟨ho, ⟨n, rfl⟩, ⟨i, rfl⟩, h4⟩ := h
  have hm := pl_mdx i n
  unfold ff_opr mm_opr ff_opo mm_opo
  simp only [hm]
  exact ⟨trivial, trivial⟩
-- open
theorem pl_opn {og nx io ps lt pm em : Int32} (h : Iv og nx io ps lt pm em) (op x : Int32) : ff_opn (mdx io nx) nx op x = mm_opn io nx op x := by
  obtain ⟨ho, ⟨n, rfl⟩, ⟨i, rfl⟩, h4⟩ := h
  have hm := pl_mdx i n
  unfold ff_opn mm_opn
  simp only [hm]
/-- the statuses that an opening has -/
theorem pl_opv (io nx op x : Int32) : (mm_opn io nx op x = 0 ∧ io = 0) ∨ (mm_opn io nx op x = 5 ∧ io = 0) ∨ mm_opn io nx op x = 35 ∨ mm_opn io nx op x = 37 ∨ mm_opn io nx op x = 39 ∨ mm_opn io nx op x = 38 ∨ mm_opn io nx op x = 30 ∨ mm_opn io nx op x = 61 ∨ mm_opn io nx op x = 90 ∨ mm_opn io nx op x = 41 := by
  unfold mm_opn
  by_cases h0 : io = 0
  · rw [if_pos h0]
    repeat' split
    all_goals simp [h0]
  · rw [if_neg h0]
    simp
theorem pl_ome : ∀ (s : Int32) (n : Fin 4), ∃ q : Fin 2, ff_ome s (nI n.val) = nI q.val := by
  intro s n
  rcases ff_ome_bz s (nI n.val) with h | h
  · exact ⟨0, h⟩
  · exact ⟨1, h⟩
theorem pl_open {og nx io ps lt pm em : Int32} (h : Iv og nx io ps lt pm em) (op x gd bd s : Int32) (es : s = mm_opn io nx op x) :
    ff_omd s (mdx io nx) nx = mdx (mm_oio s io) nx ∧ ff_ops s ps = mm_ops s ps ∧ ff_tg s 7 gd = gd ∧ ff_tb s bd = bd + mm_b s ∧ ff_oem s nx em = mm_ono s nx em ∧ Iv og nx (mm_oio s io) (mm_ops s ps) s 0 (mm_ono s nx em) := by
  obtain ⟨ho, ⟨n, rfl⟩, ⟨i, rfl⟩, ⟨q, rfl⟩, hlt, hpm, ⟨k, rfl⟩⟩ := h
  have hv := pl_opv (nI i.val) (nI n.val) op x
  rw [← es] at hv
  have t1 : ∀ g : Int32, g + 0 = g := fun g => by simp
  rcases hv with ⟨h, h0⟩ | ⟨h, h0⟩ | h | h | h | h | h | h | h | h <;> subst h
  · refine ⟨?_, rfl, rfl, ?_, rfl, ho, ⟨n, rfl⟩, ⟨1, rfl⟩, ⟨0, rfl⟩, ⟨0, rfl⟩, ⟨0, rfl⟩, pl_ome 0 n⟩
    · rfl
    · show bd = bd + 0
      rw [t1]
  · refine ⟨?_, rfl, rfl, ?_, rfl, ho, ⟨n, rfl⟩, ⟨1, rfl⟩, ⟨0, rfl⟩, ⟨5, rfl⟩, ⟨0, rfl⟩, pl_ome 5 n⟩
    · rfl
    · show bd = bd + 0
      rw [t1]
  · exact ⟨rfl, rfl, rfl, rfl, rfl, ho, ⟨n, rfl⟩, ⟨i, rfl⟩, ⟨q, rfl⟩, ⟨35, rfl⟩, ⟨0, rfl⟩, ⟨k, rfl⟩⟩
  · exact ⟨rfl, rfl, rfl, rfl, rfl, ho, ⟨n, rfl⟩, ⟨i, rfl⟩, ⟨q, rfl⟩, ⟨37, rfl⟩, ⟨0, rfl⟩, ⟨k, rfl⟩⟩
  · exact ⟨rfl, rfl, rfl, rfl, rfl, ho, ⟨n, rfl⟩, ⟨i, rfl⟩, ⟨q, rfl⟩, ⟨39, rfl⟩, ⟨0, rfl⟩, ⟨k, rfl⟩⟩
  · exact ⟨rfl, rfl, rfl, rfl, rfl, ho, ⟨n, rfl⟩, ⟨i, rfl⟩, ⟨q, rfl⟩, ⟨38, rfl⟩, ⟨0, rfl⟩, ⟨k, rfl⟩⟩
  · exact ⟨rfl, rfl, rfl, rfl, rfl, ho, ⟨n, rfl⟩, ⟨i, rfl⟩, ⟨q, rfl⟩, ⟨30, rfl⟩, ⟨0, rfl⟩, ⟨k, rfl⟩⟩
  · exact ⟨rfl, rfl, rfl, rfl, rfl, ho, ⟨n, rfl⟩, ⟨i, rfl⟩, ⟨q, rfl⟩, ⟨61, rfl⟩, ⟨0, rfl⟩, ⟨k, rfl⟩⟩
  · exact ⟨rfl, rfl, rfl, rfl, rfl, ho, ⟨n, rfl⟩, ⟨i, rfl⟩, ⟨q, rfl⟩, ⟨90, rfl⟩, ⟨0, rfl⟩, ⟨k, rfl⟩⟩
  · exact ⟨rfl, rfl, rfl, rfl, rfl, ho, ⟨n, rfl⟩, ⟨i, rfl⟩, ⟨q, rfl⟩, ⟨41, rfl⟩, ⟨0, rfl⟩, ⟨k, rfl⟩⟩
-- act
theorem pl_ah : ∀ (k : Fin 7) (o : Fin 3) (i : Fin 2) (n : Fin 4) (q : Fin 4) (m : Fin 2),
    (ff_ah (tk_md k.val (nI o.val).toNatClampNeg) (tk_br k.val) (nI k.val) (nI o.val) (mdx (nI i.val) (nI n.val)) (nI q.val) (nI m.val) = -1 ∧ mm_ah (nI i.val) (nI o.val) (nI k.val) (nI n.val) (nI q.val) (nI m.val) = 0 ∧ ¬ nI i.val = 0 ∧ (nI k.val = 0 → ¬ mm_rds (nI n.val) = 0) ∧ ¬ mm_c1 (nI o.val) (nI k.val) = 1) ∨
    (ff_ah (tk_md k.val (nI o.val).toNatClampNeg) (tk_br k.val) (nI k.val) (nI o.val) (mdx (nI i.val) (nI n.val)) (nI q.val) (nI m.val) = mm_ah (nI i.val) (nI o.val) (nI k.val) (nI n.val) (nI q.val) (nI m.val) ∧ ff_isS (mm_ah (nI i.val) (nI o.val) (nI k.val) (nI n.val) (nI q.val) (nI m.val)) = 1 ∧ 10 < mm_ah (nI i.val) (nI o.val) (nI k.val) (nI n.val) (nI q.val) (nI m.val) ∧ (nI i.val = 0 → mm_ah (nI i.val) (nI o.val) (nI k.val) (nI n.val) (nI q.val) (nI m.val) = 42)) := by decide +kernel
theorem pl_row : ∀ (k : Fin 7) (o : Fin 3) (j : Fin 9), ¬ mm_c1 (nI o.val) (nI k.val) = 1 → tk_rw k.val (nI o.val) j.val = mm_by (nI k.val) (nI j.val) (nI o.val) (mm_key (nI o.val)) (mm_idx (nI o.val)) ∧ ff_isS (tk_rw k.val (nI o.val) j.val) = 1 := by decide +kernel
theorem pl_sts (k : Fin 7) (o : Fin 3) (oc : Int32) (h : ¬ mm_c1 (nI o.val) (nI k.val) = 1) : fa_sts (tk_rw k.val (nI o.val)) oc = mm_by (nI k.val) oc (nI o.val) (mm_key (nI o.val)) (mm_idx (nI o.val)) ∧ ff_isS (fa_sts (tk_rw k.val (nI o.val)) oc) = 1 := by
  by_cases h1 : oc < 0
  · have n : ∀ j : Nat, j < 2 ^ 31 → ¬ oc = nI j := fun j hj e => nI_pos hj (e ▸ h1)
    unfold fa_sts mm_by
    rw [if_pos h1, if_neg (show ¬ oc = 0 from n 0 (by decide)), if_neg (show ¬ oc = 1 from n 1 (by decide)), if_neg (show ¬ oc = 2 from n 2 (by decide)), if_neg (show ¬ oc = 3 from n 3 (by decide)), if_neg (show ¬ oc = 4 from n 4 (by decide)), if_neg (show ¬ oc = 5 from n 5 (by decide)), if_neg (show ¬ oc = 6 from n 6 (by decide)), if_neg (show ¬ oc = 7 from n 7 (by decide)), if_neg (show ¬ oc = 8 from n 8 (by decide))]
    exact ⟨rfl, by decide⟩
  · by_cases h2 : oc ≤ 8
    · obtain ⟨j, hj, rfl⟩ := nI_of2 (n := 8) (M := 8) rfl h1 h2
      have e : fa_sts (tk_rw k.val (nI o.val)) (nI j) = tk_rw k.val (nI o.val) j := by
        unfold fa_sts
        rw [if_neg h1, if_pos h2, nI_clamp (by omega)]
      rw [e]
      exact pl_row k o ⟨j, by omega⟩ h
    · have n : ∀ j : Nat, j ≤ 8 → ¬ oc = nI j := fun j hj e => h2 (by rw [e]; exact nI_le (b := 8) hj (by decide))
      unfold fa_sts mm_by
      rw [if_neg h1, if_neg h2, if_neg (show ¬ oc = 0 from n 0 (by decide)), if_neg (show ¬ oc = 1 from n 1 (by decide)), if_neg (show ¬ oc = 2 from n 2 (by decide)), if_neg (show ¬ oc = 3 from n 3 (by decide)), if_neg (show ¬ oc = 4 from n 4 (by decide)), if_neg (show ¬ oc = 5 from n 5 (by decide)), if_neg (show ¬ oc = 6 from n 6 (by decide)), if_neg (show ¬ oc = 7 from n 7 (by decide)), if_neg (show ¬ oc = 8 from n 8 (by decide))]
      exact ⟨rfl, by decide⟩
theorem pl_pm : ∀ (k : Fin 7) (j : Fin 100), ff_pm (nI k.val) (nI j.val) = mm_pm (nI k.val) (nI j.val) := by decide +kernel
theorem pl_to : ∀ (k : Fin 7) (j : Fin 100), ff_to (ff_rd (nI k.val)) (nI j.val) = mm_to (ff_rd (nI k.val)) (nI j.val) ∧ (mm_to (ff_rd (nI k.val)) (nI j.val) = 0 ∨ mm_to (ff_rd (nI k.val)) (nI j.val) = 1 ∨ mm_to (ff_rd (nI k.val)) (nI j.val) = 2 ∨ mm_to (ff_rd (nI k.val)) (nI j.val) = 3) := by decide +kernel
theorem pl_to42 : ∀ k : Fin 7, mm_to (ff_rd (nI k.val)) 42 = 0 := by decide +kernel
theorem pl_tell (k : Fin 7) (s gd bd : Int32) : ff_tg s (nI k.val) gd = gd + mm_g s ∧ ff_tb s bd = bd + mm_b s := by
  have h7 : ∀ k : Fin 7, ¬ nI k.val = 7 := by decide +kernel
  unfold ff_tg ff_tb mm_g mm_b
  rw [if_neg (h7 k)]
  by_cases h : s < 10
  · have h2 : ¬ 10 ≤ s := fun q => by
      rw [Int32.lt_iff_toInt_lt] at h
      rw [Int32.le_iff_toInt_le] at q
      omega
    rw [if_pos h, if_pos h, if_neg h2, if_neg h2]
    exact ⟨rfl, by simp⟩
  · have h2 : 10 ≤ s := by
      rw [Int32.lt_iff_toInt_lt] at h
      rw [Int32.le_iff_toInt_le]
      omega
    rw [if_neg h, if_neg h, if_pos h2, if_pos h2]
    exact ⟨by simp, rfl⟩
theorem pl_ps {to io ps : Int32} (ht : to = 0 ∨ to = 1 ∨ to = 2 ∨ to = 3) (hio : io = 0 → to = 0) : ff_ps to ps = mm_ps to io ps := by
  unfold ff_ps mm_ps
  by_cases h : io = 0
  · rw [hio h]
    rfl
  · rw [if_neg h]
    rcases ht with rfl | rfl | rfl | rfl <;> rfl
theorem pl_act {og nx io ps lt pm em : Int32} (h : Iv og nx io ps lt pm em) (k : Fin 7) (oc gd bd fah mah s1 : Int32) (e1 : fah = ff_ah (tk_md k.val og.toNatClampNeg) (tk_br k.val) (nI k.val) og (mdx io nx) ps pm) (e2 : mah = mm_ah io og (nI k.val) nx ps pm) (e3 : s1 = ff_st fah (nI k.val) em (fa_sts (tk_rw k.val og) oc)) :
    s1 = mm_st mah (nI k.val) em (mm_by (nI k.val) oc og (mm_key og) (mm_idx og)) ∧ ff_md (nI k.val) s1 (mdx io nx) = mdx (mm_io (nI k.val) s1 io) nx ∧ ff_ps (ff_to (ff_rd (nI k.val)) s1) ps = mm_ps (mm_to (ff_rd (nI k.val)) s1) io ps ∧ ff_tg s1 (nI k.val) gd = gd + mm_g s1 ∧ ff_tb s1 bd = bd + mm_b s1 ∧ ff_pm (nI k.val) s1 = mm_pm (nI k.val) s1 ∧ ff_em fah (nI k.val) em = mm_no (nI k.val) io nx s1 em ∧
      Iv og nx (mm_io (nI k.val) s1 io) (mm_ps (mm_to (ff_rd (nI k.val)) s1) io ps) s1 (mm_pm (nI k.val) s1) (mm_no (nI k.val) io nx s1 em) := by
  obtain ⟨⟨o, rfl⟩, ⟨n, rfl⟩, ⟨i, rfl⟩, ⟨q, rfl⟩, hlt, ⟨m, rfl⟩, ⟨r, rfl⟩⟩ := h
  have hr : nI r.val = 0 ∨ nI r.val = 1 := by
    have : ∀ r : Fin 2, nI r.val = 0 ∨ nI r.val = 1 := by decide +kernel
    exact this r
  -- the status
  have key : (s1 = mm_st mah (nI k.val) (nI r.val) (mm_by (nI k.val) oc (nI o.val) (mm_key (nI o.val)) (mm_idx (nI o.val)))) ∧ ff_isS s1 = 1 ∧ (nI i.val = 0 → s1 = 42) ∧ ff_em fah (nI k.val) (nI r.val) = mm_no (nI k.val) (nI i.val) (nI n.val) s1 (nI r.val) := by
    rcases pl_ah k o i n q m with ⟨a1, a2, a3, a4, a5⟩ | ⟨a1, a2, a3, a4⟩
    · rw [← e1] at a1
      rw [← e2] at a2
      obtain ⟨b1, b2⟩ := pl_sts k o oc a5
      unfold ff_st at e3
      rw [if_pos a1] at e3
      have hem : ff_em fah (nI k.val) (nI r.val) = ff_e1 (nI k.val) (nI r.val) := by unfold ff_em; rw [if_pos a1]
      rw [hem]
      unfold ff_s1 at e3
      unfold mm_st mm_s1 mm_no ff_e1
      rw [if_pos a2, if_neg a3, ← b1]
      by_cases hk : nI k.val = 0
      · rw [if_pos hk] at e3
        rw [if_pos hk, if_pos hk, if_pos hk, if_neg (a4 hk)]
        rcases hr with hr | hr
        · rw [if_pos hr] at e3
          rw [if_pos hr, if_pos hr, hr]
          refine ⟨e3, by rw [e3]; exact b2, fun z => absurd z a3, ?_⟩
          split <;> rfl
        · have hr0 : ¬ nI r.val = 0 := by rw [hr]; decide
          rw [if_neg hr0] at e3
          rw [if_neg hr0, if_neg hr0, e3]
          exact ⟨rfl, by decide, fun z => absurd z a3, rfl⟩
      · rw [if_neg hk] at e3
        rw [if_neg hk, if_neg hk, if_neg hk]
        refine ⟨e3, by rw [e3]; exact b2, fun z => absurd z a3, ?_⟩
        rcases hr with hr | hr <;> rw [hr] <;> rfl
    · rw [← e1, ← e2] at a1
      rw [← e2] at a2 a3 a4
      have hne : ∀ j : Fin 100, 10 < nI j.val → ¬ nI j.val = -1 ∧ ¬ nI j.val = 0 ∧ ¬ nI j.val = 10 := by decide +kernel
      obtain ⟨j, hj⟩ := pl_isS a2
      obtain ⟨c1, c2, c3⟩ := hne j (by rw [← hj]; exact a3)
      rw [← hj] at c1 c2 c3
      have hs : s1 = mah := by
        rw [e3, a1]
        unfold ff_st
        rw [if_neg c1]
      have hm : mm_st mah (nI k.val) (nI r.val) (mm_by (nI k.val) oc (nI o.val) (mm_key (nI o.val)) (mm_idx (nI o.val))) = mah := by
        unfold mm_st
        rw [if_neg c2]
      have hem : ff_em fah (nI k.val) (nI r.val) = nI r.val := by
        unfold ff_em
        rw [a1, if_neg c1]
      rw [hm, hem, hs]
      refine ⟨rfl, a2, a4, ?_⟩
      unfold mm_no
      rw [if_neg c3]
      repeat' split
      all_goals rfl
  obtain ⟨g1, g2, g3, g4⟩ := key
  obtain ⟨j, hj⟩ := pl_isS g2
  obtain ⟨t1, t2⟩ := pl_to k j
  rw [← hj] at t1 t2
  have t3 : nI i.val = 0 → mm_to (ff_rd (nI k.val)) s1 = 0 := fun z => by rw [g3 z]; exact pl_to42 k
  have hps : ff_ps (ff_to (ff_rd (nI k.val)) s1) (nI q.val) = mm_ps (mm_to (ff_rd (nI k.val)) s1) (nI i.val) (nI q.val) := by
    rw [t1]
    exact pl_ps t2 t3
  obtain ⟨p1, p2⟩ := pl_tell k s1 gd bd
  have hpm : ff_pm (nI k.val) s1 = mm_pm (nI k.val) s1 := by rw [hj]; exact pl_pm k j
  refine ⟨g1, ?_, hps, p1, p2, hpm, g4, ⟨o, rfl⟩, ⟨n, rfl⟩, ?_, ?_, ⟨j, hj⟩, ?_, ?_⟩
  · unfold ff_md mm_io
    by_cases h6 : nI k.val = 6
    · rw [if_pos h6, if_pos h6]
      by_cases h0 : s1 = 0
      · rw [if_pos h0, if_pos h0]
        rfl
      · rw [if_neg h0, if_neg h0]
    · rw [if_neg h6, if_neg h6]
  · unfold mm_io
    by_cases h6 : nI k.val = 6
    · rw [if_pos h6]
      by_cases h0 : s1 = 0
      · rw [if_pos h0]
        exact ⟨0, rfl⟩
      · rw [if_neg h0]
        exact ⟨i, rfl⟩
    · rw [if_neg h6]
      exact ⟨i, rfl⟩
  · unfold mm_ps
    by_cases h0 : mm_to (ff_rd (nI k.val)) s1 = 0
    · rw [if_pos h0]
      exact ⟨q, rfl⟩
    · rw [if_neg h0]
      by_cases h1 : nI i.val = 0
      · rw [if_pos h1]
        exact ⟨q, rfl⟩
      · rw [if_neg h1]
        rcases t2 with t | t | t | t
        · exact ⟨0, t⟩
        · exact ⟨1, t⟩
        · exact ⟨2, t⟩
        · exact ⟨3, t⟩
  · rcases mm_pm_bz (nI k.val) s1 with t | t
    · exact ⟨0, t⟩
    · exact ⟨1, t⟩
  · unfold mm_no
    repeat' split
    all_goals first | exact ⟨r, rfl⟩ | exact ⟨0, rfl⟩
theorem pl_org (x : Int32) : ∃ o : Fin 3, ff_org x = nI o.val := by
  unfold ff_org
  split
  · rename_i h0
    split
    · rename_i h1
      have h2 : ¬ x < 0 := fun q => by
        rw [Int32.lt_iff_toInt_lt] at q
        rw [Int32.le_iff_toInt_le] at h0
        omega
      obtain ⟨j, hj, rfl⟩ := nI_of2 (n := 2) (M := 2) rfl h2 h1
      exact ⟨⟨j, by omega⟩, rfl⟩
    · exact ⟨2, rfl⟩
  · exact ⟨0, rfl⟩
/-- at the start -/
theorem pl_0 (x : Int32) : Iv (ff_org x) 0 0 0 0 0 0 := ⟨pl_org x, ⟨0, rfl⟩, ⟨0, rfl⟩, ⟨0, rfl⟩, ⟨0, rfl⟩, ⟨0, rfl⟩, ⟨0, rfl⟩⟩
end
section
-- the skeleton's words (a starting text)
/-! THE CLAIM OUT OF ONE WALK OF THE LAW'S BODY. Your part is whole_start (and what it stands on); all else here is the same for every law, but numbers. -/
def R_law : String := "FileStatusLaw"
def lw_P (b : Addr) (xs : List Int32) (args : Array Value) (s : State) : Prop := args = #[.ref b] ∧ s.IntsAt b xs ∧ xs.length ≤ 1537 ∧ (Jvm.Cond.and given_1 narrow_1).before args s = true
def lw_Q (_ : Array Value) (s : State) (o : Outcome) (t : State) : Prop := o = .returned (some (.int 1)) ∧ Framed s o t [] 864254 6509487
def lw_Z (below : List Frame) (a : Array Value) (s : State) : State → Prop := fun t => ∃ o, t.status = .running ∧ Ended t below o ∧ lw_Q a s o t
/-- the law's own end, with 1 on the stack, nothing written that was there before, its room as the claim has it -/
theorem lw_ret {p : Program} {l : Launch} {e : Env} {s : State} {m : MethodId} {below : List Frame} {meth : Method} {c : Code} {b : Nat} (hx : p.tables.exec = Jvm.exec) (hb : c.code = code) (hr : meth.sig.returnType = ret) (hlocks : meth.locks = false) {pc : Nat} {H : Heap} {ls : Array Slot} (hdg : decode code pc = .ok (.ireturn, 1)) : W p l e room_1 s m #[Value.ref b] below meth c H [] 864254 6509487 (lw_Z below #[Value.ref b] s) (F0 m pc ls [.int 1]) := by
  intro T hT X
  obtain ⟨fs, hret, hrun, hended, hW, hframe⟩ := X.leave (v := some (.int 1)) (hlocks := hlocks) (fun h => by rw [hr] at h; cases h)
  have hmeth' : T.vm.method? m = some meth := X.method'
  refine ⟨T.setFrames fs, ?_, .returned (some (.int 1)), hrun, hended, rfl, ⟨_, rfl⟩, hW, hframe⟩
  jvm_step X.here [X.here.top, hx, hb, hdg, hmeth', hr, ret, narrow_b1]
  (try refine ⟨rfl, ?_⟩); (try refine ⟨rfl, ?_⟩)
  first | (intro acts; rw [hret _ acts rfl rfl rfl]) | rw [hret _ _ rfl rfl rfl]
  exact Steps.refl _
/-- what holds at the law's entry: the machine, the code, the tables' words (any of lw_tbl by 'hts w (by decide +kernel)'), the script of L ints xs at the cell b, what the Statement gives of the start (any of its parts by flat_of_before) -/
def lw_At (p : Program) (s : State) (m : MethodId) (meth : Method) (c : Code) (b L : Nat) (xs : Nat → Int32) : Prop :=
  p.tables.exec = Jvm.exec ∧ c.code = code ∧ meth.sig.returnType = ret ∧ c.maxLocals = 4 ∧ s.vm.findClass R_law = some m.cls ∧ (∀ w ∈ lw_tbl, w.before #[Value.ref b] s = true) ∧ va_X b L xs s s.heap ∧ b < s.heap.size ∧ meth.locks = false ∧ (Jvm.Cond.and given_1 narrow_1).before #[Value.ref b] s = true
-- ===== cell(script, 0) =====
def ce (L : Nat) (xs : Nat → Int32) : Int32 := if Int32.ofNat L ≤ 0 then 0 else xs (0 : Int32).toNatClampNeg
theorem fz_in0 {L : Nat} (h : ¬ Int32.ofNat L ≤ 0) : vp_in 0 L := by
  unfold vp_in
  rintro (q | q)
  · exact absurd q (by decide)
  · have h0 : L = 0 := Nat.le_zero.mp q
    subst h0
    exact h (by decide)
set_option maxHeartbeats 4000000 in
set_option maxRecDepth 100000 in
theorem c_LW_cell (l : Launch) (b L : Nat) (xs : Nat → Int32) : Met l y_LW_cell (.code y_LW_cell b_LW_cell 2 (some .int) :: tw) rm_LW_cell (va_Pc [.ref b, .int 0] (fun U => va_X b L xs U U.heap)) (QcRead (ce L xs)) 0 0 (fun _ => False) := by
  refine Met.ofW (cc := b_LW_cell) (maxL := 2) (ret := (some .int)) (by decide) rfl ?_
  intro p e s m args below meth c s₁ B hml hv
  obtain ⟨rfl, hX⟩ := hv
  have hx := B.exec
  have hb := B.bytes
  have hr := B.returns
  have hlk := B.notSynchronized
  have hbl : b < s.heap.size := by
    obtain ⟨scr, h1, -⟩ := hX
    exact (Array.getElem?_eq_some_iff.mp h1).1
  have hbA : ¬ (fun _ : Nat => False) b := fun h => h
  have hS : va_S (fun _ : Nat => False) s.heap s.heap [] := va_S.rf
  have hl := lv_entry [.ref b, .int 0] (n := 2) (Nat.le_of_ble_eq_true rfl)
  rw [lg_entry_eq]
  generalize (lg_sl [.ref b, .int 0] ++ List.replicate (2 - (lg_sl [.ref b, .int 0]).length) Slot.unset).toArray = ls at hl ⊢
  have hl : lv_has ls 2 [(0, .ref b), (1, .int 0)] := hl
  refine lv_iload_n (pc := 0) hx hb d_LW_cell_0 rfl (lv_at hl 1 rfl) ?_
  refine lv_aload_n (pc := 1) hx hb d_LW_cell_1 rfl (lv_at hl 0 rfl) ?_
  refine va_slen (pc := 2) hx hb hX hbl hbA hS d_LW_cell_2 ?_
  refine lv_icmp_ge (tgt := 12) (pc := 3) hx hb d_LW_cell_3 (by decide) (fun c_1 => ?_) (fun c_1 => ?_)
  · refine lv_iconst (v := 0) (pc := 12) hx hb d_LW_cell_12 (by decide) ?_
    exact fz_retR hx hb hr hlk (by simp only [ce, if_pos c_1]) d_LW_cell_13
  · refine lv_aload_n (pc := 6) hx hb d_LW_cell_6 rfl (lv_at hl 0 rfl) ?_
    refine lv_iload_n (pc := 7) hx hb d_LW_cell_7 rfl (lv_at hl 1 rfl) ?_
    refine va_sld (pc := 8) hx hb hX hbl hbA hS (fz_in0 c_1) d_LW_cell_8 ?_
    refine lv_goto (tgt := 13) (pc := 9) hx hb d_LW_cell_9 (by decide) ?_
    exact fz_retR hx hb hr hlk (by simp only [ce, if_neg c_1]) d_LW_cell_13
-- ===== numbers of the law's loop =====
theorem fz_67 {x : Int32} : x ≤ 6 ↔ x < 7 := by
  rw [Int32.le_iff_toInt_le, Int32.lt_iff_toInt_lt]
  have e1 : (6 : Int32).toInt = 6 := rfl
  have e2 : (7 : Int32).toInt = 7 := rfl
  omega
theorem fz_sub3 {L : Nat} (h : L ≤ 1537) : (Int32.ofNat L - 3).toInt = (L : Int) - 3 := pk_sub_toInt (a := L) (b := 3) (by omega) (by omega)
theorem fz_lp {L i : Nat} {i3 : Int32} (hL : L ≤ 1537) (hi : i ≤ L + 1) (e : i3 = nI i) (h : ¬ Int32.ofNat L - 3 < i3) : i + 3 ≤ L ∧ vp_in i3 L ∧ vp_in (i3 + 1) L ∧ vp_in (i3 + 2) L := by
  rw [Int32.lt_iff_toInt_lt, fz_sub3 hL, e, nI_toInt (by omega)] at h
  have h1 : i + 3 ≤ L := by omega
  have e1 : nI i + 1 = nI (i + 1) := nI_1 i
  have e2 : nI i + 2 = nI (i + 2) := nI_add i 2
  subst e
  rw [e1, e2]
  exact ⟨h1, vp_in_nI (by omega) (by omega), vp_in_nI (by omega) (by omega), vp_in_nI (by omega) (by omega)⟩
theorem fz_i3 (i : Nat) : nI i + 3 = nI (i + 3) := nI_add i 3
theorem fz_b01 (x : Int32) : ff_b01 x = 0 ∨ ff_b01 x = 1 := by
  unfold ff_b01
  split
  · exact Or.inl rfl
  · exact Or.inr rfl
theorem fz_pick {cI cS : ClassId} {fA : Nat → Option Nat} {T : va_W} (hT : Tb cI cS 7 fA T) {k : Nat} (hk : k < 7) (o : Fin 3) : ∃ (ak mk sk rk : Nat) (fs : Nat → Option Nat), fA (nI k).toNatClampNeg = some ak ∧ fs (nI o.val).toNatClampNeg = some rk ∧ (ak, ACo mk (tk_br k) sk) ∈ T ∧ (mk, ARi cI 3 (tk_md k)) ∈ T ∧ (sk, ARq cS 3 fs) ∈ T ∧ (rk, ARi cI 9 (tk_rw k (nI o.val))) ∈ T := by
  obtain ⟨a, m, s, r0, r1, r2, h1, h2⟩ := hT k hk
  have ho : o.val = 0 ∨ o.val = 1 ∨ o.val = 2 := by omega
  have m1 := h2 (a, ACo m (tk_br k) s) (by simp [tbk])
  have m2 := h2 (m, ARi cI 3 (tk_md k)) (by simp [tbk])
  have m3 := h2 (s, ARq cS 3 (sq3 r0 r1 r2)) (by simp [tbk])
  have x0 := h2 (r0, ARi cI 9 (tk_r0 k)) (by simp [tbk])
  have x1 := h2 (r1, ARi cI 9 (tk_r1 k)) (by simp [tbk])
  have x2 := h2 (r2, ARi cI 9 (tk_r2 k)) (by simp [tbk])
  rw [nI_clamp (by omega)]
  rcases ho with ho | ho | ho <;> rw [ho]
  · exact ⟨a, m, s, r0, sq3 r0 r1 r2, h1, rfl, m1, m2, m3, x0⟩
  · exact ⟨a, m, s, r1, sq3 r0 r1 r2, h1, rfl, m1, m2, m3, x1⟩
  · exact ⟨a, m, s, r2, sq3 r0 r1 r2, h1, rfl, m1, m2, m3, x2⟩
theorem pl_act2 {og nx io ps lt pm em : Int32} (h : Iv og nx io ps lt pm em) {j : Nat} (hj : j < 7) (oc gd bd fah mah s1 : Int32) (e1 : fah = ff_ah (tk_md j og.toNatClampNeg) (tk_br j) (nI j) og (mdx io nx) ps pm) (e2 : mah = mm_ah io og (nI j) nx ps pm) (e3 : s1 = ff_st fah (nI j) em (fa_sts (tk_rw j og) oc)) :
    s1 = mm_st mah (nI j) em (mm_by (nI j) oc og (mm_key og) (mm_idx og)) ∧ ff_md (nI j) s1 (mdx io nx) = mdx (mm_io (nI j) s1 io) nx ∧ ff_ps (ff_to (ff_rd (nI j)) s1) ps = mm_ps (mm_to (ff_rd (nI j)) s1) io ps ∧ ff_tg s1 (nI j) gd = gd + mm_g s1 ∧ ff_tb s1 bd = bd + mm_b s1 ∧ ff_pm (nI j) s1 = mm_pm (nI j) s1 ∧ ff_em fah (nI j) em = mm_no (nI j) io nx s1 em ∧
      Iv og nx (mm_io (nI j) s1 io) (mm_ps (mm_to (ff_rd (nI j)) s1) io ps) s1 (mm_pm (nI j) s1) (mm_no (nI j) io nx s1 em) := pl_act h ⟨j, hj⟩ oc gd bd fah mah s1 e1 e2 e3
set_option maxHeartbeats 40000000 in
set_option maxRecDepth 100000 in
/-- THE LAW'S LOOP: at its head, with i ints read, the class and the reference hold one state -/
theorem law_loop {p : Program} {l : Launch} {e : Env} {s : State} {m : MethodId} {below : List Frame} {meth : Method} {c : Code} {dC : Nat → ClassId} {dI : Nat → Nat → Nat} {cI cZ cC cS : ClassId} {b L : Nat} {xs : Nat → Int32} (hL : L ≤ 1537) (C0 : lw_At p s m meth c b L xs) (hK : kK dC dI cI cZ cC cS s) {ax am qa qd qm : Nat} {fA : Nat → Option Nat} {T : va_W} (hT : Tb cI cS 7 fA T) :
    ∀ (n i : Nat) (i3 : Int32), i ≤ L + 1 → L + 2 ≤ i + n → i3 = nI i → ∀ (og nx ps lt ac gd bd io op pm em : Int32) (dv : Nat → Int32), Iv og nx io ps lt pm em → ∀ (H : Heap) (locs : List Loc), va_P (dC, dI) classes ((ax, FSo qa qd og (mdx io nx) nx ps lt ac gd bd op pm em) :: (qa, ARq cC 7 fA) :: (qd, ARi cZ 7 dv) :: (am, MDo qm 0 og nx ps lt ac gd bd io pm op em) :: (qm, ARi cZ 7 dv) :: T) H → va_D (fun q : Nat => s.heap.size ≤ q) ((ax, FSo qa qd og (mdx io nx) nx ps lt ac gd bd op pm em) :: (qa, ARq cC 7 fA) :: (qd, ARi cZ 7 dv) :: (am, MDo qm 0 og nx ps lt ac gd bd io pm op em) :: (qm, ARi cZ 7 dv) :: T) → va_S (fun q : Nat => s.heap.size ≤ q) s.heap H locs → ∀ (ls : Array Slot), lv_has ls 4 [(0, .ref b), (1, .ref ax), (2, .ref am), (3, .int i3)] → W p l e room_1 s m #[Value.ref b] below meth c H locs 864254 6509487 (lw_Z below #[Value.ref b] s) (F0 m 28 ls []) := by
  obtain ⟨hx, hb, hr, hml, hown, hts0, hX, hbl, hlk, hgv⟩ := C0
  have hown : s.vm.findClass "FileStatusLaw" = some m.cls := hown
  have hts : ∀ w ∈ tw, w.before #[Value.ref b] s = true := fz_tw hts0
  have hbA : ¬ (fun q : Nat => s.heap.size ≤ q) b := Nat.not_le.mpr hbl
  intro n
  induction n with
  | zero =>
    intro i i3 h1 h2
    exact absurd h2 (by omega)
  | succ n ih =>
    intro i i3 hi hn e3 og nx ps lt ac gd bd io op pm em dv hI H locs hP hD hS ls hl
    refine lv_iload_n (pc := 28) hx hb d_LW_law_28 rfl (lv_at hl 3 rfl) ?_
    refine lv_aload_n (pc := 29) hx hb d_LW_law_29 rfl (lv_at hl 0 rfl) ?_
    refine va_slen (pc := 30) hx hb hX hbl hbA hS d_LW_law_30 ?_
    refine lv_iconst (v := 3) (pc := 31) hx hb d_LW_law_31 (by decide) ?_
    refine lv_isub (pc := 32) hx hb d_LW_law_32 ?_
    refine lv_icmp_gt (tgt := 464) (pc := 33) hx hb d_LW_law_33 (by decide) (fun c_1 => ?_) (fun c_1 => ?_)
    · refine lv_iconst (v := 1) (pc := 464) hx hb d_LW_law_464 (by decide) ?_
      refine va_forget (fun q hq => hS.2.2 q hq) ?_
      exact lw_ret hx hb hr hlk d_LW_law_465
    · obtain ⟨hi3, h_0, h_1, h_2⟩ := fz_lp hL hi e3 c_1
      obtain ⟨y1, ey1⟩ : ∃ z : Int32, z = xs (i3 + 1).toNatClampNeg := ⟨_, rfl⟩
      obtain ⟨y2, ey2⟩ : ∃ z : Int32, z = xs (i3 + 2).toNatClampNeg := ⟨_, rfl⟩
      have hne : am ≠ qm := fun h => absurd (hD.1 3 4 _ _ rfl rfl h) (by decide)
      have hk2 : vp_in (mm_kd lt) 7 := by
        obtain ⟨-, -, -, -, ⟨j, rfl⟩, -⟩ := hI
        exact (pl_exc0 j).2
      have hex : ff_exc lt = mm_kd lt := by
        obtain ⟨-, -, -, -, ⟨j, rfl⟩, -⟩ := hI
        rw [pl_exc]
        unfold mm_exc
        rw [if_neg (by rw [pl_isS' j]; decide)]
      have hk1 : vp_in (ff_exc lt) 7 := by rw [hex]; exact hk2
      have K : ∀ (og nx ps lt ac gd bd io op pm em : Int32) (dv : Nat → Int32), Iv og nx io ps lt pm em → ∀ (H : Heap) (locs : List Loc), va_P (dC, dI) classes ((ax, FSo qa qd og (mdx io nx) nx ps lt ac gd bd op pm em) :: (qa, ARq cC 7 fA) :: (qd, ARi cZ 7 dv) :: (am, MDo qm 0 og nx ps lt ac gd bd io pm op em) :: (qm, ARi cZ 7 dv) :: T) H → va_D (fun q : Nat => s.heap.size ≤ q) ((ax, FSo qa qd og (mdx io nx) nx ps lt ac gd bd op pm em) :: (qa, ARq cC 7 fA) :: (qd, ARi cZ 7 dv) :: (am, MDo qm 0 og nx ps lt ac gd bd io pm op em) :: (qm, ARi cZ 7 dv) :: T) → va_S (fun q : Nat => s.heap.size ≤ q) s.heap H locs → W p l e room_1 s m #[Value.ref b] below meth c H locs 864254 6509487 (lw_Z below #[Value.ref b] s) (F0 m 458 ls []) := by
        intro og nx ps lt ac gd bd io op pm em dv hI H locs hP hD hS
        refine lv_iinc (pc := 458) (v := i3 + 3) (lv' := [(3, .int (i3 + 3)), (0, .ref b), (1, .ref ax), (2, .ref am)]) hx hb d_LW_law_458 hl (k := 3) rfl rfl (by decide) rfl (fun ls hl => ?_)
        refine lv_goto (tgt := 28) (pc := 461) hx hb d_LW_law_461 (by decide) ?_
        exact ih (i + 3) (i3 + 3) (by omega) (by omega) (by rw [e3]; exact fz_i3 i) og nx ps lt ac gd bd io op pm em dv hI H locs hP hD hS ls (lv_sub hl [1, 2, 3, 0] rfl)
      refine lv_aload_n (pc := 36) hx hb d_LW_law_36 rfl (lv_at hl 0 rfl) ?_
      refine lv_iload_n (pc := 37) hx hb d_LW_law_37 rfl (lv_at hl 3 rfl) ?_
      refine va_sld (pc := 38) hx hb hX hbl hbA hS h_0 d_LW_law_38 ?_
      refine lv_bipush (v := 15) (pc := 39) hx hb d_LW_law_39 (by decide) ?_
      refine lv_iand (pc := 41) hx hb d_LW_law_41 ?_
      by_cases c_2 : ((xs i3.toNatClampNeg) &&& 15) = 0
      · refine lv_tableIn (tgt := 104) (off := 62) (pc := 42) hx hb d_LW_law_42 (by rw [c_2]; first | done | decide) (by rw [c_2]; first | done | decide) (by rw [c_2]; first | done | decide) (by decide) ?_
        refine lv_aload_n (pc := 104) hx hb d_LW_law_104 rfl (lv_at hl 1 rfl) ?_
        refine lv_aload_n (pc := 105) hx hb d_LW_law_105 rfl (lv_at hl 0 rfl) ?_
        refine lv_iload_n (pc := 106) hx hb d_LW_law_106 rfl (lv_at hl 3 rfl) ?_
        refine lv_iconst (v := 1) (pc := 107) hx hb d_LW_law_107 (by decide) ?_
        refine lv_iadd (pc := 108) hx hb d_LW_law_108 ?_
        refine va_sld (pc := 109) hx hb hX hbl hbA hS h_1 d_LW_law_109 ?_
        refine fz_top ey1 ?_
        refine fz_cM (pc := 110) (As := [.int y1]) (rest := []) (q0 := 0) (ws' := ((ax, FSo qa qd og (mdx io nx) (ff_mon (mdx io nx) nx y1) ps lt ac gd bd op pm em) :: (qa, ARq cC 7 fA) :: (qd, ARi cZ 7 dv) :: (am, MDo qm 0 og nx ps lt ac gd bd io pm op em) :: (qm, ARi cZ 7 dv) :: T)) ⟨hx, hb, hml, hown, hts⟩ (c_FS_mode l dC dI cI cZ cC cS ax qa qd og (mdx io nx) nx ps lt ac gd bd op pm em y1) (cs_LW_21 hts ⟨(Nat.le_of_ble_eq_true rfl), (Nat.le_of_ble_eq_true rfl)⟩) (fz_preV (q0 := 0) (ci := 0) hK hP rfl rfl (hP.sub [0] rfl)) rfl hl.1 rfl (Nat.le_of_ble_eq_true rfl) d_LW_law_110 ⟨(Nat.le_of_ble_eq_true rfl), (Nat.le_of_ble_eq_true rfl)⟩ hP hD hS rfl rfl (fun H locs hP hD hS => ?_)
        refine lv_aload_n (pc := 113) hx hb d_LW_law_113 rfl (lv_at hl 2 rfl) ?_
        refine lv_aload_n (pc := 114) hx hb d_LW_law_114 rfl (lv_at hl 0 rfl) ?_
        refine lv_iload_n (pc := 115) hx hb d_LW_law_115 rfl (lv_at hl 3 rfl) ?_
        refine lv_iconst (v := 1) (pc := 116) hx hb d_LW_law_116 (by decide) ?_
        refine lv_iadd (pc := 117) hx hb d_LW_law_117 ?_
        refine va_sld (pc := 118) hx hb hX hbl hbA hS h_1 d_LW_law_118 ?_
        refine fz_top ey1 ?_
        refine fz_cM (pc := 119) (As := [.int y1]) (rest := [.int (ff_mor (mdx io nx) nx y1)]) (q0 := 3) (ws' := ((ax, FSo qa qd og (mdx io nx) (ff_mon (mdx io nx) nx y1) ps lt ac gd bd op pm em) :: (qa, ARq cC 7 fA) :: (qd, ARi cZ 7 dv) :: (am, MDo qm 0 og (mm_mon io nx y1) ps lt ac gd bd io pm op em) :: (qm, ARi cZ 7 dv) :: T)) ⟨hx, hb, hml, hown, hts⟩ (c_MD_mode l dC dI cI cZ cC cS am qm 0 og nx ps lt ac gd bd io pm op em y1) (cs_LW_25 hts ⟨(Nat.le_of_ble_eq_true rfl), (Nat.le_of_ble_eq_true rfl)⟩) (fz_preV (q0 := 3) (ci := 2) hK hP rfl rfl (hP.sub [3] rfl)) rfl hl.1 rfl (Nat.le_of_ble_eq_true rfl) d_LW_law_119 ⟨(Nat.le_of_ble_eq_true rfl), (Nat.le_of_ble_eq_true rfl)⟩ hP hD hS rfl rfl (fun H locs hP hD hS => ?_)
        refine lv_icmp_eq (tgt := 458) (pc := 122) hx hb d_LW_law_122 (by decide) (fun c_3 => ?_) (fun c_3 => ?_)
        · obtain ⟨g1, g2, g3, g4⟩ := pl_mode hI y1
          have ew : ((ax, FSo qa qd og (mdx io nx) (ff_mon (mdx io nx) nx y1) ps lt ac gd bd op pm em) :: (qa, ARq cC 7 fA) :: (qd, ARi cZ 7 dv) :: (am, MDo qm 0 og (mm_mon io nx y1) ps lt ac gd bd io pm op em) :: (qm, ARi cZ 7 dv) :: T) = ((ax, FSo qa qd og (mdx io (mm_mon io nx y1)) (mm_mon io nx y1) ps lt ac gd bd op pm em) :: (qa, ARq cC 7 fA) :: (qd, ARi cZ 7 dv) :: (am, MDo qm 0 og (mm_mon io nx y1) ps lt ac gd bd io pm op em) :: (qm, ARi cZ 7 dv) :: T) := by rw [g2, ← g3]
          exact K og (mm_mon io nx y1) ps lt ac gd bd io op pm em dv g4 _ _ (ew ▸ hP) (ew ▸ hD) hS
        · exact absurd (pl_mode hI y1).1 c_3
      by_cases c_4 : ((xs i3.toNatClampNeg) &&& 15) = 1
      · refine lv_tableIn (tgt := 127) (off := 85) (pc := 42) hx hb d_LW_law_42 (by rw [c_4]; first | done | decide) (by rw [c_4]; first | done | decide) (by rw [c_4]; first | done | decide) (by decide) ?_
        refine lv_aload_n (pc := 127) hx hb d_LW_law_127 rfl (lv_at hl 1 rfl) ?_
        refine lv_aload_n (pc := 128) hx hb d_LW_law_128 rfl (lv_at hl 0 rfl) ?_
        refine lv_iload_n (pc := 129) hx hb d_LW_law_129 rfl (lv_at hl 3 rfl) ?_
        refine lv_iconst (v := 1) (pc := 130) hx hb d_LW_law_130 (by decide) ?_
        refine lv_iadd (pc := 131) hx hb d_LW_law_131 ?_
        refine va_sld (pc := 132) hx hb hX hbl hbA hS h_1 d_LW_law_132 ?_
        refine fz_top ey1 ?_
        refine fz_cM (pc := 133) (As := [.int y1]) (rest := []) (q0 := 0) (ws' := ((ax, FSo qa qd og (ff_omd (ff_opn (mdx io nx) nx op y1) (mdx io nx) nx) nx (ff_ops (ff_opn (mdx io nx) nx op y1) ps) (ff_opn (mdx io nx) nx op y1) 7 (ff_tg (ff_opn (mdx io nx) nx op y1) 7 gd) (ff_tb (ff_opn (mdx io nx) nx op y1) bd) op 0 (ff_oem (ff_opn (mdx io nx) nx op y1) nx em)) :: (qa, ARq cC 7 fA) :: (qd, ARi cZ 7 dv) :: (am, MDo qm 0 og nx ps lt ac gd bd io pm op em) :: (qm, ARi cZ 7 dv) :: T)) ⟨hx, hb, hml, hown, hts⟩ (c_FS_open l dC dI cI cZ cC cS ax qa qd og (mdx io nx) nx ps lt ac gd bd op pm em y1) (cs_LW_26 hts ⟨(Nat.le_of_ble_eq_true rfl), (Nat.le_of_ble_eq_true rfl)⟩) (fz_preV (q0 := 0) (ci := 0) hK hP rfl rfl (hP.sub [0] rfl)) rfl hl.1 rfl (Nat.le_of_ble_eq_true rfl) d_LW_law_133 ⟨(Nat.le_of_ble_eq_true rfl), (Nat.le_of_ble_eq_true rfl)⟩ hP hD hS rfl rfl (fun H locs hP hD hS => ?_)
        refine lv_aload_n (pc := 136) hx hb d_LW_law_136 rfl (lv_at hl 2 rfl) ?_
        refine lv_aload_n (pc := 137) hx hb d_LW_law_137 rfl (lv_at hl 0 rfl) ?_
        refine lv_iload_n (pc := 138) hx hb d_LW_law_138 rfl (lv_at hl 3 rfl) ?_
        refine lv_iconst (v := 1) (pc := 139) hx hb d_LW_law_139 (by decide) ?_
        refine lv_iadd (pc := 140) hx hb d_LW_law_140 ?_
        refine va_sld (pc := 141) hx hb hX hbl hbA hS h_1 d_LW_law_141 ?_
        refine fz_top ey1 ?_
        refine fz_cM (pc := 142) (As := [.int y1]) (rest := [.int (ff_opn (mdx io nx) nx op y1)]) (q0 := 3) (ws' := ((ax, FSo qa qd og (ff_omd (ff_opn (mdx io nx) nx op y1) (mdx io nx) nx) nx (ff_ops (ff_opn (mdx io nx) nx op y1) ps) (ff_opn (mdx io nx) nx op y1) 7 (ff_tg (ff_opn (mdx io nx) nx op y1) 7 gd) (ff_tb (ff_opn (mdx io nx) nx op y1) bd) op 0 (ff_oem (ff_opn (mdx io nx) nx op y1) nx em)) :: (qa, ARq cC 7 fA) :: (qd, ARi cZ 7 dv) :: (am, MDo qm 0 og nx (mm_ops (mm_opn io nx op y1) ps) (mm_opn io nx op y1) 7 gd (bd + mm_b (mm_opn io nx op y1)) (mm_oio (mm_opn io nx op y1) io) 0 op (mm_ono (mm_opn io nx op y1) nx em)) :: (qm, ARi cZ 7 dv) :: T)) ⟨hx, hb, hml, hown, hts⟩ (c_MD_open l dC dI cI cZ cC cS am qm 0 og nx ps lt ac gd bd io pm op em y1) (cs_LW_29 hts ⟨(Nat.le_of_ble_eq_true rfl), (Nat.le_of_ble_eq_true rfl)⟩) (fz_preV (q0 := 3) (ci := 2) hK hP rfl rfl (hP.sub [3] rfl)) rfl hl.1 rfl (Nat.le_of_ble_eq_true rfl) d_LW_law_142 ⟨(Nat.le_of_ble_eq_true rfl), (Nat.le_of_ble_eq_true rfl)⟩ hP hD hS rfl rfl (fun H locs hP hD hS => ?_)
        refine lv_icmp_eq (tgt := 458) (pc := 145) hx hb d_LW_law_145 (by decide) (fun c_5 => ?_) (fun c_5 => ?_)
        · obtain ⟨g1, g2, g3, g4, g5, g6⟩ := pl_open hI op y1 gd bd _ rfl
          have ew : ((ax, FSo qa qd og (ff_omd (ff_opn (mdx io nx) nx op y1) (mdx io nx) nx) nx (ff_ops (ff_opn (mdx io nx) nx op y1) ps) (ff_opn (mdx io nx) nx op y1) 7 (ff_tg (ff_opn (mdx io nx) nx op y1) 7 gd) (ff_tb (ff_opn (mdx io nx) nx op y1) bd) op 0 (ff_oem (ff_opn (mdx io nx) nx op y1) nx em)) :: (qa, ARq cC 7 fA) :: (qd, ARi cZ 7 dv) :: (am, MDo qm 0 og nx (mm_ops (mm_opn io nx op y1) ps) (mm_opn io nx op y1) 7 gd (bd + mm_b (mm_opn io nx op y1)) (mm_oio (mm_opn io nx op y1) io) 0 op (mm_ono (mm_opn io nx op y1) nx em)) :: (qm, ARi cZ 7 dv) :: T) = ((ax, FSo qa qd og (mdx (mm_oio (mm_opn io nx op y1) io) nx) nx (mm_ops (mm_opn io nx op y1) ps) (mm_opn io nx op y1) 7 gd (bd + mm_b (mm_opn io nx op y1)) op 0 (mm_ono (mm_opn io nx op y1) nx em)) :: (qa, ARq cC 7 fA) :: (qd, ARi cZ 7 dv) :: (am, MDo qm 0 og nx (mm_ops (mm_opn io nx op y1) ps) (mm_opn io nx op y1) 7 gd (bd + mm_b (mm_opn io nx op y1)) (mm_oio (mm_opn io nx op y1) io) 0 op (mm_ono (mm_opn io nx op y1) nx em)) :: (qm, ARi cZ 7 dv) :: T) := by rw [pl_opn hI op y1, g1, g2, g3, g4, g5]
          exact K og nx (mm_ops (mm_opn io nx op y1) ps) (mm_opn io nx op y1) 7 gd (bd + mm_b (mm_opn io nx op y1)) (mm_oio (mm_opn io nx op y1) io) op 0 (mm_ono (mm_opn io nx op y1) nx em) dv g6 _ _ (ew ▸ hP) (ew ▸ hD) hS
        · exact absurd (pl_opn hI op y1) c_5
      by_cases c_6 : ((xs i3.toNatClampNeg) &&& 15) = 2
      · refine lv_tableIn (tgt := 150) (off := 108) (pc := 42) hx hb d_LW_law_42 (by rw [c_6]; first | done | decide) (by rw [c_6]; first | done | decide) (by rw [c_6]; first | done | decide) (by decide) ?_
        refine lv_aload_n (pc := 150) hx hb d_LW_law_150 rfl (lv_at hl 1 rfl) ?_
        refine lv_aload_n (pc := 151) hx hb d_LW_law_151 rfl (lv_at hl 0 rfl) ?_
        refine lv_iload_n (pc := 152) hx hb d_LW_law_152 rfl (lv_at hl 3 rfl) ?_
        refine lv_iconst (v := 1) (pc := 153) hx hb d_LW_law_153 (by decide) ?_
        refine lv_iadd (pc := 154) hx hb d_LW_law_154 ?_
        refine va_sld (pc := 155) hx hb hX hbl hbA hS h_1 d_LW_law_155 ?_
        refine fz_top ey1 ?_
        refine lv_aload_n (pc := 156) hx hb d_LW_law_156 rfl (lv_at hl 0 rfl) ?_
        refine lv_iload_n (pc := 157) hx hb d_LW_law_157 rfl (lv_at hl 3 rfl) ?_
        refine lv_iconst (v := 2) (pc := 158) hx hb d_LW_law_158 (by decide) ?_
        refine lv_iadd (pc := 159) hx hb d_LW_law_159 ?_
        refine va_sld (pc := 160) hx hb hX hbl hbA hS h_2 d_LW_law_160 ?_
        refine fz_top ey2 ?_
        rcases Classical.em (y1 < 0 ∨ ¬ y1 < 7) with hq | hq
        · have ho : ¬ y1 < 0 → ¬ y1 < 7 := fun h => by rcases hq with q | q <;> first | exact absurd q h | exact q
          refine fz_rV (pc := 161) (As := [.int y1, .int y2]) (rest := []) ⟨hx, hb, hml, hown, hts⟩ (c_FS_act_out l dC dI cI cZ cC cS ax qa qd og (mdx io nx) nx ps lt ac gd bd op pm em fA y1 y2 ho) (cs_LW_30 hts ⟨(Nat.le_of_ble_eq_true rfl), (Nat.le_of_ble_eq_true rfl)⟩) (fz_preV (q0 := 0) (ci := 0) hK hP rfl rfl (hP.sub [0, 1] rfl)) rfl hl.1 rfl (Nat.le_of_ble_eq_true rfl) d_LW_law_161 ⟨(Nat.le_of_ble_eq_true rfl), (Nat.le_of_ble_eq_true rfl)⟩ ?_
          refine lv_aload_n (pc := 164) hx hb d_LW_law_164 rfl (lv_at hl 2 rfl) ?_
          refine lv_aload_n (pc := 165) hx hb d_LW_law_165 rfl (lv_at hl 0 rfl) ?_
          refine lv_iload_n (pc := 166) hx hb d_LW_law_166 rfl (lv_at hl 3 rfl) ?_
          refine lv_iconst (v := 1) (pc := 167) hx hb d_LW_law_167 (by decide) ?_
          refine lv_iadd (pc := 168) hx hb d_LW_law_168 ?_
          refine va_sld (pc := 169) hx hb hX hbl hbA hS h_1 d_LW_law_169 ?_
          refine fz_top ey1 ?_
          refine lv_aload_n (pc := 170) hx hb d_LW_law_170 rfl (lv_at hl 0 rfl) ?_
          refine lv_iload_n (pc := 171) hx hb d_LW_law_171 rfl (lv_at hl 3 rfl) ?_
          refine lv_iconst (v := 2) (pc := 172) hx hb d_LW_law_172 (by decide) ?_
          refine lv_iadd (pc := 173) hx hb d_LW_law_173 ?_
          refine va_sld (pc := 174) hx hb hX hbl hbA hS h_2 d_LW_law_174 ?_
          refine fz_top ey2 ?_
          refine fz_cM (pc := 175) (As := [.int y1, .int y2]) (rest := [.int (-4)]) (q0 := 3) (ws' := ((ax, FSo qa qd og (mdx io nx) nx ps lt ac gd bd op pm em) :: (qa, ARq cC 7 fA) :: (qd, ARi cZ 7 dv) :: (am, MDo qm 0 og nx ps lt ac gd bd io pm op em) :: (qm, ARi cZ 7 dv) :: T)) ⟨hx, hb, hml, hown, hts⟩ (c_MD_act_out l dC dI cI cZ cC cS am qm 0 og nx ps lt ac gd bd io pm op em y1 y2 (fun h q => ho h (fz_67.mp q))) (cs_LW_34 hts ⟨(Nat.le_of_ble_eq_true rfl), (Nat.le_of_ble_eq_true rfl)⟩) (fz_preV (q0 := 3) (ci := 2) hK hP rfl rfl (hP.sub [3] rfl)) rfl hl.1 rfl (Nat.le_of_ble_eq_true rfl) d_LW_law_175 ⟨(Nat.le_of_ble_eq_true rfl), (Nat.le_of_ble_eq_true rfl)⟩ hP hD hS rfl rfl (fun H locs hP hD hS => ?_)
          refine lv_icmp_eq (tgt := 458) (pc := 178) hx hb d_LW_law_178 (by decide) (fun c_7 => ?_) (fun c_7 => ?_)
          · exact K og nx ps lt ac gd bd io op pm em dv hI _ _ hP hD hS
          · exact absurd rfl c_7
        · have h00 : ¬ y1 < 0 := fun h => hq (Or.inl h)
          have h7 : y1 < 7 := Classical.byContradiction fun h => hq (Or.inr h)
          have h6 : y1 ≤ 6 := fz_67.mpr h7
          obtain ⟨j, hj6, rfl⟩ := nI_of2 (n := 6) (M := 6) rfl h00 h6
          have hj : j < 7 := by omega
          obtain ⟨ho, hrest⟩ := id hI
          obtain ⟨o, hoe⟩ := ho
          obtain ⟨ak, mk, sk, rk, fs, hA, hs, m1, m2, m3, m4⟩ := fz_pick hT hj o
          rw [← hoe] at hs m4
          have ho3 : vp_in og 3 := by rw [hoe]; exact vp_in_nI o.isLt (by decide)
          obtain ⟨ah, eah⟩ : ∃ z : Int32, z = ff_ah (tk_md j og.toNatClampNeg) (tk_br j) (nI j) og (mdx io nx) ps pm := ⟨_, rfl⟩
          obtain ⟨mah, emah⟩ : ∃ z : Int32, z = mm_ah io og (nI j) nx ps pm := ⟨_, rfl⟩
          obtain ⟨s1, es1⟩ : ∃ z : Int32, z = ff_st ah (nI j) em (fa_sts (tk_rw j og) y2) := ⟨_, rfl⟩
          obtain ⟨g1, g2, g3, g4, g5, g6, g7, g8⟩ := pl_act2 hI hj y2 gd bd ah mah s1 eah emah es1
          have hPa : va_P (dC, dI) classes [(ax, FSo qa qd og (mdx io nx) nx ps lt ac gd bd op pm em), (qa, ARq cC 7 fA), (ak, ACo mk (tk_br j) sk), (mk, ARi cI 3 (tk_md j)), (sk, ARq cS 3 fs), (rk, ARi cI 9 (tk_rw j og))] H := by
            refine fz_Psub hP (fun q hq => ?_)
            simp only [List.mem_cons, List.not_mem_nil, or_false] at hq ⊢
            rcases hq with rfl | rfl | rfl | rfl | rfl | rfl
            · exact Or.inl rfl
            · exact Or.inr (Or.inl rfl)
            · exact Or.inr (Or.inr (Or.inr (Or.inr (Or.inr m1))))
            · exact Or.inr (Or.inr (Or.inr (Or.inr (Or.inr m2))))
            · exact Or.inr (Or.inr (Or.inr (Or.inr (Or.inr m3))))
            · exact Or.inr (Or.inr (Or.inr (Or.inr (Or.inr m4))))
          refine fz_cM (pc := 161) (As := [.int (nI j), .int y2]) (rest := []) (q0 := 0) (ws' := ((ax, FSo qa qd og (ff_md (nI j) s1 (mdx io nx)) nx (ff_ps (ff_to (ff_rd (nI j)) s1) ps) s1 (nI j) (ff_tg s1 (nI j) gd) (ff_tb s1 bd) op (ff_pm (nI j) s1) (ff_em ah (nI j) em)) :: (qa, ARq cC 7 fA) :: (qd, ARi cZ 7 dv) :: (am, MDo qm 0 og nx ps lt ac gd bd io pm op em) :: (qm, ARi cZ 7 dv) :: T)) ⟨hx, hb, hml, hown, hts⟩ (c_FS_act l dC dI cI cZ cC cS ax qa qd og (mdx io nx) nx ps lt ac gd bd op pm em fA ak mk sk rk (tk_br j) (tk_md j) fs (tk_rw j og) (nI j) y2 ah s1 h00 h7 (vp_in_nI hj (by decide)) hA ho3 hs eah es1) (cs_LW_30 hts ⟨(Nat.le_of_ble_eq_true rfl), (Nat.le_of_ble_eq_true rfl)⟩) (fz_preV (q0 := 0) (ci := 0) hK hP rfl rfl hPa) rfl hl.1 rfl (Nat.le_of_ble_eq_true rfl) d_LW_law_161 ⟨(Nat.le_of_ble_eq_true rfl), (Nat.le_of_ble_eq_true rfl)⟩ hP hD hS rfl rfl (fun H locs hP hD hS => ?_)
          refine lv_aload_n (pc := 164) hx hb d_LW_law_164 rfl (lv_at hl 2 rfl) ?_
          refine lv_aload_n (pc := 165) hx hb d_LW_law_165 rfl (lv_at hl 0 rfl) ?_
          refine lv_iload_n (pc := 166) hx hb d_LW_law_166 rfl (lv_at hl 3 rfl) ?_
          refine lv_iconst (v := 1) (pc := 167) hx hb d_LW_law_167 (by decide) ?_
          refine lv_iadd (pc := 168) hx hb d_LW_law_168 ?_
          refine va_sld (pc := 169) hx hb hX hbl hbA hS h_1 d_LW_law_169 ?_
          refine fz_top ey1 ?_
          refine lv_aload_n (pc := 170) hx hb d_LW_law_170 rfl (lv_at hl 0 rfl) ?_
          refine lv_iload_n (pc := 171) hx hb d_LW_law_171 rfl (lv_at hl 3 rfl) ?_
          refine lv_iconst (v := 2) (pc := 172) hx hb d_LW_law_172 (by decide) ?_
          refine lv_iadd (pc := 173) hx hb d_LW_law_173 ?_
          refine va_sld (pc := 174) hx hb hX hbl hbA hS h_2 d_LW_law_174 ?_
          refine fz_top ey2 ?_
          refine fz_cM (pc := 175) (As := [.int (nI j), .int y2]) (rest := [.int s1]) (q0 := 3) (ws' := ((ax, FSo qa qd og (ff_md (nI j) s1 (mdx io nx)) nx (ff_ps (ff_to (ff_rd (nI j)) s1) ps) s1 (nI j) (ff_tg s1 (nI j) gd) (ff_tb s1 bd) op (ff_pm (nI j) s1) (ff_em ah (nI j) em)) :: (qa, ARq cC 7 fA) :: (qd, ARi cZ 7 dv) :: (am, MDo qm 0 og nx (mm_ps (mm_to (ff_rd (nI j)) s1) io ps) s1 (nI j) (gd + mm_g s1) (bd + mm_b s1) (mm_io (nI j) s1 io) (mm_pm (nI j) s1) op (mm_no (nI j) io nx s1 em)) :: (qm, ARi cZ 7 dv) :: T)) ⟨hx, hb, hml, hown, hts⟩ (c_MD_act l dC dI cI cZ cC cS am qm 0 og nx ps lt ac gd bd io pm op em (nI j) y2 mah s1 h00 h6 emah g1) (cs_LW_34 hts ⟨(Nat.le_of_ble_eq_true rfl), (Nat.le_of_ble_eq_true rfl)⟩) (fz_preV (q0 := 3) (ci := 2) hK hP rfl rfl (hP.sub [3] rfl)) rfl hl.1 rfl (Nat.le_of_ble_eq_true rfl) d_LW_law_175 ⟨(Nat.le_of_ble_eq_true rfl), (Nat.le_of_ble_eq_true rfl)⟩ hP hD hS rfl rfl (fun H locs hP hD hS => ?_)
          refine lv_icmp_eq (tgt := 458) (pc := 178) hx hb d_LW_law_178 (by decide) (fun c_8 => ?_) (fun c_8 => ?_)
          · have ew : ((ax, FSo qa qd og (ff_md (nI j) s1 (mdx io nx)) nx (ff_ps (ff_to (ff_rd (nI j)) s1) ps) s1 (nI j) (ff_tg s1 (nI j) gd) (ff_tb s1 bd) op (ff_pm (nI j) s1) (ff_em ah (nI j) em)) :: (qa, ARq cC 7 fA) :: (qd, ARi cZ 7 dv) :: (am, MDo qm 0 og nx (mm_ps (mm_to (ff_rd (nI j)) s1) io ps) s1 (nI j) (gd + mm_g s1) (bd + mm_b s1) (mm_io (nI j) s1 io) (mm_pm (nI j) s1) op (mm_no (nI j) io nx s1 em)) :: (qm, ARi cZ 7 dv) :: T) = ((ax, FSo qa qd og (mdx (mm_io (nI j) s1 io) nx) nx (mm_ps (mm_to (ff_rd (nI j)) s1) io ps) s1 (nI j) (gd + mm_g s1) (bd + mm_b s1) op (mm_pm (nI j) s1) (mm_no (nI j) io nx s1 em)) :: (qa, ARq cC 7 fA) :: (qd, ARi cZ 7 dv) :: (am, MDo qm 0 og nx (mm_ps (mm_to (ff_rd (nI j)) s1) io ps) s1 (nI j) (gd + mm_g s1) (bd + mm_b s1) (mm_io (nI j) s1 io) (mm_pm (nI j) s1) op (mm_no (nI j) io nx s1 em)) :: (qm, ARi cZ 7 dv) :: T) := by rw [g2, g3, g4, g5, g6, g7]
            exact K og nx (mm_ps (mm_to (ff_rd (nI j)) s1) io ps) s1 (nI j) (gd + mm_g s1) (bd + mm_b s1) (mm_io (nI j) s1 io) op (mm_pm (nI j) s1) (mm_no (nI j) io nx s1 em) dv g8 _ _ (ew ▸ hP) (ew ▸ hD) hS
          · exact absurd rfl c_8
      by_cases c_9 : ((xs i3.toNatClampNeg) &&& 15) = 3
      · refine lv_tableIn (tgt := 183) (off := 141) (pc := 42) hx hb d_LW_law_42 (by rw [c_9]; first | done | decide) (by rw [c_9]; first | done | decide) (by rw [c_9]; first | done | decide) (by decide) ?_
        refine lv_aload_n (pc := 183) hx hb d_LW_law_183 rfl (lv_at hl 1 rfl) ?_
        refine lv_aload_n (pc := 184) hx hb d_LW_law_184 rfl (lv_at hl 0 rfl) ?_
        refine lv_iload_n (pc := 185) hx hb d_LW_law_185 rfl (lv_at hl 3 rfl) ?_
        refine lv_iconst (v := 1) (pc := 186) hx hb d_LW_law_186 (by decide) ?_
        refine lv_iadd (pc := 187) hx hb d_LW_law_187 ?_
        refine va_sld (pc := 188) hx hb hX hbl hbA hS h_1 d_LW_law_188 ?_
        refine fz_top ey1 ?_
        refine fz_rV (pc := 189) (As := [.int y1]) (rest := []) ⟨hx, hb, hml, hown, hts⟩ (c_FS_exception l dC dI cI cZ cC cS ax y1) (cs_LW_35 hts ⟨(Nat.le_of_ble_eq_true rfl), (Nat.le_of_ble_eq_true rfl)⟩) (fz_preV (q0 := 0) (ci := 0) hK hP rfl rfl (hP.sub [] rfl)) rfl hl.1 rfl (Nat.le_of_ble_eq_true rfl) d_LW_law_189 ⟨(Nat.le_of_ble_eq_true rfl), (Nat.le_of_ble_eq_true rfl)⟩ ?_
        refine lv_aload_n (pc := 192) hx hb d_LW_law_192 rfl (lv_at hl 2 rfl) ?_
        refine lv_aload_n (pc := 193) hx hb d_LW_law_193 rfl (lv_at hl 0 rfl) ?_
        refine lv_iload_n (pc := 194) hx hb d_LW_law_194 rfl (lv_at hl 3 rfl) ?_
        refine lv_iconst (v := 1) (pc := 195) hx hb d_LW_law_195 (by decide) ?_
        refine lv_iadd (pc := 196) hx hb d_LW_law_196 ?_
        refine va_sld (pc := 197) hx hb hX hbl hbA hS h_1 d_LW_law_197 ?_
        refine fz_top ey1 ?_
        refine fz_cM (pc := 198) (As := [.int y1]) (rest := [.int (ff_exc y1)]) (q0 := 3) (ws' := ((ax, FSo qa qd og (mdx io nx) nx ps lt ac gd bd op pm em) :: (qa, ARq cC 7 fA) :: (qd, ARi cZ 7 dv) :: (am, MDo qm 0 og nx ps lt ac gd bd io pm op em) :: (qm, ARi cZ 7 dv) :: T)) ⟨hx, hb, hml, hown, hts⟩ (c_MD_exception l dC dI cI cZ cC cS am qm 0 og nx ps lt ac gd bd io pm op em y1) (cs_LW_38 hts ⟨(Nat.le_of_ble_eq_true rfl), (Nat.le_of_ble_eq_true rfl)⟩) (fz_preV (q0 := 3) (ci := 2) hK hP rfl rfl (hP.sub [3] rfl)) rfl hl.1 rfl (Nat.le_of_ble_eq_true rfl) d_LW_law_198 ⟨(Nat.le_of_ble_eq_true rfl), (Nat.le_of_ble_eq_true rfl)⟩ hP hD hS rfl rfl (fun H locs hP hD hS => ?_)
        refine lv_icmp_eq (tgt := 458) (pc := 201) hx hb d_LW_law_201 (by decide) (fun c_10 => ?_) (fun c_10 => ?_)
        · exact K og nx ps lt ac gd bd io op pm em dv hI _ _ hP hD hS
        · exact absurd (pl_exc y1) c_10
      by_cases c_11 : ((xs i3.toNatClampNeg) &&& 15) = 4
      · refine lv_tableIn (tgt := 206) (off := 164) (pc := 42) hx hb d_LW_law_42 (by rw [c_11]; first | done | decide) (by rw [c_11]; first | done | decide) (by rw [c_11]; first | done | decide) (by decide) ?_
        refine lv_aload_n (pc := 206) hx hb d_LW_law_206 rfl (lv_at hl 1 rfl) ?_
        refine lv_aload_n (pc := 207) hx hb d_LW_law_207 rfl (lv_at hl 0 rfl) ?_
        refine lv_iload_n (pc := 208) hx hb d_LW_law_208 rfl (lv_at hl 3 rfl) ?_
        refine lv_iconst (v := 1) (pc := 209) hx hb d_LW_law_209 (by decide) ?_
        refine lv_iadd (pc := 210) hx hb d_LW_law_210 ?_
        refine va_sld (pc := 211) hx hb hX hbl hbA hS h_1 d_LW_law_211 ?_
        refine fz_top ey1 ?_
        refine fz_cut (F0 m 220 ls [.int (ff_b01 y1), .ref ax]) (fun K => ?_) ?_
        · refine lv_if_eq (tgt := 219) (pc := 212) hx hb d_LW_law_212 (by decide) (fun c_12 => ?_) (fun c_12 => ?_)
          · refine lv_iconst (v := 0) (pc := 219) hx hb d_LW_law_219 (by decide) ?_
            exact fz_top (by first | (simp only [ff_b01, if_pos c_12]; done) | rfl | contradiction) K
          · refine lv_iconst (v := 1) (pc := 215) hx hb d_LW_law_215 (by decide) ?_
            refine lv_goto (tgt := 220) (pc := 216) hx hb d_LW_law_216 (by decide) ?_
            exact fz_top (by first | (simp only [ff_b01, if_neg c_12]; done) | rfl | contradiction) K
        refine fz_rV (pc := 220) (As := [.int (ff_b01 y1)]) (rest := []) ⟨hx, hb, hml, hown, hts⟩ (c_FS_phrase l dC dI cI cZ cC cS ax qa qd og (mdx io nx) nx ps lt ac gd bd op pm em dv (ff_b01 y1) hk1) (cs_LW_39 hts ⟨(Nat.le_of_ble_eq_true rfl), (Nat.le_of_ble_eq_true rfl)⟩) (fz_preV (q0 := 0) (ci := 0) hK hP rfl rfl (hP.sub [0, 2] rfl)) rfl hl.1 rfl (Nat.le_of_ble_eq_true rfl) d_LW_law_220 ⟨(Nat.le_of_ble_eq_true rfl), (Nat.le_of_ble_eq_true rfl)⟩ ?_
        refine lv_aload_n (pc := 223) hx hb d_LW_law_223 rfl (lv_at hl 2 rfl) ?_
        refine lv_aload_n (pc := 224) hx hb d_LW_law_224 rfl (lv_at hl 0 rfl) ?_
        refine lv_iload_n (pc := 225) hx hb d_LW_law_225 rfl (lv_at hl 3 rfl) ?_
        refine lv_iconst (v := 1) (pc := 226) hx hb d_LW_law_226 (by decide) ?_
        refine lv_iadd (pc := 227) hx hb d_LW_law_227 ?_
        refine va_sld (pc := 228) hx hb hX hbl hbA hS h_1 d_LW_law_228 ?_
        refine fz_top ey1 ?_
        refine fz_cut (F0 m 237 ls [.int (ff_b01 y1), .ref am, .int (ff_phr (ff_exc lt) (ff_b01 y1) (dv (ff_exc lt).toNatClampNeg))]) (fun K => ?_) ?_
        · refine lv_if_eq (tgt := 236) (pc := 229) hx hb d_LW_law_229 (by decide) (fun c_13 => ?_) (fun c_13 => ?_)
          · refine lv_iconst (v := 0) (pc := 236) hx hb d_LW_law_236 (by decide) ?_
            exact fz_top (by first | (simp only [ff_b01, if_pos c_13]; done) | rfl | contradiction) K
          · refine lv_iconst (v := 1) (pc := 232) hx hb d_LW_law_232 (by decide) ?_
            refine lv_goto (tgt := 237) (pc := 233) hx hb d_LW_law_233 (by decide) ?_
            exact fz_top (by first | (simp only [ff_b01, if_neg c_13]; done) | rfl | contradiction) K
        refine fz_cM2 (pc := 237) (As := [.int (ff_b01 y1)]) (rest := [.int (ff_phr (ff_exc lt) (ff_b01 y1) (dv (ff_exc lt).toNatClampNeg))]) (q1 := 3) (q2 := 4) (ws' := ((ax, FSo qa qd og (mdx io nx) nx ps lt ac gd bd op pm em) :: (qa, ARq cC 7 fA) :: (qd, ARi cZ 7 dv) :: (am, MDo qm 0 og nx ps lt ac gd bd io pm op em) :: (qm, ARi cZ 7 dv) :: T)) ⟨hx, hb, hml, hown, hts⟩ (c_MD_phrase l dC dI cI cZ cC cS am qm 0 og nx ps lt ac gd bd io pm op em dv (ff_b01 y1) hne hk2) (cs_LW_43 hts ⟨(Nat.le_of_ble_eq_true rfl), (Nat.le_of_ble_eq_true rfl)⟩) (fz_preV (q0 := 3) (ci := 2) hK hP rfl rfl (hP.sub [3, 4] rfl)) rfl hl.1 rfl (Nat.le_of_ble_eq_true rfl) d_LW_law_237 ⟨(Nat.le_of_ble_eq_true rfl), (Nat.le_of_ble_eq_true rfl)⟩ hP hD hS (by decide) rfl rfl rfl (fun H locs hP hD hS => ?_)
        refine lv_icmp_eq (tgt := 458) (pc := 240) hx hb d_LW_law_240 (by decide) (fun c_14 => ?_) (fun c_14 => ?_)
        · exact K og nx ps lt ac gd bd io op pm em dv hI _ _ hP hD hS
        · exact absurd (by rw [hex]; obtain ⟨-, -, -, -, ⟨j, rfl⟩, -⟩ := hI; obtain ⟨i, hi⟩ := pl_kd7 j; rw [hi]; exact pl_phr i _ _) c_14
      by_cases c_15 : ((xs i3.toNatClampNeg) &&& 15) = 5
      · refine lv_tableIn (tgt := 245) (off := 203) (pc := 42) hx hb d_LW_law_42 (by rw [c_15]; first | done | decide) (by rw [c_15]; first | done | decide) (by rw [c_15]; first | done | decide) (by decide) ?_
        refine lv_aload_n (pc := 245) hx hb d_LW_law_245 rfl (lv_at hl 1 rfl) ?_
        refine lv_aload_n (pc := 246) hx hb d_LW_law_246 rfl (lv_at hl 0 rfl) ?_
        refine lv_iload_n (pc := 247) hx hb d_LW_law_247 rfl (lv_at hl 3 rfl) ?_
        refine lv_iconst (v := 1) (pc := 248) hx hb d_LW_law_248 (by decide) ?_
        refine lv_iadd (pc := 249) hx hb d_LW_law_249 ?_
        refine va_sld (pc := 250) hx hb hX hbl hbA hS h_1 d_LW_law_250 ?_
        refine fz_top ey1 ?_
        refine lv_aload_n (pc := 251) hx hb d_LW_law_251 rfl (lv_at hl 0 rfl) ?_
        refine lv_iload_n (pc := 252) hx hb d_LW_law_252 rfl (lv_at hl 3 rfl) ?_
        refine lv_iconst (v := 2) (pc := 253) hx hb d_LW_law_253 (by decide) ?_
        refine lv_iadd (pc := 254) hx hb d_LW_law_254 ?_
        refine va_sld (pc := 255) hx hb hX hbl hbA hS h_2 d_LW_law_255 ?_
        refine fz_top ey2 ?_
        refine fz_cut (F0 m 264 ls [.int (ff_b01 y2), .int y1, .ref ax]) (fun K => ?_) ?_
        · refine lv_if_eq (tgt := 263) (pc := 256) hx hb d_LW_law_256 (by decide) (fun c_16 => ?_) (fun c_16 => ?_)
          · refine lv_iconst (v := 0) (pc := 263) hx hb d_LW_law_263 (by decide) ?_
            exact fz_top (by first | (simp only [ff_b01, if_pos c_16]; done) | rfl | contradiction) K
          · refine lv_iconst (v := 1) (pc := 259) hx hb d_LW_law_259 (by decide) ?_
            refine lv_goto (tgt := 264) (pc := 260) hx hb d_LW_law_260 (by decide) ?_
            exact fz_top (by first | (simp only [ff_b01, if_neg c_16]; done) | rfl | contradiction) K
        refine fz_cM (pc := 264) (As := [.int y1, .int (ff_b01 y2)]) (rest := []) (q0 := 2) (ws' := ((ax, FSo qa qd og (mdx io nx) nx ps lt ac gd bd op pm em) :: (qa, ARq cC 7 fA) :: (qd, ARi cZ 7 (ff_ded y1 (ff_b01 y2) dv)) :: (am, MDo qm 0 og nx ps lt ac gd bd io pm op em) :: (qm, ARi cZ 7 dv) :: T)) ⟨hx, hb, hml, hown, hts⟩ (c_FS_declarative l dC dI cI cZ cC cS ax qa qd og (mdx io nx) nx ps lt ac gd bd op pm em dv y1 (ff_b01 y2) (fz_b01 y2)) (cs_LW_44 hts ⟨(Nat.le_of_ble_eq_true rfl), (Nat.le_of_ble_eq_true rfl)⟩) (fz_preV (q0 := 0) (ci := 0) hK hP rfl rfl (hP.sub [0, 2] rfl)) rfl hl.1 rfl (Nat.le_of_ble_eq_true rfl) d_LW_law_264 ⟨(Nat.le_of_ble_eq_true rfl), (Nat.le_of_ble_eq_true rfl)⟩ hP hD hS rfl rfl (fun H locs hP hD hS => ?_)
        refine lv_aload_n (pc := 267) hx hb d_LW_law_267 rfl (lv_at hl 2 rfl) ?_
        refine lv_aload_n (pc := 268) hx hb d_LW_law_268 rfl (lv_at hl 0 rfl) ?_
        refine lv_iload_n (pc := 269) hx hb d_LW_law_269 rfl (lv_at hl 3 rfl) ?_
        refine lv_iconst (v := 1) (pc := 270) hx hb d_LW_law_270 (by decide) ?_
        refine lv_iadd (pc := 271) hx hb d_LW_law_271 ?_
        refine va_sld (pc := 272) hx hb hX hbl hbA hS h_1 d_LW_law_272 ?_
        refine fz_top ey1 ?_
        refine lv_aload_n (pc := 273) hx hb d_LW_law_273 rfl (lv_at hl 0 rfl) ?_
        refine lv_iload_n (pc := 274) hx hb d_LW_law_274 rfl (lv_at hl 3 rfl) ?_
        refine lv_iconst (v := 2) (pc := 275) hx hb d_LW_law_275 (by decide) ?_
        refine lv_iadd (pc := 276) hx hb d_LW_law_276 ?_
        refine va_sld (pc := 277) hx hb hX hbl hbA hS h_2 d_LW_law_277 ?_
        refine fz_top ey2 ?_
        refine fz_cut (F0 m 286 ls [.int (ff_b01 y2), .int y1, .ref am, .int (ff_der y1 (dv y1.toNatClampNeg))]) (fun K => ?_) ?_
        · refine lv_if_eq (tgt := 285) (pc := 278) hx hb d_LW_law_278 (by decide) (fun c_17 => ?_) (fun c_17 => ?_)
          · refine lv_iconst (v := 0) (pc := 285) hx hb d_LW_law_285 (by decide) ?_
            exact fz_top (by first | (simp only [ff_b01, if_pos c_17]; done) | rfl | contradiction) K
          · refine lv_iconst (v := 1) (pc := 281) hx hb d_LW_law_281 (by decide) ?_
            refine lv_goto (tgt := 286) (pc := 282) hx hb d_LW_law_282 (by decide) ?_
            exact fz_top (by first | (simp only [ff_b01, if_neg c_17]; done) | rfl | contradiction) K
        refine fz_cM2 (pc := 286) (As := [.int y1, .int (ff_b01 y2)]) (rest := [.int (ff_der y1 (dv y1.toNatClampNeg))]) (q1 := 3) (q2 := 4) (ws' := ((ax, FSo qa qd og (mdx io nx) nx ps lt ac gd bd op pm em) :: (qa, ARq cC 7 fA) :: (qd, ARi cZ 7 (ff_ded y1 (ff_b01 y2) dv)) :: (am, MDo qm 0 og nx ps lt ac gd bd io pm op em) :: (qm, ARi cZ 7 (ff_ded y1 (ff_b01 y2) dv)) :: T)) ⟨hx, hb, hml, hown, hts⟩ (c_MD_declarative l dC dI cI cZ cC cS am qm 0 og nx ps lt ac gd bd io pm op em dv y1 (ff_b01 y2) hne (fz_b01 y2)) (cs_LW_48 hts ⟨(Nat.le_of_ble_eq_true rfl), (Nat.le_of_ble_eq_true rfl)⟩) (fz_preV (q0 := 3) (ci := 2) hK hP rfl rfl (hP.sub [3, 4] rfl)) rfl hl.1 rfl (Nat.le_of_ble_eq_true rfl) d_LW_law_286 ⟨(Nat.le_of_ble_eq_true rfl), (Nat.le_of_ble_eq_true rfl)⟩ hP hD hS (by decide) rfl rfl rfl (fun H locs hP hD hS => ?_)
        refine lv_icmp_eq (tgt := 458) (pc := 289) hx hb d_LW_law_289 (by decide) (fun c_18 => ?_) (fun c_18 => ?_)
        · exact K og nx ps lt ac gd bd io op pm em (ff_ded y1 (ff_b01 y2) dv) hI _ _ hP hD hS
        · exact absurd rfl c_18
      by_cases c_19 : ((xs i3.toNatClampNeg) &&& 15) = 6
      · refine lv_tableIn (tgt := 294) (off := 252) (pc := 42) hx hb d_LW_law_42 (by rw [c_19]; first | done | decide) (by rw [c_19]; first | done | decide) (by rw [c_19]; first | done | decide) (by decide) ?_
        refine lv_aload_n (pc := 294) hx hb d_LW_law_294 rfl (lv_at hl 1 rfl) ?_
        refine lv_aload_n (pc := 295) hx hb d_LW_law_295 rfl (lv_at hl 0 rfl) ?_
        refine lv_iload_n (pc := 296) hx hb d_LW_law_296 rfl (lv_at hl 3 rfl) ?_
        refine lv_iconst (v := 1) (pc := 297) hx hb d_LW_law_297 (by decide) ?_
        refine lv_iadd (pc := 298) hx hb d_LW_law_298 ?_
        refine va_sld (pc := 299) hx hb hX hbl hbA hS h_1 d_LW_law_299 ?_
        refine fz_top ey1 ?_
        refine fz_rV (pc := 300) (As := [.int y1]) (rest := []) ⟨hx, hb, hml, hown, hts⟩ (c_FS_position l dC dI cI cZ cC cS ax y1) (cs_LW_49 hts ⟨(Nat.le_of_ble_eq_true rfl), (Nat.le_of_ble_eq_true rfl)⟩) (fz_preV (q0 := 0) (ci := 0) hK hP rfl rfl (hP.sub [] rfl)) rfl hl.1 rfl (Nat.le_of_ble_eq_true rfl) d_LW_law_300 ⟨(Nat.le_of_ble_eq_true rfl), (Nat.le_of_ble_eq_true rfl)⟩ ?_
        refine lv_aload_n (pc := 303) hx hb d_LW_law_303 rfl (lv_at hl 2 rfl) ?_
        refine lv_aload_n (pc := 304) hx hb d_LW_law_304 rfl (lv_at hl 0 rfl) ?_
        refine lv_iload_n (pc := 305) hx hb d_LW_law_305 rfl (lv_at hl 3 rfl) ?_
        refine lv_iconst (v := 1) (pc := 306) hx hb d_LW_law_306 (by decide) ?_
        refine lv_iadd (pc := 307) hx hb d_LW_law_307 ?_
        refine va_sld (pc := 308) hx hb hX hbl hbA hS h_1 d_LW_law_308 ?_
        refine fz_top ey1 ?_
        refine fz_cM (pc := 309) (As := [.int y1]) (rest := [.int (ff_pos y1)]) (q0 := 3) (ws' := ((ax, FSo qa qd og (mdx io nx) nx ps lt ac gd bd op pm em) :: (qa, ARq cC 7 fA) :: (qd, ARi cZ 7 dv) :: (am, MDo qm 0 og nx ps lt ac gd bd io pm op em) :: (qm, ARi cZ 7 dv) :: T)) ⟨hx, hb, hml, hown, hts⟩ (c_MD_position l dC dI cI cZ cC cS am qm 0 og nx ps lt ac gd bd io pm op em y1) (cs_LW_52 hts ⟨(Nat.le_of_ble_eq_true rfl), (Nat.le_of_ble_eq_true rfl)⟩) (fz_preV (q0 := 3) (ci := 2) hK hP rfl rfl (hP.sub [3] rfl)) rfl hl.1 rfl (Nat.le_of_ble_eq_true rfl) d_LW_law_309 ⟨(Nat.le_of_ble_eq_true rfl), (Nat.le_of_ble_eq_true rfl)⟩ hP hD hS rfl rfl (fun H locs hP hD hS => ?_)
        refine lv_icmp_eq (tgt := 458) (pc := 312) hx hb d_LW_law_312 (by decide) (fun c_20 => ?_) (fun c_20 => ?_)
        · exact K og nx ps lt ac gd bd io op pm em dv hI _ _ hP hD hS
        · exact absurd (pl_pos y1) c_20
      by_cases c_21 : ((xs i3.toNatClampNeg) &&& 15) = 7
      · refine lv_tableIn (tgt := 317) (off := 275) (pc := 42) hx hb d_LW_law_42 (by rw [c_21]; first | done | decide) (by rw [c_21]; first | done | decide) (by rw [c_21]; first | done | decide) (by decide) ?_
        refine lv_aload_n (pc := 317) hx hb d_LW_law_317 rfl (lv_at hl 1 rfl) ?_
        refine lv_aload_n (pc := 318) hx hb d_LW_law_318 rfl (lv_at hl 0 rfl) ?_
        refine lv_iload_n (pc := 319) hx hb d_LW_law_319 rfl (lv_at hl 3 rfl) ?_
        refine lv_iconst (v := 1) (pc := 320) hx hb d_LW_law_320 (by decide) ?_
        refine lv_iadd (pc := 321) hx hb d_LW_law_321 ?_
        refine va_sld (pc := 322) hx hb hX hbl hbA hS h_1 d_LW_law_322 ?_
        refine fz_top ey1 ?_
        refine fz_cut (F0 m 331 ls [.int (ff_b01 y1), .ref ax]) (fun K => ?_) ?_
        · refine lv_if_eq (tgt := 330) (pc := 323) hx hb d_LW_law_323 (by decide) (fun c_22 => ?_) (fun c_22 => ?_)
          · refine lv_iconst (v := 0) (pc := 330) hx hb d_LW_law_330 (by decide) ?_
            exact fz_top (by first | (simp only [ff_b01, if_pos c_22]; done) | rfl | contradiction) K
          · refine lv_iconst (v := 1) (pc := 326) hx hb d_LW_law_326 (by decide) ?_
            refine lv_goto (tgt := 331) (pc := 327) hx hb d_LW_law_327 (by decide) ?_
            exact fz_top (by first | (simp only [ff_b01, if_neg c_22]; done) | rfl | contradiction) K
        refine fz_cM (pc := 331) (As := [.int (ff_b01 y1)]) (rest := []) (q0 := 0) (ws' := ((ax, FSo qa qd og (mdx io nx) nx ps lt ac gd bd (ff_opo (mdx io nx) op (ff_b01 y1)) pm em) :: (qa, ARq cC 7 fA) :: (qd, ARi cZ 7 dv) :: (am, MDo qm 0 og nx ps lt ac gd bd io pm op em) :: (qm, ARi cZ 7 dv) :: T)) ⟨hx, hb, hml, hown, hts⟩ (c_FS_optional l dC dI cI cZ cC cS ax qa qd og (mdx io nx) nx ps lt ac gd bd op pm em (ff_b01 y1) (fz_b01 y1)) (cs_LW_53 hts ⟨(Nat.le_of_ble_eq_true rfl), (Nat.le_of_ble_eq_true rfl)⟩) (fz_preV (q0 := 0) (ci := 0) hK hP rfl rfl (hP.sub [0] rfl)) rfl hl.1 rfl (Nat.le_of_ble_eq_true rfl) d_LW_law_331 ⟨(Nat.le_of_ble_eq_true rfl), (Nat.le_of_ble_eq_true rfl)⟩ hP hD hS rfl rfl (fun H locs hP hD hS => ?_)
        refine lv_aload_n (pc := 334) hx hb d_LW_law_334 rfl (lv_at hl 2 rfl) ?_
        refine lv_aload_n (pc := 335) hx hb d_LW_law_335 rfl (lv_at hl 0 rfl) ?_
        refine lv_iload_n (pc := 336) hx hb d_LW_law_336 rfl (lv_at hl 3 rfl) ?_
        refine lv_iconst (v := 1) (pc := 337) hx hb d_LW_law_337 (by decide) ?_
        refine lv_iadd (pc := 338) hx hb d_LW_law_338 ?_
        refine va_sld (pc := 339) hx hb hX hbl hbA hS h_1 d_LW_law_339 ?_
        refine fz_top ey1 ?_
        refine fz_cut (F0 m 348 ls [.int (ff_b01 y1), .ref am, .int (ff_opr (mdx io nx) op)]) (fun K => ?_) ?_
        · refine lv_if_eq (tgt := 347) (pc := 340) hx hb d_LW_law_340 (by decide) (fun c_23 => ?_) (fun c_23 => ?_)
          · refine lv_iconst (v := 0) (pc := 347) hx hb d_LW_law_347 (by decide) ?_
            exact fz_top (by first | (simp only [ff_b01, if_pos c_23]; done) | rfl | contradiction) K
          · refine lv_iconst (v := 1) (pc := 343) hx hb d_LW_law_343 (by decide) ?_
            refine lv_goto (tgt := 348) (pc := 344) hx hb d_LW_law_344 (by decide) ?_
            exact fz_top (by first | (simp only [ff_b01, if_neg c_23]; done) | rfl | contradiction) K
        refine fz_cM (pc := 348) (As := [.int (ff_b01 y1)]) (rest := [.int (ff_opr (mdx io nx) op)]) (q0 := 3) (ws' := ((ax, FSo qa qd og (mdx io nx) nx ps lt ac gd bd (ff_opo (mdx io nx) op (ff_b01 y1)) pm em) :: (qa, ARq cC 7 fA) :: (qd, ARi cZ 7 dv) :: (am, MDo qm 0 og nx ps lt ac gd bd io pm (mm_opo io op (ff_b01 y1)) em) :: (qm, ARi cZ 7 dv) :: T)) ⟨hx, hb, hml, hown, hts⟩ (c_MD_optional l dC dI cI cZ cC cS am qm 0 og nx ps lt ac gd bd io pm op em (ff_b01 y1) (fz_b01 y1)) (cs_LW_56 hts ⟨(Nat.le_of_ble_eq_true rfl), (Nat.le_of_ble_eq_true rfl)⟩) (fz_preV (q0 := 3) (ci := 2) hK hP rfl rfl (hP.sub [3] rfl)) rfl hl.1 rfl (Nat.le_of_ble_eq_true rfl) d_LW_law_348 ⟨(Nat.le_of_ble_eq_true rfl), (Nat.le_of_ble_eq_true rfl)⟩ hP hD hS rfl rfl (fun H locs hP hD hS => ?_)
        refine lv_icmp_eq (tgt := 458) (pc := 351) hx hb d_LW_law_351 (by decide) (fun c_24 => ?_) (fun c_24 => ?_)
        · obtain ⟨g1, g2⟩ := pl_opt hI op (ff_b01 y1)
          have ew : ((ax, FSo qa qd og (mdx io nx) nx ps lt ac gd bd (ff_opo (mdx io nx) op (ff_b01 y1)) pm em) :: (qa, ARq cC 7 fA) :: (qd, ARi cZ 7 dv) :: (am, MDo qm 0 og nx ps lt ac gd bd io pm (mm_opo io op (ff_b01 y1)) em) :: (qm, ARi cZ 7 dv) :: T) = ((ax, FSo qa qd og (mdx io nx) nx ps lt ac gd bd (mm_opo io op (ff_b01 y1)) pm em) :: (qa, ARq cC 7 fA) :: (qd, ARi cZ 7 dv) :: (am, MDo qm 0 og nx ps lt ac gd bd io pm (mm_opo io op (ff_b01 y1)) em) :: (qm, ARi cZ 7 dv) :: T) := by rw [g2]
          exact K og nx ps lt ac gd bd io (mm_opo io op (ff_b01 y1)) pm em dv hI _ _ (ew ▸ hP) (ew ▸ hD) hS
        · exact absurd (pl_opt hI op (ff_b01 y1)).1 c_24
      by_cases c_25 : ((xs i3.toNatClampNeg) &&& 15) = 8
      · refine lv_tableIn (tgt := 356) (off := 314) (pc := 42) hx hb d_LW_law_42 (by rw [c_25]; first | done | decide) (by rw [c_25]; first | done | decide) (by rw [c_25]; first | done | decide) (by decide) ?_
        refine lv_aload_n (pc := 356) hx hb d_LW_law_356 rfl (lv_at hl 1 rfl) ?_
        refine lv_aload_n (pc := 357) hx hb d_LW_law_357 rfl (lv_at hl 0 rfl) ?_
        refine lv_iload_n (pc := 358) hx hb d_LW_law_358 rfl (lv_at hl 3 rfl) ?_
        refine lv_iconst (v := 1) (pc := 359) hx hb d_LW_law_359 (by decide) ?_
        refine lv_iadd (pc := 360) hx hb d_LW_law_360 ?_
        refine va_sld (pc := 361) hx hb hX hbl hbA hS h_1 d_LW_law_361 ?_
        refine fz_top ey1 ?_
        refine lv_aload_n (pc := 362) hx hb d_LW_law_362 rfl (lv_at hl 0 rfl) ?_
        refine lv_iload_n (pc := 363) hx hb d_LW_law_363 rfl (lv_at hl 3 rfl) ?_
        refine lv_iconst (v := 2) (pc := 364) hx hb d_LW_law_364 (by decide) ?_
        refine lv_iadd (pc := 365) hx hb d_LW_law_365 ?_
        refine va_sld (pc := 366) hx hb hX hbl hbA hS h_2 d_LW_law_366 ?_
        refine fz_top ey2 ?_
        refine fz_rV (pc := 367) (As := [.int y1, .int y2]) (rest := []) ⟨hx, hb, hml, hown, hts⟩ (c_FS_both l dC dI cI cZ cC cS ax qa qd og (mdx io nx) nx ps lt ac gd bd op pm em y1 y2) (cs_LW_57 hts ⟨(Nat.le_of_ble_eq_true rfl), (Nat.le_of_ble_eq_true rfl)⟩) (fz_preV (q0 := 0) (ci := 0) hK hP rfl rfl (hP.sub [0] rfl)) rfl hl.1 rfl (Nat.le_of_ble_eq_true rfl) d_LW_law_367 ⟨(Nat.le_of_ble_eq_true rfl), (Nat.le_of_ble_eq_true rfl)⟩ ?_
        refine lv_aload_n (pc := 370) hx hb d_LW_law_370 rfl (lv_at hl 2 rfl) ?_
        refine lv_aload_n (pc := 371) hx hb d_LW_law_371 rfl (lv_at hl 0 rfl) ?_
        refine lv_iload_n (pc := 372) hx hb d_LW_law_372 rfl (lv_at hl 3 rfl) ?_
        refine lv_iconst (v := 1) (pc := 373) hx hb d_LW_law_373 (by decide) ?_
        refine lv_iadd (pc := 374) hx hb d_LW_law_374 ?_
        refine va_sld (pc := 375) hx hb hX hbl hbA hS h_1 d_LW_law_375 ?_
        refine fz_top ey1 ?_
        refine lv_aload_n (pc := 376) hx hb d_LW_law_376 rfl (lv_at hl 0 rfl) ?_
        refine lv_iload_n (pc := 377) hx hb d_LW_law_377 rfl (lv_at hl 3 rfl) ?_
        refine lv_iconst (v := 2) (pc := 378) hx hb d_LW_law_378 (by decide) ?_
        refine lv_iadd (pc := 379) hx hb d_LW_law_379 ?_
        refine va_sld (pc := 380) hx hb hX hbl hbA hS h_2 d_LW_law_380 ?_
        refine fz_top ey2 ?_
        refine fz_cM (pc := 381) (As := [.int y1, .int y2]) (rest := [.int (ff_both y1 y2)]) (q0 := 3) (ws' := ((ax, FSo qa qd og (mdx io nx) nx ps lt ac gd bd op pm em) :: (qa, ARq cC 7 fA) :: (qd, ARi cZ 7 dv) :: (am, MDo qm 0 og nx ps lt ac gd bd io pm op em) :: (qm, ARi cZ 7 dv) :: T)) ⟨hx, hb, hml, hown, hts⟩ (c_MD_both l dC dI cI cZ cC cS am qm 0 og nx ps lt ac gd bd io pm op em y1 y2) (cs_LW_60 hts ⟨(Nat.le_of_ble_eq_true rfl), (Nat.le_of_ble_eq_true rfl)⟩) (fz_preV (q0 := 3) (ci := 2) hK hP rfl rfl (hP.sub [3] rfl)) rfl hl.1 rfl (Nat.le_of_ble_eq_true rfl) d_LW_law_381 ⟨(Nat.le_of_ble_eq_true rfl), (Nat.le_of_ble_eq_true rfl)⟩ hP hD hS rfl rfl (fun H locs hP hD hS => ?_)
        refine lv_icmp_eq (tgt := 458) (pc := 384) hx hb d_LW_law_384 (by decide) (fun c_26 => ?_) (fun c_26 => ?_)
        · exact K og nx ps lt ac gd bd io op pm em dv hI _ _ hP hD hS
        · exact absurd (pl_both y1 y2) c_26
      by_cases c_27 : ((xs i3.toNatClampNeg) &&& 15) = 9
      · refine lv_tableIn (tgt := 389) (off := 347) (pc := 42) hx hb d_LW_law_42 (by rw [c_27]; first | done | decide) (by rw [c_27]; first | done | decide) (by rw [c_27]; first | done | decide) (by decide) ?_
        refine lv_aload_n (pc := 389) hx hb d_LW_law_389 rfl (lv_at hl 1 rfl) ?_
        refine lv_aload_n (pc := 390) hx hb d_LW_law_390 rfl (lv_at hl 0 rfl) ?_
        refine lv_iload_n (pc := 391) hx hb d_LW_law_391 rfl (lv_at hl 3 rfl) ?_
        refine lv_iconst (v := 1) (pc := 392) hx hb d_LW_law_392 (by decide) ?_
        refine lv_iadd (pc := 393) hx hb d_LW_law_393 ?_
        refine va_sld (pc := 394) hx hb hX hbl hbA hS h_1 d_LW_law_394 ?_
        refine fz_top ey1 ?_
        refine fz_rV (pc := 395) (As := [.int y1]) (rest := []) ⟨hx, hb, hml, hown, hts⟩ (c_FS_extended l dC dI cI cZ cC cS ax qa qd og (mdx io nx) nx ps lt ac gd bd op pm em y1) (cs_LW_61 hts ⟨(Nat.le_of_ble_eq_true rfl), (Nat.le_of_ble_eq_true rfl)⟩) (fz_preV (q0 := 0) (ci := 0) hK hP rfl rfl (hP.sub [0] rfl)) rfl hl.1 rfl (Nat.le_of_ble_eq_true rfl) d_LW_law_395 ⟨(Nat.le_of_ble_eq_true rfl), (Nat.le_of_ble_eq_true rfl)⟩ ?_
        refine lv_aload_n (pc := 398) hx hb d_LW_law_398 rfl (lv_at hl 2 rfl) ?_
        refine lv_aload_n (pc := 399) hx hb d_LW_law_399 rfl (lv_at hl 0 rfl) ?_
        refine lv_iload_n (pc := 400) hx hb d_LW_law_400 rfl (lv_at hl 3 rfl) ?_
        refine lv_iconst (v := 1) (pc := 401) hx hb d_LW_law_401 (by decide) ?_
        refine lv_iadd (pc := 402) hx hb d_LW_law_402 ?_
        refine va_sld (pc := 403) hx hb hX hbl hbA hS h_1 d_LW_law_403 ?_
        refine fz_top ey1 ?_
        refine fz_cM (pc := 404) (As := [.int y1]) (rest := [.int (ff_ext y1 og ac)]) (q0 := 3) (ws' := ((ax, FSo qa qd og (mdx io nx) nx ps lt ac gd bd op pm em) :: (qa, ARq cC 7 fA) :: (qd, ARi cZ 7 dv) :: (am, MDo qm 0 og nx ps lt ac gd bd io pm op em) :: (qm, ARi cZ 7 dv) :: T)) ⟨hx, hb, hml, hown, hts⟩ (c_MD_extended l dC dI cI cZ cC cS am qm 0 og nx ps lt ac gd bd io pm op em y1) (cs_LW_64 hts ⟨(Nat.le_of_ble_eq_true rfl), (Nat.le_of_ble_eq_true rfl)⟩) (fz_preV (q0 := 3) (ci := 2) hK hP rfl rfl (hP.sub [3] rfl)) rfl hl.1 rfl (Nat.le_of_ble_eq_true rfl) d_LW_law_404 ⟨(Nat.le_of_ble_eq_true rfl), (Nat.le_of_ble_eq_true rfl)⟩ hP hD hS rfl rfl (fun H locs hP hD hS => ?_)
        refine lv_icmp_eq (tgt := 458) (pc := 407) hx hb d_LW_law_407 (by decide) (fun c_28 => ?_) (fun c_28 => ?_)
        · exact K og nx ps lt ac gd bd io op pm em dv hI _ _ hP hD hS
        · exact absurd rfl c_28
      by_cases c_29 : ((xs i3.toNatClampNeg) &&& 15) = 10
      · refine lv_tableIn (tgt := 412) (off := 370) (pc := 42) hx hb d_LW_law_42 (by rw [c_29]; first | done | decide) (by rw [c_29]; first | done | decide) (by rw [c_29]; first | done | decide) (by decide) ?_
        refine lv_aload_n (pc := 412) hx hb d_LW_law_412 rfl (lv_at hl 1 rfl) ?_
        refine lv_aload_n (pc := 413) hx hb d_LW_law_413 rfl (lv_at hl 0 rfl) ?_
        refine lv_iload_n (pc := 414) hx hb d_LW_law_414 rfl (lv_at hl 3 rfl) ?_
        refine lv_iconst (v := 1) (pc := 415) hx hb d_LW_law_415 (by decide) ?_
        refine lv_iadd (pc := 416) hx hb d_LW_law_416 ?_
        refine va_sld (pc := 417) hx hb hX hbl hbA hS h_1 d_LW_law_417 ?_
        refine fz_top ey1 ?_
        refine fz_rV (pc := 418) (As := [.int y1]) (rest := []) ⟨hx, hb, hml, hown, hts⟩ (c_FS_area l dC dI cI cZ cC cS ax y1) (cs_LW_65 hts ⟨(Nat.le_of_ble_eq_true rfl), (Nat.le_of_ble_eq_true rfl)⟩) (fz_preV (q0 := 0) (ci := 0) hK hP rfl rfl (hP.sub [] rfl)) rfl hl.1 rfl (Nat.le_of_ble_eq_true rfl) d_LW_law_418 ⟨(Nat.le_of_ble_eq_true rfl), (Nat.le_of_ble_eq_true rfl)⟩ ?_
        refine lv_aload_n (pc := 421) hx hb d_LW_law_421 rfl (lv_at hl 2 rfl) ?_
        refine lv_aload_n (pc := 422) hx hb d_LW_law_422 rfl (lv_at hl 0 rfl) ?_
        refine lv_iload_n (pc := 423) hx hb d_LW_law_423 rfl (lv_at hl 3 rfl) ?_
        refine lv_iconst (v := 1) (pc := 424) hx hb d_LW_law_424 (by decide) ?_
        refine lv_iadd (pc := 425) hx hb d_LW_law_425 ?_
        refine va_sld (pc := 426) hx hb hX hbl hbA hS h_1 d_LW_law_426 ?_
        refine fz_top ey1 ?_
        refine fz_cM (pc := 427) (As := [.int y1]) (rest := [.int (ff_area y1)]) (q0 := 3) (ws' := ((ax, FSo qa qd og (mdx io nx) nx ps lt ac gd bd op pm em) :: (qa, ARq cC 7 fA) :: (qd, ARi cZ 7 dv) :: (am, MDo qm 0 og nx ps lt ac gd bd io pm op em) :: (qm, ARi cZ 7 dv) :: T)) ⟨hx, hb, hml, hown, hts⟩ (c_MD_area l dC dI cI cZ cC cS am qm 0 og nx ps lt ac gd bd io pm op em y1) (cs_LW_68 hts ⟨(Nat.le_of_ble_eq_true rfl), (Nat.le_of_ble_eq_true rfl)⟩) (fz_preV (q0 := 3) (ci := 2) hK hP rfl rfl (hP.sub [3] rfl)) rfl hl.1 rfl (Nat.le_of_ble_eq_true rfl) d_LW_law_427 ⟨(Nat.le_of_ble_eq_true rfl), (Nat.le_of_ble_eq_true rfl)⟩ hP hD hS rfl rfl (fun H locs hP hD hS => ?_)
        refine lv_icmp_eq (tgt := 458) (pc := 430) hx hb d_LW_law_430 (by decide) (fun c_30 => ?_) (fun c_30 => ?_)
        · exact K og nx ps lt ac gd bd io op pm em dv hI _ _ hP hD hS
        · exact absurd rfl c_30
      by_cases c_31 : ((xs i3.toNatClampNeg) &&& 15) = 11
      · refine lv_tableIn (tgt := 435) (off := 393) (pc := 42) hx hb d_LW_law_42 (by rw [c_31]; first | done | decide) (by rw [c_31]; first | done | decide) (by rw [c_31]; first | done | decide) (by decide) ?_
        refine lv_aload_n (pc := 435) hx hb d_LW_law_435 rfl (lv_at hl 1 rfl) ?_
        refine lv_aload_n (pc := 436) hx hb d_LW_law_436 rfl (lv_at hl 0 rfl) ?_
        refine lv_iload_n (pc := 437) hx hb d_LW_law_437 rfl (lv_at hl 3 rfl) ?_
        refine lv_iconst (v := 1) (pc := 438) hx hb d_LW_law_438 (by decide) ?_
        refine lv_iadd (pc := 439) hx hb d_LW_law_439 ?_
        refine va_sld (pc := 440) hx hb hX hbl hbA hS h_1 d_LW_law_440 ?_
        refine fz_top ey1 ?_
        refine fz_rV (pc := 441) (As := [.int y1]) (rest := []) ⟨hx, hb, hml, hown, hts⟩ (c_FS_count l dC dI cI cZ cC cS ax qa qd og (mdx io nx) nx ps lt ac gd bd op pm em y1) (cs_LW_69 hts ⟨(Nat.le_of_ble_eq_true rfl), (Nat.le_of_ble_eq_true rfl)⟩) (fz_preV (q0 := 0) (ci := 0) hK hP rfl rfl (hP.sub [0] rfl)) rfl hl.1 rfl (Nat.le_of_ble_eq_true rfl) d_LW_law_441 ⟨(Nat.le_of_ble_eq_true rfl), (Nat.le_of_ble_eq_true rfl)⟩ ?_
        refine lv_aload_n (pc := 444) hx hb d_LW_law_444 rfl (lv_at hl 2 rfl) ?_
        refine lv_aload_n (pc := 445) hx hb d_LW_law_445 rfl (lv_at hl 0 rfl) ?_
        refine lv_iload_n (pc := 446) hx hb d_LW_law_446 rfl (lv_at hl 3 rfl) ?_
        refine lv_iconst (v := 1) (pc := 447) hx hb d_LW_law_447 (by decide) ?_
        refine lv_iadd (pc := 448) hx hb d_LW_law_448 ?_
        refine va_sld (pc := 449) hx hb hX hbl hbA hS h_1 d_LW_law_449 ?_
        refine fz_top ey1 ?_
        refine fz_cM (pc := 450) (As := [.int y1]) (rest := [.int (ff_cnt y1 (mdx io nx) ps pm lt gd bd og)]) (q0 := 3) (ws' := ((ax, FSo qa qd og (mdx io nx) nx ps lt ac gd bd op pm em) :: (qa, ARq cC 7 fA) :: (qd, ARi cZ 7 dv) :: (am, MDo qm 0 og nx ps lt ac gd bd io pm op em) :: (qm, ARi cZ 7 dv) :: T)) ⟨hx, hb, hml, hown, hts⟩ (c_MD_count l dC dI cI cZ cC cS am qm 0 og nx ps lt ac gd bd io pm op em y1) (cs_LW_72 hts ⟨(Nat.le_of_ble_eq_true rfl), (Nat.le_of_ble_eq_true rfl)⟩) (fz_preV (q0 := 3) (ci := 2) hK hP rfl rfl (hP.sub [3] rfl)) rfl hl.1 rfl (Nat.le_of_ble_eq_true rfl) d_LW_law_450 ⟨(Nat.le_of_ble_eq_true rfl), (Nat.le_of_ble_eq_true rfl)⟩ hP hD hS rfl rfl (fun H locs hP hD hS => ?_)
        refine lv_icmp_eq (tgt := 458) (pc := 453) hx hb d_LW_law_453 (by decide) (fun c_32 => ?_) (fun c_32 => ?_)
        · exact K og nx ps lt ac gd bd io op pm em dv hI _ _ hP hD hS
        · exact absurd (pl_cnt y1 ps pm lt gd bd og) c_32
      have n_2 := lv_neT (a := 0) c_2 rfl
      have n_4 := lv_neT (a := 1) c_4 rfl
      have n_6 := lv_neT (a := 2) c_6 rfl
      have n_9 := lv_neT (a := 3) c_9 rfl
      have n_11 := lv_neT (a := 4) c_11 rfl
      have n_15 := lv_neT (a := 5) c_15 rfl
      have n_19 := lv_neT (a := 6) c_19 rfl
      have n_21 := lv_neT (a := 7) c_21 rfl
      have n_25 := lv_neT (a := 8) c_25 rfl
      have n_27 := lv_neT (a := 9) c_27 rfl
      have n_29 := lv_neT (a := 10) c_29 rfl
      have n_31 := lv_neT (a := 11) c_31 rfl
      refine lv_tableOut (tgt := 458) (pc := 42) hx hb d_LW_law_42 (by omega) (by decide) ?_
      exact K og nx ps lt ac gd bd io op pm em dv hI _ _ hP hD hS
end
section
theorem fz_kK {s : State} {args : Array Value} (hts0 : ∀ w ∈ lw_tbl, w.before args s = true) : ∃ (dC : Nat → ClassId) (dI : Nat → Nat → Nat) (cI cZ cC cS : ClassId), kK dC dI cI cZ cC cS s := by
  have hts : ∀ w ∈ tw, w.before args s = true := fz_tw hts0
  obtain ⟨c0, iS0, hKn0⟩ := u_known (C := "FileStatus") (T := F_FS) (N := 13) (n := 13) hts i_FS (hts _ k_5)
  obtain ⟨c1, iS1, hKn1⟩ := u_known (C := "FileStatus$Act") (T := F_AC) (N := 3) (n := 3) hts i_AC (hts _ k_14)
  obtain ⟨c2, iS2, hKn2⟩ := u_known (C := "FileStatusModel") (T := F_MD) (N := 13) (n := 13) hts i_MD (hts _ k_162)
  obtain ⟨cI, kI, compI, a1, a2, a3⟩ := Cond.arrayClass_spec (hts _ k_35)
  obtain ⟨cZ, kZ, compZ, b1, b2, b3⟩ := Cond.arrayClass_spec (hts _ k_79)
  have hOC : (Cond.arrayOver (.object "FileStatus$Act")).before args s = true := hts0 _ (List.mem_of_getElem? (i := 21) (by decide +kernel))
  have hOS : (Cond.arrayOver (.array .int)).before args s = true := hts0 _ (List.mem_of_getElem? (i := 24) (by decide +kernel))
  have hN : (Cond.fieldLinkNest "FileStatus" 83 "FileStatus$Act" "barred" "I" "FileStatus").before args s = true := hts0 _ (List.mem_of_getElem? (i := 34) (by decide +kernel))
  obtain ⟨compC, cC, kC, d1, d2, d3, d4, d5⟩ := Cond.arrayOver_spec hOC
  obtain ⟨compS, cS, kS, f1, f2, f3, f4, f5⟩ := arrayOverA_spec hOS
  have e : compS = cI := Option.some.inj (f1.symm.trans a1)
  subst e
  refine ⟨fun k => if k = 0 then c0 else if k = 1 then c1 else c2, fun k => if k = 0 then iS0 else if k = 1 then iS1 else iS2, compS, cZ, cC, cS, ⟨?_, ?_⟩, ⟨kS, kI, f3, f4, a2⟩, hOC, hOS, va_Nw.of rfl hN⟩
  · intro k q hq
    match k, hq with
    | 0, hq => cases hq; exact hKn0
    | 1, hq => cases hq; exact hKn1
    | 2, hq => cases hq; exact hKn2
    | k + 3, hq => simp [classes] at hq
  · intro k q hq
    match k, hq with
    | 0, hq => cases hq; exact ⟨fun n z => ⟨(fun k h => by cases h), kI, a2, compI, a3⟩, a1⟩
    | 1, hq => cases hq; exact ⟨fun n z => ⟨(fun k h => by cases h), kZ, b2, compZ, b3⟩, b1⟩
    | 2, hq => cases hq; exact ⟨fun n z => ⟨(fun k h => by cases h), kC, d3, compC, d4⟩, kC, compC, d3, d4, d1, d5⟩
    | 3, hq => cases hq; exact ⟨fun n z => ⟨(fun k h => by cases h), kS, f3, compS, f4⟩, f5⟩
    | k + 4, hq => simp at hq
theorem fz_preX {s : State} {H : Heap} {b L : Nat} {xs : Nat → Int32} (h : va_X b L xs s H) : PreS s H (va_Pc [.ref b, .int 0] (fun U => va_X b L xs U U.heap)) [.ref b, .int 0] :=
  ⟨fun a U g mk q => ⟨q.1, va_X.moved (u := U) (U := U.calling g mk a) (Vm.Alike.refl U.vm) q.2⟩, fun U hU hW => ⟨rfl, by show va_X b L xs U U.heap; rw [hU]; exact h.moved hW.alike⟩⟩
set_option maxHeartbeats 40000000 in
set_option maxRecDepth 100000 in
/-- THE LAW, from its entry -/
theorem whole_start {p : Program} {e : Env} {s : State} {m : MethodId} {below : List Frame} {meth : Method} {c : Code} (l : Launch) {b L : Nat} {xs : Nat → Int32} (hL : L ≤ 1537) (C0 : lw_At p s m meth c b L xs) : W p l e room_1 s m #[Value.ref b] below meth c s.heap [] 0 0 (lw_Z below #[Value.ref b] s) (entryFrame m ([Value.ref b] : List Value).toArray 4) := by
  obtain ⟨hx, hb, hr, hml, hown, hts0, hX, hbl, hlk, hgv⟩ := id C0
  have hown : s.vm.findClass "FileStatusLaw" = some m.cls := hown
  have hts : ∀ w ∈ tw, w.before #[Value.ref b] s = true := fz_tw hts0
  have hbA : ¬ (fun q : Nat => s.heap.size ≤ q) b := Nat.not_le.mpr hbl
  have hA : ∀ q : Nat, s.heap.size ≤ q → (fun q : Nat => s.heap.size ≤ q) q := fun _ h => h
  obtain ⟨dC, dI, cI, cZ, cC, cS, hK⟩ := fz_kK hts0
  have hS : va_S (fun q : Nat => s.heap.size ≤ q) s.heap s.heap [] := va_S.rf
  have hP : va_P (dC, dI) classes [] s.heap := fun k q h => by simp at h
  have hD : va_D (fun q : Nat => s.heap.size ≤ q) [] := fz_Dnil
  have hl := lv_entry [.ref b] (n := 4) (Nat.le_of_ble_eq_true rfl)
  rw [lg_entry_eq]
  generalize (lg_sl [.ref b] ++ List.replicate (4 - (lg_sl [.ref b]).length) Slot.unset).toArray = ls at hl ⊢
  have hl : lv_has ls 4 [(0, .ref b)] := hl
  refine va_new (pc := 0) (ci := 0) (fs := [.null, .int 0, .int 0, .int 0, .int 0, .int 0, .int 0, .int 0, .int 0, .int 0, .int 0, .int 0, .null]) (C := "FileStatus") (T := F_FS) (N := 13) hx hb hts i_FS t_FS t_FS_ok hown (hts _ k_4) (hts _ k_5) (hts _ k_1) hK.1 hP hD hS hA rfl (fun j hj => by rcases (show j = 0 ∨ j = 1 ∨ j = 2 ∨ j = 3 ∨ j = 4 ∨ j = 5 ∨ j = 6 ∨ j = 7 ∨ j = 8 ∨ j = 9 ∨ j = 10 ∨ j = 11 ∨ j = 12 by omega) with rfl | rfl | rfl | rfl | rfl | rfl | rfl | rfl | rfl | rfl | rfl | rfl | rfl <;> rfl) (Nat.le_of_ble_eq_true rfl) (Nat.le_of_ble_eq_true rfl) d_LW_law_0 (fun ax H hP hD hS => ?_)
  have hP : va_P (dC, dI) classes [(ax, .inr (0, [.null, .int 0, .int 0, .int 0, .int 0, .int 0, .int 0, .int 0, .int 0, .int 0, .int 0, .int 0, .null]))] H := hP
  have hD : va_D (fun q : Nat => s.heap.size ≤ q) [(ax, .inr (0, [.null, .int 0, .int 0, .int 0, .int 0, .int 0, .int 0, .int 0, .int 0, .int 0, .int 0, .int 0, .null]))] := hD
  refine lv_dup (pc := 3) hx hb d_LW_law_3 rfl ?_
  refine lv_aload_n (pc := 4) hx hb d_LW_law_4 rfl (lv_at hl 0 rfl) ?_
  refine lv_iconst (v := 0) (pc := 5) hx hb d_LW_law_5 (by decide) ?_
  refine fz_rS (pc := 6) (As := [.ref b, .int 0]) (rest := [.ref ax, .ref ax]) ⟨hx, hb, hml, hown, hts⟩ (c_LW_cell l b L xs) (cs_LW_9 hts ⟨(Nat.le_of_ble_eq_true rfl), (Nat.le_of_ble_eq_true rfl)⟩) (fz_preX (hX.kept (hS.2.1 b hbl hbA))) rfl hl.1 rfl (Nat.le_of_ble_eq_true rfl) d_LW_law_6 ⟨(Nat.le_of_ble_eq_true rfl), (Nat.le_of_ble_eq_true rfl)⟩ ?_
  have hax : s.heap.size ≤ ax := hD.2 0 _ rfl
  have hHs : s.heap.size ≤ H.size := hS.1
  refine va_callv (va_runI (As := [.int (ce L xs)]) (rest := [.ref ax]) ⟨hx, hb, hml, hown, hts⟩ (c_FS_init l dC dI cI cZ cC cS H.size ax (ce L xs)) (cs_LW_15 hts ⟨(Nat.le_of_ble_eq_true rfl), (Nat.le_of_ble_eq_true rfl)⟩) (fz_pre1 hK (hP.sub [0] rfl)) rfl rfl hl.1 rfl (lv_room (Nat.le_of_ble_eq_true rfl)) d_LW_law_9 ⟨(Nat.le_of_ble_eq_true rfl), (Nat.le_of_ble_eq_true rfl)⟩) hS (fun q _ h => by rcases h with h | h <;> first | (rw [h]; exact hax) | exact Nat.le_trans hHs h) (fun q h => by rcases h with h | h <;> first | (rw [h]; exact hax) | exact Nat.le_trans hHs h) (fun u t H1 locs ht hvm hw hB hz1 hk1 hS => ?_)
  obtain ⟨qa, qd, fA, T, hT, hP1, hD1⟩ := hB
  rw [ht] at hP1
  have hD1 : va_D (fun q : Nat => s.heap.size ≤ q) ((ax, FSo qa qd (ff_org (ce L xs)) (-1) 0 0 0 9 0 0 0 0 0) :: (qa, ARq cC 7 fA) :: (T ++ [(qd, ARi cZ 7 (fun _ => 0))])) := hD1.weaken (fun _ q _ h => by rcases h with h | h <;> first | (rw [h]; exact hax) | exact Nat.le_trans hHs h)
  generalize H1 = H at hP1 hS ⊢
  refine lv_astore_n (lv' := [(1, .ref ax), (0, .ref b)]) (pc := 12) hx hb d_LW_law_12 rfl hl (by decide) rfl (fun ls hl => ?_)
  refine va_new (pc := 13) (ci := 2) (fs := [.int 0, .int 0, .int 0, .int 0, .int 0, .int 0, .int 0, .int 0, .int 0, .int 0, .int 0, .int 0, .null]) (C := "FileStatusModel") (T := F_MD) (N := 13) hx hb hts i_MD t_MD t_MD_ok hown (hts _ k_161) (hts _ k_162) (hts _ k_3) hK.1 hP1 hD1 hS hA rfl (fun j hj => by rcases (show j = 0 ∨ j = 1 ∨ j = 2 ∨ j = 3 ∨ j = 4 ∨ j = 5 ∨ j = 6 ∨ j = 7 ∨ j = 8 ∨ j = 9 ∨ j = 10 ∨ j = 11 ∨ j = 12 by omega) with rfl | rfl | rfl | rfl | rfl | rfl | rfl | rfl | rfl | rfl | rfl | rfl | rfl <;> rfl) (Nat.le_of_ble_eq_true rfl) (Nat.le_of_ble_eq_true rfl) d_LW_law_13 (fun am H hP hD hS => ?_)
  have hP := fz_Psub hP (ws' := [(am, .inr (2, [.int 0, .int 0, .int 0, .int 0, .int 0, .int 0, .int 0, .int 0, .int 0, .int 0, .int 0, .int 0, .null]))] ++ ((ax, FSo qa qd (ff_org (ce L xs)) (-1) 0 0 0 9 0 0 0 0 0) :: (qa, ARq cC 7 fA) :: (T ++ [(qd, ARi cZ 7 (fun _ => 0))]))) (fun q hq => List.perm_append_comm.mem_iff.mpr hq)
  have hD := fz_Dperm hD (ws' := [(am, .inr (2, [.int 0, .int 0, .int 0, .int 0, .int 0, .int 0, .int 0, .int 0, .int 0, .int 0, .int 0, .int 0, .null]))] ++ ((ax, FSo qa qd (ff_org (ce L xs)) (-1) 0 0 0 9 0 0 0 0 0) :: (qa, ARq cC 7 fA) :: (T ++ [(qd, ARi cZ 7 (fun _ => 0))]))) List.perm_append_comm
  refine lv_dup (pc := 16) hx hb d_LW_law_16 rfl ?_
  refine lv_aload_n (pc := 17) hx hb d_LW_law_17 rfl (lv_at hl 1 rfl) ?_
  refine lv_iconst (v := 0) (pc := 18) hx hb d_LW_law_18 (by decide) ?_
  refine fz_rS (pc := 19) (As := [.ref b, .int 0]) (rest := [.ref am, .ref am]) ⟨hx, hb, hml, hown, hts⟩ (c_LW_cell l b L xs) (cs_LW_9 hts ⟨(Nat.le_of_ble_eq_true rfl), (Nat.le_of_ble_eq_true rfl)⟩) (fz_preX (hX.kept (hS.2.1 b hbl hbA))) rfl hl.1 rfl (Nat.le_of_ble_eq_true rfl) d_LW_law_19 ⟨(Nat.le_of_ble_eq_true rfl), (Nat.le_of_ble_eq_true rfl)⟩ ?_
  have ham : s.heap.size ≤ am := hD.2 0 _ rfl
  have hHs : s.heap.size ≤ H.size := hS.1
  refine va_callv (va_runI (As := [.int (ce L xs)]) (rest := [.ref am]) ⟨hx, hb, hml, hown, hts⟩ (c_MD_init l dC dI cI cZ cC cS H.size am (ce L xs)) (cs_LW_20 hts ⟨(Nat.le_of_ble_eq_true rfl), (Nat.le_of_ble_eq_true rfl)⟩) (fz_pre1 hK (hP.sub [0] rfl)) rfl rfl hl.1 rfl (lv_room (Nat.le_of_ble_eq_true rfl)) d_LW_law_22 ⟨(Nat.le_of_ble_eq_true rfl), (Nat.le_of_ble_eq_true rfl)⟩) hS (fun q _ h => by rcases h with h | h <;> first | (rw [h]; exact ham) | exact Nat.le_trans hHs h) (fun q h => by rcases h with h | h <;> first | (rw [h]; exact ham) | exact Nat.le_trans hHs h) (fun u t H1 locs ht hvm hw hB hz1 hk1 hS => ?_)
  obtain ⟨qm, hP2, hD2⟩ := hB
  rw [ht] at hP2
  obtain ⟨hP, hD⟩ := fz_join hP hD hP2 hD2 (fun q h => by rcases h with h | h <;> first | exact Or.inl ⟨_, List.mem_singleton.mpr rfl, h.symm⟩ | exact Or.inr h) (fun q h => by rcases h with h | h <;> first | (rw [h]; exact ham) | exact Nat.le_trans hHs h) hk1
  generalize H1 = H at hP hS ⊢
  have hPm : ([(am, MDo qm 0 (ff_org (ce L xs)) 0 0 0 9 0 0 0 0 0 0), (qm, ARi cZ 7 (fun _ => 0))] ++ ((ax, FSo qa qd (ff_org (ce L xs)) (-1) 0 0 0 9 0 0 0 0 0) :: (qa, ARq cC 7 fA) :: (T ++ [(qd, ARi cZ 7 (fun _ => 0))]))).Perm ((ax, FSo qa qd (ff_org (ce L xs)) (-1) 0 0 0 9 0 0 0 0 0) :: (qa, ARq cC 7 fA) :: (qd, ARi cZ 7 (fun _ => 0)) :: (am, MDo qm 0 (ff_org (ce L xs)) 0 0 0 9 0 0 0 0 0 0) :: (qm, ARi cZ 7 (fun _ => 0)) :: T) :=
    (List.Perm.append_left [(am, MDo qm 0 (ff_org (ce L xs)) 0 0 0 9 0 0 0 0 0 0), (qm, ARi cZ 7 (fun _ => 0))] (((List.perm_append_comm (l₁ := T) (l₂ := [(qd, ARi cZ 7 (fun _ => 0))])).cons (qa, ARq cC 7 fA)).cons (ax, FSo qa qd (ff_org (ce L xs)) (-1) 0 0 0 9 0 0 0 0 0))).trans (List.perm_append_comm_assoc [(am, MDo qm 0 (ff_org (ce L xs)) 0 0 0 9 0 0 0 0 0 0), (qm, ARi cZ 7 (fun _ => 0))] [(ax, FSo qa qd (ff_org (ce L xs)) (-1) 0 0 0 9 0 0 0 0 0), (qa, ARq cC 7 fA), (qd, ARi cZ 7 (fun _ => 0))] T)
  have hP : va_P (dC, dI) classes ((ax, FSo qa qd (ff_org (ce L xs)) (mdx 0 0) 0 0 0 9 0 0 0 0 0) :: (qa, ARq cC 7 fA) :: (qd, ARi cZ 7 (fun _ => 0)) :: (am, MDo qm 0 (ff_org (ce L xs)) 0 0 0 9 0 0 0 0 0 0) :: (qm, ARi cZ 7 (fun _ => 0)) :: T) H := fz_Psub hP (fun q hq => hPm.mem_iff.mpr hq)
  have hD : va_D (fun q : Nat => s.heap.size ≤ q) ((ax, FSo qa qd (ff_org (ce L xs)) (mdx 0 0) 0 0 0 9 0 0 0 0 0) :: (qa, ARq cC 7 fA) :: (qd, ARi cZ 7 (fun _ => 0)) :: (am, MDo qm 0 (ff_org (ce L xs)) 0 0 0 9 0 0 0 0 0 0) :: (qm, ARi cZ 7 (fun _ => 0)) :: T) := fz_Dperm hD hPm
  refine lv_astore_n (lv' := [(2, .ref am), (1, .ref ax), (0, .ref b)]) (pc := 25) hx hb d_LW_law_25 rfl hl (by decide) rfl (fun ls hl => ?_)
  refine lv_iconst (v := 1) (pc := 26) hx hb d_LW_law_26 (by decide) ?_
  refine lv_istore_n (lv' := [(3, .int 1), (2, .ref am), (1, .ref ax), (0, .ref b)]) (pc := 27) hx hb d_LW_law_27 rfl hl (by decide) rfl (fun ls hl => ?_)
  refine W.widen (k := 864254) (n := 6509487) (Nat.le_of_ble_eq_true rfl) (Nat.le_of_ble_eq_true rfl) ?_
  exact law_loop hL C0 hK hT (L + 1) 1 1 (by omega) (by omega) rfl (ff_org (ce L xs)) 0 0 0 9 0 0 0 0 0 0 (fun _ => 0) (pl_0 (ce L xs)) H locs hP hD hS ls (lv_sub hl [3, 2, 1, 0] rfl)
end
section
-- the skeleton's end (a starting text)
set_option maxHeartbeats 4000000 in
theorem lw_walk (l : Launch) (b : Addr) (xs : List Int32) : MetFree l x (headSpec (Jvm.Cond.code x code maxLocals ret :: tables_1) room_1) (lw_P b xs) (fun _ _ _ _ _ => True) lw_Q := by
  refine MetFree.of_bodyS (code := code) (maxLocals := maxLocals) (ret := ret) (by decide) ?_ ?_
  · intro args s m h hn
    obtain ⟨meth, c, h1, h2, h3, h4, h5, h6, -, -⟩ := Cond.code_spec hn (atoms_spec (ws := Jvm.Cond.code x code maxLocals ret :: tables_1) h _ List.mem_cons_self)
    exact ⟨meth, c, h1, h2, h3, h4, h5, h6⟩
  · intro p e s m args below meth c s₁ B hml0 hP _
    obtain ⟨rfl, hx, hbd, hgv⟩ := hP
    obtain ⟨scr, harrAt, hlist, hof, hsmall⟩ := hx
    obtain ⟨hcb, hkn, -, -⟩ := State.arrayAt?_spec harrAt
    have hown : s.vm.findClass R_law = some m.cls := findClass_of_methodNamed B.named
    have hts0 : ∀ c ∈ (Jvm.Cond.code x code maxLocals ret :: tables_1), c.before #[Value.ref b] s = true := atoms_spec (ws := Jvm.Cond.code x code maxLocals ret :: tables_1) B.pre
    have hts : ∀ w ∈ lw_tbl, w.before #[Value.ref b] s = true := k2_hts_sels lw_privs (fun w hw => hts0 w (List.mem_cons_of_mem _ hw)) lw_privs_ok
    have hml : c.maxLocals = 4 := B.maxLocals_eq (hts0 _ List.mem_cons_self)
    have X₀ : Stand p l e room_1 s m #[Value.ref b] below meth c s₁ [] 0 0 := Stand.of_body B
    have hh0 : s₁.heap = s.heap := by rw [B.state]; rfl
    have hsz : scr.slots.size = xs.length := by rw [← Array.length_toList, hlist, List.length_map]
    have hval : ∀ j : Nat, j < xs.length → scr.slots[j]? = some (.int (xs.getD j 0)) := fun j hj => by
      rw [← Array.getElem?_toList, hlist]
      simp [hj]
    have hbl : b < s.heap.size := (Array.getElem?_eq_some_iff.mp hcb).1
    have hX : va_X b xs.length (fun j => xs.getD j 0) s s.heap := ⟨scr, hcb, hof, hkn, hsz, hval⟩
    have K : W p l e room_1 s m #[Value.ref b] below meth c s₁.heap [] 0 0 (lw_Z below #[Value.ref b] s) (entryFrame m ([Value.ref b] : List Value).toArray 4) := by
      rw [hh0]
      exact whole_start l hbd ⟨B.exec, B.bytes, B.returns, hml, hown, hts, hX, hbl, B.notSynchronized, hgv⟩
    obtain ⟨t, a1, o, b1, b2, b3⟩ := K s₁ rfl X₀
    exact ⟨t, o, a1, b1, b2, b3⟩
theorem lw_pre_spec {args : Array Value} {s : State} (h : (Jvm.Cond.and given_1 narrow_1).before args s = true) (hr : rest_1_c.before args s = true) : ∃ (b : Addr) (xs : List Int32), lw_P b xs args s := by
  have hs := flat_of_before _ h
  have hq := flat_of_before _ hr
  have hc : (Cond.count 1).before args s = true := hs _ (by decide +kernel)
  have harr : (Cond.arrayOf (.arg 0) .int).before args s = true := hs _ (by decide +kernel)
  have hle : (Cond.le (.length (.arg 0)) (.int 1537)).before args s = true := hs _ (by decide +kernel)
  have hlen : (Cond.isInt (.length (.arg 0))).before args s = true := hq _ (by decide +kernel)
  have hall : (Cond.all (.arg 0) (.isInt (.elem (.arg 0) (.index 0)))).before args s = true := hq _ (by decide +kernel)
  obtain ⟨b, xs, hb, hx⟩ := State.ints_of_pre rfl harr hlen hall
  have hsm : xs.length < 2 ^ 31 := hx.choose_spec.2.2.2
  have hev : (Term.length (.arg 0)).eval args s none [] s = some (.int xs.length.toInt32) := hx.length_eval hb
  have hv := Cond.le_ints hev (show (Term.int 1537).eval args s none [] s = some (.int 1537) from rfl)
  have hd : xs.length.toInt32 ≤ 1537 := by
    simpa [Cond.before, Cond.holds, hv] using hle
  have hN : xs.length ≤ 1537 := (Int32.ofNat_le_ofNat hsm (by decide)).mp (show Int32.ofNat xs.length ≤ Int32.ofNat 1537 from hd)
  exact ⟨b, xs, Cond.one_arg hc (show args[0]? = some (.ref b) from hb), hx, hN, h⟩
theorem lw_comes (l : Launch) : Comes l x (Jvm.Cond.code x code maxLocals ret :: tables_1) room_1 (fun tb e args s => Calls_1 tb e args s ∧ rest_1 tb e args s ∧ Pre_1 tb e args s)
    (fun _ _ args s o t => lw_Q args s o t) := by
  intro p e ha hc hk s m args below hf hfit hheap happ hpre
  obtain ⟨b, xs, hP⟩ := lw_pre_spec hpre.2.2 hpre.2.1
  obtain ⟨k, o, h1, h2, h3, hQ⟩ := lw_walk l b xs p e ha hc hk s m args below hf ((Spec.applies_iff_loose hf).mp happ).1 hP trivial
  exact ⟨k, o, h1, h2, h3, hQ⟩
theorem lw_frame {s t : State} {o : Outcome} {args : Array Value} (h : Framed s o t [] 864254 6509487) :
    Framed s o t (fieldLocs frame_1_writes args s ++ arrayLocs frame_1_arrays args s ++ staticLocs frame_1_statics s) 864254 6509487 := h
theorem lw_limb (L : Cond) (hL : ∀ (args : Array Value) (s t : State), L.after args s (.returned (some (.int 1))) t = true) :
    ArmFor flags0 classFile x code maxLocals ret World_1 tables_1 room_1 Calls_1 rest_1 Pre_1
      (fun tb e a s o t => postC L tb e a s o t ∧ Framed s o t (fieldLocs frame_1_writes a s ++ arrayLocs frame_1_arrays a s ++ staticLocs frame_1_statics s) 864254 6509487) := by
  intro l _ _ _ p e ha hc hk s m args below hf hfit hheap happ hpre
  obtain ⟨k, o, h1, h2, h3, rfl, hF⟩ := lw_comes l p e ha hc hk s m args below hf hfit hheap happ hpre
  exact ⟨k, _, h1, h2, h3, hL args s _, lw_frame hF⟩
theorem i_vc : Claimed_1_1 ∧ Claimed_1_2 := ⟨lw_limb limb_1_1 (fun args s t => by simp [limb_1_1, Cond.after, Cond.holds, Cond.value]), lw_limb limb_1_2 (fun args s t => Cond.after_iff.mpr (by
  first | (rw [show limb_1_2 = Cond.eq .result (.int 1) from rfl, Cond.eq_ints (x := 1) (y := 1) rfl rfl]; simp; done) | (simp [limb_1_2, Cond.value, Term.eval]; done)))⟩
end
