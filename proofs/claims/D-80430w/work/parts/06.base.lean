set_option maxRecDepth 100000
/-! THE WALK OVER A MEMORY THAT IS A MAP: what the heap holds above the law's start is told by a map from addresses to cells -/
abbrev Mem : Type := Nat → Option va_E
/-- the law's start, the classes' numbers and slots, the array classes' numbers -/
abbrev Gl : Type := State × va_G × (Nat → ClassId)
abbrev Cx : Type := Program × Launch × Env × Room × State × MethodId × Array Value × List Frame × Method × Code
/-- a method: code, locals, own class, answer's type, room, name, handlers -/
abbrev Mi : Type := ByteArray × Nat × String × Option FieldType × Room × String × List (Nat × Nat × Nat × Nat)
def amCl : List vw_C := [(RX0, TX0, 11), (RX1, TX1, 3), (RX2, TX2, 2), (RX3, TX3, 25), (RX4, TX4, 1)]
def amTy (g : Gl) : List (ClassId × FieldType) := [(g.2.2 0, .int), (g.2.2 1, .long), (g.2.2 2, .byte), (g.2.2 3, .boolean), (g.2.2 4, .object RX2), (g.2.2 5, .object RX4), (g.2.2 6, .array .int)]
/-- what is known of the law's start -/
def Start (g : Gl) (l : Launch) : Prop := va_K g.2.1 amCl (amTy g) g.1 ∧ (∃ b : Nat, (∀ w ∈ lw_tbl, w.before #[Value.ref b] g.1 = true) ∧ (Jvm.Cond.and given_1 narrow_1).before #[Value.ref b] g.1 = true) ∧ modulesRight_1 g.1 = true ∧ l.flags = flags0
def Ok (κ : Cx) (g : Gl) (mi : Mi) : Prop := match κ with
  | (p, l, _, R, s, m, args, _, meth, c) => p.tables.exec = Jvm.exec ∧ c.code = mi.1 ∧ c.maxLocals = mi.2.1 ∧ s.vm.findClass mi.2.2.1 = some m.cls ∧ (∀ w ∈ lw_all, w.before args s = true) ∧ meth.locks = false ∧ meth.sig.returnType = mi.2.2.2.1 ∧ R = mi.2.2.2.2.1 ∧ g.1.WarmedH s.vm ∧ Start g l ∧ meth.name = mi.2.2.2.2.2.1 ∧ c.exceptionTable.toList.map (fun h => (h.startPc, h.endPc, h.handlerPc, h.catchType)) = mi.2.2.2.2.2.2
/-- the heap: below the law's start as it was; above, what the map says -/
def mP (g : Gl) (μ : Mem) (H : Heap) : Prop := (∀ q : Nat, q < g.1.heap.size → H[q]? = g.1.heap[q]?) ∧ ∀ (a : Nat) (e : va_E), μ a = some e → g.1.heap.size ≤ a ∧ va_at g.2.1 amCl (a, e) H
theorem mP.size {g : Gl} {μ : Mem} {H : Heap} (h : mP g μ H) : g.1.heap.size ≤ H.size := by
  rcases Nat.eq_zero_or_pos g.1.heap.size with e | e
  · omega
  · have h1 := h.1 (g.1.heap.size - 1) (by omega)
    rw [Array.getElem?_eq_getElem (by omega : g.1.heap.size - 1 < g.1.heap.size)] at h1
    have h2 := (Array.getElem?_eq_some_iff.mp h1).1
    omega
theorem mP.lt {g : Gl} {μ : Mem} {H : Heap} (h : mP g μ H) {a : Nat} {e : va_E} (ha : μ a = some e) : a < H.size := (h.2 a e ha).2.lt
theorem mP.fresh {g : Gl} {μ : Mem} {H : Heap} (h : mP g μ H) : μ H.size = none := by
  cases e : μ H.size with
  | none => rfl
  | some x => exact absurd (h.lt e) (Nat.lt_irrefl _)
theorem mP.put {g : Gl} {μ : Mem} {H H1 : Heap} {a : Nat} {e0 e : va_E} (h : mP g μ H) (ha : μ a = some e0) (he : va_at g.2.1 amCl (a, e) H1) (oq : ∀ q : Nat, q ≠ a → H1[q]? = H[q]?) : mP g (va_up μ a (some e)) H1 := by
  have hge := (h.2 a e0 ha).1
  refine ⟨fun q hq => ?_, fun x y hx => ?_⟩
  · rw [oq q (by omega)]; exact h.1 q hq
  · by_cases hxa : x = a
    · subst hxa
      rw [va_up_self] at hx
      cases hx
      exact ⟨hge, he⟩
    · rw [va_up_ne _ _ hxa] at hx
      exact ⟨(h.2 x y hx).1, (h.2 x y hx).2.kept (oq x hxa)⟩
theorem mP.push {g : Gl} {μ : Mem} {H H1 : Heap} {e : va_E} (h : mP g μ H) (he : va_at g.2.1 amCl (H.size, e) H1) (oq : ∀ q : Nat, q < H.size → H1[q]? = H[q]?) : mP g (va_up μ H.size (some e)) H1 := by
  have hge := h.size
  refine ⟨fun q hq => ?_, fun x y hx => ?_⟩
  · rw [oq q (by omega)]; exact h.1 q hq
  · by_cases hxa : x = H.size
    · subst hxa
      rw [va_up_self] at hx
      cases hx
      exact ⟨hge, he⟩
    · rw [va_up_ne _ _ hxa] at hx
      exact ⟨(h.2 x y hx).1, (h.2 x y hx).2.kept (oq x (h.lt hx))⟩
/-- more cells than the map tells -/
theorem mP.more {g : Gl} {μ : Mem} {H H1 : Heap} (h : mP g μ H) (oq : ∀ q : Nat, q < H.size → H1[q]? = H[q]?) : mP g μ H1 := by
  have hge := h.size
  refine ⟨fun q hq => ?_, fun x y hx => ?_⟩
  · rw [oq q (by omega)]; exact h.1 q hq
  · exact ⟨(h.2 x y hx).1, (h.2 x y hx).2.kept (oq x (h.lt hx))⟩
theorem mP.sub {g : Gl} {μ μ' : Mem} {H : Heap} (h : mP g μ H) (hs : ∀ a e, μ' a = some e → μ a = some e) : mP g μ' H := ⟨h.1, fun a e ha => h.2 a e (hs a e ha)⟩
theorem lc_app {n : Nat} {locs L : List Loc} (h : ∀ q ∈ locs, n ≤ q.base) (h2 : ∀ q ∈ L, n ≤ q.base) : ∀ q ∈ locs ++ L, n ≤ q.base := fun q hq => by
  rcases List.mem_append.mp hq with h1 | h1
  · exact h q h1
  · exact h2 q h1
theorem lc_one {n a i : Nat} (h : n ≤ a) : ∀ q ∈ ([⟨a, i⟩] : List Loc), n ≤ q.base := fun q hq => by
  rw [List.mem_singleton.mp hq]; exact h
/-- THE WALK: from here, with this memory, these locals and this stack, the method comes to Q -/
def V (κ : Cx) (g : Gl) (mi : Mi) (Q : State → Prop) (μ : Mem) (nc ns pc : Nat) (lv : List (Nat × Value)) (st : List Value) : Prop := match κ with
  | (p, l, e, R, s, m, args, below, meth, c) => Ok (p, l, e, R, s, m, args, below, meth, c) g mi → ∀ (H : Heap) (locs : List Loc) (ls : Array Slot), mP g μ H → (∀ q ∈ locs, g.1.heap.size ≤ q.base) → lv_has ls mi.2.1 lv → W p l e R s m args below meth c H locs nc ns Q (F0 m pc ls st)
section
variable {κ : Cx} {g : Gl} {mi : Mi} {Q : State → Prop} {μ : Mem} {nc ns pc : Nat} {lv : List (Nat × Value)} {st : List Value}
theorem v_iconst {n : Int} {v : Int32} (hd : decode mi.1 pc = .ok (.iconst n, 1)) (hv : Int32.ofInt n = v) (kk : V κ g mi Q μ nc ns (pc + 1) lv (.int v :: st)) : V κ g mi Q μ nc ns pc lv (st) := by
  obtain ⟨p, l, e, R, s, m, args, below, meth, c⟩ := κ
  intro hO H locs ls hP hL hl
  exact lv_iconst hO.1 hO.2.1 hd hv (kk hO H locs ls hP hL hl)
theorem v_bipush {n : Int} {v : Int32} (hd : decode mi.1 pc = .ok (.bipush n, 2)) (hv : (Int8.ofInt n).toInt32 = v) (kk : V κ g mi Q μ nc ns (pc + 2) lv (.int v :: st)) : V κ g mi Q μ nc ns pc lv (st) := by
  obtain ⟨p, l, e, R, s, m, args, below, meth, c⟩ := κ
  intro hO H locs ls hP hL hl
  exact lv_bipush hO.1 hO.2.1 hd hv (kk hO H locs ls hP hL hl)
theorem v_sipush {n : Int} {v : Int32} (hd : decode mi.1 pc = .ok (.sipush n, 3)) (hv : (Int16.ofInt n).toInt32 = v) (kk : V κ g mi Q μ nc ns (pc + 3) lv (.int v :: st)) : V κ g mi Q μ nc ns pc lv (st) := by
  obtain ⟨p, l, e, R, s, m, args, below, meth, c⟩ := κ
  intro hO H locs ls hP hL hl
  exact lv_sipush hO.1 hO.2.1 hd hv (kk hO H locs ls hP hL hl)
theorem v_lconst {n : Fin 2} {v : Int64} (hd : decode mi.1 pc = .ok (.lconst n, 1)) (hv : Int64.ofNat (n : Nat) = v) (kk : V κ g mi Q μ nc ns (pc + 1) lv (.long v :: st)) : V κ g mi Q μ nc ns pc lv (st) := by
  obtain ⟨p, l, e, R, s, m, args, below, meth, c⟩ := κ
  intro hO H locs ls hP hL hl
  exact lv_lconst hO.1 hO.2.1 hd hv (kk hO H locs ls hP hL hl)
theorem v_iload_n {k : Fin 4} {i : Nat} {x : Int32} (hd : decode mi.1 pc = .ok (.iload_n k, 1)) (hi : (k : Nat) = i) (j : Nat) (hj : lv[j]? = some (i, .int x)) (kk : V κ g mi Q μ nc ns (pc + 1) lv (.int x :: st)) : V κ g mi Q μ nc ns pc lv (st) := by
  obtain ⟨p, l, e, R, s, m, args, below, meth, c⟩ := κ
  intro hO H locs ls hP hL hl
  exact lv_iload_n hO.1 hO.2.1 hd hi (lv_at hl j hj) (kk hO H locs ls hP hL hl)
theorem v_iload {i : Nat} {x : Int32} (hd : decode mi.1 pc = .ok (.iload i, 2)) (j : Nat) (hj : lv[j]? = some (i, .int x)) (kk : V κ g mi Q μ nc ns (pc + 2) lv (.int x :: st)) : V κ g mi Q μ nc ns pc lv (st) := by
  obtain ⟨p, l, e, R, s, m, args, below, meth, c⟩ := κ
  intro hO H locs ls hP hL hl
  exact lv_iload hO.1 hO.2.1 hd (lv_at hl j hj) (kk hO H locs ls hP hL hl)
theorem v_lload_n {k : Fin 4} {i : Nat} {x : Int64} (hd : decode mi.1 pc = .ok (.lload_n k, 1)) (hi : (k : Nat) = i) (j : Nat) (hj : lv[j]? = some (i, .long x)) (kk : V κ g mi Q μ nc ns (pc + 1) lv (.long x :: st)) : V κ g mi Q μ nc ns pc lv (st) := by
  obtain ⟨p, l, e, R, s, m, args, below, meth, c⟩ := κ
  intro hO H locs ls hP hL hl
  exact lv_lload_n hO.1 hO.2.1 hd hi (lv_at hl j hj) (kk hO H locs ls hP hL hl)
theorem v_lload {i : Nat} {x : Int64} (hd : decode mi.1 pc = .ok (.lload i, 2)) (j : Nat) (hj : lv[j]? = some (i, .long x)) (kk : V κ g mi Q μ nc ns (pc + 2) lv (.long x :: st)) : V κ g mi Q μ nc ns pc lv (st) := by
  obtain ⟨p, l, e, R, s, m, args, below, meth, c⟩ := κ
  intro hO H locs ls hP hL hl
  exact lv_lload hO.1 hO.2.1 hd (lv_at hl j hj) (kk hO H locs ls hP hL hl)
theorem v_aload_n {k : Fin 4} {i : Nat} {x : Nat} (hd : decode mi.1 pc = .ok (.aload_n k, 1)) (hi : (k : Nat) = i) (j : Nat) (hj : lv[j]? = some (i, .ref x)) (kk : V κ g mi Q μ nc ns (pc + 1) lv (.ref x :: st)) : V κ g mi Q μ nc ns pc lv (st) := by
  obtain ⟨p, l, e, R, s, m, args, below, meth, c⟩ := κ
  intro hO H locs ls hP hL hl
  exact lv_aload_n hO.1 hO.2.1 hd hi (lv_at hl j hj) (kk hO H locs ls hP hL hl)
theorem v_aload {i : Nat} {x : Nat} (hd : decode mi.1 pc = .ok (.aload i, 2)) (j : Nat) (hj : lv[j]? = some (i, .ref x)) (kk : V κ g mi Q μ nc ns (pc + 2) lv (.ref x :: st)) : V κ g mi Q μ nc ns pc lv (st) := by
  obtain ⟨p, l, e, R, s, m, args, below, meth, c⟩ := κ
  intro hO H locs ls hP hL hl
  exact lv_aload hO.1 hO.2.1 hd (lv_at hl j hj) (kk hO H locs ls hP hL hl)
theorem v_istore_n {k : Fin 4} {i : Nat} {x : Int32} {lv' : List (Nat × Value)} (hd : decode mi.1 pc = .ok (.istore_n k, 1)) (hi : (k : Nat) = i) (hn : i < mi.2.1) (hl' : (i, Value.int x) :: lv.filter (fun q => !(q.1 == i) && !(q.1 + 1 == i && q.2.category == 2)) = lv') (kk : V κ g mi Q μ nc ns (pc + 1) lv' st) : V κ g mi Q μ nc ns pc lv (Value.int x :: st) := by
  obtain ⟨p, l, e, R, s, m, args, below, meth, c⟩ := κ
  intro hO H locs ls hP hL hl
  exact lv_istore_n hO.1 hO.2.1 hd hi hl hn hl' (fun ls hl => kk hO H locs ls hP hL hl)
theorem v_istore {i : Nat} {x : Int32} {lv' : List (Nat × Value)} (hd : decode mi.1 pc = .ok (.istore i, 2)) (hn : i < mi.2.1) (hl' : (i, Value.int x) :: lv.filter (fun q => !(q.1 == i) && !(q.1 + 1 == i && q.2.category == 2)) = lv') (kk : V κ g mi Q μ nc ns (pc + 2) lv' st) : V κ g mi Q μ nc ns pc lv (Value.int x :: st) := by
  obtain ⟨p, l, e, R, s, m, args, below, meth, c⟩ := κ
  intro hO H locs ls hP hL hl
  exact lv_istore hO.1 hO.2.1 hd hl hn hl' (fun ls hl => kk hO H locs ls hP hL hl)
theorem v_astore_n {k : Fin 4} {i : Nat} {x : Nat} {lv' : List (Nat × Value)} (hd : decode mi.1 pc = .ok (.astore_n k, 1)) (hi : (k : Nat) = i) (hn : i < mi.2.1) (hl' : (i, Value.ref x) :: lv.filter (fun q => !(q.1 == i) && !(q.1 + 1 == i && q.2.category == 2)) = lv') (kk : V κ g mi Q μ nc ns (pc + 1) lv' st) : V κ g mi Q μ nc ns pc lv (Value.ref x :: st) := by
  obtain ⟨p, l, e, R, s, m, args, below, meth, c⟩ := κ
  intro hO H locs ls hP hL hl
  exact lv_astore_n hO.1 hO.2.1 hd hi hl hn hl' (fun ls hl => kk hO H locs ls hP hL hl)
theorem v_astore {i : Nat} {x : Nat} {lv' : List (Nat × Value)} (hd : decode mi.1 pc = .ok (.astore i, 2)) (hn : i < mi.2.1) (hl' : (i, Value.ref x) :: lv.filter (fun q => !(q.1 == i) && !(q.1 + 1 == i && q.2.category == 2)) = lv') (kk : V κ g mi Q μ nc ns (pc + 2) lv' st) : V κ g mi Q μ nc ns pc lv (Value.ref x :: st) := by
  obtain ⟨p, l, e, R, s, m, args, below, meth, c⟩ := κ
  intro hO H locs ls hP hL hl
  exact lv_astore hO.1 hO.2.1 hd hl hn hl' (fun ls hl => kk hO H locs ls hP hL hl)
theorem v_iadd {x y v : Int32} (hd : decode mi.1 pc = .ok (.iadd, 1)) (hv : x + y = v) (kk : V κ g mi Q μ nc ns (pc + 1) lv (.int v :: st)) : V κ g mi Q μ nc ns pc lv (.int y :: .int x :: st) := by
  obtain ⟨p, l, e, R, s, m, args, below, meth, c⟩ := κ
  intro hO H locs ls hP hL hl
  subst hv
  exact lv_iadd hO.1 hO.2.1 hd (kk hO H locs ls hP hL hl)
theorem v_isub {x y v : Int32} (hd : decode mi.1 pc = .ok (.isub, 1)) (hv : x - y = v) (kk : V κ g mi Q μ nc ns (pc + 1) lv (.int v :: st)) : V κ g mi Q μ nc ns pc lv (.int y :: .int x :: st) := by
  obtain ⟨p, l, e, R, s, m, args, below, meth, c⟩ := κ
  intro hO H locs ls hP hL hl
  subst hv
  exact lv_isub hO.1 hO.2.1 hd (kk hO H locs ls hP hL hl)
theorem v_imul {x y v : Int32} (hd : decode mi.1 pc = .ok (.imul, 1)) (hv : x * y = v) (kk : V κ g mi Q μ nc ns (pc + 1) lv (.int v :: st)) : V κ g mi Q μ nc ns pc lv (.int y :: .int x :: st) := by
  obtain ⟨p, l, e, R, s, m, args, below, meth, c⟩ := κ
  intro hO H locs ls hP hL hl
  subst hv
  exact lv_imul hO.1 hO.2.1 hd (kk hO H locs ls hP hL hl)
theorem v_iand {x y v : Int32} (hd : decode mi.1 pc = .ok (.iand, 1)) (hv : x &&& y = v) (kk : V κ g mi Q μ nc ns (pc + 1) lv (.int v :: st)) : V κ g mi Q μ nc ns pc lv (.int y :: .int x :: st) := by
  obtain ⟨p, l, e, R, s, m, args, below, meth, c⟩ := κ
  intro hO H locs ls hP hL hl
  subst hv
  exact lv_iand hO.1 hO.2.1 hd (kk hO H locs ls hP hL hl)
theorem v_ior {x y v : Int32} (hd : decode mi.1 pc = .ok (.ior, 1)) (hv : x ||| y = v) (kk : V κ g mi Q μ nc ns (pc + 1) lv (.int v :: st)) : V κ g mi Q μ nc ns pc lv (.int y :: .int x :: st) := by
  obtain ⟨p, l, e, R, s, m, args, below, meth, c⟩ := κ
  intro hO H locs ls hP hL hl
  subst hv
  exact lv_ior hO.1 hO.2.1 hd (kk hO H locs ls hP hL hl)
theorem v_ixor {x y v : Int32} (hd : decode mi.1 pc = .ok (.ixor, 1)) (hv : x ^^^ y = v) (kk : V κ g mi Q μ nc ns (pc + 1) lv (.int v :: st)) : V κ g mi Q μ nc ns pc lv (.int y :: .int x :: st) := by
  obtain ⟨p, l, e, R, s, m, args, below, meth, c⟩ := κ
  intro hO H locs ls hP hL hl
  subst hv
  exact lv_ixor hO.1 hO.2.1 hd (kk hO H locs ls hP hL hl)
theorem v_idiv {x y v : Int32} (hd : decode mi.1 pc = .ok (.idiv, 1)) (hne : ¬ y = 0) (hv : x / y = v) (kk : V κ g mi Q μ nc ns (pc + 1) lv (.int v :: st)) : V κ g mi Q μ nc ns pc lv (.int y :: .int x :: st) := by
  obtain ⟨p, l, e, R, s, m, args, below, meth, c⟩ := κ
  intro hO H locs ls hP hL hl
  subst hv
  exact lv_idiv hO.1 hO.2.1 hd hne (kk hO H locs ls hP hL hl)
theorem v_irem {x y v : Int32} (hd : decode mi.1 pc = .ok (.irem, 1)) (hne : ¬ y = 0) (hv : x - x / y * y = v) (kk : V κ g mi Q μ nc ns (pc + 1) lv (.int v :: st)) : V κ g mi Q μ nc ns pc lv (.int y :: .int x :: st) := by
  obtain ⟨p, l, e, R, s, m, args, below, meth, c⟩ := κ
  intro hO H locs ls hP hL hl
  subst hv
  exact lv_irem hO.1 hO.2.1 hd hne (kk hO H locs ls hP hL hl)
theorem v_ineg {x v : Int32} (hd : decode mi.1 pc = .ok (.ineg, 1)) (hv : -x = v) (kk : V κ g mi Q μ nc ns (pc + 1) lv (.int v :: st)) : V κ g mi Q μ nc ns pc lv (.int x :: st) := by
  obtain ⟨p, l, e, R, s, m, args, below, meth, c⟩ := κ
  intro hO H locs ls hP hL hl
  subst hv
  exact lv_ineg hO.1 hO.2.1 hd (kk hO H locs ls hP hL hl)
theorem v_ladd {x y v : Int64} (hd : decode mi.1 pc = .ok (.ladd, 1)) (hv : x + y = v) (kk : V κ g mi Q μ nc ns (pc + 1) lv (.long v :: st)) : V κ g mi Q μ nc ns pc lv (.long y :: .long x :: st) := by
  obtain ⟨p, l, e, R, s, m, args, below, meth, c⟩ := κ
  intro hO H locs ls hP hL hl
  subst hv
  exact lv_ladd hO.1 hO.2.1 hd (kk hO H locs ls hP hL hl)
theorem v_lsub {x y v : Int64} (hd : decode mi.1 pc = .ok (.lsub, 1)) (hv : x - y = v) (kk : V κ g mi Q μ nc ns (pc + 1) lv (.long v :: st)) : V κ g mi Q μ nc ns pc lv (.long y :: .long x :: st) := by
  obtain ⟨p, l, e, R, s, m, args, below, meth, c⟩ := κ
  intro hO H locs ls hP hL hl
  subst hv
  exact lv_lsub hO.1 hO.2.1 hd (kk hO H locs ls hP hL hl)
theorem v_lmul {x y v : Int64} (hd : decode mi.1 pc = .ok (.lmul, 1)) (hv : x * y = v) (kk : V κ g mi Q μ nc ns (pc + 1) lv (.long v :: st)) : V κ g mi Q μ nc ns pc lv (.long y :: .long x :: st) := by
  obtain ⟨p, l, e, R, s, m, args, below, meth, c⟩ := κ
  intro hO H locs ls hP hL hl
  subst hv
  exact lv_lmul hO.1 hO.2.1 hd (kk hO H locs ls hP hL hl)
theorem v_land {x y v : Int64} (hd : decode mi.1 pc = .ok (.land, 1)) (hv : x &&& y = v) (kk : V κ g mi Q μ nc ns (pc + 1) lv (.long v :: st)) : V κ g mi Q μ nc ns pc lv (.long y :: .long x :: st) := by
  obtain ⟨p, l, e, R, s, m, args, below, meth, c⟩ := κ
  intro hO H locs ls hP hL hl
  subst hv
  exact lv_land hO.1 hO.2.1 hd (kk hO H locs ls hP hL hl)
theorem v_lor {x y v : Int64} (hd : decode mi.1 pc = .ok (.lor, 1)) (hv : x ||| y = v) (kk : V κ g mi Q μ nc ns (pc + 1) lv (.long v :: st)) : V κ g mi Q μ nc ns pc lv (.long y :: .long x :: st) := by
  obtain ⟨p, l, e, R, s, m, args, below, meth, c⟩ := κ
  intro hO H locs ls hP hL hl
  subst hv
  exact lv_lor hO.1 hO.2.1 hd (kk hO H locs ls hP hL hl)
theorem v_lxor {x y v : Int64} (hd : decode mi.1 pc = .ok (.lxor, 1)) (hv : x ^^^ y = v) (kk : V κ g mi Q μ nc ns (pc + 1) lv (.long v :: st)) : V κ g mi Q μ nc ns pc lv (.long y :: .long x :: st) := by
  obtain ⟨p, l, e, R, s, m, args, below, meth, c⟩ := κ
  intro hO H locs ls hP hL hl
  subst hv
  exact lv_lxor hO.1 hO.2.1 hd (kk hO H locs ls hP hL hl)
theorem v_ldiv {x y v : Int64} (hd : decode mi.1 pc = .ok (.ldiv, 1)) (hne : ¬ y = 0) (hv : x / y = v) (kk : V κ g mi Q μ nc ns (pc + 1) lv (.long v :: st)) : V κ g mi Q μ nc ns pc lv (.long y :: .long x :: st) := by
  obtain ⟨p, l, e, R, s, m, args, below, meth, c⟩ := κ
  intro hO H locs ls hP hL hl
  subst hv
  exact lv_ldiv hO.1 hO.2.1 hd hne (kk hO H locs ls hP hL hl)
theorem v_lrem {x y v : Int64} (hd : decode mi.1 pc = .ok (.lrem, 1)) (hne : ¬ y = 0) (hv : x - x / y * y = v) (kk : V κ g mi Q μ nc ns (pc + 1) lv (.long v :: st)) : V κ g mi Q μ nc ns pc lv (.long y :: .long x :: st) := by
  obtain ⟨p, l, e, R, s, m, args, below, meth, c⟩ := κ
  intro hO H locs ls hP hL hl
  subst hv
  exact lv_lrem hO.1 hO.2.1 hd hne (kk hO H locs ls hP hL hl)
theorem v_i2l {x : Int32} {v : Int64} (hd : decode mi.1 pc = .ok (.i2l, 1)) (hv : x.toInt64 = v) (kk : V κ g mi Q μ nc ns (pc + 1) lv (.long v :: st)) : V κ g mi Q μ nc ns pc lv (.int x :: st) := by
  obtain ⟨p, l, e, R, s, m, args, below, meth, c⟩ := κ
  intro hO H locs ls hP hL hl
  exact lv_i2l hO.1 hO.2.1 hd hv (kk hO H locs ls hP hL hl)
theorem v_l2i {x : Int64} {v : Int32} (hd : decode mi.1 pc = .ok (.l2i, 1)) (hv : x.toInt32 = v) (kk : V κ g mi Q μ nc ns (pc + 1) lv (.int v :: st)) : V κ g mi Q μ nc ns pc lv (.long x :: st) := by
  obtain ⟨p, l, e, R, s, m, args, below, meth, c⟩ := κ
  intro hO H locs ls hP hL hl
  exact lv_l2i hO.1 hO.2.1 hd hv (kk hO H locs ls hP hL hl)
theorem v_i2b {x v : Int32} (hd : decode mi.1 pc = .ok (.i2b, 1)) (hv : x.toInt8.toInt32 = v) (kk : V κ g mi Q μ nc ns (pc + 1) lv (.int v :: st)) : V κ g mi Q μ nc ns pc lv (.int x :: st) := by
  obtain ⟨p, l, e, R, s, m, args, below, meth, c⟩ := κ
  intro hO H locs ls hP hL hl
  exact lv_i2b hO.1 hO.2.1 hd hv (kk hO H locs ls hP hL hl)
theorem v_lshl {x v : Int64} {y : Int32} (hd : decode mi.1 pc = .ok (.lshl, 1)) (hv : x <<< (y.toInt64 &&& 63) = v) (kk : V κ g mi Q μ nc ns (pc + 1) lv (.long v :: st)) : V κ g mi Q μ nc ns pc lv (.int y :: .long x :: st) := by
  obtain ⟨p, l, e, R, s, m, args, below, meth, c⟩ := κ
  intro hO H locs ls hP hL hl
  exact lv_lshl hO.1 hO.2.1 hd hv (kk hO H locs ls hP hL hl)
theorem v_lcmp {x y : Int64} (hd : decode mi.1 pc = .ok (.lcmp, 1)) (kk : V κ g mi Q μ nc ns (pc + 1) lv (.int (lg_cmp x y) :: st)) : V κ g mi Q μ nc ns pc lv (.long y :: .long x :: st) := by
  obtain ⟨p, l, e, R, s, m, args, below, meth, c⟩ := κ
  intro hO H locs ls hP hL hl
  exact W.lcmp hO.1 hO.2.1 hd (kk hO H locs ls hP hL hl)
theorem v_dup {va : Value} (hd : decode mi.1 pc = .ok (.dup, 1)) (h : va.category = 1) (kk : V κ g mi Q μ nc ns (pc + 1) lv (va :: va :: st)) : V κ g mi Q μ nc ns pc lv (va :: st) := by
  obtain ⟨p, l, e, R, s, m, args, below, meth, c⟩ := κ
  intro hO H locs ls hP hL hl
  exact lv_dup hO.1 hO.2.1 hd h (kk hO H locs ls hP hL hl)
theorem v_pop {va : Value} (hd : decode mi.1 pc = .ok (.pop, 1)) (h : va.category = 1) (kk : V κ g mi Q μ nc ns (pc + 1) lv (st)) : V κ g mi Q μ nc ns pc lv (va :: st) := by
  obtain ⟨p, l, e, R, s, m, args, below, meth, c⟩ := κ
  intro hO H locs ls hP hL hl
  exact lv_pop hO.1 hO.2.1 hd h (kk hO H locs ls hP hL hl)
theorem v_dup_x1 {va vb : Value} (hd : decode mi.1 pc = .ok (.dup_x1, 1)) (h : va.category = 1) (h2 : vb.category = 1) (kk : V κ g mi Q μ nc ns (pc + 1) lv (va :: vb :: va :: st)) : V κ g mi Q μ nc ns pc lv (va :: vb :: st) := by
  obtain ⟨p, l, e, R, s, m, args, below, meth, c⟩ := κ
  intro hO H locs ls hP hL hl
  exact lv_dup_x1 hO.1 hO.2.1 hd h h2 (kk hO H locs ls hP hL hl)
theorem v_dup2 {va vb : Value} (hd : decode mi.1 pc = .ok (.dup2, 1)) (h : va.category = 1) (h2 : vb.category = 1) (kk : V κ g mi Q μ nc ns (pc + 1) lv (va :: vb :: va :: vb :: st)) : V κ g mi Q μ nc ns pc lv (va :: vb :: st) := by
  obtain ⟨p, l, e, R, s, m, args, below, meth, c⟩ := κ
  intro hO H locs ls hP hL hl
  exact lv_dup2_11 hO.1 hO.2.1 hd h h2 (kk hO H locs ls hP hL hl)
theorem v_null  (hd : decode mi.1 pc = .ok (.aconst_null, 1)) (kk : V κ g mi Q μ nc ns (pc + 1) lv (.null :: st)) : V κ g mi Q μ nc ns pc lv (st) := by
  obtain ⟨p, l, e, R, s, m, args, below, meth, c⟩ := κ
  intro hO H locs ls hP hL hl
  exact lv_null hO.1 hO.2.1 hd (kk hO H locs ls hP hL hl)
theorem v_icmp_eq {x y : Int32} {off : Int} {tgt : Nat} (hd : decode mi.1 pc = .ok (.if_icmp .eq off, 3)) (ht : (pc : Int) + off = (tgt : Int)) (kt : x = y → V κ g mi Q μ nc ns tgt lv st) (kf : ¬ x = y → V κ g mi Q μ nc ns (pc + 3) lv st) : V κ g mi Q μ nc ns pc lv (.int y :: .int x :: st) := by
  obtain ⟨p, l, e, R, s, m, args, below, meth, c⟩ := κ
  intro hO H locs ls hP hL hl
  exact lv_icmp_eq hO.1 hO.2.1 hd ht (fun h => kt h hO H locs ls hP hL hl) (fun h => kf h hO H locs ls hP hL hl)
theorem v_if_eq {x : Int32} {off : Int} {tgt : Nat} (hd : decode mi.1 pc = .ok (.ifCond .eq off, 3)) (ht : (pc : Int) + off = (tgt : Int)) (kt : x = 0 → V κ g mi Q μ nc ns tgt lv st) (kf : ¬ x = 0 → V κ g mi Q μ nc ns (pc + 3) lv st) : V κ g mi Q μ nc ns pc lv (.int x :: st) := by
  obtain ⟨p, l, e, R, s, m, args, below, meth, c⟩ := κ
  intro hO H locs ls hP hL hl
  exact lv_if_eq hO.1 hO.2.1 hd ht (fun h => kt h hO H locs ls hP hL hl) (fun h => kf h hO H locs ls hP hL hl)
theorem v_icmp_ne {x y : Int32} {off : Int} {tgt : Nat} (hd : decode mi.1 pc = .ok (.if_icmp .ne off, 3)) (ht : (pc : Int) + off = (tgt : Int)) (kt : ¬ x = y → V κ g mi Q μ nc ns tgt lv st) (kf : x = y → V κ g mi Q μ nc ns (pc + 3) lv st) : V κ g mi Q μ nc ns pc lv (.int y :: .int x :: st) := by
  obtain ⟨p, l, e, R, s, m, args, below, meth, c⟩ := κ
  intro hO H locs ls hP hL hl
  exact lv_icmp_ne hO.1 hO.2.1 hd ht (fun h => kt h hO H locs ls hP hL hl) (fun h => kf h hO H locs ls hP hL hl)
theorem v_if_ne {x : Int32} {off : Int} {tgt : Nat} (hd : decode mi.1 pc = .ok (.ifCond .ne off, 3)) (ht : (pc : Int) + off = (tgt : Int)) (kt : ¬ x = 0 → V κ g mi Q μ nc ns tgt lv st) (kf : x = 0 → V κ g mi Q μ nc ns (pc + 3) lv st) : V κ g mi Q μ nc ns pc lv (.int x :: st) := by
  obtain ⟨p, l, e, R, s, m, args, below, meth, c⟩ := κ
  intro hO H locs ls hP hL hl
  exact lv_if_ne hO.1 hO.2.1 hd ht (fun h => kt h hO H locs ls hP hL hl) (fun h => kf h hO H locs ls hP hL hl)
theorem v_icmp_lt {x y : Int32} {off : Int} {tgt : Nat} (hd : decode mi.1 pc = .ok (.if_icmp .lt off, 3)) (ht : (pc : Int) + off = (tgt : Int)) (kt : x < y → V κ g mi Q μ nc ns tgt lv st) (kf : ¬ x < y → V κ g mi Q μ nc ns (pc + 3) lv st) : V κ g mi Q μ nc ns pc lv (.int y :: .int x :: st) := by
  obtain ⟨p, l, e, R, s, m, args, below, meth, c⟩ := κ
  intro hO H locs ls hP hL hl
  exact lv_icmp_lt hO.1 hO.2.1 hd ht (fun h => kt h hO H locs ls hP hL hl) (fun h => kf h hO H locs ls hP hL hl)
theorem v_if_lt {x : Int32} {off : Int} {tgt : Nat} (hd : decode mi.1 pc = .ok (.ifCond .lt off, 3)) (ht : (pc : Int) + off = (tgt : Int)) (kt : x < 0 → V κ g mi Q μ nc ns tgt lv st) (kf : ¬ x < 0 → V κ g mi Q μ nc ns (pc + 3) lv st) : V κ g mi Q μ nc ns pc lv (.int x :: st) := by
  obtain ⟨p, l, e, R, s, m, args, below, meth, c⟩ := κ
  intro hO H locs ls hP hL hl
  exact lv_if_lt hO.1 hO.2.1 hd ht (fun h => kt h hO H locs ls hP hL hl) (fun h => kf h hO H locs ls hP hL hl)
theorem v_icmp_ge {x y : Int32} {off : Int} {tgt : Nat} (hd : decode mi.1 pc = .ok (.if_icmp .ge off, 3)) (ht : (pc : Int) + off = (tgt : Int)) (kt : y ≤ x → V κ g mi Q μ nc ns tgt lv st) (kf : ¬ y ≤ x → V κ g mi Q μ nc ns (pc + 3) lv st) : V κ g mi Q μ nc ns pc lv (.int y :: .int x :: st) := by
  obtain ⟨p, l, e, R, s, m, args, below, meth, c⟩ := κ
  intro hO H locs ls hP hL hl
  exact lv_icmp_ge hO.1 hO.2.1 hd ht (fun h => kt h hO H locs ls hP hL hl) (fun h => kf h hO H locs ls hP hL hl)
theorem v_if_ge {x : Int32} {off : Int} {tgt : Nat} (hd : decode mi.1 pc = .ok (.ifCond .ge off, 3)) (ht : (pc : Int) + off = (tgt : Int)) (kt : 0 ≤ x → V κ g mi Q μ nc ns tgt lv st) (kf : ¬ 0 ≤ x → V κ g mi Q μ nc ns (pc + 3) lv st) : V κ g mi Q μ nc ns pc lv (.int x :: st) := by
  obtain ⟨p, l, e, R, s, m, args, below, meth, c⟩ := κ
  intro hO H locs ls hP hL hl
  exact lv_if_ge hO.1 hO.2.1 hd ht (fun h => kt h hO H locs ls hP hL hl) (fun h => kf h hO H locs ls hP hL hl)
theorem v_icmp_gt {x y : Int32} {off : Int} {tgt : Nat} (hd : decode mi.1 pc = .ok (.if_icmp .gt off, 3)) (ht : (pc : Int) + off = (tgt : Int)) (kt : y < x → V κ g mi Q μ nc ns tgt lv st) (kf : ¬ y < x → V κ g mi Q μ nc ns (pc + 3) lv st) : V κ g mi Q μ nc ns pc lv (.int y :: .int x :: st) := by
  obtain ⟨p, l, e, R, s, m, args, below, meth, c⟩ := κ
  intro hO H locs ls hP hL hl
  exact lv_icmp_gt hO.1 hO.2.1 hd ht (fun h => kt h hO H locs ls hP hL hl) (fun h => kf h hO H locs ls hP hL hl)
theorem v_if_gt {x : Int32} {off : Int} {tgt : Nat} (hd : decode mi.1 pc = .ok (.ifCond .gt off, 3)) (ht : (pc : Int) + off = (tgt : Int)) (kt : 0 < x → V κ g mi Q μ nc ns tgt lv st) (kf : ¬ 0 < x → V κ g mi Q μ nc ns (pc + 3) lv st) : V κ g mi Q μ nc ns pc lv (.int x :: st) := by
  obtain ⟨p, l, e, R, s, m, args, below, meth, c⟩ := κ
  intro hO H locs ls hP hL hl
  exact lv_if_gt hO.1 hO.2.1 hd ht (fun h => kt h hO H locs ls hP hL hl) (fun h => kf h hO H locs ls hP hL hl)
theorem v_icmp_le {x y : Int32} {off : Int} {tgt : Nat} (hd : decode mi.1 pc = .ok (.if_icmp .le off, 3)) (ht : (pc : Int) + off = (tgt : Int)) (kt : x ≤ y → V κ g mi Q μ nc ns tgt lv st) (kf : ¬ x ≤ y → V κ g mi Q μ nc ns (pc + 3) lv st) : V κ g mi Q μ nc ns pc lv (.int y :: .int x :: st) := by
  obtain ⟨p, l, e, R, s, m, args, below, meth, c⟩ := κ
  intro hO H locs ls hP hL hl
  exact lv_icmp_le hO.1 hO.2.1 hd ht (fun h => kt h hO H locs ls hP hL hl) (fun h => kf h hO H locs ls hP hL hl)
theorem v_if_le {x : Int32} {off : Int} {tgt : Nat} (hd : decode mi.1 pc = .ok (.ifCond .le off, 3)) (ht : (pc : Int) + off = (tgt : Int)) (kt : x ≤ 0 → V κ g mi Q μ nc ns tgt lv st) (kf : ¬ x ≤ 0 → V κ g mi Q μ nc ns (pc + 3) lv st) : V κ g mi Q μ nc ns pc lv (.int x :: st) := by
  obtain ⟨p, l, e, R, s, m, args, below, meth, c⟩ := κ
  intro hO H locs ls hP hL hl
  exact lv_if_le hO.1 hO.2.1 hd ht (fun h => kt h hO H locs ls hP hL hl) (fun h => kf h hO H locs ls hP hL hl)
theorem v_goto {off : Int} {tgt : Nat} (hd : decode mi.1 pc = .ok (.goto off, 3)) (ht : (pc : Int) + off = (tgt : Int)) (kk : V κ g mi Q μ nc ns tgt lv st) : V κ g mi Q μ nc ns pc lv st := by
  obtain ⟨p, l, e, R, s, m, args, below, meth, c⟩ := κ
  intro hO H locs ls hP hL hl
  exact lv_goto hO.1 hO.2.1 hd ht (kk hO H locs ls hP hL hl)
theorem v_ifnonnull {a : Nat} {off : Int} {tgt : Nat} (hd : decode mi.1 pc = .ok (.ifnonnull off, 3)) (ht : (pc : Int) + off = (tgt : Int)) (kk : V κ g mi Q μ nc ns tgt lv st) : V κ g mi Q μ nc ns pc lv (.ref a :: st) := by
  obtain ⟨p, l, e, R, s, m, args, below, meth, c⟩ := κ
  intro hO H locs ls hP hL hl
  exact lv_ifnonnull hO.1 hO.2.1 hd ht (kk hO H locs ls hP hL hl)
theorem v_ifnull {a : Nat} {off : Int} (hd : decode mi.1 pc = .ok (.ifnull off, 3)) (kk : V κ g mi Q μ nc ns (pc + 3) lv st) : V κ g mi Q μ nc ns pc lv (.ref a :: st) := by
  obtain ⟨p, l, e, R, s, m, args, below, meth, c⟩ := κ
  intro hO H locs ls hP hL hl
  exact lv_ifnull hO.1 hO.2.1 hd (kk hO H locs ls hP hL hl)
theorem v_ifnullN {off : Int} {tgt : Nat} (hd : decode mi.1 pc = .ok (.ifnull off, 3)) (ht : (pc : Int) + off = (tgt : Int)) (kk : V κ g mi Q μ nc ns tgt lv st) : V κ g mi Q μ nc ns pc lv (.null :: st) := by
  obtain ⟨p, l, e, R, s, m, args, below, meth, c⟩ := κ
  intro hO H locs ls hP hL hl
  exact lv_ifnullN hO.1 hO.2.1 hd ht (kk hO H locs ls hP hL hl)
theorem v_ifnonnullN {off : Int} (hd : decode mi.1 pc = .ok (.ifnonnull off, 3)) (kk : V κ g mi Q μ nc ns (pc + 3) lv st) : V κ g mi Q μ nc ns pc lv (.null :: st) := by
  obtain ⟨p, l, e, R, s, m, args, below, meth, c⟩ := κ
  intro hO H locs ls hP hL hl
  exact lv_ifnonnullN hO.1 hO.2.1 hd (kk hO H locs ls hP hL hl)
theorem v_iinc {i : Nat} {n : Int} {x v : Int32} {lv' : List (Nat × Value)} (hd : decode mi.1 pc = .ok (.iinc i n, 3)) (j : Nat) (hj : lv[j]? = some (i, .int x)) (hv : x + Int32.ofInt n = v) (hn : i < mi.2.1) (hl' : (i, Value.int v) :: lv.filter (fun q => !(q.1 == i) && !(q.1 + 1 == i && q.2.category == 2)) = lv') (kk : V κ g mi Q μ nc ns (pc + 3) lv' st) : V κ g mi Q μ nc ns pc lv st := by
  obtain ⟨p, l, e, R, s, m, args, below, meth, c⟩ := κ
  intro hO H locs ls hP hL hl
  exact lv_iinc hO.1 hO.2.1 hd hl hj hv hn hl' (fun ls hl => kk hO H locs ls hP hL hl)
theorem v_lstore_n {k : Fin 4} {i : Nat} {x : Int64} {lv' : List (Nat × Value)} (hd : decode mi.1 pc = .ok (.lstore_n k, 1)) (hi : (k : Nat) = i) (hn : i + 1 < mi.2.1) (hl' : (i, Value.long x) :: lv.filter (fun q => !(q.1 == i) && (!(q.1 == i + 1) && !(q.1 + 1 == i && q.2.category == 2))) = lv') (kk : V κ g mi Q μ nc ns (pc + 1) lv' st) : V κ g mi Q μ nc ns pc lv (.long x :: st) := by
  obtain ⟨p, l, e, R, s, m, args, below, meth, c⟩ := κ
  intro hO H locs ls hP hL hl
  exact lv_lstore_n hO.1 hO.2.1 hd hi hl hn hl' (fun ls hl => kk hO H locs ls hP hL hl)
theorem v_lstore {i : Nat} {x : Int64} {lv' : List (Nat × Value)} (hd : decode mi.1 pc = .ok (.lstore i, 2)) (hn : i + 1 < mi.2.1) (hl' : (i, Value.long x) :: lv.filter (fun q => !(q.1 == i) && (!(q.1 == i + 1) && !(q.1 + 1 == i && q.2.category == 2))) = lv') (kk : V κ g mi Q μ nc ns (pc + 2) lv' st) : V κ g mi Q μ nc ns pc lv (.long x :: st) := by
  obtain ⟨p, l, e, R, s, m, args, below, meth, c⟩ := κ
  intro hO H locs ls hP hL hl
  exact lv_lstore hO.1 hO.2.1 hd hl hn hl' (fun ls hl => kk hO H locs ls hP hL hl)
/-! references that may be null -/
theorem v_aload_nQ {k : Fin 4} {i : Nat} {r : Option Nat} (hd : decode mi.1 pc = .ok (.aload_n k, 1)) (hi : (k : Nat) = i) (j : Nat) (hj : lv[j]? = some (i, va_rf r)) (kk : V κ g mi Q μ nc ns (pc + 1) lv (va_rf r :: st)) : V κ g mi Q μ nc ns pc lv st := by
  obtain ⟨p, l, e, R, s, m, args, below, meth, c⟩ := κ
  intro hO H locs ls hP hL hl
  cases r with
  | none => exact lv_aload_nN hO.1 hO.2.1 hd hi (lv_at hl j hj) (kk hO H locs ls hP hL hl)
  | some a => exact lv_aload_n hO.1 hO.2.1 hd hi (lv_at hl j hj) (kk hO H locs ls hP hL hl)
theorem v_aloadQ {i : Nat} {r : Option Nat} (hd : decode mi.1 pc = .ok (.aload i, 2)) (j : Nat) (hj : lv[j]? = some (i, va_rf r)) (kk : V κ g mi Q μ nc ns (pc + 2) lv (va_rf r :: st)) : V κ g mi Q μ nc ns pc lv st := by
  obtain ⟨p, l, e, R, s, m, args, below, meth, c⟩ := κ
  intro hO H locs ls hP hL hl
  cases r with
  | none => exact lv_aloadN hO.1 hO.2.1 hd (lv_at hl j hj) (kk hO H locs ls hP hL hl)
  | some a => exact lv_aload hO.1 hO.2.1 hd (lv_at hl j hj) (kk hO H locs ls hP hL hl)
theorem v_astore_nQ {k : Fin 4} {i : Nat} {r : Option Nat} {lv' : List (Nat × Value)} (hd : decode mi.1 pc = .ok (.astore_n k, 1)) (hi : (k : Nat) = i) (hn : i < mi.2.1) (hl' : (i, va_rf r) :: lv.filter (fun q => !(q.1 == i) && !(q.1 + 1 == i && q.2.category == 2)) = lv') (kk : V κ g mi Q μ nc ns (pc + 1) lv' st) : V κ g mi Q μ nc ns pc lv (va_rf r :: st) := by
  obtain ⟨p, l, e, R, s, m, args, below, meth, c⟩ := κ
  intro hO H locs ls hP hL hl
  cases r with
  | none => exact lv_astore_nN hO.1 hO.2.1 hd hi hl hn hl' (fun ls hl => kk hO H locs ls hP hL hl)
  | some a => exact lv_astore_n hO.1 hO.2.1 hd hi hl hn hl' (fun ls hl => kk hO H locs ls hP hL hl)
theorem v_astoreQ {i : Nat} {r : Option Nat} {lv' : List (Nat × Value)} (hd : decode mi.1 pc = .ok (.astore i, 2)) (hn : i < mi.2.1) (hl' : (i, va_rf r) :: lv.filter (fun q => !(q.1 == i) && !(q.1 + 1 == i && q.2.category == 2)) = lv') (kk : V κ g mi Q μ nc ns (pc + 2) lv' st) : V κ g mi Q μ nc ns pc lv (va_rf r :: st) := by
  obtain ⟨p, l, e, R, s, m, args, below, meth, c⟩ := κ
  intro hO H locs ls hP hL hl
  cases r with
  | none => exact lv_astoreN hO.1 hO.2.1 hd hl hn hl' (fun ls hl => kk hO H locs ls hP hL hl)
  | some a => exact lv_astore hO.1 hO.2.1 hd hl hn hl' (fun ls hl => kk hO H locs ls hP hL hl)
theorem v_ifnonnullQ {r : Option Nat} {off : Int} {tgt : Nat} (hd : decode mi.1 pc = .ok (.ifnonnull off, 3)) (ht : (pc : Int) + off = (tgt : Int)) (ks : ∀ a, r = some a → V κ g mi Q μ nc ns tgt lv st) (kn : r = none → V κ g mi Q μ nc ns (pc + 3) lv st) : V κ g mi Q μ nc ns pc lv (va_rf r :: st) := by
  cases r with
  | none => exact v_ifnonnullN hd (kn rfl)
  | some a => exact v_ifnonnull (a := a) hd ht (ks a rfl)
theorem v_acmp_eq {rx ry : Option Nat} {off : Int} {tgt : Nat} (hd : decode mi.1 pc = .ok (.if_acmp .eq off, 3)) (ht : (pc : Int) + off = (tgt : Int)) (kt : rx = ry → V κ g mi Q μ nc ns tgt lv st) (kf : ¬ rx = ry → V κ g mi Q μ nc ns (pc + 3) lv st) : V κ g mi Q μ nc ns pc lv (va_rf ry :: va_rf rx :: st) := by
  obtain ⟨p, l, e, R, s, m, args, below, meth, c⟩ := κ
  intro hO H locs ls hP hL hl
  exact lv_acmp_eq hO.1 hO.2.1 hd ht (fun h => kt h hO H locs ls hP hL hl) (fun h => kf h hO H locs ls hP hL hl)
theorem v_acmp_ne {rx ry : Option Nat} {off : Int} {tgt : Nat} (hd : decode mi.1 pc = .ok (.if_acmp .ne off, 3)) (ht : (pc : Int) + off = (tgt : Int)) (kt : ¬ rx = ry → V κ g mi Q μ nc ns tgt lv st) (kf : rx = ry → V κ g mi Q μ nc ns (pc + 3) lv st) : V κ g mi Q μ nc ns pc lv (va_rf ry :: va_rf rx :: st) := by
  obtain ⟨p, l, e, R, s, m, args, below, meth, c⟩ := κ
  intro hO H locs ls hP hL hl
  exact lv_acmp_ne hO.1 hO.2.1 hd ht (fun h => kt h hO H locs ls hP hL hl) (fun h => kf h hO H locs ls hP hL hl)
/-! switches, constants -/
theorem v_tableOut {dflt lo hi : Int} {offs : Array Int} {len : Nat} {x : Int32} {tgt : Nat} (hd : decode mi.1 pc = .ok (.tableswitch dflt lo hi offs, len)) (h : x.toInt < lo ∨ hi < x.toInt) (ht : (pc : Int) + dflt = (tgt : Int)) (kk : V κ g mi Q μ nc ns tgt lv st) : V κ g mi Q μ nc ns pc lv (.int x :: st) := by
  obtain ⟨p, l, e, R, s, m, args, below, meth, c⟩ := κ
  intro hO H locs ls hP hL hl
  exact lv_tableOut hO.1 hO.2.1 hd h ht (kk hO H locs ls hP hL hl)
theorem v_tableIn {dflt lo hi : Int} {offs : Array Int} {len : Nat} {x : Int32} {off : Int} {tgt : Nat} (hd : decode mi.1 pc = .ok (.tableswitch dflt lo hi offs, len)) (h1 : ¬ x.toInt < lo) (h2 : ¬ hi < x.toInt) (ho : offs[(x.toInt - lo).toNat]? = some off) (ht : (pc : Int) + off = (tgt : Int)) (kk : V κ g mi Q μ nc ns tgt lv st) : V κ g mi Q μ nc ns pc lv (.int x :: st) := by
  obtain ⟨p, l, e, R, s, m, args, below, meth, c⟩ := κ
  intro hO H locs ls hP hL hl
  exact lv_tableIn hO.1 hO.2.1 hd h1 h2 ho ht (kk hO H locs ls hP hL hl)
theorem v_ldc {index : Nat} {v : Int32} (hd : decode mi.1 pc = .ok (.ldc index, 2)) (hc : Cond.constant mi.2.2.1 index v ∈ lw_all) (kk : V κ g mi Q μ nc ns (pc + 2) lv (.int v :: st)) : V κ g mi Q μ nc ns pc lv st := by
  obtain ⟨p, l, e, R, s, m, args, below, meth, c⟩ := κ
  intro hO H locs ls hP hL hl
  exact lv_ldc hO.1 hO.2.1 hO.2.2.2.1 (hO.2.2.2.2.1 _ hc) hd (kk hO H locs ls hP hL hl)
theorem v_ldc2 {index : Nat} {v : Int64} (hd : decode mi.1 pc = .ok (.ldc2_w index, 3)) (hc : Cond.constantLong mi.2.2.1 index v ∈ lw_all) (kk : V κ g mi Q μ nc ns (pc + 3) lv (.long v :: st)) : V κ g mi Q μ nc ns pc lv st := by
  obtain ⟨p, l, e, R, s, m, args, below, meth, c⟩ := κ
  intro hO H locs ls hP hL hl
  exact lv_ldc2 hO.1 hO.2.1 hO.2.2.2.1 (hO.2.2.2.2.1 _ hc) hd (kk hO H locs ls hP hL hl)
theorem v_widen {k n : Nat} (h1 : nc ≤ k) (h2 : ns ≤ n) (kk : V κ g mi Q μ k n pc lv st) : V κ g mi Q μ nc ns pc lv st := by
  obtain ⟨p, l, e, R, s, m, args, below, meth, c⟩ := κ
  intro hO H locs ls hP hL hl
  exact W.widen h1 h2 (kk hO H locs ls hP hL hl)
theorem v_lv {lv' : List (Nat × Value)} (ks : List Nat) (h : lv_pick lv ks = lv') (kk : V κ g mi Q μ nc ns pc lv' st) : V κ g mi Q μ nc ns pc lv st := by
  obtain ⟨p, l, e, R, s, m, args, below, meth, c⟩ := κ
  intro hO H locs ls hP hL hl
  exact kk hO H locs ls hP hL (lv_sub hl ks h)
/-- fewer cells told -/
theorem v_mem {μ' : Mem} (hs : ∀ a e, μ' a = some e → μ a = some e) (kk : V κ g mi Q μ' nc ns pc lv st) : V κ g mi Q μ nc ns pc lv st := by
  obtain ⟨p, l, e, R, s, m, args, below, meth, c⟩ := κ
  intro hO H locs ls hP hL hl
  exact kk hO H locs ls (hP.sub hs) hL hl
/-! fields -/
theorem v_get {a ci k index N : Nat} {C : String} {T : u_T} {fs : List Value} {v : Value} (hd : decode mi.1 pc = .ok (.getfield index, 3)) (ha : μ a = some (.inr (ci, fs))) (hc : amCl[ci]? = some (C, T, N)) (hin : ∀ w ∈ u_ws C T N, w ∈ lw_all) (hk : k < N) (hlink : Cond.fieldLink mi.2.2.1 index (T k).1 (T k).2.1 (T k).2.2.1 ∈ lw_all) (hv : fs[k]? = some v) (kk : V κ g mi Q μ nc ns (pc + 3) lv (v :: st)) : V κ g mi Q μ nc ns pc lv (.ref a :: st) := by
  obtain ⟨p, l, e, R, s, m, args, below, meth, c⟩ := κ
  intro hO H locs ls hP hL hl
  have hk0 := kk hO H locs ls hP hL hl
  obtain ⟨hx, hb, -, hown, hts, -, -, -, hW, hS, -⟩ := hO
  have hK := va_K.moved hW.alike hS.1
  obtain ⟨r, h1, cell, q1, q2, q3, q4⟩ := (hP.2 _ _ ha).2
  have hr : r = (C, T, N) := Option.some.inj (h1.symm.trans hc)
  subst hr
  obtain ⟨hSl, hfc, kC, hkC, hkind⟩ := hK.1 ci _ hc
  obtain ⟨cf, kf, fi, f, hi, hsl⟩ := hSl k hk
  refine W.getf hx hb hown (hts _ hlink) hi (u_facts hfc hkC (u_lays hts hin hk) hi).1 q1 (by rw [q3]; exact fun h => by cases h) (v := v) ?_ rfl rfl hd hk0
  rw [hsl, q4 k hk]
  simp [vp_V, hv]
theorem Ok.nw {p : Program} {l : Launch} {e : Env} {R : Room} {s : State} {m : MethodId} {args : Array Value} {below : List Frame} {meth : Method} {c : Code} {w : Cond} (hO : Ok (p, l, e, R, s, m, args, below, meth, c) g mi) (hw : w ∈ lw_tbl) (ht : w.onTables = true) : va_Nw w g.1 := by
  obtain ⟨-, -, -, -, -, -, -, -, -, ⟨-, ⟨b, hb, -⟩, -⟩, -⟩ := hO
  exact va_Nw.of ht (hb w hw)
theorem v_getN {a ci k index N : Nat} {C host : String} {T : u_T} {fs : List Value} {v : Value} (hd : decode mi.1 pc = .ok (.getfield index, 3)) (ha : μ a = some (.inr (ci, fs))) (hc : amCl[ci]? = some (C, T, N)) (hin : ∀ w ∈ u_ws C T N, w ∈ lw_all) (hk : k < N) (hlink : Cond.fieldLinkNest mi.2.2.1 index (T k).1 (T k).2.1 (T k).2.2.1 host ∈ lw_tbl) (hv : fs[k]? = some v) (kk : V κ g mi Q μ nc ns (pc + 3) lv (v :: st)) : V κ g mi Q μ nc ns pc lv (.ref a :: st) := by
  obtain ⟨p, l, e, R, s, m, args, below, meth, c⟩ := κ
  intro hO H locs ls hP hL hl
  have hk0 := kk hO H locs ls hP hL hl
  have hnw := Ok.nw hO hlink rfl
  obtain ⟨hx, hb, -, hown, hts, -, -, -, hW, hS, -⟩ := hO
  have hK := va_K.moved hW.alike hS.1
  obtain ⟨r, h1, cell, q1, q2, q3, q4⟩ := (hP.2 _ _ ha).2
  have hr : r = (C, T, N) := Option.some.inj (h1.symm.trans hc)
  subst hr
  obtain ⟨hSl, hfc, kC, hkC, hkind⟩ := hK.1 ci _ hc
  obtain ⟨cf, kf, fi, f, hi, hsl⟩ := hSl k hk
  refine va_Wgetf hx hb hown (va_Nw.use rfl (va_Nw.warmF hW hnw)) hi (u_facts hfc hkC (u_lays hts hin hk) hi).1 q1 (by rw [q3]; exact fun h => by cases h) (v := v) ?_ rfl rfl hd hk0
  rw [hsl, q4 k hk]
  simp [vp_V, hv]
/-- what a store leaves -/
theorem ob_set {s : State} {args : Array Value} {ci N k a : Nat} {C : String} {T : u_T} {fs : List Value} {v : Value} {H' : Heap} {cell : Cell} (hts : ∀ w ∈ lw_all, w.before args s = true) (hin : ∀ w ∈ u_ws C T N, w ∈ lw_all) (ty0 : Nat → FieldType) (hty : ∀ k, k < N → parseFieldDescriptor (T k).2.2.1 = some (ty0 k)) (hnm : ∀ a, a < N → ∀ b, b < N → a ≠ b → (T a).2.1 ≠ (T b).2.1) (hK : va_K g.2.1 amCl (amTy g) s) (hc : amCl[ci]? = some (C, T, N)) (hk : k < N) (hl : k < fs.length)
    (q2 : cell.cls = g.2.1.1 ci) (q3 : cell.vm = .none) (q4 : ∀ k, k < N → cell.slots[g.2.1.2 ci k]? = some (vp_V fs k)) (e1 : H'[a]? = some (cell.setSlot (g.2.1.2 ci k) v)) : va_at g.2.1 amCl (a, .inr (ci, fs.set k v)) H' := by
  have hap := va_apart (own := C) hts hin ty0 hty hnm hK hc
  exact ⟨_, hc, t_OB.to (V := updV (vp_V fs) k v) ⟨_, e1, q2, q3, t_set q4 hap hk v⟩ (fun j _ => vp_updV_set hl v j)⟩
theorem v_put {a ci k index N : Nat} {C : String} {T : u_T} {fs : List Value} {v : Value} {ty : FieldType} (hd : decode mi.1 pc = .ok (.putfield index, 3)) (ha : μ a = some (.inr (ci, fs))) (hc : amCl[ci]? = some (C, T, N)) (hin : ∀ w ∈ u_ws C T N, w ∈ lw_all) (ty0 : Nat → FieldType) (hty : ∀ k, k < N → parseFieldDescriptor (T k).2.2.1 = some (ty0 k)) (hnm : ∀ a, a < N → ∀ b, b < N → a ≠ b → (T a).2.1 ≠ (T b).2.1) (hk : k < N) (hlink : Cond.fieldLink mi.2.2.1 index (T k).1 (T k).2.1 (T k).2.2.1 ∈ lw_all) (hfin : (T k).2.2.2 = false) (hd2 : ty0 k = ty) (hn : narrow ty v = v) (hfit : fits ty v = true) (hl : k < fs.length) (kk : V κ g mi Q (va_up μ a (some (.inr (ci, fs.set k v)))) nc ns (pc + 3) lv st) : V κ g mi Q μ nc ns pc lv (v :: .ref a :: st) := by
  obtain ⟨p, l, e, R, s, m, args, below, meth, c⟩ := κ
  intro hO H locs ls hP hL hls
  have hk0 := fun H1 locs1 h1 h2 => kk hO H1 locs1 ls h1 h2 hls
  obtain ⟨hx, hb, -, hown, hts, -, -, -, hW, hS, -⟩ := hO
  have hK := va_K.moved hW.alike hS.1
  obtain ⟨hge, r, h1, cell, q1, q2, q3, q4⟩ := hP.2 _ _ ha
  have hr : r = (C, T, N) := Option.some.inj (h1.symm.trans hc)
  subst hr
  obtain ⟨hSl, hfc, kC, hkC, hkind⟩ := hK.1 ci _ hc
  obtain ⟨cf, kf, fi, f, hi, hsl⟩ := hSl k hk
  have hlay := hts _ (hin _ (u_in_lay hk))
  unfold u_lay at hlay
  rw [if_neg (by rw [hfin]; decide)] at hlay
  have hst := (u_facts hfc hkC (u_lays hts hin hk) hi).1
  have h6 := u_store hfc hkC hkind hlay hi (by rw [← hd2]; exact hty k hk) hn hfit
  refine W.putK hx hb (f := f) ⟨hown, hts _ hlink, ⟨_, _, _, hi⟩, hst⟩ (by rw [q2]; exact h6) q1 q3 (by rw [hsl]; exact k2_hasslot (q4 k hk)) rfl rfl hd fun H' e1 e2 e3 => ?_
  rw [hsl] at e1 ⊢
  exact hk0 H' _ (hP.put ha (ob_set hts hin ty0 hty hnm hK hc hk hl q2 q3 q4 e1) e3) (lc_app hL (lc_one hge))
theorem v_putN {a ci k index N : Nat} {C host : String} {T : u_T} {fs : List Value} {v : Value} {ty : FieldType} (hd : decode mi.1 pc = .ok (.putfield index, 3)) (ha : μ a = some (.inr (ci, fs))) (hc : amCl[ci]? = some (C, T, N)) (hin : ∀ w ∈ u_ws C T N, w ∈ lw_all) (ty0 : Nat → FieldType) (hty : ∀ k, k < N → parseFieldDescriptor (T k).2.2.1 = some (ty0 k)) (hnm : ∀ a, a < N → ∀ b, b < N → a ≠ b → (T a).2.1 ≠ (T b).2.1) (hk : k < N) (hlink : Cond.fieldLinkNest mi.2.2.1 index (T k).1 (T k).2.1 (T k).2.2.1 host ∈ lw_tbl) (hfin : (T k).2.2.2 = false) (hd2 : ty0 k = ty) (hn : narrow ty v = v) (hfit : fits ty v = true) (hl : k < fs.length) (kk : V κ g mi Q (va_up μ a (some (.inr (ci, fs.set k v)))) nc ns (pc + 3) lv st) : V κ g mi Q μ nc ns pc lv (v :: .ref a :: st) := by
  obtain ⟨p, l, e, R, s, m, args, below, meth, c⟩ := κ
  intro hO H locs ls hP hL hls
  have hk0 := fun H1 locs1 h1 h2 => kk hO H1 locs1 ls h1 h2 hls
  have hnw := Ok.nw hO hlink rfl
  obtain ⟨hx, hb, -, hown, hts, -, -, -, hW, hS, -⟩ := hO
  have hK := va_K.moved hW.alike hS.1
  obtain ⟨hge, r, h1, cell, q1, q2, q3, q4⟩ := hP.2 _ _ ha
  have hr : r = (C, T, N) := Option.some.inj (h1.symm.trans hc)
  subst hr
  obtain ⟨hSl, hfc, kC, hkC, hkind⟩ := hK.1 ci _ hc
  obtain ⟨cf, kf, fi, f, hi, hsl⟩ := hSl k hk
  have hlay := hts _ (hin _ (u_in_lay hk))
  unfold u_lay at hlay
  rw [if_neg (by rw [hfin]; decide)] at hlay
  have hst := (u_facts hfc hkC (u_lays hts hin hk) hi).1
  have h6 := u_store hfc hkC hkind hlay hi (by rw [← hd2]; exact hty k hk) hn hfit
  refine va_WputK hx hb (f := f) hown (va_Nw.use rfl (va_Nw.warmF hW hnw)) hi hst (by rw [q2]; exact h6) q1 q3 (by rw [hsl]; exact k2_hasslot (q4 k hk)) rfl rfl hd fun H' e1 e2 e3 => ?_
  rw [hsl] at e1 ⊢
  exact hk0 H' _ (hP.put ha (ob_set hts hin ty0 hty hnm hK hc hk hl q2 q3 q4 e1) e3) (lc_app hL (lc_one hge))
theorem v_putF {a ci k index N : Nat} {C : String} {T : u_T} {fs : List Value} {v : Value} {ty : FieldType} (hd : decode mi.1 pc = .ok (.putfield index, 3)) (ha : μ a = some (.inr (ci, fs))) (hc : amCl[ci]? = some (C, T, N)) (hin : ∀ w ∈ u_ws C T N, w ∈ lw_all) (ty0 : Nat → FieldType) (hty : ∀ k, k < N → parseFieldDescriptor (T k).2.2.1 = some (ty0 k)) (hnm : ∀ a, a < N → ∀ b, b < N → a ≠ b → (T a).2.1 ≠ (T b).2.1) (hk : k < N) (hlink : Cond.fieldLink mi.2.2.1 index (T k).1 (T k).2.1 (T k).2.2.1 ∈ lw_all) (hfin : (T k).2.2.2 = true) (hin2 : mi.2.2.2.2.2.1 = "<init>") (hdecl : (T k).1 = mi.2.2.1) (hd2 : ty0 k = ty) (hn : narrow ty v = v) (hfit : fits ty v = true) (hl : k < fs.length) (kk : V κ g mi Q (va_up μ a (some (.inr (ci, fs.set k v)))) nc ns (pc + 3) lv st) : V κ g mi Q μ nc ns pc lv (v :: .ref a :: st) := by
  obtain ⟨p, l, e, R, s, m, args, below, meth, c⟩ := κ
  intro hO H locs ls hP hL hls
  have hk0 := fun H1 locs1 h1 h2 => kk hO H1 locs1 ls h1 h2 hls
  obtain ⟨hx, hb, -, hown, hts, -, -, -, hW, hS, hnam, -⟩ := hO
  have hK := va_K.moved hW.alike hS.1
  obtain ⟨hge, r, h1, cell, q1, q2, q3, q4⟩ := hP.2 _ _ ha
  have hr : r = (C, T, N) := Option.some.inj (h1.symm.trans hc)
  subst hr
  obtain ⟨hSl, hfc, kC, hkC, hkind⟩ := hK.1 ci _ hc
  obtain ⟨cf, kf, fi, f, hi, hsl⟩ := hSl k hk
  have hlay := hts _ (hin _ (u_in_lay hk))
  unfold u_lay at hlay
  rw [if_pos hfin] at hlay
  have hst := (u_facts hfc hkC (u_lays hts hin hk) hi).1
  have hcf : m.cls = cf := by
    obtain ⟨_, _, c', _, _, _, -, -, hf', -, -, -, hown2, -⟩ := Cond.laysFinal_spec hlay
    have e1 : c' = cf := by have := hi.symm.trans hf'; simp at this; exact this.1.symm
    rw [hdecl] at hown2
    rw [← e1]; exact Option.some.inj (hown.symm.trans hown2)
  have h6 := u_fits hfc hkC hkind (Or.inr hlay) hi (by rw [← hd2]; exact hty k hk) hn hfit
  refine W.putFinK hx hb hown (hts _ hlink) hi hst hcf (hnam.trans hin2) (by rw [q2]; exact h6) q1 q3 (by rw [hsl]; exact k2_hasslot (q4 k hk)) rfl rfl hd fun H' e1 e2 e3 => ?_
  rw [hsl] at e1 ⊢
  exact hk0 H' _ (hP.put ha (ob_set hts hin ty0 hty hnm hK hc hk hl q2 q3 q4 e1) e3) (lc_app hL (lc_one hge))
/-! arrays -/
theorem ad_set {H1 : Heap} {a n : Nat} {cA : ClassId} {f f' : Nat → Value} {x x' : vp_A} {j : Nat} {v : Value} (h0 : vp_cell cA x = arrV cA n f) (h1 : vp_cell cA x' = arrV cA n f') (e : H1[a]? = some ((vp_cell cA x).setSlot j v)) (hf : updV f j v = f') : H1[a]? = some (vp_cell cA x') := by
  rw [e, h0, arrV_store, hf, h1]
theorem upd_i (f : Nat → Int32) (k : Nat) (x : Int32) : updV (fun j => .int (f j)) k (.int x) = fun j => .int (upd f k x j) := by
  funext q
  by_cases hq : q = k
  · subst hq; simp [updV, upd]
  · simp [updV, upd, hq]
theorem upd_l (f : Nat → Int64) (k : Nat) (x : Int64) : updV (fun j => .long (f j)) k (.long x) = fun j => .long (vp_updL f k x j) := by
  funext q
  by_cases hq : q = k
  · subst hq; simp [updV, vp_updL]
  · simp [updV, vp_updL, hq]
theorem upd_q (f : Nat → Option Nat) (k : Nat) (x : Option Nat) : updV (fun j => va_rf (f j)) k (va_rf x) = fun j => va_rf (va_up f k x j) := by
  funext q
  by_cases hq : q = k
  · subst hq; simp [updV, va_up]
  · simp [updV, va_up, hq]
theorem Ok.ty {p : Program} {l : Launch} {e : Env} {R : Room} {s : State} {m : MethodId} {args : Array Value} {below : List Frame} {meth : Method} {c : Code} (hO : Ok (p, l, e, R, s, m, args, below, meth, c) g mi) {t : Nat} {cA : ClassId} {ty : FieldType} (ht : (amTy g)[t]? = some (cA, ty)) : ArrOfT s cA ty ∧ va_RA s cA ty := by
  obtain ⟨-, -, -, -, -, -, -, -, hW, hS, -⟩ := hO
  exact (va_K.moved hW.alike hS.1).2 t _ ht
theorem v_iald {a n : Nat} {f : Nat → Int32} {i : Int32} (hd : decode mi.1 pc = .ok (.iaload, 1)) (ha : μ a = some (.inl (g.2.2 0, n, .inl f))) (hin : vp_in i n) (kk : V κ g mi Q μ nc ns (pc + 1) lv (.int (f i.toNatClampNeg) :: st)) : V κ g mi Q μ nc ns pc lv (.int i :: .ref a :: st) := by
  obtain ⟨p, l, e, R, s, m, args, below, meth, c⟩ := κ
  intro hO H locs ls hP hL hl
  have hlt : i.toNatClampNeg < n := Nat.not_le.mp fun q => hin (Or.inr q)
  exact W.iald (v := .int (f i.toNatClampNeg)) hO.1 hO.2.1 (hP.2 _ _ ha).2 ((Ok.ty hO (t := 0) rfl).1 n (fun j => .int (f j))) (fun q => by cases q) (by show ¬ (i < 0 ∨ (arrV _ _ _).slots.size ≤ _); rw [arrV_size]; exact hin) (by show (arrV _ _ _).slots[_]? = _; rw [arrV_read _ _ hlt]) rfl rfl hd (kk hO H locs ls hP hL hl)
theorem v_lald {a n : Nat} {f : Nat → Int64} {i : Int32} (hd : decode mi.1 pc = .ok (.laload, 1)) (ha : μ a = some (.inl (g.2.2 1, n, .inr (.inl f)))) (hin : vp_in i n) (kk : V κ g mi Q μ nc ns (pc + 1) lv (.long (f i.toNatClampNeg) :: st)) : V κ g mi Q μ nc ns pc lv (.int i :: .ref a :: st) := by
  obtain ⟨p, l, e, R, s, m, args, below, meth, c⟩ := κ
  intro hO H locs ls hP hL hl
  have hlt : i.toNatClampNeg < n := Nat.not_le.mp fun q => hin (Or.inr q)
  exact W.lald (v := .long (f i.toNatClampNeg)) hO.1 hO.2.1 (hP.2 _ _ ha).2 ((Ok.ty hO (t := 1) rfl).1 n (fun j => .long (f j))) (fun q => by cases q) (by show ¬ (i < 0 ∨ (arrV _ _ _).slots.size ≤ _); rw [arrV_size]; exact hin) (by show (arrV _ _ _).slots[_]? = _; rw [arrV_read _ _ hlt]) rfl rfl hd (kk hO H locs ls hP hL hl)
theorem v_bald {a n : Nat} {f : Nat → Int32} {i : Int32} (hd : decode mi.1 pc = .ok (.baload, 1)) (ha : μ a = some (.inl (g.2.2 2, n, .inl f))) (hin : vp_in i n) (kk : V κ g mi Q μ nc ns (pc + 1) lv (.int (f i.toNatClampNeg) :: st)) : V κ g mi Q μ nc ns pc lv (.int i :: .ref a :: st) := by
  obtain ⟨p, l, e, R, s, m, args, below, meth, c⟩ := κ
  intro hO H locs ls hP hL hl
  have hlt : i.toNatClampNeg < n := Nat.not_le.mp fun q => hin (Or.inr q)
  exact W.bald (v := .int (f i.toNatClampNeg)) hO.1 hO.2.1 (hP.2 _ _ ha).2 ((Ok.ty hO (t := 2) rfl).1 n (fun j => .int (f j))) (fun q => by cases q) (by show ¬ (i < 0 ∨ (arrV _ _ _).slots.size ≤ _); rw [arrV_size]; exact hin) (by show (arrV _ _ _).slots[_]? = _; rw [arrV_read _ _ hlt]) rfl rfl hd (kk hO H locs ls hP hL hl)
theorem v_zald {a n : Nat} {f : Nat → Int32} {i : Int32} (hd : decode mi.1 pc = .ok (.baload, 1)) (ha : μ a = some (.inl (g.2.2 3, n, .inl f))) (hin : vp_in i n) (kk : V κ g mi Q μ nc ns (pc + 1) lv (.int (f i.toNatClampNeg) :: st)) : V κ g mi Q μ nc ns pc lv (.int i :: .ref a :: st) := by
  obtain ⟨p, l, e, R, s, m, args, below, meth, c⟩ := κ
  intro hO H locs ls hP hL hl
  have hlt : i.toNatClampNeg < n := Nat.not_le.mp fun q => hin (Or.inr q)
  exact W.zald (v := .int (f i.toNatClampNeg)) hO.1 hO.2.1 (hP.2 _ _ ha).2 ((Ok.ty hO (t := 3) rfl).1 n (fun j => .int (f j))) (fun q => by cases q) (by show ¬ (i < 0 ∨ (arrV _ _ _).slots.size ≤ _); rw [arrV_size]; exact hin) (by show (arrV _ _ _).slots[_]? = _; rw [arrV_read _ _ hlt]) rfl rfl hd (kk hO H locs ls hP hL hl)
theorem v_aald {a n t : Nat} {cA : ClassId} {ty : FieldType} {f : Nat → Option Nat} {i : Int32} (hd : decode mi.1 pc = .ok (.aaload, 1)) (ha : μ a = some (.inl (cA, n, .inr (.inr (.inr (.inr f)))))) (ht : (amTy g)[t]? = some (cA, ty)) (hr : ty.isReference = true) (hin : vp_in i n) (kk : V κ g mi Q μ nc ns (pc + 1) lv (va_rf (f i.toNatClampNeg) :: st)) : V κ g mi Q μ nc ns pc lv (.int i :: .ref a :: st) := by
  obtain ⟨p, l, e, R, s, m, args, below, meth, c⟩ := κ
  intro hO H locs ls hP hL hl
  have hlt : i.toNatClampNeg < n := Nat.not_le.mp fun q => hin (Or.inr q)
  exact W.aald (v := va_rf (f i.toNatClampNeg)) (ty := ty) hO.1 hO.2.1 (hP.2 _ _ ha).2 ((Ok.ty hO ht).1 n (fun j => va_rf (f j))) hr (fun q => by cases q) (by show ¬ (i < 0 ∨ (arrV _ _ _).slots.size ≤ _); rw [arrV_size]; exact hin) (by show (arrV _ _ _).slots[_]? = _; rw [arrV_read _ _ hlt]) rfl rfl hd (kk hO H locs ls hP hL hl)
theorem v_iast {a n : Nat} {f : Nat → Int32} {i x : Int32} (hd : decode mi.1 pc = .ok (.iastore, 1)) (ha : μ a = some (.inl (g.2.2 0, n, .inl f))) (hin : vp_in i n) (kk : V κ g mi Q (va_up μ a (some (.inl (g.2.2 0, n, .inl (upd f i.toNatClampNeg x))))) nc ns (pc + 1) lv st) : V κ g mi Q μ nc ns pc lv (.int x :: .int i :: .ref a :: st) := by
  obtain ⟨p, l, e, R, s, m, args, below, meth, c⟩ := κ
  intro hO H locs ls hP hL hl
  obtain ⟨hge, hat⟩ := hP.2 _ _ ha
  refine W.iast hO.1 hO.2.1 hat ((Ok.ty hO (t := 0) rfl).1 n (fun j => .int (f j))) (fun q => by cases q) (by show ¬ (i < 0 ∨ (arrV _ _ _).slots.size ≤ _); rw [arrV_size]; exact hin) rfl rfl hd fun H1 e1 z oq => ?_
  exact kk hO H1 _ ls (hP.put ha (ad_set rfl rfl e1 (upd_i f _ x)) oq) (lc_app hL (lc_one hge)) hl
theorem v_last {a n : Nat} {f : Nat → Int64} {i : Int32} {x : Int64} (hd : decode mi.1 pc = .ok (.lastore, 1)) (ha : μ a = some (.inl (g.2.2 1, n, .inr (.inl f)))) (hin : vp_in i n) (kk : V κ g mi Q (va_up μ a (some (.inl (g.2.2 1, n, .inr (.inl (vp_updL f i.toNatClampNeg x)))))) nc ns (pc + 1) lv st) : V κ g mi Q μ nc ns pc lv (.long x :: .int i :: .ref a :: st) := by
  obtain ⟨p, l, e, R, s, m, args, below, meth, c⟩ := κ
  intro hO H locs ls hP hL hl
  obtain ⟨hge, hat⟩ := hP.2 _ _ ha
  refine W.last hO.1 hO.2.1 hat ((Ok.ty hO (t := 1) rfl).1 n (fun j => .long (f j))) (fun q => by cases q) (by show ¬ (i < 0 ∨ (arrV _ _ _).slots.size ≤ _); rw [arrV_size]; exact hin) rfl rfl hd fun H1 e1 z oq => ?_
  exact kk hO H1 _ ls (hP.put ha (ad_set rfl rfl e1 (upd_l f _ x)) oq) (lc_app hL (lc_one hge)) hl
theorem v_bast {a n : Nat} {f : Nat → Int32} {i x : Int32} (hd : decode mi.1 pc = .ok (.bastore, 1)) (ha : μ a = some (.inl (g.2.2 2, n, .inl f))) (hin : vp_in i n) (kk : V κ g mi Q (va_up μ a (some (.inl (g.2.2 2, n, .inl (upd f i.toNatClampNeg x.toInt8.toInt32))))) nc ns (pc + 1) lv st) : V κ g mi Q μ nc ns pc lv (.int x :: .int i :: .ref a :: st) := by
  obtain ⟨p, l, e, R, s, m, args, below, meth, c⟩ := κ
  intro hO H locs ls hP hL hl
  obtain ⟨hge, hat⟩ := hP.2 _ _ ha
  refine W.bast hO.1 hO.2.1 hat ((Ok.ty hO (t := 2) rfl).1 n (fun j => .int (f j))) (fun q => by cases q) (by show ¬ (i < 0 ∨ (arrV _ _ _).slots.size ≤ _); rw [arrV_size]; exact hin) rfl rfl hd fun H1 e1 z oq => ?_
  exact kk hO H1 _ ls (hP.put ha (ad_set rfl rfl e1 (upd_i f _ x.toInt8.toInt32)) oq) (lc_app hL (lc_one hge)) hl
theorem v_zast {a n : Nat} {f : Nat → Int32} {i x : Int32} (hd : decode mi.1 pc = .ok (.bastore, 1)) (ha : μ a = some (.inl (g.2.2 3, n, .inl f))) (hin : vp_in i n) (hx : narrow .boolean (.int x) = .int x) (kk : V κ g mi Q (va_up μ a (some (.inl (g.2.2 3, n, .inl (upd f i.toNatClampNeg x))))) nc ns (pc + 1) lv st) : V κ g mi Q μ nc ns pc lv (.int x :: .int i :: .ref a :: st) := by
  obtain ⟨p, l, e, R, s, m, args, below, meth, c⟩ := κ
  intro hO H locs ls hP hL hl
  obtain ⟨hge, hat⟩ := hP.2 _ _ ha
  refine W.zast hO.1 hO.2.1 hat ((Ok.ty hO (t := 3) rfl).1 n (fun j => .int (f j))) (fun q => by cases q) (by show ¬ (i < 0 ∨ (arrV _ _ _).slots.size ≤ _); rw [arrV_size]; exact hin) rfl rfl hd fun H1 e1 z oq => ?_
  rw [hx] at e1
  exact kk hO H1 _ ls (hP.put ha (ad_set rfl rfl e1 (upd_i f _ x)) oq) (lc_app hL (lc_one hge)) hl
/-- an object into an array of its class -/
theorem v_aast {a n t v ci : Nat} {cA : ClassId} {r : vw_C} {vs : List Value} {f : Nat → Option Nat} {i : Int32} (hd : decode mi.1 pc = .ok (.aastore, 1)) (ha : μ a = some (.inl (cA, n, .inr (.inr (.inr (.inr f)))))) (ht : (amTy g)[t]? = some (cA, .object r.1)) (hv : μ v = some (.inr (ci, vs))) (hc : amCl[ci]? = some r) (hin : vp_in i n) (kk : V κ g mi Q (va_up μ a (some (.inl (cA, n, .inr (.inr (.inr (.inr (va_up f i.toNatClampNeg (some v))))))))) nc ns (pc + 1) lv st) : V κ g mi Q μ nc ns pc lv (.ref v :: .int i :: .ref a :: st) := by
  obtain ⟨p, l, e, R, s, m, args, below, meth, c⟩ := κ
  intro hO H locs ls hP hL hl
  have hlt : i.toNatClampNeg < n := Nat.not_le.mp fun q => hin (Or.inr q)
  have h0 : ¬ i < 0 := fun q => hin (Or.inl q)
  obtain ⟨hge, hat⟩ := hP.2 _ _ ha
  obtain ⟨r', hr', cellV, g1, g2, g3, -⟩ := (hP.2 _ _ hv).2
  have hK := va_K.moved hO.2.2.2.2.2.2.2.2.1.alike hO.2.2.2.2.2.2.2.2.2.1.1
  have hcls := (hK.1 ci r hc).2
  obtain ⟨kA, comp, k1, k2, k3, -⟩ := (hK.2 t _ ht).2
  have hcomp : comp = g.2.1.1 ci := Option.some.inj (k3.symm.trans hcls.1)
  subst hcomp
  obtain ⟨kC, hkC, -⟩ := hcls.2
  refine W.aast hO.1 hO.2.1 hat (fun q h => by cases h) (fun h => by cases h) k1 k2 rfl hkC ⟨h0, by show _ < (arrV _ _ _).slots.size; rw [arrV_size]; exact hlt⟩ g1 (fun q h => by rw [g3] at h; cases h) (by rw [g2]; exact hkC) (by rw [g2]; exact va_assign hcls) rfl rfl hd fun H1 e1 z oq => ?_
  exact kk hO H1 _ ls (hP.put ha (ad_set rfl rfl e1 (upd_q f _ (some v))) oq) (lc_app hL (lc_one hge)) hl
/-- nothing into an array of objects -/
theorem v_aastN {a n t : Nat} {cA : ClassId} {C : String} {f : Nat → Option Nat} {i : Int32} (hd : decode mi.1 pc = .ok (.aastore, 1)) (ha : μ a = some (.inl (cA, n, .inr (.inr (.inr (.inr f)))))) (ht : (amTy g)[t]? = some (cA, .object C)) (hin : vp_in i n) (kk : V κ g mi Q (va_up μ a (some (.inl (cA, n, .inr (.inr (.inr (.inr (va_up f i.toNatClampNeg none)))))))) nc ns (pc + 1) lv st) : V κ g mi Q μ nc ns pc lv (.null :: .int i :: .ref a :: st) := by
  obtain ⟨p, l, e, R, s, m, args, below, meth, c⟩ := κ
  intro hO H locs ls hP hL hl
  obtain ⟨hge, hat⟩ := hP.2 _ _ ha
  refine va_WaastN (C := C) hO.1 hO.2.1 hat ((Ok.ty hO ht).1 n (fun j => va_rf (f j))) (fun h => by cases h) (by show ¬ (i < 0 ∨ (arrV _ _ _).slots.size ≤ _); rw [arrV_size]; exact hin) rfl rfl hd fun H1 e1 z oq => ?_
  exact kk hO H1 _ ls (hP.put ha (ad_set rfl rfl e1 (upd_q f _ none)) oq) (lc_app hL (lc_one hge)) hl
theorem v_alen {a t : Nat} {cA : ClassId} {x : vp_A} {ty : FieldType} {v : Int32} (hd : decode mi.1 pc = .ok (.arraylength, 1)) (ha : μ a = some (.inl (cA, x))) (ht : (amTy g)[t]? = some (cA, ty)) (hv : nI x.1 = v) (kk : V κ g mi Q μ nc ns (pc + 1) lv (.int v :: st)) : V κ g mi Q μ nc ns pc lv (.ref a :: st) := by
  obtain ⟨p, l, e, R, s, m, args, below, meth, c⟩ := κ
  intro hO H locs ls hP hL hl
  have hk := kk hO H locs ls hP hL hl
  subst hv
  have hat := (hP.2 _ _ ha).2
  have hty := (Ok.ty hO ht).1
  obtain ⟨n, f | f | f | f | f⟩ := x
  · exact W.alen (n := nI n) hO.1 hO.2.1 hat (hty n (fun j => .int (f j))) (by rw [vp_cell_i, arrV_size] <;> rfl) rfl rfl hd hk
  · exact W.alen (n := nI n) hO.1 hO.2.1 hat (hty n (fun j => .long (f j))) (by rw [vp_cell_l, arrV_size] <;> rfl) rfl rfl hd hk
  · exact W.alen (n := nI n) hO.1 hO.2.1 hat (hty n (fun j => .float (f j))) (by rw [vp_cell_f, arrV_size] <;> rfl) rfl rfl hd hk
  · exact W.alen (n := nI n) hO.1 hO.2.1 hat (hty n (fun j => .double (f j))) (by rw [vp_cell_d, arrV_size] <;> rfl) rfl rfl hd hk
  · exact W.alen (n := nI n) hO.1 hO.2.1 hat (hty n (fun j => va_rf (f j))) (by rw [vp_cell_q, arrV_size] <;> rfl) rfl rfl hd hk
/-! new cells -/
theorem v_new {ci index N : Nat} {C : String} {T : u_T} {fs : List Value} (hd : decode mi.1 pc = .ok (.new index, 3)) (hc : amCl[ci]? = some (C, T, N)) (hin : ∀ w ∈ u_ws C T N, w ∈ lw_all) (ty : Nat → FieldType) (hty : ∀ k, k < N → parseFieldDescriptor (T k).2.2.1 = some (ty k)) (h1 : Cond.classLink mi.2.2.1 index C ∈ lw_all) (h2 : Cond.instantiable C N ∈ lw_all) (h3 : Cond.initialized C ∈ lw_all) (hfs : ∀ j, j < N → defaultValue (ty j) = vp_V fs j) (hcells : nc + 1 ≤ mi.2.2.2.2.1.cells) (hslots : ns + N ≤ mi.2.2.2.2.1.slots) (kk : ∀ q : Nat, μ q = none → V κ g mi Q (va_up μ q (some (.inr (ci, fs)))) (nc + 1) (ns + N) (pc + 3) lv (.ref q :: st)) : V κ g mi Q μ nc ns pc lv st := by
  obtain ⟨p, l, e, R, s, m, args, below, meth, c⟩ := κ
  intro hO H locs ls hP hL hl
  have hk := fun q hq H1 h1 => kk q hq hO H1 locs ls h1 hL hl
  obtain ⟨hx, hb, -, hown, hts, -, -, hR, hW, hS, -⟩ := hO
  have hK := va_K.moved hW.alike hS.1
  have hKn := hK.1 ci _ hc
  refine W.newcK hx hb hown (hts _ h1) (hts _ h2) (hts _ h3) rfl hd (by rw [hR]; exact hcells) (by rw [hR]; exact hslots) hKn.2.1 rfl fun H1 kC hkC e1 z1 o1 => ?_
  exact hk H.size hP.fresh H1 (hP.push ⟨_, hc, (u_born ty hts hin hKn hkC e1 hty).to hfs⟩ o1)
theorem v_newa {atype : ArrayType} {t N : Nat} {n : Int32} {a0 : vp_A} {cA : ClassId} {ty : FieldType} (hd : decode mi.1 pc = .ok (.newarray atype, 2)) (h1 : Cond.arrayClass ty ∈ lw_all) (hty : newarray.typeOf atype = ty) (ht : (amTy g)[t]? = some (cA, ty)) (hp : va_RA g.1 cA ty → g.1.vm.findClass ("[" ++ ty.toString) = some cA) (ha : ∀ cA : ClassId, vp_cell cA a0 = arrV cA N (fun _ => defaultValue ty)) (hn : ¬ n < 0) (hN : n.toNatClampNeg = N) (hbytes : N * componentBytes ty ≤ 536870912) (hcells : nc + 1 ≤ mi.2.2.2.2.1.cells) (hslots : ns + N ≤ mi.2.2.2.2.1.slots) (kk : ∀ q : Nat, μ q = none → V κ g mi Q (va_up μ q (some (.inl (cA, a0)))) (nc + 1) (ns + N) (pc + 2) lv (.ref q :: st)) : V κ g mi Q μ nc ns pc lv (.int n :: st) := by
  obtain ⟨p, l, e, R, s, m, args, below, meth, c⟩ := κ
  intro hO H locs ls hP hL hl
  have hk := fun q hq H1 h1 => kk q hq hO H1 locs ls h1 hL hl
  obtain ⟨hx, hb, -, hown, hts, -, -, hR, hW, hS, -⟩ := hO
  subst hty
  have hf := hp (hS.1.2 t _ ht).2
  refine va_newaK hx hb (hts _ h1) rfl hd rfl hn hN hbytes (by rw [hR]; exact hcells) (by rw [hR]; exact hslots) rfl fun H1 cA' e1 z1 o1 hAr hNm => ?_
  have hcA : cA' = cA := Option.some.inj (hNm.symm.trans (by rw [hW.alike.findClass]; exact hf))
  subst hcA
  refine hk H.size hP.fresh H1 (hP.push ?_ o1)
  show H1[H.size]? = some (vp_cell _ _)
  rw [ha]
  exact e1
theorem v_newq {index t N : Nat} {n : Int32} {cA : ClassId} {C : String} (hd : decode mi.1 pc = .ok (.anewarray index, 3)) (h1 : Cond.classLink mi.2.2.1 index C ∈ lw_all) (h2 : Cond.arrayOver (.object C) ∈ lw_tbl) (ht : (amTy g)[t]? = some (cA, .object C)) (hn : ¬ n < 0) (hN : n.toNatClampNeg = N) (hbytes : N * 4 ≤ 536870912) (hcells : nc + 1 ≤ mi.2.2.2.2.1.cells) (hslots : ns + N ≤ mi.2.2.2.2.1.slots) (kk : ∀ q : Nat, μ q = none → V κ g mi Q (va_up μ q (some (.inl (cA, N, .inr (.inr (.inr (.inr (fun _ => none)))))))) (nc + 1) (ns + N) (pc + 3) lv (.ref q :: st)) : V κ g mi Q μ nc ns pc lv (.int n :: st) := by
  obtain ⟨p, l, e, R, s, m, args, below, meth, c⟩ := κ
  intro hO H locs ls hP hL hl
  have hk := fun q hq H1 h1 => kk q hq hO H1 locs ls h1 hL hl
  obtain ⟨hx, hb, -, hown, hts, -, -, hR, hW, hS, -⟩ := hO
  subst hN
  have hao : va_AO C g.1 := by
    obtain ⟨-, ⟨b, hb, -⟩, -⟩ := hS
    exact va_AO.of (hb _ h2)
  obtain ⟨-, -, -, -, -, hf⟩ := (hS.1.2 t _ ht).2
  refine W.anew hx hb hown (hts _ h1) (va_AO.use (hao.moved hW.alike)) rfl hd rfl hn hbytes (by rw [hR]; exact hcells) (by rw [hR]; exact hslots) fun cA' kA comp f1 f2 f3 f4 => ?_
  have hcA : cA' = cA := Option.some.inj (f1.symm.trans (by rw [hW.alike.findClass]; exact hf))
  subst hcA
  generalize hH1 : H.push ({ cls := cA', slots := Array.replicate n.toNatClampNeg .null, vm := .none } : Cell) = H1
  have e1 : H1[H.size]? = some (arrV cA' n.toNatClampNeg (fun _ => .null)) := by rw [← hH1, Array.getElem?_push_size, ← arrV_new]
  have o1 : ∀ q : Nat, q < H.size → H1[q]? = H[q]? := fun q hq => by rw [← hH1, Array.getElem?_push, if_neg (Nat.ne_of_lt hq)]
  refine hk H.size hP.fresh H1 (hP.push ?_ o1)
  show H1[H.size]? = some (vp_cell _ _)
  rw [vp_cell_q]
  exact e1
/-! casts of arrays: int[][] as an array of references; what an array is and isn't -/
theorem v_newqA {index t N : Nat} {n : Int32} {cA : ClassId} {ty : FieldType} (hd : decode mi.1 pc = .ok (.anewarray index, 3)) (h1 : Cond.classLink mi.2.2.1 index (FieldType.array ty).toString ∈ lw_all) (h2 : Cond.arrayOver (.array ty) ∈ lw_tbl) (ht : (amTy g)[t]? = some (cA, .array ty)) (hn : ¬ n < 0) (hN : n.toNatClampNeg = N) (hbytes : N * 4 ≤ 536870912) (hcells : nc + 1 ≤ mi.2.2.2.2.1.cells) (hslots : ns + N ≤ mi.2.2.2.2.1.slots) (kk : ∀ q : Nat, μ q = none → V κ g mi Q (va_up μ q (some (.inl (cA, N, .inr (.inr (.inr (.inr (fun _ => none)))))))) (nc + 1) (ns + N) (pc + 3) lv (.ref q :: st)) : V κ g mi Q μ nc ns pc lv (.int n :: st) := by
  obtain ⟨p, l, e, R, s, m, args, below, meth, c⟩ := κ
  intro hO H locs ls hP hL hl
  have hk := fun q hq H1 h1 => kk q hq hO H1 locs ls h1 hL hl
  obtain ⟨hx, hb, -, hown, hts, -, -, hR, hW, hS, -⟩ := hO
  subst hN
  have hao : (Cond.arrayOver (.array ty)).before args s = true := by
    obtain ⟨-, ⟨b, hb, -⟩, -⟩ := hS
    obtain ⟨comp, c0, k, a1, a2, a3, a4, a5⟩ := arrayOverA_spec (hb _ h2)
    obtain ⟨k', hk', he⟩ := hW.alike.2.2 _ _ a3
    have hi : (s.vm.classes.findIdx? fun (x : Class) => match x.kind with | .array component _ => component == comp | _ => false) = some c0 := by
      rw [hW.alike.findIdx?_eq _ (fun _ => rfl)]; exact a2
    have hkind : k'.kind = .array comp (.array ty) := by rw [he]; exact a4
    have f1 : s.vm.findClass (FieldType.array ty).toString = some comp := by rw [hW.alike.findClass]; exact a1
    have f2 : s.vm.findClass ("[" ++ (FieldType.array ty).toString) = some c0 := by rw [hW.alike.findClass]; exact a5
    unfold Cond.before Cond.holds
    simp only [Cond.value]
    rw [f1, Option.bind_some]
    refine (congrArg (fun o : Option Nat => (o.bind (fun c => (s.vm.classes[c]?).map fun (k : Class) => match k.kind with | .array _ ty' => decide (ty' = FieldType.array ty) && decide (s.vm.findClass ("[" ++ (FieldType.array ty).toString) = some c) | _ => false) == some true)) hi).trans ?_
    simp [hk', hkind, f2]
  have hf : g.1.vm.findClass ("[" ++ (FieldType.array ty).toString) = some cA := (hS.1.2 t _ ht).2
  refine W.anewA hx hb hown (hts _ h1) hao rfl hd rfl hn hbytes (by rw [hR]; exact hcells) (by rw [hR]; exact hslots) fun cA' kA comp f1 f2 f3 f4 => ?_
  have hcA : cA' = cA := Option.some.inj (f1.symm.trans (by rw [hW.alike.findClass]; exact hf))
  subst hcA
  generalize hH1 : H.push ({ cls := cA', slots := Array.replicate n.toNatClampNeg .null, vm := .none } : Cell) = H1
  have e1 : H1[H.size]? = some (arrV cA' n.toNatClampNeg (fun _ => .null)) := by rw [← hH1, Array.getElem?_push_size, ← arrV_new]
  have o1 : ∀ q : Nat, q < H.size → H1[q]? = H[q]? := fun q hq => by rw [← hH1, Array.getElem?_push, if_neg (Nat.ne_of_lt hq)]
  refine hk H.size hP.fresh H1 (hP.push ?_ o1)
  show H1[H.size]? = some (vp_cell _ _)
  rw [vp_cell_q]
  exact e1
theorem as_self (vm : Vm) (c : ClassId) : vm.assignable c c = true := by
  show Vm.assignableAux vm (255 + 1) c c = true
  rw [Vm.assignableAux, beq_self_eq_true, Bool.true_or]
/-- an int array into an int[][] -/
theorem v_aastI {a n v : Nat} {x : vp_A} {f : Nat → Option Nat} {i : Int32} (hd : decode mi.1 pc = .ok (.aastore, 1)) (ha : μ a = some (.inl (g.2.2 6, n, .inr (.inr (.inr (.inr f)))))) (h2 : Cond.arrayOver (.array .int) ∈ lw_tbl) (hv : μ v = some (.inl (g.2.2 0, x))) (hin : vp_in i n) (kk : V κ g mi Q (va_up μ a (some (.inl (g.2.2 6, n, .inr (.inr (.inr (.inr (va_up f i.toNatClampNeg (some v))))))))) nc ns (pc + 1) lv st) : V κ g mi Q μ nc ns pc lv (.ref v :: .int i :: .ref a :: st) := by
  obtain ⟨p, l, e, R, s, m, args, below, meth, c⟩ := κ
  intro hO H locs ls hP hL hl
  have hlt : i.toNatClampNeg < n := Nat.not_le.mp fun q => hin (Or.inr q)
  have h0 : ¬ i < 0 := fun q => hin (Or.inl q)
  obtain ⟨hge, hat⟩ := hP.2 _ _ ha
  have hav := (hP.2 _ _ hv).2
  have hW := hO.2.2.2.2.2.2.2.2.1
  have hS := hO.2.2.2.2.2.2.2.2.2.1
  obtain ⟨⟨-, hty⟩, ⟨b, hbw, -⟩, -⟩ := hS
  obtain ⟨comp, c0, k, a1, a2, a3, a4, a5⟩ := arrayOverA_spec (hbw _ h2)
  have e6 : g.1.vm.findClass ("[" ++ (FieldType.array .int).toString) = some (g.2.2 6) := (hty 6 _ rfl).2
  have e0 : g.1.vm.findClass ("[" ++ FieldType.int.toString) = some (g.2.2 0) := (hty 0 _ rfl).2
  have hc0 : c0 = g.2.2 6 := Option.some.inj (a5.symm.trans e6)
  have hcm : comp = g.2.2 0 := Option.some.inj (a1.symm.trans e0)
  subst hc0; subst hcm
  obtain ⟨k', hk', he⟩ := hW.alike.2.2 _ _ a3
  have hkind : k'.kind = .array (g.2.2 0) (.array .int) := by rw [he]; exact a4
  obtain ⟨kI, hkI, -⟩ := Vm.findClass_spec (show s.vm.findClass ("[" ++ FieldType.int.toString) = some (g.2.2 0) by rw [hW.alike.findClass]; exact e0)
  have hcls : (vp_cell (g.2.2 0) x).cls = g.2.2 0 := by obtain ⟨n', f' | f' | f' | f' | f'⟩ := x <;> rfl
  have hvm : (vp_cell (g.2.2 0) x).vm = .none := by obtain ⟨n', f' | f' | f' | f' | f'⟩ := x <;> rfl
  refine W.aast hO.1 hO.2.1 hat (fun q h => by cases h) (fun h => by cases h) hk' hkind rfl hkI ⟨h0, by show _ < (arrV _ _ _).slots.size; rw [arrV_size]; exact hlt⟩ hav (fun q h => by rw [hvm] at h; cases h) (by rw [hcls]; exact hkI) (by rw [hcls]; exact as_self _ _) rfl rfl hd fun H1 e1 z oq => ?_
  exact kk hO H1 _ ls (hP.put ha (ad_set rfl rfl e1 (upd_q f _ (some v))) oq) (lc_app hL (lc_one hge)) hl
theorem v_aastIN0 {T : State} {p : Program} {l : Launch} {e : Env} {R : Room} {s : State} {m : MethodId} {args : Array Value} {below : List Frame} {meth : Method} {c : Code} {locs : List Loc} {cells slots : Nat} (X : Stand p l e R s m args below meth c T locs cells slots) (hexec : p.tables.exec = Jvm.exec) {a : Addr} {cell : Cell} {ty : FieldType} {j : Int32} (hcell : T.heap[a]? = some cell) (harr : s.isArrayOf cell (.array ty)) (hknown : cell.vm ≠ .unknown)
    (hin : ¬ (j < 0 ∨ cell.slots.size ≤ j.toNatClampNeg))
    {g : JFrame} (hg : g.method = m) {rest : List Value} (hstack : g.stack = .null :: .int j :: .ref a :: rest) (hdg : decode c.code g.pc = .ok (.aastore, 1)) :
    Stand p l e R s m args below meth c (T.setCell a (cell.setSlot j.toNatClampNeg .null)) (locs ++ [⟨a, j.toNatClampNeg⟩]) cells slots ∧
      ∀ target, Steps p.tables e below ((T.setCell a (cell.setSlot j.toNatClampNeg .null)).setTop { g with pc := g.pc + 1, stack := rest }) target → Steps p.tables e below (T.setTop g) target := by
  have hT := State.isArrayOf_alike X.warmed.alike harr
  have hfit : T.fitsSlot cell.cls cell.vm j.toNatClampNeg .null = true := by
    obtain ⟨hobj, k, hk, comp, hkind⟩ := hT
    cases hvm : cell.vm <;> first | exact absurd hvm (hobj _) | simp [State.fitsSlot, State.slotType?, hk, hkind, fits]
  refine ⟨X.stored hcell _ _, fun target hrest => ?_⟩
  subst hg
  jvm_step X.here [hexec, hdg]
  refine aastore.wp_of_null (c := cell) (t := .array ty) X.here.top hstack hcell hT hin hknown (Nat.not_le.mp fun q => hin (Or.inr q)) hfit ?_
  intro acts
  rw [afterInstr_ok]
  exact hrest
/-- nothing into an int[][] -/
theorem v_aastIN {a n : Nat} {f : Nat → Option Nat} {i : Int32} (hd : decode mi.1 pc = .ok (.aastore, 1)) (ha : μ a = some (.inl (g.2.2 6, n, .inr (.inr (.inr (.inr f)))))) (hin : vp_in i n) (kk : V κ g mi Q (va_up μ a (some (.inl (g.2.2 6, n, .inr (.inr (.inr (.inr (va_up f i.toNatClampNeg none)))))))) nc ns (pc + 1) lv st) : V κ g mi Q μ nc ns pc lv (.null :: .int i :: .ref a :: st) := by
  obtain ⟨p, l, e, R, s, m, args, below, meth, c⟩ := κ
  intro hO H locs ls hP hL hl T hT X
  obtain ⟨hge, hat⟩ := hP.2 _ _ ha
  have hT' : T.heap[a]? = some (vp_cell (g.2.2 6) (n, .inr (.inr (.inr (.inr f))))) := by rw [hT]; exact hat
  obtain ⟨X', st'⟩ := v_aastIN0 X hO.1 hT' ((Ok.ty hO (t := 6) rfl).1 n (fun j => va_rf (f j))) (fun h => by cases h) (j := i) (by show ¬ (i < 0 ∨ (arrV _ _ _).slots.size ≤ _); rw [arrV_size]; exact hin) (g := F0 m pc ls (.null :: .int i :: .ref a :: st)) rfl rfl (by rw [hO.2.1]; exact hd)
  have hlt : a < T.heap.size := (Array.getElem?_eq_some_iff.mp hT').1
  have oq : ∀ q : Nat, q ≠ a → (T.setCell a ((vp_cell (g.2.2 6) (n, .inr (.inr (.inr (.inr f))))).setSlot i.toNatClampNeg .null)).heap[q]? = H[q]? := fun q hq => by rw [heapAt_setCell_ne _ (Ne.symm hq), hT]
  obtain ⟨t', a1, b1⟩ := kk hO _ _ ls (hP.put ha (ad_set rfl rfl (heapAt_setCell_self _ hlt) (upd_q f _ none)) oq) (lc_app hL (lc_one hge)) hl _ rfl X'
  exact ⟨t', st' t' a1, b1⟩
theorem ar_recv {H : Heap} {a : Nat} {cA : ClassId} {x : vp_A} (h : va_at g.2.1 amCl (a, .inl (cA, x)) H) : ∃ cell : Cell, H[a]? = some cell ∧ cell.vm.isStatics = false ∧ cell.cls = cA := ⟨_, h, by obtain ⟨n', f' | f' | f' | f' | f'⟩ := x <;> rfl, by obtain ⟨n', f' | f' | f' | f' | f'⟩ := x <;> rfl⟩
theorem v_castA {a index : Nat} {cA : ClassId} {x : vp_A} {nm : String} (hd : decode mi.1 pc = .ok (.checkcast index, 3)) (h1 : Cond.classLink mi.2.2.1 index nm ∈ lw_all) (ha : μ a = some (.inl (cA, x))) (hnm : Start g κ.2.1 → g.1.vm.findClass nm = some cA) (kk : V κ g mi Q μ nc ns (pc + 3) lv (.ref a :: st)) : V κ g mi Q μ nc ns pc lv (.ref a :: st) := by
  obtain ⟨p, l, e, R, s, m, args, below, meth, c⟩ := κ
  intro hO H locs ls hP hL hl T hT X
  have hW := hO.2.2.2.2.2.2.2.2.1
  obtain ⟨cell, c1, c2, c3⟩ := ar_recv (hP.2 _ _ ha).2
  obtain ⟨vm', X', st'⟩ := X.checkcastYes hO.1 hO.2.2.2.1 (hO.2.2.2.2.1 _ h1) (by rw [hT]; exact c1) c2 (show s.vm.findClass nm = some cA by rw [hW.alike.findClass]; exact hnm hO.2.2.2.2.2.2.2.2.2.1) (by rw [c3]; exact as_self _ _) (g := F0 m pc ls (.ref a :: st)) rfl rfl (by rw [hO.2.1]; exact hd)
  obtain ⟨t, a1, b1⟩ := kk hO H locs ls hP hL hl (T.setVm vm') hT X'
  exact ⟨t, st' t a1, b1⟩
theorem v_instA {a index : Nat} {cA : ClassId} {x : vp_A} {nm : String} (hd : decode mi.1 pc = .ok (.instanceof index, 3)) (h1 : Cond.classLink mi.2.2.1 index nm ∈ lw_all) (ha : μ a = some (.inl (cA, x))) (hnm : Start g κ.2.1 → g.1.vm.findClass nm = some cA) (kk : V κ g mi Q μ nc ns (pc + 3) lv (.int 1 :: st)) : V κ g mi Q μ nc ns pc lv (.ref a :: st) := by
  obtain ⟨p, l, e, R, s, m, args, below, meth, c⟩ := κ
  intro hO H locs ls hP hL hl T hT X
  have hW := hO.2.2.2.2.2.2.2.2.1
  obtain ⟨cell, c1, c2, c3⟩ := ar_recv (hP.2 _ _ ha).2
  obtain ⟨vm', X', st'⟩ := X.instanceofYes hO.1 hO.2.2.2.1 (hO.2.2.2.2.1 _ h1) (by rw [hT]; exact c1) c2 (show s.vm.findClass nm = some cA by rw [hW.alike.findClass]; exact hnm hO.2.2.2.2.2.2.2.2.2.1) (by rw [c3]; exact as_self _ _) (g := F0 m pc ls (.ref a :: st)) rfl rfl (by rw [hO.2.1]; exact hd)
  obtain ⟨t, a1, b1⟩ := kk hO H locs ls hP hL hl (T.setVm vm') hT X'
  exact ⟨t, st' t a1, b1⟩
theorem v_instNo {a index : Nat} {cA : ClassId} {x : vp_A} {nm C : String} (hd : decode mi.1 pc = .ok (.instanceof index, 3)) (h1 : Cond.classLink mi.2.2.1 index nm ∈ lw_all) (ha : μ a = some (.inl (cA, x))) (hnm : Start g κ.2.1 → g.1.vm.findClass C = some cA ∧ va_Nc C nm g.1) (kk : V κ g mi Q μ nc ns (pc + 3) lv (.int 0 :: st)) : V κ g mi Q μ nc ns pc lv (.ref a :: st) := by
  obtain ⟨p, l, e, R, s, m, args, below, meth, c⟩ := κ
  intro hO H locs ls hP hL hl T hT X
  have hW := hO.2.2.2.2.2.2.2.2.1
  obtain ⟨n1, n2⟩ := hnm hO.2.2.2.2.2.2.2.2.2.1
  obtain ⟨cell, c1, c2, c3⟩ := ar_recv (hP.2 _ _ ha).2
  obtain ⟨c0, t0, f1, f2, f3⟩ := n2.moved hW.alike
  have hf : s.vm.findClass C = some cA := by rw [hW.alike.findClass]; exact n1
  cases hf.symm.trans f1
  obtain ⟨ks, hks, -⟩ := Vm.findClass_spec hf
  obtain ⟨vm', X', st'⟩ := va_instofNo X hO.1 hO.2.2.2.1 (hO.2.2.2.2.1 _ h1) (by rw [hT]; exact c1) c2 (by rw [c3]; exact hks) f2 (by rw [c3]; exact f3) (g := F0 m pc ls (.ref a :: st)) rfl rfl (by rw [hO.2.1]; exact hd)
  obtain ⟨t, a1, b1⟩ := kk hO H locs ls hP hL hl (T.setVm vm') hT X'
  exact ⟨t, st' t a1, b1⟩
/-! contracts, calls, ends -/
end
/-- A CONTRACT: called with as in the memory μ, the method returns v in a memory μ' with 'post v μ' -/
def Ct (l : Launch) (g : Gl) (y : MethodName) (ws : List Cond) (rm : Room) (as : List Value) (μ : Mem) (post : Option Value → Mem → Prop) (mc ms : Nat) : Prop :=
  Met l y ws rm (va_Pc as (fun U => g.1.WarmedH U.vm ∧ mP g μ U.heap)) (fun _ _ o t => ∃ (v : Option Value) (μ' : Mem), o = .returned v ∧ post v μ' ∧ mP g μ' t.heap) mc ms (fun q => g.1.heap.size ≤ q)
/-- the room of a method d calls deep -/
def rmD (d mc ms : Nat) : Room := { frames := 8 + d, cells := mc, slots := ms, locals := 10240 + 40 * (d + 1) }
theorem ct_blind (g : Gl) (as : List Value) (μ : Mem) : FrameBlind (va_Pc as (fun U => g.1.WarmedH U.vm ∧ mP g μ U.heap)) := fun _ _ _ _ h => h
section
variable {κ : Cx} {g : Gl} {mi : Mi} {Q : State → Prop} {μ : Mem} {nc ns pc : Nat} {lv : List (Nat × Value)} {st st0 : List Value}
theorem v_run {mc ms : Nat} {free : Nat → Prop} {Qa : State → Outcome → State → Prop} {post : Option Value → Mem → Prop} (hQ : ∀ st v t, Qa st (.returned v) t → ∃ μ' : Mem, post v μ' ∧ mP g μ' t.heap) (hf : ∀ q, free q → g.1.heap.size ≤ q)
    (kk : ∀ (v : Option Value) (μ' : Mem), post v μ' → V κ g mi Q μ' (nc + mc) (ns + ms) (pc + 3) lv (v.toList ++ st))
    (hr : match κ with | (p, l, e, R, s, m, args, below, meth, c) => Ok (p, l, e, R, s, m, args, below, meth, c) g mi → ∀ (H : Heap) (locs : List Loc) (ls : Array Slot), mP g μ H → ls.size = mi.2.1 → va_Run p l e R s m args below meth c H locs nc ns mc ms (F0 m pc ls st0) st Qa free) : V κ g mi Q μ nc ns pc lv st0 := by
  obtain ⟨p, l, e, R, s, m, args, below, meth, c⟩ := κ
  intro hO H locs ls hP hL hl T hT X
  obtain ⟨v, st₀, t, T', L, h0, X', hL', e1, e2, hq, stp⟩ := hr hO H locs ls hP hl.1 T hT X
  obtain ⟨μ', hp, hm⟩ := hQ _ _ _ hq
  obtain ⟨t2, a1, b1⟩ := kk v μ' hp hO t.heap (locs ++ L) ls hm (lc_app hL (fun q h => hf _ (hL' q h))) hl T' e1 X'
  exact ⟨t2, stp t2 a1, b1⟩
theorem ob_recv {p : Program} {l : Launch} {e : Env} {R : Room} {s : State} {m : MethodId} {args : Array Value} {below : List Frame} {meth : Method} {c : Code} (hO : Ok (p, l, e, R, s, m, args, below, meth, c) g mi) {H : Heap} (hP : mP g μ H) {b ci : Nat} {fs : List Value} {r : vw_C} (hb : μ b = some (.inr (ci, fs))) (hc : amCl[ci]? = some r) : ∃ cellB : Cell, H[b]? = some cellB ∧ cellB.vm.isStatics = false ∧ s.vm.findClass r.1 = some cellB.cls := by
  obtain ⟨r', h1, cell, g1, g2, g3, -⟩ := (hP.2 _ _ hb).2
  have hK := va_K.moved hO.2.2.2.2.2.2.2.2.1.alike hO.2.2.2.2.2.2.2.2.2.1.1
  exact ⟨cell, g1, by rw [g3]; rfl, by rw [g2]; exact (hK.1 ci r hc).2.1⟩
theorem v_callV {y : MethodName} {bytes : ByteArray} {maxL mc ms n index b ci : Nat} {ret : Option FieldType} {rm : Room} {As : List Value} {post : Option Value → Mem → Prop} {fs : List Value} {r : vw_C} (hd : decode mi.1 pc = .ok (.invokevirtual index, 3)) (hM : Ct κ.2.1 g y (ws_ y bytes maxL ret) rm (.ref b :: As) μ post mc ms)
    (q1 : Cond.methodLink mi.2.2.1 index y ∈ lw_all) (q2 : Cond.instanceMethod y ∈ lw_all) (q3 : Cond.selects r.1 y y ∈ lw_all) (q4 : Cond.initialized r.1 ∈ lw_all) (q5 : Cond.code y bytes maxL ret ∈ lw_all)
    (hdy : y.cls = r.1 ∧ y.cls ≠ "java/lang/invoke/MethodHandle" ∧ y.cls ≠ "java/lang/invoke/VarHandle" ∧ (parseMethodDescriptor y.desc).map (fun d => d.parameters.length) = some n) (hb : μ b = some (.inr (ci, fs))) (hc : amCl[ci]? = some r)
    (hn : As.length = n) (hst : st0 = As.reverse ++ .ref b :: st) (hw : (st.map fun v => v.category).sum ≤ 8) (hrc : rm.cells = mc) (hrs : rm.slots = ms) (hR1 : rm.frames + 1 ≤ mi.2.2.2.2.1.frames) (hR2 : 8 + (maxL + 11) + rm.locals ≤ mi.2.2.2.2.1.locals) (hR3 : nc + mc ≤ mi.2.2.2.2.1.cells) (hR4 : ns + ms ≤ mi.2.2.2.2.1.slots)
    (kk : ∀ (v : Option Value) (μ' : Mem), post v μ' → V κ g mi Q μ' (nc + mc) (ns + ms) (pc + 3) lv (v.toList ++ st)) : V κ g mi Q μ nc ns pc lv st0 := by
  obtain ⟨p, l, e, R, s, m, args, below, meth, c⟩ := κ
  refine v_run (Qa := fun _ o t => ∃ (v : Option Value) (μ' : Mem), o = .returned v ∧ post v μ' ∧ mP g μ' t.heap) (free := fun q => g.1.heap.size ≤ q) (fun st v t h => ?_) (fun q h => h) kk ?_
  · obtain ⟨v', μ', e1, h1, h2⟩ := h
    cases e1
    exact ⟨μ', h1, h2⟩
  · intro hO H locs ls hP hsz
    have hO' := hO
    obtain ⟨hx, hbb, hml, hown, hts, -, -, hR, hW, hS, -⟩ := hO
    subst hR
    subst hst
    exact va_runV (As := As) (rest := st) ⟨hx, hbb, hml, hown, hts⟩ hM (cwV n hts (lw_V q1 q2 q3 q4 q5) rfl hrc hrs hdy ⟨hR1, hR2⟩) ⟨ct_blind g _ μ, ob_recv hO' hP hb hc, fun U hU hWU => ⟨rfl, State.WarmedH.trans hW hWU, by rw [hU]; exact hP⟩⟩ rfl hn hsz rfl (by show 2 * 0 + _ ≤ 8; omega) hd ⟨hR3, hR4⟩
theorem v_callS {y : MethodName} {bytes : ByteArray} {maxL mc ms n index : Nat} {ret : Option FieldType} {rm : Room} {As : List Value} {post : Option Value → Mem → Prop} (hd : decode mi.1 pc = .ok (.invokestatic index, 3)) (hM : Ct κ.2.1 g y (ws_ y bytes maxL ret) rm As μ post mc ms)
    (q1 : Cond.methodLink mi.2.2.1 index y ∈ lw_all) (q2 : Cond.static y ∈ lw_all) (q4 : Cond.initialized y.cls ∈ lw_all) (q5 : Cond.code y bytes maxL ret ∈ lw_all)
    (hdy : y.cls ≠ "java/lang/invoke/MethodHandle" ∧ y.cls ≠ "java/lang/invoke/VarHandle" ∧ (parseMethodDescriptor y.desc).map (fun d => d.parameters.length) = some n)
    (hn : As.length = n) (hst : st0 = As.reverse ++ st) (hw : (st.map fun v => v.category).sum ≤ 8) (hrc : rm.cells = mc) (hrs : rm.slots = ms) (hR1 : rm.frames + 1 ≤ mi.2.2.2.2.1.frames) (hR2 : 8 + (maxL + 11) + rm.locals ≤ mi.2.2.2.2.1.locals) (hR3 : nc + mc ≤ mi.2.2.2.2.1.cells) (hR4 : ns + ms ≤ mi.2.2.2.2.1.slots)
    (kk : ∀ (v : Option Value) (μ' : Mem), post v μ' → V κ g mi Q μ' (nc + mc) (ns + ms) (pc + 3) lv (v.toList ++ st)) : V κ g mi Q μ nc ns pc lv st0 := by
  obtain ⟨p, l, e, R, s, m, args, below, meth, c⟩ := κ
  refine v_run (Qa := fun _ o t => ∃ (v : Option Value) (μ' : Mem), o = .returned v ∧ post v μ' ∧ mP g μ' t.heap) (free := fun q => g.1.heap.size ≤ q) (fun st v t h => ?_) (fun q h => h) kk ?_
  · obtain ⟨v', μ', e1, h1, h2⟩ := h
    cases e1
    exact ⟨μ', h1, h2⟩
  · intro hO H locs ls hP hsz
    obtain ⟨hx, hbb, hml, hown, hts, -, -, hR, hW, hS, -⟩ := hO
    subst hR
    subst hst
    exact va_runS (As := As) (rest := st) ⟨hx, hbb, hml, hown, hts⟩ hM (va_cwS n hts (lw_S q1 q2 q4 q5) rfl hrc hrs hdy ⟨hR1, hR2⟩) ⟨ct_blind g _ μ, fun U hU hWU => ⟨rfl, State.WarmedH.trans hW hWU, by rw [hU]; exact hP⟩⟩ rfl hn hsz rfl (by show 2 * 0 + _ ≤ 8; omega) hd ⟨hR3, hR4⟩
/-! the end of a method -/
end
/-- a contract's end -/
def QR (κ : Cx) (g : Gl) (post : Option Value → Mem → Prop) (mc ms : Nat) : State → Prop := MQ κ.2.2.2.2.2.2.2.1 (fun _ _ o t => ∃ (v : Option Value) (μ' : Mem), o = .returned v ∧ post v μ' ∧ mP g μ' t.heap) κ.2.2.2.2.2.2.1 κ.2.2.2.2.1 mc ms (fun q => g.1.heap.size ≤ q)
section
variable {κ : Cx} {g : Gl} {mi : Mi} {post : Option Value → Mem → Prop} {mc ms : Nat} {μ : Mem} {nc ns pc : Nat} {lv : List (Nat × Value)}
theorem v_iret {v : Int32} (hd : decode mi.1 pc = .ok (.ireturn, 1)) (hr : mi.2.2.2.1 = some .int) (hc : nc ≤ mc) (hs : ns ≤ ms) (hp : post (some (.int v)) μ) : V κ g mi (QR κ g post mc ms) μ nc ns pc lv [.int v] := by
  refine v_widen hc hs ?_
  obtain ⟨p, l, e, R, s, m, args, below, meth, c⟩ := κ
  intro hO H locs ls hP hL hl
  obtain ⟨hx, hb, -, -, -, hlk, hrt, -⟩ := hO
  exact W.iret hx hb (hrt.trans hr) (fun t ht _ => ⟨_, μ, rfl, hp, by rw [ht]; exact hP⟩) hL hd hlk
theorem v_zret {v : Int32} (hd : decode mi.1 pc = .ok (.ireturn, 1)) (hr : mi.2.2.2.1 = some .boolean) (hv : narrow .boolean (.int v) = .int v) (hc : nc ≤ mc) (hs : ns ≤ ms) (hp : post (some (.int v)) μ) : V κ g mi (QR κ g post mc ms) μ nc ns pc lv [.int v] := by
  refine v_widen hc hs ?_
  obtain ⟨p, l, e, R, s, m, args, below, meth, c⟩ := κ
  intro hO H locs ls hP hL hl
  obtain ⟨hx, hb, -, -, -, hlk, hrt, -⟩ := hO
  exact W.zret hx hb (hrt.trans hr) hv (fun t ht _ => ⟨_, μ, rfl, hp, by rw [ht]; exact hP⟩) hL hd hlk
theorem v_lret {v : Int64} (hd : decode mi.1 pc = .ok (.lreturn, 1)) (hr : mi.2.2.2.1 = some .long) (hc : nc ≤ mc) (hs : ns ≤ ms) (hp : post (some (.long v)) μ) : V κ g mi (QR κ g post mc ms) μ nc ns pc lv [.long v] := by
  refine v_widen hc hs ?_
  obtain ⟨p, l, e, R, s, m, args, below, meth, c⟩ := κ
  intro hO H locs ls hP hL hl
  obtain ⟨hx, hb, -, -, -, hlk, hrt, -⟩ := hO
  exact W.lret hx hb (hrt.trans hr) (fun t ht _ => ⟨_, μ, rfl, hp, by rw [ht]; exact hP⟩) hL hd hlk
theorem v_vret (hd : decode mi.1 pc = .ok (.return_, 1)) (hr : mi.2.2.2.1 = none) (hc : nc ≤ mc) (hs : ns ≤ ms) (hp : post none μ) : V κ g mi (QR κ g post mc ms) μ nc ns pc lv [] := by
  refine v_widen hc hs ?_
  obtain ⟨p, l, e, R, s, m, args, below, meth, c⟩ := κ
  intro hO H locs ls hP hL hl
  obtain ⟨hx, hb, -, -, -, hlk, hrt, -⟩ := hO
  exact W.vret hx hb (hrt.trans hr) (fun t ht _ => ⟨_, μ, rfl, hp, by rw [ht]; exact hP⟩) hL hd hlk
theorem v_aret {a : Nat} {nm : String} (hd : decode mi.1 pc = .ok (.areturn, 1)) (hr : mi.2.2.2.1 = some (.object nm)) (hc : nc ≤ mc) (hs : ns ≤ ms) (hp : post (some (.ref a)) μ) : V κ g mi (QR κ g post mc ms) μ nc ns pc lv [.ref a] := by
  refine v_widen hc hs ?_
  obtain ⟨p, l, e, R, s, m, args, below, meth, c⟩ := κ
  intro hO H locs ls hP hL hl
  obtain ⟨hx, hb, -, -, -, hlk, hrt, -⟩ := hO
  exact W.aret hx hb (hrt.trans hr) (Or.inl ⟨_, rfl⟩) (Or.inr ⟨_, rfl⟩) (fun t ht _ => ⟨_, μ, rfl, hp, by rw [ht]; exact hP⟩) hL hd hlk
/-! the start of a method -/
theorem Ct.of {l : Launch} {y : MethodName} {code : ByteArray} {maxL : Nat} {ret : Option FieldType} {rm : Room} {as : List Value} (hS : Start g l) (hy : plainName y.cls = true) (hlen : (lg_sl as).length ≤ maxL) (body : ∀ κ : Cx, κ.2.1 = l → V κ g (code, maxL, y.cls, ret, rm, y.name, []) (QR κ g post mc ms) μ 0 0 0 (lv_args 0 as) []) : Ct l g y (ws_ y code maxL ret) rm as μ post mc ms := by
  refine Met.ofW (cc := code) (maxL := maxL) (ret := ret) hy rfl ?_
  intro p e s m args below meth c s₁ B hml hv
  obtain ⟨rfl, hW, hP⟩ := hv
  have hts0 := atoms_spec (ws := ws_ y code maxL ret) B.pre
  have hts : ∀ w ∈ lw_all, w.before _ s = true := fun w h => hts0 w (List.mem_cons_of_mem _ h)
  obtain ⟨meth', c', h1, h2, h3, h4, h5, h6, h7, -⟩ := Cond.code_spec B.named (hts0 _ List.mem_cons_self)
  cases h1.symm.trans B.method
  have hcode : meth.code = some c := by
    have h := B.here.code
    rw [State.code?_eq, B.method₁] at h
    exact h
  cases h2.symm.trans hcode
  have hl := lv_entry as hlen
  rw [lg_entry_eq]
  refine body (p, l, e, rm, s, m, as.toArray, below, meth, c) rfl ⟨B.exec, B.bytes, hml, findClass_of_methodNamed B.named, hts, B.notSynchronized, B.returns, rfl, hW, hS, (name_of_methodNamed B.named B.method).1, ?_⟩ s.heap [] _ hP (fun q h => by cases h) hl
  have : c.exceptionTable.toList = [] := by simpa [Array.isEmpty_iff] using h7
  rw [this]; rfl
theorem CtW.of {l : Launch} {y : MethodName} {code : ByteArray} {maxL : Nat} {ret : Option FieldType} {hh : List (Nat × Nat × Nat × Nat)} {rm : Room} {as : List Value} (hS : Start g l) (hy : plainName y.cls = true) (hlen : (lg_sl as).length ≤ maxL) (body : ∀ κ : Cx, κ.2.1 = l → V κ g (code, maxL, y.cls, ret, rm, y.name, hh) (QR κ g post mc ms) μ 0 0 0 (lv_args 0 as) []) : Ct l g y (wsW_ y code maxL ret hh) rm as μ post mc ms := by
  refine va_MetW (cc := code) (maxL := maxL) (ret := ret) (hh := hh) hy rfl ?_
  intro p e s m args below meth c s₁ B hml hv
  obtain ⟨rfl, hW, hP⟩ := hv
  have hts0 := atoms_spec (ws := wsW_ y code maxL ret hh) B.pre
  have hts : ∀ w ∈ lw_all, w.before _ s = true := fun w h => hts0 w (List.mem_cons_of_mem _ h)
  obtain ⟨m9, meth', c', h0, h1, h2, h3, h4, h7, h5, h6, -⟩ := Cond.codeWith_spec (hts0 _ List.mem_cons_self)
  cases h0.symm.trans B.named
  cases h1.symm.trans B.method
  have hcode : meth.code = some c := by
    have h := B.here.code
    rw [State.code?_eq, B.method₁] at h
    exact h
  cases h2.symm.trans hcode
  have hl := lv_entry as hlen
  rw [lg_entry_eq]
  exact body (p, l, e, rm, s, m, as.toArray, below, meth, c) rfl ⟨B.exec, B.bytes, hml, findClass_of_methodNamed B.named, hts, B.notSynchronized, B.returns, rfl, hW, hS, (name_of_methodNamed B.named B.method).1, h7⟩ s.heap [] _ hP (fun q h => by cases h) hl
end
