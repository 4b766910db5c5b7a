set_option maxRecDepth 100000
/-! THE STATE: code, which, the shape (dm, lo, hi), arrays (na, kinds, ranks, lows, highs, rowOf), rows (nr, rowAt, rowSize), the pool (np, pl, hb), slots (ns, sl), lines (nl, li, lj, lk, lw) -/
abbrev Sg : Type := Int32 × Int32 × Nat × (Nat → Int32) × (Nat → Int32) × Nat × (Nat → Nat) × (Nat → Nat) × (Nat → Int32) × (Nat → Int32) × (Nat → Nat) × Nat × (Nat → Nat) × (Nat → Nat) × Nat × (Nat → Int64) × (Nat → Int32) × Nat × (Nat → Int32) × Nat × (Nat → Int32) × (Nat → Int32) × (Nat → Int32) × (Nat → Int64)
/-- the model's fields -/
def mfs (ad : Nat → Nat) (be : Int32) : Sg → List Value
  | (cd, wh, dm, _, _, na, _, _, _, _, _, nr, _, _, np, _, _, ns, _, nl, _, _, _, _) => [.int cd, .int wh, .int (nI dm), .ref (ad 1), .ref (ad 2), .int (nI na), .ref (ad 3), .ref (ad 4), .ref (ad 5), .ref (ad 6), .ref (ad 7), .int (nI nr), .ref (ad 8), .ref (ad 9), .int (nI np), .ref (ad 10), .ref (ad 11), .int (nI ns), .ref (ad 12), .int (nI nl), .ref (ad 13), .ref (ad 14), .ref (ad 15), .ref (ad 16), .int be]
/-- the model's cells -/
def mcl (g : Gl) (ad : Nat → Nat) (be : Int32) (σ : Sg) : List va_E := match σ with
  | (cd, wh, dm, lo, hi, na, kd, rk, al, ah, ro, nr, rt, sz, np, pl, hb, ns, sl, nl, li, lj, lk, lw) => [.inr (3, mfs ad be (cd, wh, dm, lo, hi, na, kd, rk, al, ah, ro, nr, rt, sz, np, pl, hb, ns, sl, nl, li, lj, lk, lw)),
    .inl (g.2.2 0, 3, .inl lo), .inl (g.2.2 0, 3, .inl hi), .inl (g.2.2 0, 24, .inl (fun x => nI (kd x))), .inl (g.2.2 0, 24, .inl (fun x => nI (rk x))), .inl (g.2.2 0, 72, .inl al), .inl (g.2.2 0, 72, .inl ah), .inl (g.2.2 0, 24, .inl (fun x => nI (ro x))), .inl (g.2.2 0, 13000, .inl (fun x => nI (rt x))), .inl (g.2.2 0, 13000, .inl (fun x => nI (sz x))), .inl (g.2.2 1, 300000, .inr (.inl pl)), .inl (g.2.2 3, 300000, .inl hb), .inl (g.2.2 0, 12100, .inl sl), .inl (g.2.2 0, 30, .inl li), .inl (g.2.2 0, 30, .inl lj), .inl (g.2.2 0, 30, .inl lk), .inl (g.2.2 1, 30, .inr (.inl lw))]
/-- a block of cells at ad 0, ad 1, ..; elsewhere the memory is μ0 -/
def blk (N : Nat) (ad : Nat → Nat) (μ0 : Mem) (cs : List va_E) (μ : Mem) : Prop := (∀ (k : Nat) (e : va_E), cs[k]? = some e → μ (ad k) = some e) ∧ (∀ i, i < N → ∀ j, j < N → ad i = ad j → i = j) ∧ cs.length = N ∧ ∀ x, (∀ k, k < N → x ≠ ad k) → μ x = μ0 x
theorem blk.set {N : Nat} {ad : Nat → Nat} {μ0 μ : Mem} {cs : List va_E} (h : blk N ad μ0 cs μ) {k : Nat} (hk : k < N) (e : va_E) : blk N ad μ0 (cs.set k e) (va_up μ (ad k) (some e)) := by
  obtain ⟨h1, h2, h3, h4⟩ := h
  refine ⟨fun j x hj => ?_, h2, by rw [List.length_set]; exact h3, fun x hx => ?_⟩
  · have hl : j < cs.length := by
      have := (List.getElem?_eq_some_iff.mp hj).1
      rwa [List.length_set] at this
    by_cases hjk : j = k
    · subst hjk
      rw [List.getElem?_set_self hl] at hj
      cases hj
      exact va_up_self _ _ _
    · rw [List.getElem?_set_ne (Ne.symm hjk)] at hj
      rw [va_up_ne _ _ (fun z => hjk (h2 j (by omega) k hk z))]
      exact h1 j x hj
  · rw [va_up_ne _ _ (hx k hk)]
    exact h4 x hx
/-- a contract of a model's method: as, the answer, the cells after -/
def CtM (l : Launch) (g : Gl) (ad : Nat → Nat) (y : MethodName) (ws : List Cond) (rm : Room) (As : List Value) (cs : List va_E) (r : Option Value) (cs' : List va_E) : Prop := ∀ μ0 μ : Mem, blk 17 ad μ0 cs μ → Ct l g y ws rm (.ref (ad 0) :: As) μ (fun v μ' => v = r ∧ blk 17 ad μ0 cs' μ') 0 0
/-- a static method that only answers -/
def CtP (l : Launch) (g : Gl) (y : MethodName) (ws : List Cond) (rm : Room) (As : List Value) (r : Option Value) : Prop := ∀ μ : Mem, Ct l g y ws rm As μ (fun v μ' => v = r ∧ μ' = μ) 0 0
section
variable {κ : Cx} {g : Gl} {mi : Mi} {Q : State → Prop} {μ μ0 : Mem} {nc ns pc : Nat} {lv : List (Nat × Value)} {st st0 : List Value} {ad : Nat → Nat} {cs cs' : List va_E} {fs : List Value}
/-! numbers -/
theorem v_icmp_eqN {off : Int} {tgt : Nat} (a b : Nat) (hd : decode mi.1 pc = .ok (.if_icmp .eq off, 3)) (ht : (pc : Int) + off = (tgt : Int)) (ha : a < 2147483648) (hb : b < 2147483648) (kt : a = b → V κ g mi Q μ nc ns tgt lv st) (kf : ¬ a = b → V κ g mi Q μ nc ns (pc + 3) lv st) : V κ g mi Q μ nc ns pc lv (.int (nI b) :: .int (nI a) :: st) :=
  v_icmp_eq hd ht (fun h => kt ((nI_eq ha hb).mp h)) (fun h => kf (fun z => h ((nI_eq ha hb).mpr z)))
theorem v_icmp_neN {off : Int} {tgt : Nat} (a b : Nat) (hd : decode mi.1 pc = .ok (.if_icmp .ne off, 3)) (ht : (pc : Int) + off = (tgt : Int)) (ha : a < 2147483648) (hb : b < 2147483648) (kt : ¬ a = b → V κ g mi Q μ nc ns tgt lv st) (kf : a = b → V κ g mi Q μ nc ns (pc + 3) lv st) : V κ g mi Q μ nc ns pc lv (.int (nI b) :: .int (nI a) :: st) :=
  v_icmp_ne hd ht (fun h => kt (fun z => h ((nI_eq ha hb).mpr z))) (fun h => kf ((nI_eq ha hb).mp h))
theorem v_icmp_ltN {off : Int} {tgt : Nat} (a b : Nat) (hd : decode mi.1 pc = .ok (.if_icmp .lt off, 3)) (ht : (pc : Int) + off = (tgt : Int)) (ha : a < 2147483648) (hb : b < 2147483648) (kt : a < b → V κ g mi Q μ nc ns tgt lv st) (kf : ¬ a < b → V κ g mi Q μ nc ns (pc + 3) lv st) : V κ g mi Q μ nc ns pc lv (.int (nI b) :: .int (nI a) :: st) :=
  v_icmp_lt hd ht (fun h => kt ((nI_ltI ha hb).mp h)) (fun h => kf (fun z => h ((nI_ltI ha hb).mpr z)))
theorem v_icmp_geN {off : Int} {tgt : Nat} (a b : Nat) (hd : decode mi.1 pc = .ok (.if_icmp .ge off, 3)) (ht : (pc : Int) + off = (tgt : Int)) (ha : a < 2147483648) (hb : b < 2147483648) (kt : b ≤ a → V κ g mi Q μ nc ns tgt lv st) (kf : ¬ b ≤ a → V κ g mi Q μ nc ns (pc + 3) lv st) : V κ g mi Q μ nc ns pc lv (.int (nI b) :: .int (nI a) :: st) :=
  v_icmp_ge hd ht (fun h => kt ((nI_leI hb ha).mp h)) (fun h => kf (fun z => h ((nI_leI hb ha).mpr z)))
theorem v_icmp_gtN {off : Int} {tgt : Nat} (a b : Nat) (hd : decode mi.1 pc = .ok (.if_icmp .gt off, 3)) (ht : (pc : Int) + off = (tgt : Int)) (ha : a < 2147483648) (hb : b < 2147483648) (kt : b < a → V κ g mi Q μ nc ns tgt lv st) (kf : ¬ b < a → V κ g mi Q μ nc ns (pc + 3) lv st) : V κ g mi Q μ nc ns pc lv (.int (nI b) :: .int (nI a) :: st) :=
  v_icmp_gt hd ht (fun h => kt ((nI_ltI hb ha).mp h)) (fun h => kf (fun z => h ((nI_ltI hb ha).mpr z)))
theorem v_icmp_leN {off : Int} {tgt : Nat} (a b : Nat) (hd : decode mi.1 pc = .ok (.if_icmp .le off, 3)) (ht : (pc : Int) + off = (tgt : Int)) (ha : a < 2147483648) (hb : b < 2147483648) (kt : a ≤ b → V κ g mi Q μ nc ns tgt lv st) (kf : ¬ a ≤ b → V κ g mi Q μ nc ns (pc + 3) lv st) : V κ g mi Q μ nc ns pc lv (.int (nI b) :: .int (nI a) :: st) :=
  v_icmp_le hd ht (fun h => kt ((nI_leI ha hb).mp h)) (fun h => kf (fun z => h ((nI_leI ha hb).mpr z)))
theorem v_if_eqN {off : Int} {tgt : Nat} (a : Nat) (hd : decode mi.1 pc = .ok (.ifCond .eq off, 3)) (ht : (pc : Int) + off = (tgt : Int)) (ha : a < 2147483648) (kt : a = 0 → V κ g mi Q μ nc ns tgt lv st) (kf : ¬ a = 0 → V κ g mi Q μ nc ns (pc + 3) lv st) : V κ g mi Q μ nc ns pc lv (.int (nI a) :: st) :=
  v_if_eq hd ht (fun h => kt ((nI_eq ha (by decide)).mp (show nI a = nI 0 from h))) (fun h => kf (fun z => h (by rw [z]; rfl)))
theorem v_if_neN {off : Int} {tgt : Nat} (a : Nat) (hd : decode mi.1 pc = .ok (.ifCond .ne off, 3)) (ht : (pc : Int) + off = (tgt : Int)) (ha : a < 2147483648) (kt : ¬ a = 0 → V κ g mi Q μ nc ns tgt lv st) (kf : a = 0 → V κ g mi Q μ nc ns (pc + 3) lv st) : V κ g mi Q μ nc ns pc lv (.int (nI a) :: st) :=
  v_if_ne hd ht (fun h => kt (fun z => h (by rw [z]; rfl))) (fun h => kf ((nI_eq ha (by decide)).mp (show nI a = nI 0 from h)))
/-! answers yes and no -/
theorem v_if_eqB {P : Prop} [Decidable P] {off : Int} {tgt : Nat} (hd : decode mi.1 pc = .ok (.ifCond .eq off, 3)) (ht : (pc : Int) + off = (tgt : Int)) (kt : ¬ P → V κ g mi Q μ nc ns tgt lv st) (kf : P → V κ g mi Q μ nc ns (pc + 3) lv st) : V κ g mi Q μ nc ns pc lv (.int (if P then 1 else 0) :: st) :=
  v_if_eq hd ht (fun h => kt (fun z => by rw [if_pos z] at h; exact absurd h (by decide))) (fun h => kf (by
    by_cases z : P
    · exact z
    · rw [if_neg z] at h; exact absurd rfl h))
theorem v_if_neB {P : Prop} [Decidable P] {off : Int} {tgt : Nat} (hd : decode mi.1 pc = .ok (.ifCond .ne off, 3)) (ht : (pc : Int) + off = (tgt : Int)) (kt : P → V κ g mi Q μ nc ns tgt lv st) (kf : ¬ P → V κ g mi Q μ nc ns (pc + 3) lv st) : V κ g mi Q μ nc ns pc lv (.int (if P then 1 else 0) :: st) :=
  v_if_ne hd ht (fun h => kt (by
    by_cases z : P
    · exact z
    · rw [if_neg z] at h; exact absurd rfl h)) (fun h => kf (fun z => by rw [if_pos z] at h; exact absurd h (by decide)))
/-! longs compared -/
theorem v_lcmp_eq {x y : Int64} {off : Int} {tgt : Nat} (hd : decode mi.1 pc = .ok (.lcmp, 1)) (hd2 : decode mi.1 (pc + 1) = .ok (.ifCond .eq off, 3)) (ht : ((pc + 1 : Nat) : Int) + off = (tgt : Int)) (kt : x = y → V κ g mi Q μ nc ns tgt lv st) (kf : ¬ x = y → V κ g mi Q μ nc ns (pc + 4) lv st) : V κ g mi Q μ nc ns pc lv (.long y :: .long x :: st) :=
  v_lcmp hd (v_if_eq hd2 ht (fun h => kt ((lg_cmp_eq x y).mp h)) (fun h => kf (fun z => h ((lg_cmp_eq x y).mpr z))))
theorem v_lcmp_ne {x y : Int64} {off : Int} {tgt : Nat} (hd : decode mi.1 pc = .ok (.lcmp, 1)) (hd2 : decode mi.1 (pc + 1) = .ok (.ifCond .ne off, 3)) (ht : ((pc + 1 : Nat) : Int) + off = (tgt : Int)) (kt : ¬ x = y → V κ g mi Q μ nc ns tgt lv st) (kf : x = y → V κ g mi Q μ nc ns (pc + 4) lv st) : V κ g mi Q μ nc ns pc lv (.long y :: .long x :: st) :=
  v_lcmp hd (v_if_ne hd2 ht (fun h => kt (fun z => h ((lg_cmp_eq x y).mpr z))) (fun h => kf ((lg_cmp_eq x y).mp h)))
theorem v_lcmp_lt {x y : Int64} {off : Int} {tgt : Nat} (hd : decode mi.1 pc = .ok (.lcmp, 1)) (hd2 : decode mi.1 (pc + 1) = .ok (.ifCond .lt off, 3)) (ht : ((pc + 1 : Nat) : Int) + off = (tgt : Int)) (kt : x < y → V κ g mi Q μ nc ns tgt lv st) (kf : ¬ x < y → V κ g mi Q μ nc ns (pc + 4) lv st) : V κ g mi Q μ nc ns pc lv (.long y :: .long x :: st) :=
  v_lcmp hd (v_if_lt hd2 ht (fun h => kt ((lg_cmp_lt x y).mp h)) (fun h => kf (fun z => h ((lg_cmp_lt x y).mpr z))))
theorem v_lcmp_ge {x y : Int64} {off : Int} {tgt : Nat} (hd : decode mi.1 pc = .ok (.lcmp, 1)) (hd2 : decode mi.1 (pc + 1) = .ok (.ifCond .ge off, 3)) (ht : ((pc + 1 : Nat) : Int) + off = (tgt : Int)) (kt : y ≤ x → V κ g mi Q μ nc ns tgt lv st) (kf : ¬ y ≤ x → V κ g mi Q μ nc ns (pc + 4) lv st) : V κ g mi Q μ nc ns pc lv (.long y :: .long x :: st) :=
  v_lcmp hd (v_if_ge hd2 ht (fun h => kt ((lg_cmp_ge x y).mp h)) (fun h => kf (fun z => h ((lg_cmp_ge x y).mpr z))))
theorem v_lcmp_gt {x y : Int64} {off : Int} {tgt : Nat} (hd : decode mi.1 pc = .ok (.lcmp, 1)) (hd2 : decode mi.1 (pc + 1) = .ok (.ifCond .gt off, 3)) (ht : ((pc + 1 : Nat) : Int) + off = (tgt : Int)) (kt : y < x → V κ g mi Q μ nc ns tgt lv st) (kf : ¬ y < x → V κ g mi Q μ nc ns (pc + 4) lv st) : V κ g mi Q μ nc ns pc lv (.long y :: .long x :: st) :=
  v_lcmp hd (v_if_gt hd2 ht (fun h => kt ((lg_cmp_gt x y).mp h)) (fun h => kf (fun z => h ((lg_cmp_gt x y).mpr z))))
theorem v_lcmp_le {x y : Int64} {off : Int} {tgt : Nat} (hd : decode mi.1 pc = .ok (.lcmp, 1)) (hd2 : decode mi.1 (pc + 1) = .ok (.ifCond .le off, 3)) (ht : ((pc + 1 : Nat) : Int) + off = (tgt : Int)) (kt : x ≤ y → V κ g mi Q μ nc ns tgt lv st) (kf : ¬ x ≤ y → V κ g mi Q μ nc ns (pc + 4) lv st) : V κ g mi Q μ nc ns pc lv (.long y :: .long x :: st) :=
  v_lcmp hd (v_if_le hd2 ht (fun h => kt ((lg_cmp_le x y).mp h)) (fun h => kf (fun z => h ((lg_cmp_le x y).mpr z))))
/-! the model's fields and arrays -/
theorem vm_get {k index : Nat} {v : Value} (hd : decode mi.1 pc = .ok (.getfield index, 3)) (hB : blk 17 ad μ0 cs μ) (h0 : cs[0]? = some (.inr (3, fs))) (hk : k < 25) (hlink : Cond.fieldLink mi.2.2.1 index (TX3 k).1 (TX3 k).2.1 (TX3 k).2.2.1 ∈ lw_all) (hv : fs[k]? = some v) (kk : V κ g mi Q μ nc ns (pc + 3) lv (v :: st)) : V κ g mi Q μ nc ns pc lv (.ref (ad 0) :: st) :=
  v_get hd (hB.1 0 _ h0) (show amCl[3]? = some (RX3, TX3, 25) from rfl) in_X3 hk hlink hv kk
theorem vm_put {k index : Nat} {v : Int32} (hd : decode mi.1 pc = .ok (.putfield index, 3)) (hB : blk 17 ad μ0 cs μ) (h0 : cs[0]? = some (.inr (3, fs))) (hk : k < 25) (hlink : Cond.fieldLink mi.2.2.1 index (TX3 k).1 (TX3 k).2.1 (TX3 k).2.2.1 ∈ lw_all) (hfin : (TX3 k).2.2.2 = false) (hty : tyX3 k = .int) (hl : k < fs.length) (hcs : cs.set 0 (.inr (3, fs.set k (.int v))) = cs') (kk : ∀ μ, blk 17 ad μ0 cs' μ → V κ g mi Q μ nc ns (pc + 3) lv st) : V κ g mi Q μ nc ns pc lv (.int v :: .ref (ad 0) :: st) := by
  refine v_put (ty := .int) hd (hB.1 0 _ h0) (show amCl[3]? = some (RX3, TX3, 25) from rfl) in_X3 tyX3 tyX3_ok nmX3 hk hlink hfin hty rfl rfl hl (kk _ ?_)
  rw [← hcs]
  exact hB.set (by decide) _
theorem vm_iald {n j : Nat} {f : Nat → Int32} (k : Nat) (hd : decode mi.1 pc = .ok (.iaload, 1)) (hB : blk 17 ad μ0 cs μ) (hk : cs[k]? = some (.inl (g.2.2 0, n, .inl f))) (hj : j < n) (hn : n < 2147483648) (kk : V κ g mi Q μ nc ns (pc + 1) lv (.int (f j) :: st)) : V κ g mi Q μ nc ns pc lv (.int (nI j) :: .ref (ad k) :: st) := by
  refine v_iald hd (hB.1 k _ hk) (vp_in_nI hj hn) ?_
  rw [nI_clamp (by omega)]
  exact kk
theorem vm_lald {n j : Nat} {f : Nat → Int64} (k : Nat) (hd : decode mi.1 pc = .ok (.laload, 1)) (hB : blk 17 ad μ0 cs μ) (hk : cs[k]? = some (.inl (g.2.2 1, n, .inr (.inl f)))) (hj : j < n) (hn : n < 2147483648) (kk : V κ g mi Q μ nc ns (pc + 1) lv (.long (f j) :: st)) : V κ g mi Q μ nc ns pc lv (.int (nI j) :: .ref (ad k) :: st) := by
  refine v_lald hd (hB.1 k _ hk) (vp_in_nI hj hn) ?_
  rw [nI_clamp (by omega)]
  exact kk
theorem vm_zald {n j : Nat} {f : Nat → Int32} (k : Nat) (hd : decode mi.1 pc = .ok (.baload, 1)) (hB : blk 17 ad μ0 cs μ) (hk : cs[k]? = some (.inl (g.2.2 3, n, .inl f))) (hj : j < n) (hn : n < 2147483648) (kk : V κ g mi Q μ nc ns (pc + 1) lv (.int (f j) :: st)) : V κ g mi Q μ nc ns pc lv (.int (nI j) :: .ref (ad k) :: st) := by
  refine v_zald hd (hB.1 k _ hk) (vp_in_nI hj hn) ?_
  rw [nI_clamp (by omega)]
  exact kk
theorem vm_iast {n j : Nat} {f : Nat → Int32} {x : Int32} (k : Nat) (hd : decode mi.1 pc = .ok (.iastore, 1)) (hB : blk 17 ad μ0 cs μ) (hk : cs[k]? = some (.inl (g.2.2 0, n, .inl f))) (hk17 : k < 17) (hj : j < n) (hn : n < 2147483648) (hcs : cs.set k (.inl (g.2.2 0, n, .inl (upd f j x))) = cs') (kk : ∀ μ, blk 17 ad μ0 cs' μ → V κ g mi Q μ nc ns (pc + 1) lv st) : V κ g mi Q μ nc ns pc lv (.int x :: .int (nI j) :: .ref (ad k) :: st) := by
  refine v_iast hd (hB.1 k _ hk) (vp_in_nI hj hn) (kk _ ?_)
  rw [nI_clamp (by omega), ← hcs]
  exact hB.set hk17 _
theorem vm_last {n j : Nat} {f : Nat → Int64} {x : Int64} (k : Nat) (hd : decode mi.1 pc = .ok (.lastore, 1)) (hB : blk 17 ad μ0 cs μ) (hk : cs[k]? = some (.inl (g.2.2 1, n, .inr (.inl f)))) (hk17 : k < 17) (hj : j < n) (hn : n < 2147483648) (hcs : cs.set k (.inl (g.2.2 1, n, .inr (.inl (vp_updL f j x)))) = cs') (kk : ∀ μ, blk 17 ad μ0 cs' μ → V κ g mi Q μ nc ns (pc + 1) lv st) : V κ g mi Q μ nc ns pc lv (.long x :: .int (nI j) :: .ref (ad k) :: st) := by
  refine v_last hd (hB.1 k _ hk) (vp_in_nI hj hn) (kk _ ?_)
  rw [nI_clamp (by omega), ← hcs]
  exact hB.set hk17 _
theorem vm_zast {n j : Nat} {f : Nat → Int32} {x : Int32} (k : Nat) (hd : decode mi.1 pc = .ok (.bastore, 1)) (hB : blk 17 ad μ0 cs μ) (hk : cs[k]? = some (.inl (g.2.2 3, n, .inl f))) (hk17 : k < 17) (hj : j < n) (hn : n < 2147483648) (hx : narrow .boolean (.int x) = .int x) (hcs : cs.set k (.inl (g.2.2 3, n, .inl (upd f j x))) = cs') (kk : ∀ μ, blk 17 ad μ0 cs' μ → V κ g mi Q μ nc ns (pc + 1) lv st) : V κ g mi Q μ nc ns pc lv (.int x :: .int (nI j) :: .ref (ad k) :: st) := by
  refine v_zast hd (hB.1 k _ hk) (vp_in_nI hj hn) hx (kk _ ?_)
  rw [nI_clamp (by omega), ← hcs]
  exact hB.set hk17 _
theorem vm_call {y : MethodName} {bytes : ByteArray} {maxL n index : Nat} {ret : Option FieldType} {rm : Room} {As : List Value} {r : Option Value} (hd : decode mi.1 pc = .ok (.invokevirtual index, 3)) (hB : blk 17 ad μ0 cs μ) (h0 : cs[0]? = some (.inr (3, fs))) (hM : CtM κ.2.1 g ad y (ws_ y bytes maxL ret) rm As cs r cs')
    (q1 : Cond.methodLink mi.2.2.1 index y ∈ lw_all) (q2 : Cond.instanceMethod y ∈ lw_all) (q3 : Cond.selects RX3 y y ∈ lw_all) (q5 : Cond.code y bytes maxL ret ∈ lw_all)
    (hdy : y.cls = RX3 ∧ y.cls ≠ "java/lang/invoke/MethodHandle" ∧ y.cls ≠ "java/lang/invoke/VarHandle" ∧ (parseMethodDescriptor y.desc).map (fun d => d.parameters.length) = some n)
    (hn : As.length = n) (hst : st0 = As.reverse ++ .ref (ad 0) :: st) (hw : (st.map fun v => v.category).sum ≤ 8) (hrc : rm.cells = 0) (hrs : rm.slots = 0) (hR1 : rm.frames + 1 ≤ mi.2.2.2.2.1.frames) (hR2 : 8 + (maxL + 11) + rm.locals ≤ mi.2.2.2.2.1.locals) (hR3 : nc ≤ mi.2.2.2.2.1.cells) (hR4 : ns ≤ mi.2.2.2.2.1.slots)
    (kk : ∀ μ, blk 17 ad μ0 cs' μ → V κ g mi Q μ nc ns (pc + 3) lv (r.toList ++ st)) : V κ g mi Q μ nc ns pc lv st0 := by
  refine v_callV hd (hM μ0 μ hB) q1 q2 (r := (RX3, TX3, 25)) q3 q31 q5 hdy (hB.1 0 _ h0) rfl hn hst hw hrc hrs hR1 hR2 hR3 hR4 (fun v μ' h => ?_)
  obtain ⟨rfl, h2⟩ := h
  exact kk μ' h2
theorem vp_call {y : MethodName} {bytes : ByteArray} {maxL n index : Nat} {ret : Option FieldType} {rm : Room} {As : List Value} {r : Option Value} (hd : decode mi.1 pc = .ok (.invokestatic index, 3)) (hM : CtP κ.2.1 g y (ws_ y bytes maxL ret) rm As r)
    (q1 : Cond.methodLink mi.2.2.1 index y ∈ lw_all) (q2 : Cond.static y ∈ lw_all) (q4 : Cond.initialized y.cls ∈ lw_all) (q5 : Cond.code y bytes maxL ret ∈ lw_all)
    (hdy : y.cls ≠ "java/lang/invoke/MethodHandle" ∧ y.cls ≠ "java/lang/invoke/VarHandle" ∧ (parseMethodDescriptor y.desc).map (fun d => d.parameters.length) = some n)
    (hn : As.length = n) (hst : st0 = As.reverse ++ st) (hw : (st.map fun v => v.category).sum ≤ 8) (hrc : rm.cells = 0) (hrs : rm.slots = 0) (hR1 : rm.frames + 1 ≤ mi.2.2.2.2.1.frames) (hR2 : 8 + (maxL + 11) + rm.locals ≤ mi.2.2.2.2.1.locals) (hR3 : nc ≤ mi.2.2.2.2.1.cells) (hR4 : ns ≤ mi.2.2.2.2.1.slots)
    (kk : V κ g mi Q μ nc ns (pc + 3) lv (r.toList ++ st)) : V κ g mi Q μ nc ns pc lv st0 := by
  refine v_callS hd (hM μ) q1 q2 q4 q5 hdy hn hst hw hrc hrs hR1 hR2 hR3 hR4 (fun v μ' h => ?_)
  obtain ⟨rfl, rfl⟩ := h
  exact kk
end
theorem upd_nI (f : Nat → Nat) (k v : Nat) : upd (fun x => nI (f x)) k (nI v) = fun x => nI (va_up f k v x) := by
  funext q
  by_cases hq : q = k
  · subst hq; simp [upd, va_up]
  · simp [upd, va_up, hq]
