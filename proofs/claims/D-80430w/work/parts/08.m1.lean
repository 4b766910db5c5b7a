set_option maxRecDepth 100000
/-- how many from a to b -/
def ln (a b : Int32) : Nat := (b.toInt - a.toInt + 1).toNat
theorem ln_lt (a b : Int32) : ln a b < 4294967297 := by
  have h1 := Int32.toInt_lt a; have h2 := Int32.le_toInt a; have h3 := Int32.toInt_lt b; have h4 := Int32.le_toInt b
  unfold ln; omega
theorem i64_toInt_sub (a b : Int32) : (b.toInt64 - a.toInt64 + 1).toInt = b.toInt - a.toInt + 1 := by
  have h1 := Int32.toInt_lt a; have h2 := Int32.le_toInt a; have h3 := Int32.toInt_lt b; have h4 := Int32.le_toInt b
  have e1 : (b.toInt64 - a.toInt64).toInt = b.toInt - a.toInt := by
    rw [Int64.toInt_sub, Int32.toInt_toInt64, Int32.toInt_toInt64]
    exact Int.bmod_eq_of_le (by omega) (by omega)
  rw [Int64.toInt_add, e1, show (1 : Int64).toInt = 1 from rfl]
  exact Int.bmod_eq_of_le (by omega) (by omega)
theorem ln_neg {a b : Int32} (h : ¬ lN 0 ≤ b.toInt64 - a.toInt64 + lN 1) : lN (ln a b) = lN 0 := by
  have h : b.toInt64 - a.toInt64 + 1 < 0 := Int64.not_le.mp h
  rw [Int64.lt_iff_toInt_lt, i64_toInt_sub, Int64.toInt_zero] at h
  unfold ln; rw [show (b.toInt - a.toInt + 1).toNat = 0 by omega]
theorem ln_pos {a b : Int32} (h : lN 0 ≤ b.toInt64 - a.toInt64 + lN 1) : lN (ln a b) = b.toInt64 - a.toInt64 + lN 1 := by
  have h : ¬ b.toInt64 - a.toInt64 + 1 < 0 := Int64.not_lt.mpr h
  show lN (ln a b) = b.toInt64 - a.toInt64 + 1
  have h5 := ln_lt a b
  rw [Int64.lt_iff_toInt_lt, i64_toInt_sub, Int64.toInt_zero] at h
  refine Int64.toInt_inj.mp ?_
  rw [i64_toInt_sub, pk_lT (by omega)]
  unfold ln; omega
theorem dy_X3_within : yX3_within.cls ≠ "java/lang/invoke/MethodHandle" ∧ yX3_within.cls ≠ "java/lang/invoke/VarHandle" ∧ (parseMethodDescriptor yX3_within.desc).map (fun d => d.parameters.length) = some 3 := ⟨by decide +kernel, by decide +kernel, by decide +kernel⟩
set_option maxHeartbeats 4000000 in
theorem ct_within {l : Launch} {g : Gl} (hS : Start g l) (v a b : Int64)  : CtP l g yX3_within (ws_ yX3_within cX3_within 6 (some FieldType.boolean)) (rmD 0 0 0) [.long v, .long a, .long b] (some (.int (if a ≤ v ∧ v ≤ b then 1 else 0))) := by
  intro μ
  refine Ct.of hS (by decide) (Nat.le_of_ble_eq_true rfl) (fun κ hκ => ?_)
  subst hκ
  show V κ g _ _ μ 0 0 0 [(0, .long v), (2, .long a), (4, .long b)] []
  refine v_lload_n (pc := 0) dX3_within_0 rfl 0 rfl ?_
  refine v_lload_n (pc := 1) dX3_within_1 rfl 1 rfl ?_
  refine v_lcmp_lt (pc := 2) (tgt := 17) dX3_within_2 dX3_within_3 (by decide) (fun h_2 => ?_) (fun h_2 => ?_)
  · refine v_iconst (pc := 17) (v := nI 0) dX3_within_17 (by decide) ?_
    exact v_zret (pc := 18) dX3_within_18 rfl rfl (Nat.le_refl 0) (Nat.le_refl 0) ⟨by rw [if_neg (fun z => by first | exact absurd z.1 (Int64.not_le.mpr (by assumption)) | exact absurd z.2 (Int64.not_le.mpr (by assumption)))]; rfl, rfl⟩
  · refine v_lload_n (pc := 6) dX3_within_6 rfl 0 rfl ?_
    refine v_lload (pc := 7) dX3_within_7 2 rfl ?_
    refine v_lcmp_gt (pc := 9) (tgt := 17) dX3_within_9 dX3_within_10 (by decide) (fun h_9 => ?_) (fun h_9 => ?_)
    · refine v_iconst (pc := 17) (v := nI 0) dX3_within_17 (by decide) ?_
      exact v_zret (pc := 18) dX3_within_18 rfl rfl (Nat.le_refl 0) (Nat.le_refl 0) ⟨by rw [if_neg (fun z => by first | exact absurd z.1 (Int64.not_le.mpr (by assumption)) | exact absurd z.2 (Int64.not_le.mpr (by assumption)))]; rfl, rfl⟩
    · refine v_iconst (pc := 13) (v := nI 1) dX3_within_13 (by decide) ?_
      refine v_goto (pc := 14) (tgt := 18) dX3_within_14 (by decide) ?_
      exact v_zret (pc := 18) dX3_within_18 rfl rfl (Nat.le_refl 0) (Nat.le_refl 0) ⟨by rw [if_pos ⟨Int64.not_lt.mp (by assumption), Int64.not_lt.mp (by assumption)⟩]; rfl, rfl⟩
theorem dy_X3_length : yX3_length.cls ≠ "java/lang/invoke/MethodHandle" ∧ yX3_length.cls ≠ "java/lang/invoke/VarHandle" ∧ (parseMethodDescriptor yX3_length.desc).map (fun d => d.parameters.length) = some 2 := ⟨by decide +kernel, by decide +kernel, by decide +kernel⟩
set_option maxHeartbeats 4000000 in
theorem ct_length {l : Launch} {g : Gl} (hS : Start g l) (a b : Int32)  : CtP l g yX3_length (ws_ yX3_length cX3_length 4 (some FieldType.long)) (rmD 0 0 0) [.int a, .int b] (some (.long (lN (ln a b)))) := by
  intro μ
  refine Ct.of hS (by decide) (Nat.le_of_ble_eq_true rfl) (fun κ hκ => ?_)
  subst hκ
  show V κ g _ _ μ 0 0 0 [(0, .int a), (1, .int b)] []
  refine v_iload_n (pc := 0) dX3_length_0 rfl 1 rfl ?_
  refine v_i2l (pc := 1) (v := b.toInt64) dX3_length_1 (rfl) ?_
  refine v_iload_n (pc := 2) dX3_length_2 rfl 0 rfl ?_
  refine v_i2l (pc := 3) (v := a.toInt64) dX3_length_3 (rfl) ?_
  refine v_lsub (pc := 4) (v := b.toInt64 - a.toInt64) dX3_length_4 rfl ?_
  refine v_lconst (pc := 5) (v := lN 1) dX3_length_5 (by decide) ?_
  refine v_ladd (pc := 6) (v := (b.toInt64 - a.toInt64) + (lN 1)) dX3_length_6 rfl ?_
  refine v_lstore_n (pc := 7) (lv' := [(2, .long ((b.toInt64 - a.toInt64) + (lN 1))), (0, .int a), (1, .int b)]) dX3_length_7 rfl (by decide) rfl ?_
  refine v_lload_n (pc := 8) dX3_length_8 rfl 0 rfl ?_
  refine v_lconst (pc := 9) (v := lN 0) dX3_length_9 (by decide) ?_
  refine v_lcmp_ge (pc := 10) (tgt := 18) dX3_length_10 dX3_length_11 (by decide) (fun h_10 => ?_) (fun h_10 => ?_)
  · refine v_lload_n (pc := 18) dX3_length_18 rfl 0 rfl ?_
    exact v_lret (pc := 19) dX3_length_19 rfl (Nat.le_refl 0) (Nat.le_refl 0) ⟨by rw [ln_pos (by assumption)], rfl⟩
  · refine v_lconst (pc := 14) (v := lN 0) dX3_length_14 (by decide) ?_
    refine v_goto (pc := 15) (tgt := 19) dX3_length_15 (by decide) ?_
    exact v_lret (pc := 19) dX3_length_19 rfl (Nat.le_refl 0) (Nat.le_refl 0) ⟨by rw [ln_neg (by assumption)], rfl⟩
theorem dy_X3_index : yX3_index.cls ≠ "java/lang/invoke/MethodHandle" ∧ yX3_index.cls ≠ "java/lang/invoke/VarHandle" ∧ (parseMethodDescriptor yX3_index.desc).map (fun d => d.parameters.length) = some 2 := ⟨by decide +kernel, by decide +kernel, by decide +kernel⟩
set_option maxHeartbeats 4000000 in
theorem ct_index {l : Launch} {g : Gl} (hS : Start g l) (a b : Int32)  : CtP l g yX3_index (ws_ yX3_index cX3_index 2 (some FieldType.int)) (rmD 0 0 0) [.int a, .int b] (some (.int (a + b))) := by
  intro μ
  refine Ct.of hS (by decide) (Nat.le_of_ble_eq_true rfl) (fun κ hκ => ?_)
  subst hκ
  show V κ g _ _ μ 0 0 0 [(0, .int a), (1, .int b)] []
  refine v_iload_n (pc := 0) dX3_index_0 rfl 0 rfl ?_
  refine v_iload_n (pc := 1) dX3_index_1 rfl 1 rfl ?_
  refine v_iadd (pc := 2) (v := a + b) dX3_index_2 rfl ?_
  exact v_iret (pc := 3) dX3_index_3 rfl (Nat.le_refl 0) (Nat.le_refl 0) ⟨rfl, rfl⟩
theorem dy_X3_code : yX3_code.cls = RX3 ∧ yX3_code.cls ≠ "java/lang/invoke/MethodHandle" ∧ yX3_code.cls ≠ "java/lang/invoke/VarHandle" ∧ (parseMethodDescriptor yX3_code.desc).map (fun d => d.parameters.length) = some 0 := ⟨rfl, by decide +kernel, by decide +kernel, by decide +kernel⟩
set_option maxHeartbeats 4000000 in
theorem ct_code {l : Launch} {g : Gl} (hS : Start g l) (ad : Nat → Nat) {cd wh be : Int32} {dm na nr np ns nl : Nat} {lo hi al ah sl li lj lk hb : Nat → Int32} {kd rk ro rt sz : Nat → Nat} {pl lw : Nat → Int64}   : CtM l g ad yX3_code (ws_ yX3_code cX3_code 1 (some FieldType.int)) (rmD 0 0 0) [] (mcl g ad be (cd, wh, dm, lo, hi, na, kd, rk, al, ah, ro, nr, rt, sz, np, pl, hb, ns, sl, nl, li, lj, lk, lw)) (some (.int cd)) (mcl g ad be (cd, wh, dm, lo, hi, na, kd, rk, al, ah, ro, nr, rt, sz, np, pl, hb, ns, sl, nl, li, lj, lk, lw)) := by
  intro μ0 μ hB
  refine Ct.of hS (by decide) (Nat.le_of_ble_eq_true rfl) (fun κ hκ => ?_)
  subst hκ
  show V κ g _ _ μ 0 0 0 [(0, .ref (ad 0))] []
  refine v_aload_n (pc := 0) dX3_code_0 rfl 0 rfl ?_
  refine vm_get (pc := 1) (k := 0) (fs := (mfs ad be (cd, wh, dm, lo, hi, na, kd, rk, al, ah, ro, nr, rt, sz, np, pl, hb, ns, sl, nl, li, lj, lk, lw))) (v := .int cd) dX3_code_1 hB rfl (by decide) q531 rfl ?_
  exact v_iret (pc := 4) dX3_code_4 rfl (Nat.le_refl 0) (Nat.le_refl 0) ⟨rfl, hB⟩
theorem dy_X3_which : yX3_which.cls = RX3 ∧ yX3_which.cls ≠ "java/lang/invoke/MethodHandle" ∧ yX3_which.cls ≠ "java/lang/invoke/VarHandle" ∧ (parseMethodDescriptor yX3_which.desc).map (fun d => d.parameters.length) = some 0 := ⟨rfl, by decide +kernel, by decide +kernel, by decide +kernel⟩
set_option maxHeartbeats 4000000 in
theorem ct_which {l : Launch} {g : Gl} (hS : Start g l) (ad : Nat → Nat) {cd wh be : Int32} {dm na nr np ns nl : Nat} {lo hi al ah sl li lj lk hb : Nat → Int32} {kd rk ro rt sz : Nat → Nat} {pl lw : Nat → Int64}   : CtM l g ad yX3_which (ws_ yX3_which cX3_which 1 (some FieldType.int)) (rmD 0 0 0) [] (mcl g ad be (cd, wh, dm, lo, hi, na, kd, rk, al, ah, ro, nr, rt, sz, np, pl, hb, ns, sl, nl, li, lj, lk, lw)) (some (.int wh)) (mcl g ad be (cd, wh, dm, lo, hi, na, kd, rk, al, ah, ro, nr, rt, sz, np, pl, hb, ns, sl, nl, li, lj, lk, lw)) := by
  intro μ0 μ hB
  refine Ct.of hS (by decide) (Nat.le_of_ble_eq_true rfl) (fun κ hκ => ?_)
  subst hκ
  show V κ g _ _ μ 0 0 0 [(0, .ref (ad 0))] []
  refine v_aload_n (pc := 0) dX3_which_0 rfl 0 rfl ?_
  refine vm_get (pc := 1) (k := 1) (fs := (mfs ad be (cd, wh, dm, lo, hi, na, kd, rk, al, ah, ro, nr, rt, sz, np, pl, hb, ns, sl, nl, li, lj, lk, lw))) (v := .int wh) dX3_which_1 hB rfl (by decide) q532 rfl ?_
  exact v_iret (pc := 4) dX3_which_4 rfl (Nat.le_refl 0) (Nat.le_refl 0) ⟨rfl, hB⟩
theorem dy_X3_no : yX3_no.cls = RX3 ∧ yX3_no.cls ≠ "java/lang/invoke/MethodHandle" ∧ yX3_no.cls ≠ "java/lang/invoke/VarHandle" ∧ (parseMethodDescriptor yX3_no.desc).map (fun d => d.parameters.length) = some 1 := ⟨rfl, by decide +kernel, by decide +kernel, by decide +kernel⟩
set_option maxHeartbeats 4000000 in
theorem ct_no {l : Launch} {g : Gl} (hS : Start g l) (ad : Nat → Nat) {cd wh be : Int32} {dm na nr np ns nl : Nat} {lo hi al ah sl li lj lk hb : Nat → Int32} {kd rk ro rt sz : Nat → Nat} {pl lw : Nat → Int64} (n : Int32)  : CtM l g ad yX3_no (ws_ yX3_no cX3_no 2 (some FieldType.int)) (rmD 0 0 0) [.int n] (mcl g ad be (cd, wh, dm, lo, hi, na, kd, rk, al, ah, ro, nr, rt, sz, np, pl, hb, ns, sl, nl, li, lj, lk, lw)) (some (.int (nI 0))) (mcl g ad be (n, wh, dm, lo, hi, na, kd, rk, al, ah, ro, nr, rt, sz, np, pl, hb, ns, sl, nl, li, lj, lk, lw)) := by
  intro μ0 μ hB
  refine Ct.of hS (by decide) (Nat.le_of_ble_eq_true rfl) (fun κ hκ => ?_)
  subst hκ
  show V κ g _ _ μ 0 0 0 [(0, .ref (ad 0)), (1, .int n)] []
  refine v_aload_n (pc := 0) dX3_no_0 rfl 0 rfl ?_
  refine v_iload_n (pc := 1) dX3_no_1 rfl 1 rfl ?_
  refine vm_put (pc := 2) (k := 0) (fs := (mfs ad be (cd, wh, dm, lo, hi, na, kd, rk, al, ah, ro, nr, rt, sz, np, pl, hb, ns, sl, nl, li, lj, lk, lw))) (cs' := (mcl g ad be (n, wh, dm, lo, hi, na, kd, rk, al, ah, ro, nr, rt, sz, np, pl, hb, ns, sl, nl, li, lj, lk, lw))) dX3_no_2 hB rfl (by decide) q531 rfl rfl (Nat.le_of_ble_eq_true rfl) rfl (fun μ hB => ?_)
  refine v_iconst (pc := 5) (v := nI 0) dX3_no_5 (by decide) ?_
  exact v_iret (pc := 6) dX3_no_6 rfl (Nat.le_refl 0) (Nat.le_refl 0) ⟨rfl, hB⟩
theorem dy_X3_yes : yX3_yes.cls = RX3 ∧ yX3_yes.cls ≠ "java/lang/invoke/MethodHandle" ∧ yX3_yes.cls ≠ "java/lang/invoke/VarHandle" ∧ (parseMethodDescriptor yX3_yes.desc).map (fun d => d.parameters.length) = some 1 := ⟨rfl, by decide +kernel, by decide +kernel, by decide +kernel⟩
set_option maxHeartbeats 4000000 in
theorem ct_yes {l : Launch} {g : Gl} (hS : Start g l) (ad : Nat → Nat) {cd wh be : Int32} {dm na nr np ns nl : Nat} {lo hi al ah sl li lj lk hb : Nat → Int32} {kd rk ro rt sz : Nat → Nat} {pl lw : Nat → Int64} (n : Int32)  : CtM l g ad yX3_yes (ws_ yX3_yes cX3_yes 2 (some FieldType.int)) (rmD 0 0 0) [.int n] (mcl g ad be (cd, wh, dm, lo, hi, na, kd, rk, al, ah, ro, nr, rt, sz, np, pl, hb, ns, sl, nl, li, lj, lk, lw)) (some (.int n)) (mcl g ad be (nI 0, wh, dm, lo, hi, na, kd, rk, al, ah, ro, nr, rt, sz, np, pl, hb, ns, sl, nl, li, lj, lk, lw)) := by
  intro μ0 μ hB
  refine Ct.of hS (by decide) (Nat.le_of_ble_eq_true rfl) (fun κ hκ => ?_)
  subst hκ
  show V κ g _ _ μ 0 0 0 [(0, .ref (ad 0)), (1, .int n)] []
  refine v_aload_n (pc := 0) dX3_yes_0 rfl 0 rfl ?_
  refine v_iconst (pc := 1) (v := nI 0) dX3_yes_1 (by decide) ?_
  refine vm_put (pc := 2) (k := 0) (fs := (mfs ad be (cd, wh, dm, lo, hi, na, kd, rk, al, ah, ro, nr, rt, sz, np, pl, hb, ns, sl, nl, li, lj, lk, lw))) (cs' := (mcl g ad be (nI 0, wh, dm, lo, hi, na, kd, rk, al, ah, ro, nr, rt, sz, np, pl, hb, ns, sl, nl, li, lj, lk, lw))) dX3_yes_2 hB rfl (by decide) q531 rfl rfl (Nat.le_of_ble_eq_true rfl) rfl (fun μ hB => ?_)
  refine v_iload_n (pc := 5) dX3_yes_5 rfl 1 rfl ?_
  exact v_iret (pc := 6) dX3_yes_6 rfl (Nat.le_refl 0) (Nat.le_refl 0) ⟨rfl, hB⟩
theorem dy_X3_noItem : yX3_noItem.cls = RX3 ∧ yX3_noItem.cls ≠ "java/lang/invoke/MethodHandle" ∧ yX3_noItem.cls ≠ "java/lang/invoke/VarHandle" ∧ (parseMethodDescriptor yX3_noItem.desc).map (fun d => d.parameters.length) = some 1 := ⟨rfl, by decide +kernel, by decide +kernel, by decide +kernel⟩
set_option maxHeartbeats 4000000 in
theorem ct_noItem {l : Launch} {g : Gl} (hS : Start g l) (ad : Nat → Nat) {cd wh be : Int32} {dm na nr np ns nl : Nat} {lo hi al ah sl li lj lk hb : Nat → Int32} {kd rk ro rt sz : Nat → Nat} {pl lw : Nat → Int64} (n : Int32)  : CtM l g ad yX3_noItem (ws_ yX3_noItem cX3_noItem 2 (some FieldType.int)) (rmD 1 0 0) [.int n] (mcl g ad be (cd, wh, dm, lo, hi, na, kd, rk, al, ah, ro, nr, rt, sz, np, pl, hb, ns, sl, nl, li, lj, lk, lw)) (some (.int (nI 0))) (mcl g ad be (nI 3, n, dm, lo, hi, na, kd, rk, al, ah, ro, nr, rt, sz, np, pl, hb, ns, sl, nl, li, lj, lk, lw)) := by
  intro μ0 μ hB
  refine Ct.of hS (by decide) (Nat.le_of_ble_eq_true rfl) (fun κ hκ => ?_)
  subst hκ
  show V κ g _ _ μ 0 0 0 [(0, .ref (ad 0)), (1, .int n)] []
  refine v_aload_n (pc := 0) dX3_noItem_0 rfl 0 rfl ?_
  refine v_iload_n (pc := 1) dX3_noItem_1 rfl 1 rfl ?_
  refine vm_put (pc := 2) (k := 1) (fs := (mfs ad be (cd, wh, dm, lo, hi, na, kd, rk, al, ah, ro, nr, rt, sz, np, pl, hb, ns, sl, nl, li, lj, lk, lw))) (cs' := (mcl g ad be (cd, n, dm, lo, hi, na, kd, rk, al, ah, ro, nr, rt, sz, np, pl, hb, ns, sl, nl, li, lj, lk, lw))) dX3_noItem_2 hB rfl (by decide) q532 rfl rfl (Nat.le_of_ble_eq_true rfl) rfl (fun μ hB => ?_)
  refine v_aload_n (pc := 5) dX3_noItem_5 rfl 0 rfl ?_
  refine v_iconst (pc := 6) (v := nI 3) dX3_noItem_6 (by decide) ?_
  refine vm_call (pc := 7) (cs' := (mcl g ad be (nI 3, n, dm, lo, hi, na, kd, rk, al, ah, ro, nr, rt, sz, np, pl, hb, ns, sl, nl, li, lj, lk, lw))) (fs := (mfs ad be (cd, n, dm, lo, hi, na, kd, rk, al, ah, ro, nr, rt, sz, np, pl, hb, ns, sl, nl, li, lj, lk, lw))) (st := []) dX3_noItem_7 hB rfl (ct_no hS ad (nI 3)) q620 q622 qs8 q623 dy_X3_no rfl rfl (Nat.le_of_ble_eq_true rfl) rfl rfl (Nat.le_of_ble_eq_true rfl) (Nat.le_of_ble_eq_true rfl) (Nat.zero_le _) (Nat.zero_le _) (fun μ hB => ?_)
  show V κ g _ _ μ 0 0 10 _ [.int (nI 0)]
  exact v_iret (pc := 10) dX3_noItem_10 rfl (Nat.le_refl 0) (Nat.le_refl 0) ⟨rfl, hB⟩
theorem dy_X3_shapeless : yX3_shapeless.cls = RX3 ∧ yX3_shapeless.cls ≠ "java/lang/invoke/MethodHandle" ∧ yX3_shapeless.cls ≠ "java/lang/invoke/VarHandle" ∧ (parseMethodDescriptor yX3_shapeless.desc).map (fun d => d.parameters.length) = some 0 := ⟨rfl, by decide +kernel, by decide +kernel, by decide +kernel⟩
set_option maxHeartbeats 4000000 in
theorem ct_shapeless {l : Launch} {g : Gl} (hS : Start g l) (ad : Nat → Nat) {cd wh be : Int32} {dm na nr np ns nl : Nat} {lo hi al ah sl li lj lk hb : Nat → Int32} {kd rk ro rt sz : Nat → Nat} {pl lw : Nat → Int64}   : CtM l g ad yX3_shapeless (ws_ yX3_shapeless cX3_shapeless 2 (some FieldType.int)) (rmD 1 0 0) [] (mcl g ad be (cd, wh, dm, lo, hi, na, kd, rk, al, ah, ro, nr, rt, sz, np, pl, hb, ns, sl, nl, li, lj, lk, lw)) (some (.int (nI dm))) (mcl g ad be (nI 0, wh, 0, lo, hi, na, kd, rk, al, ah, ro, nr, rt, sz, np, pl, hb, ns, sl, nl, li, lj, lk, lw)) := by
  intro μ0 μ hB
  refine Ct.of hS (by decide) (Nat.le_of_ble_eq_true rfl) (fun κ hκ => ?_)
  subst hκ
  show V κ g _ _ μ 0 0 0 [(0, .ref (ad 0))] []
  refine v_aload_n (pc := 0) dX3_shapeless_0 rfl 0 rfl ?_
  refine vm_get (pc := 1) (k := 2) (fs := (mfs ad be (cd, wh, dm, lo, hi, na, kd, rk, al, ah, ro, nr, rt, sz, np, pl, hb, ns, sl, nl, li, lj, lk, lw))) (v := .int (nI dm)) dX3_shapeless_1 hB rfl (by decide) q533 rfl ?_
  refine v_istore_n (pc := 4) (lv' := [(1, .int (nI dm)), (0, .ref (ad 0))]) dX3_shapeless_4 rfl (by decide) rfl ?_
  refine v_aload_n (pc := 5) dX3_shapeless_5 rfl 1 rfl ?_
  refine v_iconst (pc := 6) (v := nI 0) dX3_shapeless_6 (by decide) ?_
  refine vm_put (pc := 7) (k := 2) (fs := (mfs ad be (cd, wh, dm, lo, hi, na, kd, rk, al, ah, ro, nr, rt, sz, np, pl, hb, ns, sl, nl, li, lj, lk, lw))) (cs' := (mcl g ad be (cd, wh, 0, lo, hi, na, kd, rk, al, ah, ro, nr, rt, sz, np, pl, hb, ns, sl, nl, li, lj, lk, lw))) dX3_shapeless_7 hB rfl (by decide) q533 rfl rfl (Nat.le_of_ble_eq_true rfl) rfl (fun μ hB => ?_)
  refine v_aload_n (pc := 10) dX3_shapeless_10 rfl 1 rfl ?_
  refine v_iload_n (pc := 11) dX3_shapeless_11 rfl 0 rfl ?_
  refine vm_call (pc := 12) (cs' := (mcl g ad be (nI 0, wh, 0, lo, hi, na, kd, rk, al, ah, ro, nr, rt, sz, np, pl, hb, ns, sl, nl, li, lj, lk, lw))) (fs := (mfs ad be (cd, wh, 0, lo, hi, na, kd, rk, al, ah, ro, nr, rt, sz, np, pl, hb, ns, sl, nl, li, lj, lk, lw))) (st := []) dX3_shapeless_12 hB rfl (ct_yes hS ad (nI dm)) q624 q626 qs9 q627 dy_X3_yes rfl rfl (Nat.le_of_ble_eq_true rfl) rfl rfl (Nat.le_of_ble_eq_true rfl) (Nat.le_of_ble_eq_true rfl) (Nat.zero_le _) (Nat.zero_le _) (fun μ hB => ?_)
  show V κ g _ _ μ 0 0 15 _ [.int (nI dm)]
  exact v_iret (pc := 15) dX3_shapeless_15 rfl (Nat.le_refl 0) (Nat.le_refl 0) ⟨rfl, hB⟩
theorem dy_X3_clear : yX3_clear.cls = RX3 ∧ yX3_clear.cls ≠ "java/lang/invoke/MethodHandle" ∧ yX3_clear.cls ≠ "java/lang/invoke/VarHandle" ∧ (parseMethodDescriptor yX3_clear.desc).map (fun d => d.parameters.length) = some 0 := ⟨rfl, by decide +kernel, by decide +kernel, by decide +kernel⟩
set_option maxHeartbeats 4000000 in
theorem ct_clear {l : Launch} {g : Gl} (hS : Start g l) (ad : Nat → Nat) {cd wh be : Int32} {dm na nr np ns nl : Nat} {lo hi al ah sl li lj lk hb : Nat → Int32} {kd rk ro rt sz : Nat → Nat} {pl lw : Nat → Int64}   : CtM l g ad yX3_clear (ws_ yX3_clear cX3_clear 2 (some FieldType.int)) (rmD 0 0 0) [] (mcl g ad be (cd, wh, dm, lo, hi, na, kd, rk, al, ah, ro, nr, rt, sz, np, pl, hb, ns, sl, nl, li, lj, lk, lw)) (some (.int (nI na))) (mcl g ad be (nI 0, (-1), 0, lo, hi, 0, kd, rk, al, ah, ro, 0, rt, sz, 0, pl, hb, 0, sl, 0, li, lj, lk, lw)) := by
  intro μ0 μ hB
  refine Ct.of hS (by decide) (Nat.le_of_ble_eq_true rfl) (fun κ hκ => ?_)
  subst hκ
  show V κ g _ _ μ 0 0 0 [(0, .ref (ad 0))] []
  refine v_aload_n (pc := 0) dX3_clear_0 rfl 0 rfl ?_
  refine vm_get (pc := 1) (k := 5) (fs := (mfs ad be (cd, wh, dm, lo, hi, na, kd, rk, al, ah, ro, nr, rt, sz, np, pl, hb, ns, sl, nl, li, lj, lk, lw))) (v := .int (nI na)) dX3_clear_1 hB rfl (by decide) q536 rfl ?_
  refine v_istore_n (pc := 4) (lv' := [(1, .int (nI na)), (0, .ref (ad 0))]) dX3_clear_4 rfl (by decide) rfl ?_
  refine v_aload_n (pc := 5) dX3_clear_5 rfl 1 rfl ?_
  refine v_iconst (pc := 6) (v := nI 0) dX3_clear_6 (by decide) ?_
  refine vm_put (pc := 7) (k := 5) (fs := (mfs ad be (cd, wh, dm, lo, hi, na, kd, rk, al, ah, ro, nr, rt, sz, np, pl, hb, ns, sl, nl, li, lj, lk, lw))) (cs' := (mcl g ad be (cd, wh, dm, lo, hi, 0, kd, rk, al, ah, ro, nr, rt, sz, np, pl, hb, ns, sl, nl, li, lj, lk, lw))) dX3_clear_7 hB rfl (by decide) q536 rfl rfl (Nat.le_of_ble_eq_true rfl) rfl (fun μ hB => ?_)
  refine v_aload_n (pc := 10) dX3_clear_10 rfl 1 rfl ?_
  refine v_iconst (pc := 11) (v := nI 0) dX3_clear_11 (by decide) ?_
  refine vm_put (pc := 12) (k := 11) (fs := (mfs ad be (cd, wh, dm, lo, hi, 0, kd, rk, al, ah, ro, nr, rt, sz, np, pl, hb, ns, sl, nl, li, lj, lk, lw))) (cs' := (mcl g ad be (cd, wh, dm, lo, hi, 0, kd, rk, al, ah, ro, 0, rt, sz, np, pl, hb, ns, sl, nl, li, lj, lk, lw))) dX3_clear_12 hB rfl (by decide) q542 rfl rfl (Nat.le_of_ble_eq_true rfl) rfl (fun μ hB => ?_)
  refine v_aload_n (pc := 15) dX3_clear_15 rfl 1 rfl ?_
  refine v_iconst (pc := 16) (v := nI 0) dX3_clear_16 (by decide) ?_
  refine vm_put (pc := 17) (k := 14) (fs := (mfs ad be (cd, wh, dm, lo, hi, 0, kd, rk, al, ah, ro, 0, rt, sz, np, pl, hb, ns, sl, nl, li, lj, lk, lw))) (cs' := (mcl g ad be (cd, wh, dm, lo, hi, 0, kd, rk, al, ah, ro, 0, rt, sz, 0, pl, hb, ns, sl, nl, li, lj, lk, lw))) dX3_clear_17 hB rfl (by decide) q545 rfl rfl (Nat.le_of_ble_eq_true rfl) rfl (fun μ hB => ?_)
  refine v_aload_n (pc := 20) dX3_clear_20 rfl 1 rfl ?_
  refine v_iconst (pc := 21) (v := nI 0) dX3_clear_21 (by decide) ?_
  refine vm_put (pc := 22) (k := 17) (fs := (mfs ad be (cd, wh, dm, lo, hi, 0, kd, rk, al, ah, ro, 0, rt, sz, 0, pl, hb, ns, sl, nl, li, lj, lk, lw))) (cs' := (mcl g ad be (cd, wh, dm, lo, hi, 0, kd, rk, al, ah, ro, 0, rt, sz, 0, pl, hb, 0, sl, nl, li, lj, lk, lw))) dX3_clear_22 hB rfl (by decide) q548 rfl rfl (Nat.le_of_ble_eq_true rfl) rfl (fun μ hB => ?_)
  refine v_aload_n (pc := 25) dX3_clear_25 rfl 1 rfl ?_
  refine v_iconst (pc := 26) (v := nI 0) dX3_clear_26 (by decide) ?_
  refine vm_put (pc := 27) (k := 19) (fs := (mfs ad be (cd, wh, dm, lo, hi, 0, kd, rk, al, ah, ro, 0, rt, sz, 0, pl, hb, 0, sl, nl, li, lj, lk, lw))) (cs' := (mcl g ad be (cd, wh, dm, lo, hi, 0, kd, rk, al, ah, ro, 0, rt, sz, 0, pl, hb, 0, sl, 0, li, lj, lk, lw))) dX3_clear_27 hB rfl (by decide) q550 rfl rfl (Nat.le_of_ble_eq_true rfl) rfl (fun μ hB => ?_)
  refine v_aload_n (pc := 30) dX3_clear_30 rfl 1 rfl ?_
  refine v_iconst (pc := 31) (v := nI 0) dX3_clear_31 (by decide) ?_
  refine vm_put (pc := 32) (k := 2) (fs := (mfs ad be (cd, wh, dm, lo, hi, 0, kd, rk, al, ah, ro, 0, rt, sz, 0, pl, hb, 0, sl, 0, li, lj, lk, lw))) (cs' := (mcl g ad be (cd, wh, 0, lo, hi, 0, kd, rk, al, ah, ro, 0, rt, sz, 0, pl, hb, 0, sl, 0, li, lj, lk, lw))) dX3_clear_32 hB rfl (by decide) q533 rfl rfl (Nat.le_of_ble_eq_true rfl) rfl (fun μ hB => ?_)
  refine v_aload_n (pc := 35) dX3_clear_35 rfl 1 rfl ?_
  refine v_iconst (pc := 36) (v := nI 0) dX3_clear_36 (by decide) ?_
  refine vm_put (pc := 37) (k := 0) (fs := (mfs ad be (cd, wh, 0, lo, hi, 0, kd, rk, al, ah, ro, 0, rt, sz, 0, pl, hb, 0, sl, 0, li, lj, lk, lw))) (cs' := (mcl g ad be (nI 0, wh, 0, lo, hi, 0, kd, rk, al, ah, ro, 0, rt, sz, 0, pl, hb, 0, sl, 0, li, lj, lk, lw))) dX3_clear_37 hB rfl (by decide) q531 rfl rfl (Nat.le_of_ble_eq_true rfl) rfl (fun μ hB => ?_)
  refine v_aload_n (pc := 40) dX3_clear_40 rfl 1 rfl ?_
  refine v_iconst (pc := 41) (v := (-1)) dX3_clear_41 (by decide) ?_
  refine vm_put (pc := 42) (k := 1) (fs := (mfs ad be (nI 0, wh, 0, lo, hi, 0, kd, rk, al, ah, ro, 0, rt, sz, 0, pl, hb, 0, sl, 0, li, lj, lk, lw))) (cs' := (mcl g ad be (nI 0, (-1), 0, lo, hi, 0, kd, rk, al, ah, ro, 0, rt, sz, 0, pl, hb, 0, sl, 0, li, lj, lk, lw))) dX3_clear_42 hB rfl (by decide) q532 rfl rfl (Nat.le_of_ble_eq_true rfl) rfl (fun μ hB => ?_)
  refine v_iload_n (pc := 45) dX3_clear_45 rfl 0 rfl ?_
  exact v_iret (pc := 46) dX3_clear_46 rfl (Nat.le_refl 0) (Nat.le_refl 0) ⟨rfl, hB⟩
