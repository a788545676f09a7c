section
/-! ===== pure: values, encodings, results ===== -/
/-- a value: nothing, or an int -/
def tm_tag (v : Option Int32) : Int32 := match v with
  | none => 0
  | some _ => 1
def tm_val (v : Option Int32) : Int32 := match v with
  | none => 0
  | some x => x
def tm_enc (v : Option Int32) : Int64 := match v with
  | none => 0
  | some x => 4 * x.toInt64 + 1
/-- truth -/
def tm_tr (b : Bool) : Option Int32 := match b with
  | true => some 1
  | false => none
/-- what an expression of a kind gives: none where it fails -/
def tm_res (k : Nat) (x y : Option Int32) (num : Int32) : Option (Option Int32) :=
  if k = 6 then some (tm_tr (decide (x = y)))
  else if k = 7 then some (if x = none then none else y)
  else if k = 8 then some (if x = none then y else x)
  else if k = 9 then some (tm_tr (decide (x = none)))
  else if k = 2 ∨ k = 3 ∨ k = 4 ∨ k = 5 then
    match x, y with
    | some p, some q => some (if k = 5 then tm_tr (decide (p < q)) else some (if k = 2 then p + q else if k = 3 then p - q else p * q))
    | _, _ => none
  else some (some num)
def tm_due (r : Option (Option Int32)) : Int64 := match r with
  | none => -1
  | some v => tm_enc v
/-- the kind of the expression -/
def tm_ek (k : Nat) : Nat := if k < 2 ∨ 9 < k then 0 else k
theorem tm_ek0 {k : Nat} (h : k < 2 ∨ 9 < k) : tm_ek k = 0 := if_pos h
theorem tm_ek1 {k : Nat} (h : ¬ (k < 2 ∨ 9 < k)) : tm_ek k = k := if_neg h
/-- the pure run: variables, the statement that failed, how many were shown -/
def tm_set (V : Nat → Option Int32) (d : Nat) (v : Option Int32) : Nat → Option Int32 := fun j => if j = d then v else V j
def tm_step (kd dd pp qq : Nat → Nat) (nu : Nat → Int32) (k : Nat) (st : (Nat → Option Int32) × Option Nat × Nat) : (Nat → Option Int32) × Option Nat × Nat :=
  match st.2.1 with
  | some f => (st.1, some f, st.2.2)
  | none => match tm_res (tm_ek (kd k)) (st.1 (pp k)) (st.1 (qq k)) (nu k) with
    | none => (st.1, some k, st.2.2)
    | some v => if kd k = 11 then (st.1, none, st.2.2 + 1) else (tm_set st.1 (dd k) v, none, st.2.2)
def tm_ex (kd dd pp qq : Nat → Nat) (nu : Nat → Int32) : Nat → (Nat → Option Int32) × Option Nat × Nat
  | 0 => (fun _ => none, none, 0)
  | k + 1 => tm_step kd dd pp qq nu k (tm_ex kd dd pp qq nu k)
def tm_fc (f : Option Nat) : Int32 := match f with
  | none => -4
  | some k => nI k
/-! ===== bits ===== -/
theorem tm_b8 : ∀ k, k < 128 → (nI k).toInt8.toInt32 = nI k := by decide +kernel
theorem tm_b16 : ∀ k, k < 350 → (nI k).toInt16.toInt32 = nI k := by decide +kernel
theorem tm_nb {k : Nat} (h : k < 128) : vp_nar .byte (nI k) = nI k := by rw [vp_nar_byte, tm_b8 k h]
theorem tm_tb (v : Option Int32) : (tm_tag v).toInt8.toInt32 = tm_tag v := by
  cases v <;> rfl
theorem tm_tag2 (v : Option Int32) : ¬ tm_tag v = 2 := by
  cases v with
  | none => exact (by decide : ¬ (0 : Int32) = 2)
  | some x => exact (by decide : ¬ (1 : Int32) = 2)
theorem tm_tag0 {v : Option Int32} : tm_tag v = 0 ↔ v = none := by
  cases v with
  | none => exact ⟨fun _ => rfl, fun _ => rfl⟩
  | some x => exact ⟨fun z => absurd z (by decide : ¬ (1 : Int32) = 0), fun z => absurd z (Option.some_ne_none x)⟩
theorem tm_z (s : UInt32) : ((((0 : Int32).toUInt32 >>> s).toInt32) &&& 1) = 0 := by
  have h : (0 : Int32).toUInt32 >>> s = 0 := by
    show (0 : UInt32) >>> s = 0
    exact UInt32.zero_shiftRight
  rw [h]
  decide
theorem tm_sx (x : Int32) : x.toInt64.toInt = x.toInt := Int32.toInt_toInt64 x
theorem tm_rng (x : Int32) : -2147483648 ≤ x.toInt ∧ x.toInt < 2147483648 := by
  have h1 := Int32.le_toInt x
  have h2 := Int32.toInt_lt x
  omega
theorem tm_encI (x : Int32) : (tm_enc (some x)).toInt = 4 * x.toInt + 1 := by
  have h := tm_rng x
  show (4 * x.toInt64 + 1).toInt = _
  rw [Int64.toInt_add, Int64.toInt_mul, tm_sx]
  have h4 : (4 : Int64).toInt = 4 := by decide
  have h1 : (1 : Int64).toInt = 1 := by decide
  have i1 : Int.bmod (4 * x.toInt) (2 ^ 64) = 4 * x.toInt := Int.bmod_eq_of_le (by omega) (by omega)
  have i2 : Int.bmod (4 * x.toInt + 1) (2 ^ 64) = 4 * x.toInt + 1 := Int.bmod_eq_of_le (by omega) (by omega)
  rw [h4, h1, i1, i2]
theorem tm_enc0I : (tm_enc none).toInt = 0 := by decide
theorem tm_encS {v : Option Int32} : tm_enc v = 0 ↔ v = none := by
  cases v with
  | none => exact ⟨fun _ => rfl, fun _ => rfl⟩
  | some x =>
    refine ⟨fun z => ?_, fun z => absurd z (Option.some_ne_none x)⟩
    have h := tm_encI x
    rw [z] at h
    have h0 : (0 : Int64).toInt = 0 := by decide
    rw [h0] at h
    omega
theorem tm_encJ {v w : Option Int32} : tm_enc v = tm_enc w ↔ v = w := by
  refine ⟨fun z => ?_, fun z => by rw [z]⟩
  cases v with
  | none => exact (tm_encS.mp z.symm).symm
  | some x =>
    cases w with
    | none => exact tm_encS.mp z
    | some y =>
      have h := tm_encI x
      rw [z, tm_encI y] at h
      have e : x.toInt = y.toInt := by omega
      rw [Int32.toInt_inj.mp e]
theorem tm_encM (v : Option Int32) : ¬ tm_enc v = -1 := by
  intro z
  cases v with
  | none => exact absurd z (by decide)
  | some x =>
    have h := tm_encI x
    rw [z] at h
    have h0 : (-1 : Int64).toInt = -1 := by decide
    rw [h0] at h
    omega
theorem tm_and3 (x : Int32) : tm_enc (some x) &&& 3 = 1 := by
  apply Int64.toBitVec_inj.mp
  apply BitVec.eq_of_toNat_eq
  have h3 : (3 : Int64).toBitVec.toNat = 2 ^ 2 - 1 := by decide
  have h1 : (1 : Int64).toBitVec.toNat = 1 := by decide
  rw [Int64.toBitVec_and, BitVec.toNat_and, h3, Nat.and_two_pow_sub_one_eq_mod, h1]
  have h := tm_encI x
  have hb : (tm_enc (some x)).toInt = (tm_enc (some x)).toBitVec.toInt := rfl
  rw [hb, BitVec.toInt_eq_toNat_cond] at h
  have hl := (tm_enc (some x)).toBitVec.isLt
  split at h <;> omega
theorem tm_sort (v : Option Int32) : (tm_enc v &&& 3).toInt32 = tm_tag v := by
  cases v with
  | none => decide
  | some x =>
    rw [tm_and3]
    rfl
theorem tm_is (v : Option Int32) : tm_enc v &&& 3 = 1 ↔ ∃ x, v = some x := by
  cases v with
  | none => exact ⟨fun z => absurd z (by decide), fun ⟨x, z⟩ => absurd z.symm (Option.some_ne_none x)⟩
  | some x => exact ⟨fun _ => ⟨x, rfl⟩, fun _ => tm_and3 x⟩
theorem tm_num (v : Option Int32) : (tm_enc v >>> ((2 : Int32).toInt64 &&& 63)).toInt32 = tm_val v := by
  cases v with
  | none => decide
  | some x =>
    have hs : (((2 : Int32).toInt64 &&& 63).toBitVec.smod 64).toNat = 2 := by decide
    have e : (tm_enc (some x) >>> ((2 : Int32).toInt64 &&& 63)).toInt = (tm_enc (some x)).toInt >>> 2 := by
      show ((tm_enc (some x)).toBitVec.sshiftRight (((2 : Int32).toInt64 &&& 63).toBitVec.smod 64).toNat).toInt = _
      rw [hs, BitVec.toInt_sshiftRight]
      rfl
    apply Int32.toInt_inj.mp
    have h := tm_rng x
    rw [Int64.toInt_toInt32, e, tm_encI, Int.shiftRight_eq_div_pow]
    show Int.bmod ((4 * x.toInt + 1) / 4) (2 ^ 32) = x.toInt
    have e2 : (4 * x.toInt + 1) / 4 = x.toInt := by omega
    rw [e2, Int.bmod_eq_of_le (by omega) (by omega)]
theorem tm_fcn {f : Option Nat} (h : ∀ k, f = some k → k < 14) : tm_fc f = -4 ↔ f = none := by
  cases f with
  | none => exact ⟨fun _ => rfl, fun _ => rfl⟩
  | some k =>
    refine ⟨fun z => ?_, fun z => absurd z (Option.some_ne_none k)⟩
    have hk := h k rfl
    have z' : nI k = -4 := z
    have ht := nI_toInt (n := k) (by omega)
    rw [z'] at ht
    have h0 : (-4 : Int32).toInt = -4 := by decide
    rw [h0] at ht
    omega
end
section
/-! ===== small methods ===== -/
def tm_R (a24 a25 : Nat → Int32) (V : Nat → Option Int32) : Prop := ∀ r, r < 6 → a24 r = tm_tag (V r) ∧ a25 r = tm_val (V r)
theorem tm_R2 {a24 a25 : Nat → Int32} {V : Nat → Option Int32} (h : tm_R a24 a25 V) : ∀ r, r < 6 → ¬ a24 r = 2 := by
  intro r hr
  rw [(h r hr).1]
  exact tm_tag2 _
theorem tm_tv {v w : Option Int32} (h1 : tm_tag v = tm_tag w) (h2 : tm_val v = tm_val w) : v = w := by
  cases v with
  | none =>
    cases w with
    | none => rfl
    | some y => exact absurd h1 (by decide : ¬ (0 : Int32) = 1)
  | some x =>
    cases w with
    | none => exact absurd h1 (by decide : ¬ (1 : Int32) = 0)
    | some y => exact congrArg some h2
section
variable {e s cp ce oc cu sh iu re : Int32} {a1 a2 a3 a4 a5 a6 a7 a8 a9 a10 a11 a12 a13 a14 a15 a16 a17 a18 a19 a20 a21 a22 a23 a24 a25 a26 a27 : Nat → Int32} {a28 : Nat → Int64} {a29 a30 a31 a32 : Nat → Int32}
theorem tm_reach {post : St1 → Prop} (h : ∀ r, r < 6 → ¬ a24 r = 2) (H : post (e, s, cp, ce, oc, cu, sh, iu, 0, a1, a2, a3, a4, a5, a6, a7, a8, a9, a10, a11, a12, a13, a14, a15, a16, a17, a18, a19, a20, a21, a22, a23, a24, a25, a26, a27, a28, a29, a30, a31, a32)) : wpX_reach post (e, s, cp, ce, oc, cu, sh, iu, re, a1, a2, a3, a4, a5, a6, a7, a8, a9, a10, a11, a12, a13, a14, a15, a16, a17, a18, a19, a20, a21, a22, a23, a24, a25, a26, a27, a28, a29, a30, a31, a32) 6 :=
  pk_loop (σ := Unit) (fun n i _ => wX_reach_7 post 6 e s cp ce oc cu sh iu a1 a2 a3 a4 a5 a6 a7 a8 a9 a10 a11 a12 a13 a14 a15 a16 a17 a18 a19 a20 a21 a22 a23 a24 a25 a26 a27 a28 a29 a30 a31 a32 n (nI i) 0) (fun _ _ => True) 6 0 () (by omega) trivial
    (fun n _ _ => pk_le 6 6 (fun _ => ⟨0 + 1, br_t rfl H⟩) (fun z => absurd z (by omega)))
    (fun n i _ hi _ hw => pk_le 6 i (fun z => absurd z (by omega)) (fun _ => ⟨pk_in i 18 (by omega), br_f (by rw [nI_clamp (by omega)]; exact h i hi) (nm_r (nI_1 i) (hw () trivial))⟩))
theorem tm_tables {post : Int32 → St1 → Prop} (h : ∀ r, r < 6 → ¬ a24 r = 2) (H : post 0 (e, s, cp, ce, oc, cu, sh, iu, 0, a1, a2, a3, a4, a5, a6, a7, a8, a9, a10, a11, a12, a13, a14, a15, a16, a17, a18, a19, a20, a21, a22, a23, a24, a25, a26, a27, a28, a29, a30, a31, a32)) : wpX_tables post (e, s, cp, ce, oc, cu, sh, iu, re, a1, a2, a3, a4, a5, a6, a7, a8, a9, a10, a11, a12, a13, a14, a15, a16, a17, a18, a19, a20, a21, a22, a23, a24, a25, a26, a27, a28, a29, a30, a31, a32) :=
  tm_reach (re := re) h (pk_loop (σ := Unit) (fun n i _ => wX_tables_10 post e s cp ce oc cu sh iu 0 a1 a2 a3 a4 a5 a6 a7 a8 a9 a10 a11 a12 a13 a14 a15 a16 a17 a18 a19 a20 a21 a22 a23 a24 a25 a26 a27 a28 a29 a30 a31 a32 n 0 (nI i)) (fun _ _ => True) 32 0 () (by omega) trivial
    (fun n _ _ => pk_le 32 32 (fun _ => H) (fun z => absurd z (by omega)))
    (fun n i _ hi _ hw => pk_le 32 i (fun z => absurd z (by omega)) (fun _ => nm_r (by rw [tm_z]; rfl) (nm_r (nI_1 i) (hw () trivial)))))
theorem tm_isv {post : Int32 → Prop} {v : Nat} (hv : v < 6) (H : post 1) : wpX_isVariable post (e, s, cp, ce, oc, cu, sh, iu, re, a1, a2, a3, a4, a5, a6, a7, a8, a9, a10, a11, a12, a13, a14, a15, a16, a17, a18, a19, a20, a21, a22, a23, a24, a25, a26, a27, a28, a29, a30, a31, a32) (nI v) :=
  br_f (nI_pos (by omega)) (br_f (nI_ge (b := 6) hv (by decide)) H)
theorem tm_samev {post : Int32 → Prop} {V : Nat → Option Int32} {v w : Nat} (h : tm_R a24 a25 V) (hv : v < 6) (hw : w < 6)
    (H1 : V v = V w → post 1) (H0 : ¬ V v = V w → post 0) : wpX_sameValue post (e, s, cp, ce, oc, cu, sh, iu, re, a1, a2, a3, a4, a5, a6, a7, a8, a9, a10, a11, a12, a13, a14, a15, a16, a17, a18, a19, a20, a21, a22, a23, a24, a25, a26, a27, a28, a29, a30, a31, a32) (nI v) (nI w) := by
  have cv := nI_clamp (n := v) (by omega)
  have cw := nI_clamp (n := w) (by omega)
  have t : vp_in (nI v) 18 := vp_in_nI (by omega) (by omega)
  have t' : vp_in (nI w) 18 := vp_in_nI (by omega) (by omega)
  refine And.intro t (And.intro t' (br_c (fun z => And.intro t (And.intro t' (br_c (fun z2 => ?_) (fun z2 => ?_)))) (fun z => ?_)))
  · rw [cv, cw, (h v hv).1, (h w hw).1] at z
    rw [cv, cw, (h v hv).2, (h w hw).2] at z2
    exact H1 (tm_tv z z2)
  · rw [cv, cw, (h v hv).2, (h w hw).2] at z2
    exact H0 (fun g => z2 (by rw [g]))
  · rw [cv, cw, (h v hv).1, (h w hw).1] at z
    exact H0 (fun g => z (by rw [g]))
theorem tm_same {post : Int32 → Prop} {V : Nat → Option Int32} {v w : Nat} (h : tm_R a24 a25 V) (hv : v < 6) (hw : w < 6)
    (H1 : V v = V w → post 1) (H0 : ¬ V v = V w → post 0) : wpX_same post (e, s, cp, ce, oc, cu, sh, iu, re, a1, a2, a3, a4, a5, a6, a7, a8, a9, a10, a11, a12, a13, a14, a15, a16, a17, a18, a19, a20, a21, a22, a23, a24, a25, a26, a27, a28, a29, a30, a31, a32) (nI v) (nI w) := by
  unfold wpX_same
  exact tm_isv hv (br_f (by decide) (tm_isv hw (br_f (by decide) (tm_samev h hv hw (fun g => br_f (by decide) (H1 g)) (fun g => br_t rfl (H0 g))))))
theorem tm_sortm {post : Int32 → Prop} {V : Nat → Option Int32} {v : Nat} (h : tm_R a24 a25 V) (hv : v < 6) (H : post (tm_tag (V v))) : wpX_sort post (e, s, cp, ce, oc, cu, sh, iu, re, a1, a2, a3, a4, a5, a6, a7, a8, a9, a10, a11, a12, a13, a14, a15, a16, a17, a18, a19, a20, a21, a22, a23, a24, a25, a26, a27, a28, a29, a30, a31, a32) (nI v) := by
  unfold wpX_sort
  refine tm_isv hv (br_f (by decide) (And.intro (vp_in_nI (by omega) (by omega)) ?_))
  rw [nI_clamp (by omega), (h v hv).1]
  exact H
theorem tm_shn {post : Int32 → Prop} (v : Option Int32) (H : post (tm_val v)) : wpX_shownNumber post (e, s, cp, ce, oc, cu, sh, iu, re, a1, a2, a3, a4, a5, a6, a7, a8, a9, a10, a11, a12, a13, a14, a15, a16, a17, a18, a19, a20, a21, a22, a23, a24, a25, a26, a27, a28, a29, a30, a31, a32) (tm_tag v) (tm_val v) := by
  cases v with
  | none => exact br_t rfl H
  | some x => exact br_f (by decide : ¬ (1 : Int32) = 0) (br_t rfl H)
theorem tm_numm {post : Int32 → Prop} {V : Nat → Option Int32} {v : Nat} (h : tm_R a24 a25 V) (hv : v < 6) (H : post (tm_val (V v))) : wpX_number post (e, s, cp, ce, oc, cu, sh, iu, re, a1, a2, a3, a4, a5, a6, a7, a8, a9, a10, a11, a12, a13, a14, a15, a16, a17, a18, a19, a20, a21, a22, a23, a24, a25, a26, a27, a28, a29, a30, a31, a32) (nI v) := by
  have t : vp_in (nI v) 18 := vp_in_nI (by omega) (by omega)
  unfold wpX_number
  refine tm_isv hv (br_f (by decide) (And.intro t (And.intro t ?_)))
  rw [nI_clamp (by omega), (h v hv).1, (h v hv).2]
  exact tm_shn (V v) H
theorem tm_out {post : Int64 → Prop} {m k : Nat} (hk : k < m) (hm : m ≤ 14) (H : post (a28 k)) : wpX_output post (e, s, cp, ce, oc, cu, nI m, iu, re, a1, a2, a3, a4, a5, a6, a7, a8, a9, a10, a11, a12, a13, a14, a15, a16, a17, a18, a19, a20, a21, a22, a23, a24, a25, a26, a27, a28, a29, a30, a31, a32) (nI k) := by
  refine br_f (nI_pos (by omega)) (br_f (nI_ge hk (by omega)) (br_t (nI_le (b := 29) (by omega) (by decide)) (And.intro (vp_in_nI (by omega) (by omega)) ?_)))
  rw [nI_clamp (by omega)]
  exact H
end
theorem tm_pick {post : Int64 → Prop} {V : Nat → Option Int32} {v : Nat} (hv : v < 3) (H : post (tm_enc (V v))) : wpL_pick post () (nI v) (tm_enc (V 0)) (tm_enc (V 1)) (tm_enc (V 2)) := by
  have c : v = 0 ∨ v = 1 ∨ v = 2 := by omega
  rcases c with rfl | rfl | rfl
  · exact br_t rfl H
  · exact br_f (by decide) (br_t rfl H)
  · exact br_f (by decide) (br_f (by decide) H)
theorem tm_e5 : tm_enc (tm_tr true) = 5 := by decide
theorem tm_e0 : tm_enc (tm_tr false) = 0 := by decide
theorem tm_resN {k : Nat} {x y : Option Int32} {num : Int32} (hk : k = 2 ∨ k = 3 ∨ k = 4 ∨ k = 5) (h : ¬ ∃ p q, x = some p ∧ y = some q) : tm_res k x y num = none := by
  cases x with
  | none => rcases hk with rfl | rfl | rfl | rfl <;> rfl
  | some p =>
    cases y with
    | none => rcases hk with rfl | rfl | rfl | rfl <;> rfl
    | some q => exact absurd ⟨p, q, rfl, rfl⟩ h
theorem tm_r25 {post : Int64 → Prop} {k : Nat} {x y : Option Int32} {num z0 : Int32} (h2 : 2 ≤ k) (h9 : k ≤ 9)
    (h0 : z0 = 0 → ¬ ∃ p q, x = some p ∧ y = some q) (h1 : ¬ z0 = 0 → ∃ p q, x = some p ∧ y = some q)
    (H : post (tm_due (tm_res k x y num))) : wL_result_25 post (nI k) (tm_enc x) (tm_enc y) z0 := by
  refine nm_r (tm_num x) (nm_r (tm_num y) ?_)
  have c : k = 2 ∨ k = 3 ∨ k = 4 ∨ k = 5 ∨ k = 6 ∨ k = 7 ∨ k = 8 ∨ k = 9 := by omega
  rcases c with rfl | rfl | rfl | rfl | rfl | rfl | rfl | rfl
  · refine br_f (by decide) (br_f (by decide) (br_f (by decide) (br_f (by decide) (br_c (fun z => ?_) (fun z => ?_)))))
    · rw [tm_resN (by omega) (h0 z)] at H
      exact H
    · obtain ⟨p, q, rfl, rfl⟩ := h1 z
      exact br_f (by decide) (br_t rfl H)
  · refine br_f (by decide) (br_f (by decide) (br_f (by decide) (br_f (by decide) (br_c (fun z => ?_) (fun z => ?_)))))
    · rw [tm_resN (by omega) (h0 z)] at H
      exact H
    · obtain ⟨p, q, rfl, rfl⟩ := h1 z
      exact br_f (by decide) (br_f (by decide) (br_t rfl H))
  · refine br_f (by decide) (br_f (by decide) (br_f (by decide) (br_f (by decide) (br_c (fun z => ?_) (fun z => ?_)))))
    · rw [tm_resN (by omega) (h0 z)] at H
      exact H
    · obtain ⟨p, q, rfl, rfl⟩ := h1 z
      exact br_f (by decide) (br_f (by decide) (br_f (by decide) H))
  · refine br_f (by decide) (br_f (by decide) (br_f (by decide) (br_f (by decide) (br_c (fun z => ?_) (fun z => ?_)))))
    · rw [tm_resN (by omega) (h0 z)] at H
      exact H
    · obtain ⟨p, q, rfl, rfl⟩ := h1 z
      have H' : post (tm_enc (tm_tr (decide (p < q)))) := H
      refine br_t rfl (br_c (fun g => ?_) (fun g => ?_))
      · rw [decide_eq_false (show ¬ p < q from Int32.not_lt.mpr g), tm_e0] at H'
        exact H'
      · rw [decide_eq_true (show p < q from Int32.not_le.mp g), tm_e5] at H'
        exact H'
  · have H' : post (tm_enc (tm_tr (decide (x = y)))) := H
    refine br_t rfl (br_c (fun g => ?_) (fun g => ?_))
    · rw [decide_eq_true (tm_encJ.mp g), tm_e5] at H'
      exact H'
    · rw [decide_eq_false (fun g' => g (tm_encJ.mpr g')), tm_e0] at H'
      exact H'
  · have H' : post (tm_enc (if x = none then none else y)) := H
    refine br_f (by decide) (br_t rfl (br_c (fun g => ?_) (fun g => ?_)))
    · rw [if_pos (tm_encS.mp g)] at H'
      exact H'
    · rw [if_neg (fun g' => g (tm_encS.mpr g'))] at H'
      exact H'
  · have H' : post (tm_enc (if x = none then y else x)) := H
    refine br_f (by decide) (br_f (by decide) (br_t rfl (br_c (fun g => ?_) (fun g => ?_))))
    · rw [if_pos (tm_encS.mp g)] at H'
      exact H'
    · rw [if_neg (fun g' => g (tm_encS.mpr g'))] at H'
      exact H'
  · have H' : post (tm_enc (tm_tr (decide (x = none)))) := H
    refine br_f (by decide) (br_f (by decide) (br_f (by decide) (br_t rfl (br_c (fun g => ?_) (fun g => ?_)))))
    · rw [decide_eq_true (tm_encS.mp g), tm_e5] at H'
      exact H'
    · rw [decide_eq_false (fun g' => g (tm_encS.mpr g')), tm_e0] at H'
      exact H'
theorem tm_result {post : Int64 → Prop} {k : Nat} {x y : Option Int32} {num : Int32} (h2 : 2 ≤ k) (h9 : k ≤ 9)
    (H : post (tm_due (tm_res k x y num))) : wpL_result post () (nI k) (tm_enc x) (tm_enc y) := by
  refine br_c (fun z => br_c (fun z' => ?_) (fun z' => ?_)) (fun z => ?_)
  · obtain ⟨p, e1⟩ := (tm_is x).mp z
    obtain ⟨q, e2⟩ := (tm_is y).mp z'
    exact tm_r25 h2 h9 (fun t => absurd t (by decide)) (fun _ => ⟨p, q, e1, e2⟩) H
  · exact tm_r25 (z0 := 0) h2 h9 (fun _ ⟨p, q, e1, e2⟩ => z' ((tm_is y).mpr ⟨q, e2⟩)) (fun t => absurd rfl t) H
  · exact tm_r25 (z0 := 0) h2 h9 (fun _ ⟨p, q, e1, e2⟩ => z ((tm_is x).mpr ⟨p, e1⟩)) (fun t => absurd rfl t) H
end
section
/-! ===== express and state ===== -/
theorem tm_ue {f : Nat → Int32} {i : Int32} {k : Nat} {x y : Int32} (hi : i.toNatClampNeg = k) (hx : x = y) : upd f i.toNatClampNeg x = upd f k y := by
  rw [hi, hx]
section
variable {e s cp ce oc cu sh iu re : Int32} {a1 a2 a3 a4 a5 a6 a7 a8 a9 a10 a11 a12 a13 a14 a15 a16 a17 a18 a19 a20 a21 a22 a23 a24 a25 a26 a27 : Nat → Int32} {a28 : Nat → Int64} {a29 a30 a31 a32 : Nat → Int32}
theorem tm_ise {post : Int32 → Prop} {x m : Nat} (hx : x < m) (hm : m ≤ 30) (H : post 1) : wpX_isExpression post (nI m, s, cp, ce, oc, cu, sh, iu, re, a1, a2, a3, a4, a5, a6, a7, a8, a9, a10, a11, a12, a13, a14, a15, a16, a17, a18, a19, a20, a21, a22, a23, a24, a25, a26, a27, a28, a29, a30, a31, a32) (nI x) :=
  br_f (nI_pos (by omega)) (br_f (nI_ge hx (by omega)) H)
theorem tm_know {post : St1 → Prop} {m : Nat} {p1 p2 : Int32} {x y : Int32} (hm : m < 30) (h1 : p1.toInt8.toInt32 = x) (h2 : p2 = y)
    (H : post (e, s, cp, ce, oc, cu, sh, iu, re, a1, a2, a3, a4, upd a5 m x, upd a6 m y, a7, a8, a9, a10, a11, a12, a13, a14, a15, a16, a17, a18, a19, a20, a21, a22, a23, a24, a25, a26, a27, a28, a29, a30, a31, a32)) : wpX_know post (e, s, cp, ce, oc, cu, sh, iu, re, a1, a2, a3, a4, a5, a6, a7, a8, a9, a10, a11, a12, a13, a14, a15, a16, a17, a18, a19, a20, a21, a22, a23, a24, a25, a26, a27, a28, a29, a30, a31, a32) (nI m) p1 p2 :=
  And.intro (vp_in_nI hm (by omega)) (nm_r (tm_ue (nI_clamp (by omega)) h1) (And.intro (vp_in_nI hm (by omega)) (nm_r (tm_ue (nI_clamp (by omega)) h2) H)))
theorem tm_wob0 {post : St1 → Prop} {m : Nat} {y : Int32} (hm : m < 30) (h1 : a1 m = 0) (h2 : a2 m = y)
    (H : post (e, s, cp, ce, oc, cu, sh, iu, re, a1, a2, a3, a4, upd (upd a5 m 0) m 1, upd (upd a6 m 0) m y, upd a7 m (nI m), a8, a9, a10, a11, a12, a13, a14, a15, a16, a17, a18, a19, a20, a21, a22, a23, a24, a25, a26, a27, a28, a29, a30, a31, a32)) : wpX_workOutBeforehand post (e, s, cp, ce, oc, cu, sh, iu, re, a1, a2, a3, a4, a5, a6, a7, a8, a9, a10, a11, a12, a13, a14, a15, a16, a17, a18, a19, a20, a21, a22, a23, a24, a25, a26, a27, a28, a29, a30, a31, a32) (nI m) :=
  have c : (nI m).toNatClampNeg = m := nI_clamp (by omega)
  have v : vp_in (nI m) 30 := vp_in_nI hm (by omega)
  And.intro v (nm_r (e' := 0) (by rw [c]; exact h1) (tm_know hm rfl rfl (And.intro v (nm_r (tm_ue c (tm_b8 m (by omega))) (br_t rfl (And.intro v (tm_know hm rfl (by rw [c]; exact h2) H)))))))
theorem tm_wob1 {post : St1 → Prop} {m : Nat} (hm : m < 30) (h1 : a1 m = 1)
    (H : post (e, s, cp, ce, oc, cu, sh, iu, re, a1, a2, a3, a4, upd a5 m 0, upd a6 m 0, upd a7 m (nI m), a8, a9, a10, a11, a12, a13, a14, a15, a16, a17, a18, a19, a20, a21, a22, a23, a24, a25, a26, a27, a28, a29, a30, a31, a32)) : wpX_workOutBeforehand post (e, s, cp, ce, oc, cu, sh, iu, re, a1, a2, a3, a4, a5, a6, a7, a8, a9, a10, a11, a12, a13, a14, a15, a16, a17, a18, a19, a20, a21, a22, a23, a24, a25, a26, a27, a28, a29, a30, a31, a32) (nI m) :=
  have c : (nI m).toNatClampNeg = m := nI_clamp (by omega)
  have v : vp_in (nI m) 30 := vp_in_nI hm (by omega)
  And.intro v (nm_r (e' := 1) (by rw [c]; exact h1) (tm_know hm rfl rfl (And.intro v (nm_r (tm_ue c (tm_b8 m (by omega))) (br_f (by decide) (br_t rfl H))))))
theorem tm_u0 {f : Nat → Int32} {m p : Nat} (h : f p = 0) : upd f m 0 p = 0 := by
  by_cases z : p = m
  · rw [z, pk_us]
  · rw [pk_un z, h]
theorem tm_wob2 {post : St1 → Prop} {m k p q : Nat} (hm : m < 30) (hk : 2 ≤ k) (hk9 : k ≤ 9) (h1 : a1 m = nI k) (h2 : a2 m = nI p) (hp : p < 30) (h5 : a5 p = 0)
    (H : post (e, s, cp, ce, oc, cu, sh, iu, re, a1, a2, a3, a4, upd a5 m 0, upd a6 m 0, upd a7 m (nI m), a8, a9, a10, a11, a12, a13, a14, a15, a16, a17, a18, a19, a20, a21, a22, a23, a24, a25, a26, a27, a28, a29, a30, a31, a32)) : wpX_workOutBeforehand post (e, s, cp, ce, oc, cu, sh, iu, re, a1, a2, a3, a4, a5, a6, a7, a8, a9, a10, a11, a12, a13, a14, a15, a16, a17, a18, a19, a20, a21, a22, a23, a24, a25, a26, a27, a28, a29, a30, a31, a32) (nI m) := by
  have c : (nI m).toNatClampNeg = m := nI_clamp (by omega)
  have cp : (nI p).toNatClampNeg = p := nI_clamp (by omega)
  have v : vp_in (nI m) 30 := vp_in_nI hm (by omega)
  have vq : vp_in (nI p) 30 := vp_in_nI hp (by omega)
  have z5 : upd a5 m 0 (nI p).toNatClampNeg = 0 := by
    rw [cp]
    exact tm_u0 h5
  refine And.intro v (nm_r (e' := nI k) (by rw [c]; exact h1) (tm_know hm rfl rfl (And.intro v (nm_r (tm_ue c (tm_b8 m (by omega))) (br_f ?_ (br_f ?_ (br_t ?_ (And.intro v (nm_r (e' := nI p) (by rw [c]; exact h2) (br_c (fun _ => And.intro vq (br_t z5 H)) (fun _ => br_c (fun _ => And.intro vq (br_t z5 H)) (fun _ => br_c (fun _ => And.intro vq (br_t z5 H)) (fun _ => And.intro v (And.intro vq (br_t z5 H)))))))))))))))
  · exact nI_ne0 (by omega) (by omega)
  · intro z
    exact absurd ((nI_eq (a := k) (b := 1) (by omega) (by omega)).mp z) (by omega)
  · exact nI_lt (b := 10) (by omega) (by omega)
theorem tm_x0 {post : Int32 → St1 → Prop} {m : Nat} {num : Int32} (hm : m < 30)
    (H : post (nI m) (nI (m + 1), s, cp, ce, oc, cu, sh, iu, re, upd a1 m 0, upd a2 m num, upd a3 m 0, upd a4 m 1, upd (upd a5 m 0) m 1, upd (upd a6 m 0) m num, upd a7 m (nI m), a8, a9, a10, a11, a12, a13, a14, a15, a16, a17, a18, a19, a20, a21, a22, a23, a24, a25, a26, a27, a28, a29, a30, a31, a32)) :
    wpX_express post (nI m, s, cp, ce, oc, cu, sh, iu, re, a1, a2, a3, a4, a5, a6, a7, a8, a9, a10, a11, a12, a13, a14, a15, a16, a17, a18, a19, a20, a21, a22, a23, a24, a25, a26, a27, a28, a29, a30, a31, a32) 0 num 0 :=
  have c : (nI m).toNatClampNeg = m := nI_clamp (by omega)
  have v : vp_in (nI m) 30 := vp_in_nI hm (by omega)
  br_t (nI_lt (b := 30) hm (by omega)) (br_f (by decide) (br_t (by decide) (br_f (by decide) (br_f (by decide) (br_f (by decide) (br_t (by decide) (br_f (by decide) (br_t rfl (br_t rfl (br_t rfl (br_t rfl (br_t rfl (br_t rfl
    (br_t (by decide) (nm_r (nI_1 m) (And.intro v (nm_r (tm_ue c rfl) (And.intro v (nm_r (tm_ue c rfl) (And.intro v (nm_r (tm_ue c rfl) (And.intro v (nm_r (tm_ue c rfl)
      (tm_wob0 hm pk_us pk_us H))))))))))))))))))))))))
theorem tm_x1 {post : Int32 → St1 → Prop} {m w : Nat} (hm : m < 30) (hw : w < 6)
    (H : post (nI m) (nI (m + 1), s, cp, ce, oc, cu, sh, iu, re, upd a1 m 1, upd a2 m (nI w), upd a3 m 0, upd a4 m 1, upd a5 m 0, upd a6 m 0, upd a7 m (nI m), a8, a9, a10, a11, a12, a13, a14, a15, a16, a17, a18, a19, a20, a21, a22, a23, a24, a25, a26, a27, a28, a29, a30, a31, a32)) :
    wpX_express post (nI m, s, cp, ce, oc, cu, sh, iu, re, a1, a2, a3, a4, a5, a6, a7, a8, a9, a10, a11, a12, a13, a14, a15, a16, a17, a18, a19, a20, a21, a22, a23, a24, a25, a26, a27, a28, a29, a30, a31, a32) 1 (nI w) 0 :=
  have c : (nI m).toNatClampNeg = m := nI_clamp (by omega)
  have v : vp_in (nI m) 30 := vp_in_nI hm (by omega)
  br_t (nI_lt (b := 30) hm (by omega)) (br_f (by decide) (br_t (by decide) (br_t rfl (br_f (nI_pos (by omega)) (br_t (nI_lt (b := 6) hw (by omega)) (br_f (by decide) (br_f (by decide) (br_t (by decide) (br_f (by decide) (br_t rfl (br_t rfl (br_t rfl (br_t rfl (br_t rfl (br_t rfl
    (br_t (by decide) (nm_r (nI_1 m) (And.intro v (nm_r (tm_ue c rfl) (And.intro v (nm_r (tm_ue c rfl) (And.intro v (nm_r (tm_ue c rfl) (And.intro v (nm_r (tm_ue c rfl)
      (tm_wob1 hm pk_us H))))))))))))))))))))))))))
theorem tm_x159 {post : Int32 → St1 → Prop} {m k p q w : Nat} (hm : m < 30) (hk : 2 ≤ k) (hk9 : k ≤ 9) (hp : p < 30) (h5 : a5 p = 0) (hw : w ≤ 7)
    (H : post (nI m) (nI (m + 1), s, cp, ce, oc, cu, sh, iu, re, upd a1 m (nI k), upd a2 m (nI p), upd a3 m (nI q), upd a4 m (nI w), upd a5 m 0, upd a6 m 0, upd a7 m (nI m), a8, a9, a10, a11, a12, a13, a14, a15, a16, a17, a18, a19, a20, a21, a22, a23, a24, a25, a26, a27, a28, a29, a30, a31, a32)) :
    wX_express_159 post (nI k) (nI p) (nI q) (nI w) (nI m) s cp ce oc cu sh iu re a1 a2 a3 a4 a5 a6 a7 a8 a9 a10 a11 a12 a13 a14 a15 a16 a17 a18 a19 a20 a21 a22 a23 a24 a25 a26 a27 a28 a29 a30 a31 a32 :=
  have c : (nI m).toNatClampNeg = m := nI_clamp (by omega)
  have v : vp_in (nI m) 30 := vp_in_nI hm (by omega)
  br_t (nI_le (b := 7) hw (by decide)) (nm_r (nI_1 m) (And.intro v (nm_r (tm_ue c (tm_b8 k (by omega))) (And.intro v (nm_r (tm_ue c rfl) (And.intro v (nm_r (tm_ue c rfl) (And.intro v (nm_r (tm_ue c (tm_b8 w (by omega)))
      (tm_wob2 (q := q) hm hk hk9 pk_us pk_us hp h5 H))))))))))
theorem tm_x2 {post : Int32 → St1 → Prop} {m k p q : Nat} (hm : m < 30) (hk : 2 ≤ k) (hk9 : k ≤ 9) (hp : p < m) (hq : q < m) (h5 : a5 p = 0) (h4 : a4 p = 1) (h4' : a4 q = 1)
    (H : ∀ w, post (nI m) (nI (m + 1), s, cp, ce, oc, cu, sh, iu, re, upd a1 m (nI k), upd a2 m (nI p), upd a3 m (nI q), upd a4 m w, upd a5 m 0, upd a6 m 0, upd a7 m (nI m), a8, a9, a10, a11, a12, a13, a14, a15, a16, a17, a18, a19, a20, a21, a22, a23, a24, a25, a26, a27, a28, a29, a30, a31, a32)) :
    wpX_express post (nI m, s, cp, ce, oc, cu, sh, iu, re, a1, a2, a3, a4, a5, a6, a7, a8, a9, a10, a11, a12, a13, a14, a15, a16, a17, a18, a19, a20, a21, a22, a23, a24, a25, a26, a27, a28, a29, a30, a31, a32) (nI k) (nI p) (nI q) := by
  have cp : (nI p).toNatClampNeg = p := nI_clamp (by omega)
  have cq : (nI q).toNatClampNeg = q := nI_clamp (by omega)
  have vq : vp_in (nI p) 30 := vp_in_nI (by omega) (by omega)
  have vq' : vp_in (nI q) 30 := vp_in_nI (by omega) (by omega)
  have n0 : ¬ nI k < 0 := nI_pos (by omega)
  have n12 : nI k ≤ 12 := nI_le (b := 12) (by omega) (by decide)
  have n1 : ¬ nI k = 1 := fun z => absurd ((nI_eq (a := k) (b := 1) (by omega) (by omega)).mp z) (by omega)
  have n2 : ¬ nI k < 2 := nI_nlt (b := 2) hk (by omega)
  have n12' : ¬ nI k = 12 := fun z => absurd ((nI_eq (a := k) (b := 12) (by omega) (by omega)).mp z) (by omega)
  have n10 : ¬ nI k = 10 := fun z => absurd ((nI_eq (a := k) (b := 10) (by omega) (by omega)).mp z) (by omega)
  refine br_t (nI_lt (b := 30) hm (by omega)) (br_f n0 (br_t n12 (br_f n1 ?_)))
  by_cases hk8 : k ≤ 8
  · have n9 : ¬ nI k = 9 := fun z => absurd ((nI_eq (a := k) (b := 9) (by omega) (by omega)).mp z) (by omega)
    exact br_f n9 (br_f n12' (br_f n2 (br_t (nI_le (b := 8) hk8 (by decide)) (br_t rfl (br_f (by decide) (tm_ise hp (by omega) (br_f (by decide)
      (br_f (by decide) (tm_ise hq (by omega) (br_f (by decide) (br_t rfl (br_f (by decide)
        (And.intro vq (nm_r (e' := nI 2) (by rw [cp, h4]; rfl) (br_f (by decide) (And.intro vq' (nm_r (e' := nI 3) (by rw [cq, h4']; rfl)
          (tm_x159 hm hk hk9 (by omega) h5 (by omega) (H _)))))))))))))))))))
  · have n9 : nI k = 9 := by
      have e9 : k = 9 := by omega
      rw [e9]
      rfl
    have n8 : ¬ nI k ≤ 8 := nI_ge (b := k) (a := 8) (by omega) (by omega)
    exact br_t n9 (br_f n2 (br_f n8 (br_f n10 (br_f (by decide) (tm_ise hp (by omega) (br_f (by decide)
      (br_t rfl (br_f (by decide)
        (And.intro vq (nm_r (e' := nI 2) (by rw [cp, h4]; rfl) (br_t rfl
          (tm_x159 hm hk hk9 (by omega) h5 (by omega) (H _)))))))))))))
theorem tm_s141 {post : Int32 → St1 → Prop} {n : Nat} {x1 x2 x3 x4 : Int32} (hn : n < 14) (h1 : x1.toInt8.toInt32 = x1) (h2 : x2.toInt8.toInt32 = x2) (h3 : x3.toInt8.toInt32 = x3) (h4 : x4.toInt8.toInt32 = x4)
    (H : post (nI (n + 1)) (e, nI (n + 1), 0, ce, oc, cu, sh, iu, re, a1, a2, a3, a4, a5, a6, a7, upd a8 n x1, upd a9 n x2, upd a10 n x3, upd a11 n x4, a12, a13, a14, a15, a16, a17, a18, a19, a20, a21, a22, a23, a24, a25, a26, a27, a28, a29, a30, a31, a32)) : wX_state_141 post x1 x2 x3 x4 e (nI n) cp ce oc cu sh iu re a1 a2 a3 a4 a5 a6 a7 a8 a9 a10 a11 a12 a13 a14 a15 a16 a17 a18 a19 a20 a21 a22 a23 a24 a25 a26 a27 a28 a29 a30 a31 a32 :=
  have c : (nI n).toNatClampNeg = n := nI_clamp (by omega)
  have v : vp_in (nI n) 14 := vp_in_nI hn (by omega)
  And.intro v (nm_r (tm_ue c h1) (And.intro v (nm_r (tm_ue c h2) (And.intro v (nm_r (tm_ue c h3) (And.intro v (nm_r (tm_ue c h4) (nm_r (nI_1 n) H))))))))
theorem tm_st0 {post : Int32 → St1 → Prop} {n d x m : Nat} (hn : n < 14) (hd : d < 6) (hx : x < m) (hm : m ≤ 30)
    (H : post (nI (n + 1)) (nI m, nI (n + 1), 0, ce, oc, cu, sh, iu, re, a1, a2, a3, a4, a5, a6, a7, upd a8 n 0, upd a9 n (nI d), upd a10 n (nI x), upd a11 n 0, a12, a13, a14, a15, a16, a17, a18, a19, a20, a21, a22, a23, a24, a25, a26, a27, a28, a29, a30, a31, a32)) : wpX_state post (nI m, nI n, cp, ce, oc, cu, sh, iu, re, a1, a2, a3, a4, a5, a6, a7, a8, a9, a10, a11, a12, a13, a14, a15, a16, a17, a18, a19, a20, a21, a22, a23, a24, a25, a26, a27, a28, a29, a30, a31, a32) 0 (nI d) (nI x) 0 :=
  br_t (nI_lt (b := 14) hn (by decide)) (br_f (by decide) (br_t (by decide) (br_t rfl (br_f (by decide) (br_f (nI_pos (by omega)) (br_t (nI_lt (b := 6) hd (by decide)) (br_f (by decide) (tm_ise hx hm (br_f (by decide)
    (br_f (by decide) (br_f (by decide) (br_f (by decide) (tm_s141 hn rfl (tm_b8 d (by omega)) (tm_b8 x (by omega)) rfl H)))))))))))))
theorem tm_st4 {post : Int32 → St1 → Prop} {n x m : Nat} (hn : n < 14) (hx : x < m) (hm : m ≤ 30)
    (H : post (nI (n + 1)) (nI m, nI (n + 1), 0, ce, oc, cu, sh, iu, re, a1, a2, a3, a4, a5, a6, a7, upd a8 n 4, upd a9 n (nI x), upd a10 n 0, upd a11 n 0, a12, a13, a14, a15, a16, a17, a18, a19, a20, a21, a22, a23, a24, a25, a26, a27, a28, a29, a30, a31, a32)) : wpX_state post (nI m, nI n, cp, ce, oc, cu, sh, iu, re, a1, a2, a3, a4, a5, a6, a7, a8, a9, a10, a11, a12, a13, a14, a15, a16, a17, a18, a19, a20, a21, a22, a23, a24, a25, a26, a27, a28, a29, a30, a31, a32) 4 (nI x) 0 0 :=
  br_t (nI_lt (b := 14) hn (by decide)) (br_f (by decide) (br_t (by decide) (br_f (by decide) (br_f (by decide) (br_t rfl (tm_ise hx hm (br_f (by decide) (br_t rfl (br_f (by decide)
    (br_f (by decide) (br_f (by decide) (br_f (by decide) (tm_s141 hn rfl (tm_b8 x (by omega)) rfl rfl H)))))))))))))
end
end
section
/-! ===== the code: what it is, writing it ===== -/
def tm_ins (a12 a13 a14 a15 a16 : Nat → Int32) (j : Nat) (o a b d k : Int32) : Prop := a12 j = o ∧ a13 j = a ∧ a14 j = b ∧ a15 j = d ∧ a16 j = k
def tm_ag (n : Nat) (a12 a13 a14 a15 a16 b12 b13 b14 b15 b16 : Nat → Int32) : Prop := ∀ j, j < n → b12 j = a12 j ∧ b13 j = a13 j ∧ b14 j = a14 j ∧ b15 j = a15 j ∧ b16 j = a16 j
/-- the code of an expression at place c -/
def tm_cx (k p q : Nat) (num : Int32) (c : Nat) (a12 a13 a14 a15 a16 : Nat → Int32) : Prop :=
  if k = 0 then tm_ins a12 a13 a14 a15 a16 c 0 6 0 0 num
  else if k = 7 then tm_ins a12 a13 a14 a15 a16 c 1 6 (nI p) 0 0 ∧ tm_ins a12 a13 a14 a15 a16 (c + 1) 19 6 0 0 (nI (c + 3)) ∧ tm_ins a12 a13 a14 a15 a16 (c + 2) 1 6 (nI q) 0 0
  else if k = 8 then tm_ins a12 a13 a14 a15 a16 c 1 6 (nI p) 0 0 ∧ tm_ins a12 a13 a14 a15 a16 (c + 1) 20 6 0 0 (nI (c + 3)) ∧ tm_ins a12 a13 a14 a15 a16 (c + 2) 1 6 (nI q) 0 0
  else if k = 9 then tm_ins a12 a13 a14 a15 a16 c 1 6 (nI p) 0 0 ∧ tm_ins a12 a13 a14 a15 a16 (c + 1) 9 6 6 0 0
  else tm_ins a12 a13 a14 a15 a16 c (nI k) 6 (nI p) (nI q) 0
def tm_lx (k : Nat) : Nat := if k = 7 then 3 else if k = 8 then 3 else if k = 9 then 2 else 1
/-- the code of a statement at place c -/
def tm_cs (kd dd pp qq : Nat → Nat) (nu : Nat → Int32) (i c : Nat) (a12 a13 a14 a15 a16 : Nat → Int32) : Prop :=
  tm_ins a12 a13 a14 a15 a16 c 18 0 0 0 (nI i) ∧ tm_cx (tm_ek (kd i)) (pp i) (qq i) (nu i) (c + 1) a12 a13 a14 a15 a16 ∧
  (kd i = 11 → tm_ins a12 a13 a14 a15 a16 (c + 1 + tm_lx (tm_ek (kd i))) 14 6 0 0 0) ∧ (¬ kd i = 11 → tm_ins a12 a13 a14 a15 a16 (c + 1 + tm_lx (tm_ek (kd i))) 1 (nI (dd i)) 6 0 0)
/-- where a statement's code begins -/
def tm_ps (kd : Nat → Nat) : Nat → Nat
  | 0 => 0
  | i + 1 => tm_ps kd i + (2 + tm_lx (tm_ek (kd i)))
theorem tm_lxb (k : Nat) : 1 ≤ tm_lx k ∧ tm_lx k ≤ 3 := by
  unfold tm_lx
  split
  · omega
  · split
    · omega
    · split <;> omega
theorem tm_psb (kd : Nat → Nat) (i : Nat) : tm_ps kd i ≤ 5 * i := by
  induction i with
  | zero => exact Nat.le_refl 0
  | succ i ih =>
    have h := tm_lxb (tm_ek (kd i))
    show tm_ps kd i + (2 + tm_lx (tm_ek (kd i))) ≤ _
    omega
theorem tm_psm (kd : Nat → Nat) {i j : Nat} (h : i ≤ j) : tm_ps kd i ≤ tm_ps kd j := by
  induction j with
  | zero =>
    have e : i = 0 := by omega
    rw [e]
    exact Nat.le_refl _
  | succ j ih =>
    by_cases z : i = j + 1
    · rw [z]
      exact Nat.le_refl _
    · have t := ih (by omega)
      show _ ≤ tm_ps kd j + (2 + tm_lx (tm_ek (kd j)))
      omega
section
variable {a12 a13 a14 a15 a16 b12 b13 b14 b15 b16 c12 c13 c14 c15 c16 : Nat → Int32}
theorem tm_agr {n : Nat} : tm_ag n a12 a13 a14 a15 a16 a12 a13 a14 a15 a16 := fun _ _ => ⟨rfl, rfl, rfl, rfl, rfl⟩
theorem tm_agt {n m : Nat} (h : tm_ag n a12 a13 a14 a15 a16 b12 b13 b14 b15 b16) (h' : tm_ag m b12 b13 b14 b15 b16 c12 c13 c14 c15 c16) (hm : n ≤ m) : tm_ag n a12 a13 a14 a15 a16 c12 c13 c14 c15 c16 := by
  intro j hj
  obtain ⟨g1, g2, g3, g4, g5⟩ := h j hj
  obtain ⟨e1, e2, e3, e4, e5⟩ := h' j (by omega)
  exact ⟨e1.trans g1, e2.trans g2, e3.trans g3, e4.trans g4, e5.trans g5⟩
theorem tm_insa {n j : Nat} {o a b d k : Int32} (h : tm_ins a12 a13 a14 a15 a16 j o a b d k) (h' : tm_ag n a12 a13 a14 a15 a16 b12 b13 b14 b15 b16) (hj : j < n) : tm_ins b12 b13 b14 b15 b16 j o a b d k := by
  obtain ⟨g1, g2, g3, g4, g5⟩ := h
  obtain ⟨e1, e2, e3, e4, e5⟩ := h' j hj
  exact ⟨e1.trans g1, e2.trans g2, e3.trans g3, e4.trans g4, e5.trans g5⟩
theorem tm_cxa {n k p q c : Nat} {num : Int32} (h : tm_cx k p q num c a12 a13 a14 a15 a16) (h' : tm_ag n a12 a13 a14 a15 a16 b12 b13 b14 b15 b16) (hj : c + tm_lx k ≤ n) : tm_cx k p q num c b12 b13 b14 b15 b16 := by
  unfold tm_cx at h ⊢
  unfold tm_lx at hj
  by_cases z0 : k = 0
  · rw [if_pos z0] at h ⊢
    have z7 : ¬ k = 7 := by omega
    have z8 : ¬ k = 8 := by omega
    have z9 : ¬ k = 9 := by omega
    rw [if_neg z7, if_neg z8, if_neg z9] at hj
    exact tm_insa h h' (by omega)
  · rw [if_neg z0] at h ⊢
    by_cases z7 : k = 7
    · rw [if_pos z7] at h hj ⊢
      exact ⟨tm_insa h.1 h' (by omega), tm_insa h.2.1 h' (by omega), tm_insa h.2.2 h' (by omega)⟩
    · rw [if_neg z7] at h hj ⊢
      by_cases z8 : k = 8
      · rw [if_pos z8] at h hj ⊢
        exact ⟨tm_insa h.1 h' (by omega), tm_insa h.2.1 h' (by omega), tm_insa h.2.2 h' (by omega)⟩
      · rw [if_neg z8] at h hj ⊢
        by_cases z9 : k = 9
        · rw [if_pos z9] at h hj ⊢
          exact ⟨tm_insa h.1 h' (by omega), tm_insa h.2 h' (by omega)⟩
        · rw [if_neg z9] at h hj ⊢
          exact tm_insa h h' (by omega)
theorem tm_csa {kd dd pp qq : Nat → Nat} {nu : Nat → Int32} {n i c : Nat} (h : tm_cs kd dd pp qq nu i c a12 a13 a14 a15 a16) (h' : tm_ag n a12 a13 a14 a15 a16 b12 b13 b14 b15 b16) (hj : c + (2 + tm_lx (tm_ek (kd i))) ≤ n) : tm_cs kd dd pp qq nu i c b12 b13 b14 b15 b16 :=
  ⟨tm_insa h.1 h' (by omega), tm_cxa h.2.1 h' (by omega), fun z => tm_insa (h.2.2.1 z) h' (by omega), fun z => tm_insa (h.2.2.2 z) h' (by omega)⟩
theorem tm_agu {c : Nat} {o a b d k : Int32} : tm_ag c a12 a13 a14 a15 a16 (upd a12 c o) (upd a13 c a) (upd a14 c b) (upd a15 c d) (upd a16 c k) := by
  intro j hj
  have z : j ≠ c := by omega
  exact ⟨pk_un z, pk_un z, pk_un z, pk_un z, pk_un z⟩
theorem tm_insu {c : Nat} {o a b d k : Int32} : tm_ins (upd a12 c o) (upd a13 c a) (upd a14 c b) (upd a15 c d) (upd a16 c k) c o a b d k := ⟨pk_us, pk_us, pk_us, pk_us, pk_us⟩
end
section
variable {e s cp ce oc cu sh iu re : Int32} {a1 a2 a3 a4 a5 a6 a7 a8 a9 a10 a11 a12 a13 a14 a15 a16 a17 a18 a19 a20 a21 a22 a23 a24 a25 a26 a27 : Nat → Int32} {a28 : Nat → Int64} {a29 a30 a31 a32 : Nat → Int32}
theorem tm_write {post : St1 → Prop} {c : Nat} {o a b d k : Int32} (o' a' b' d' k' : Int32) (hc : c < 350) (ho : o.toInt8.toInt32 = o') (ha : a.toInt8.toInt32 = a') (hb : b.toInt8.toInt32 = b') (hd : d.toInt8.toInt32 = d') (hk : k = k')
    (H : ∀ b12 b13 b14 b15 b16 : Nat → Int32, tm_ag c a12 a13 a14 a15 a16 b12 b13 b14 b15 b16 → tm_ins b12 b13 b14 b15 b16 c o' a' b' d' k' → post (e, s, cp, nI (c + 1), oc, cu, sh, iu, re, a1, a2, a3, a4, a5, a6, a7, a8, a9, a10, a11, b12, b13, b14, b15, b16, a17, a18, a19, a20, a21, a22, a23, a24, a25, a26, a27, a28, a29, a30, a31, a32)) : wpX_write post (e, s, cp, nI c, oc, cu, sh, iu, re, a1, a2, a3, a4, a5, a6, a7, a8, a9, a10, a11, a12, a13, a14, a15, a16, a17, a18, a19, a20, a21, a22, a23, a24, a25, a26, a27, a28, a29, a30, a31, a32) o a b d k :=
  have e : (nI c).toNatClampNeg = c := nI_clamp (by omega)
  have v : vp_in (nI c) 350 := vp_in_nI hc (by omega)
  And.intro v (nm_r (tm_ue e ho) (And.intro v (nm_r (tm_ue e ha) (And.intro v (nm_r (tm_ue e hb) (And.intro v (nm_r (tm_ue e hd) (And.intro v (nm_r (tm_ue e hk) (nm_r (nI_1 c) (H _ _ _ _ _ tm_agu tm_insu)))))))))))
theorem tm_leaf0 {post : St1 → Prop} {c x r : Nat} {num : Int32} (hc : c < 350) (hx : x < 30) (hr : r < 128) (h5 : a5 x = 1) (h6 : a6 x = num)
    (H : ∀ b12 b13 b14 b15 b16 : Nat → Int32, tm_ag c a12 a13 a14 a15 a16 b12 b13 b14 b15 b16 → tm_ins b12 b13 b14 b15 b16 c 0 (nI r) 0 0 num → post (e, s, cp, nI (c + 1), oc, cu, sh, iu, re, a1, a2, a3, a4, a5, a6, a7, a8, a9, a10, a11, b12, b13, b14, b15, b16, a17, a18, a19, a20, a21, a22, a23, a24, a25, a26, a27, a28, a29, a30, a31, a32)) : wpX_compileLeaf post (e, s, cp, nI c, oc, cu, sh, iu, re, a1, a2, a3, a4, a5, a6, a7, a8, a9, a10, a11, a12, a13, a14, a15, a16, a17, a18, a19, a20, a21, a22, a23, a24, a25, a26, a27, a28, a29, a30, a31, a32) (nI x) (nI r) :=
  have e : (nI x).toNatClampNeg = x := nI_clamp (by omega)
  have v : vp_in (nI x) 30 := vp_in_nI hx (by omega)
  And.intro v (br_t (by rw [e]; exact h5) (And.intro v (tm_write 0 (nI r) 0 0 num hc rfl (tm_b8 r hr) rfl rfl (by rw [e]; exact h6) H)))
theorem tm_leaf1 {post : St1 → Prop} {c x r p : Nat} (hc : c < 350) (hx : x < 30) (hr : r < 128) (h5 : a5 x = 0) (h1 : a1 x = 1) (h2 : a2 x = nI p) (hp : p < 128)
    (H : ∀ b12 b13 b14 b15 b16 : Nat → Int32, tm_ag c a12 a13 a14 a15 a16 b12 b13 b14 b15 b16 → tm_ins b12 b13 b14 b15 b16 c 1 (nI r) (nI p) 0 0 → post (e, s, cp, nI (c + 1), oc, cu, sh, iu, re, a1, a2, a3, a4, a5, a6, a7, a8, a9, a10, a11, b12, b13, b14, b15, b16, a17, a18, a19, a20, a21, a22, a23, a24, a25, a26, a27, a28, a29, a30, a31, a32)) : wpX_compileLeaf post (e, s, cp, nI c, oc, cu, sh, iu, re, a1, a2, a3, a4, a5, a6, a7, a8, a9, a10, a11, a12, a13, a14, a15, a16, a17, a18, a19, a20, a21, a22, a23, a24, a25, a26, a27, a28, a29, a30, a31, a32) (nI x) (nI r) :=
  have e : (nI x).toNatClampNeg = x := nI_clamp (by omega)
  have v : vp_in (nI x) 30 := vp_in_nI hx (by omega)
  And.intro v (br_f (by rw [e, h5]; decide) (And.intro v (br_f (by rw [e, h5]; decide) (And.intro v (br_t (by rw [e]; exact h1) (And.intro v (tm_write 1 (nI r) (nI p) 0 0 hc rfl (tm_b8 r hr) (by rw [e, h2]; exact tm_b8 p hp) rfl rfl H)))))))
theorem tm_isc1 {post : Int32 → Prop} {x k : Nat} (hx : x < 30) (h1 : a1 x = nI k) (hk : k = 7 ∨ k = 8) (H : post 1) : wpX_isChoice post (e, s, cp, ce, oc, cu, sh, iu, re, a1, a2, a3, a4, a5, a6, a7, a8, a9, a10, a11, a12, a13, a14, a15, a16, a17, a18, a19, a20, a21, a22, a23, a24, a25, a26, a27, a28, a29, a30, a31, a32) (nI x) := by
  have e : (nI x).toNatClampNeg = x := nI_clamp (by omega)
  have v : vp_in (nI x) 30 := vp_in_nI hx (by omega)
  rcases hk with rfl | rfl
  · exact And.intro v (br_t (by rw [e, h1]; rfl) H)
  · exact And.intro v (br_f (by rw [e, h1]; decide) (And.intro v (br_t (by rw [e, h1]; rfl) H)))
theorem tm_isc0 {post : Int32 → Prop} {x k : Nat} (hx : x < 30) (h1 : a1 x = nI k) (hk : ¬ (k = 7 ∨ k = 8)) (hk2 : k < 128) (H : post 0) : wpX_isChoice post (e, s, cp, ce, oc, cu, sh, iu, re, a1, a2, a3, a4, a5, a6, a7, a8, a9, a10, a11, a12, a13, a14, a15, a16, a17, a18, a19, a20, a21, a22, a23, a24, a25, a26, a27, a28, a29, a30, a31, a32) (nI x) := by
  have e : (nI x).toNatClampNeg = x := nI_clamp (by omega)
  have v : vp_in (nI x) 30 := vp_in_nI hx (by omega)
  have n7 : ¬ nI k = 7 := fun z => absurd ((nI_eq (a := k) (b := 7) (by omega) (by omega)).mp z) (by omega)
  have n8 : ¬ nI k = 8 := fun z => absurd ((nI_eq (a := k) (b := 8) (by omega) (by omega)).mp z) (by omega)
  exact And.intro v (br_f (by rw [e, h1]; exact n7) (And.intro v (br_f (by rw [e, h1]; exact n8) H)))
theorem tm_isi {post : Int32 → Prop} {x : Nat} (hx : x < 30) (h5 : a5 x = 0) (h1 : a1 x = 1) (H : post 1) : wpX_isSimple post (e, s, cp, ce, oc, cu, sh, iu, re, a1, a2, a3, a4, a5, a6, a7, a8, a9, a10, a11, a12, a13, a14, a15, a16, a17, a18, a19, a20, a21, a22, a23, a24, a25, a26, a27, a28, a29, a30, a31, a32) (nI x) := by
  have e : (nI x).toNatClampNeg = x := nI_clamp (by omega)
  have v : vp_in (nI x) 30 := vp_in_nI hx (by omega)
  exact And.intro v (br_t (by rw [e]; exact h5) (And.intro v (br_t (by rw [e]; exact h1) H)))
end
end
section
/-! ===== compilePart, compileExpression ===== -/
section
variable {e s cp ce oc cu sh iu re : Int32} {a1 a2 a3 a4 a5 a6 a7 a8 a9 a10 a11 a12 a13 a14 a15 a16 a17 a18 a19 a20 a21 a22 a23 a24 a25 a26 a27 : Nat → Int32} {a28 : Nat → Int64} {a29 a30 a31 a32 : Nat → Int32}
/-- an int: a leaf -/
theorem tm_cp0 {post : Int32 → St1 → Prop} {t c x r k : Nat} {num : Int32} (ht : t < 8) (hc : c < 350) (hx : x < 30) (hr : r < 128) (h17 : a17 t = nI x) (h18 : a18 t = nI r) (h1 : a1 x = nI k) (h5 : a5 x = 1) (h6 : a6 x = num)
    (H : ∀ (b12 b13 b14 b15 b16 w19 : Nat → Int32), tm_ag c a12 a13 a14 a15 a16 b12 b13 b14 b15 b16 → tm_ins b12 b13 b14 b15 b16 c 0 (nI r) 0 0 num → (∀ j, j ≠ t → w19 j = a19 j) → post (-1) (e, s, cp, nI (c + 1), oc, cu, sh, iu, re, a1, a2, a3, a4, a5, a6, a7, a8, a9, a10, a11, b12, b13, b14, b15, b16, a17, a18, w19, a20, a21, a22, a23, a24, a25, a26, a27, a28, a29, a30, a31, a32)) : wpX_compilePart post (e, s, cp, nI c, oc, cu, sh, iu, re, a1, a2, a3, a4, a5, a6, a7, a8, a9, a10, a11, a12, a13, a14, a15, a16, a17, a18, a19, a20, a21, a22, a23, a24, a25, a26, a27, a28, a29, a30, a31, a32) (nI t) :=
  have et : (nI t).toNatClampNeg = t := nI_clamp (by omega)
  have ex : (nI x).toNatClampNeg = x := nI_clamp (by omega)
  have vt : vp_in (nI t) 8 := vp_in_nI ht (by omega)
  have vx : vp_in (nI x) 30 := vp_in_nI hx (by omega)
  And.intro vt (nm_r (e' := nI x) (by rw [et]; exact h17) (And.intro vt (nm_r (e' := nI r) (by rw [et]; exact h18) (And.intro vx (nm_r (e' := nI k) (by rw [ex]; exact h1) (And.intro vt (nm_e (And.intro vt (And.intro vt (nm_r (tm_ue et rfl) (And.intro vx
    (br_f (by rw [ex, h5]; decide) (tm_leaf0 hc hx hr h5 h6 (fun _ _ _ _ _ g1 g2 => H _ _ _ _ _ _ g1 g2 (fun j hj => pk_un hj)))))))))))))))
/-- a variable: a leaf -/
theorem tm_cp1 {post : Int32 → St1 → Prop} {t c x r p : Nat} (ht : t < 8) (hc : c < 350) (hx : x < 30) (hr : r < 128) (hp : p < 128) (h17 : a17 t = nI x) (h18 : a18 t = nI r) (h1 : a1 x = 1) (h5 : a5 x = 0) (h2 : a2 x = nI p)
    (H : ∀ (b12 b13 b14 b15 b16 w19 : Nat → Int32), tm_ag c a12 a13 a14 a15 a16 b12 b13 b14 b15 b16 → tm_ins b12 b13 b14 b15 b16 c 1 (nI r) (nI p) 0 0 → (∀ j, j ≠ t → w19 j = a19 j) → post (-1) (e, s, cp, nI (c + 1), oc, cu, sh, iu, re, a1, a2, a3, a4, a5, a6, a7, a8, a9, a10, a11, b12, b13, b14, b15, b16, a17, a18, w19, a20, a21, a22, a23, a24, a25, a26, a27, a28, a29, a30, a31, a32)) : wpX_compilePart post (e, s, cp, nI c, oc, cu, sh, iu, re, a1, a2, a3, a4, a5, a6, a7, a8, a9, a10, a11, a12, a13, a14, a15, a16, a17, a18, a19, a20, a21, a22, a23, a24, a25, a26, a27, a28, a29, a30, a31, a32) (nI t) :=
  have et : (nI t).toNatClampNeg = t := nI_clamp (by omega)
  have ex : (nI x).toNatClampNeg = x := nI_clamp (by omega)
  have vt : vp_in (nI t) 8 := vp_in_nI ht (by omega)
  have vx : vp_in (nI x) 30 := vp_in_nI hx (by omega)
  And.intro vt (nm_r (e' := nI x) (by rw [et]; exact h17) (And.intro vt (nm_r (e' := nI r) (by rw [et]; exact h18) (And.intro vx (nm_r (e' := 1) (by rw [ex]; exact h1) (And.intro vt (nm_e (And.intro vt (And.intro vt (nm_r (tm_ue et rfl) (And.intro vx
    (br_t (by rw [ex]; exact h5) (br_t rfl (tm_leaf1 hc hx hr h5 h1 h2 hp (fun _ _ _ _ _ g1 g2 => H _ _ _ _ _ _ g1 g2 (fun j hj => pk_un hj))))))))))))))))
/-- a choice, its first part -/
theorem tm_cpc0 {post : Int32 → St1 → Prop} {t x r k p : Nat} (ht : t < 8) (hx : x < 30) (hk : k = 7 ∨ k = 8) (h17 : a17 t = nI x) (h18 : a18 t = nI r) (h19 : a19 t = 0) (h1 : a1 x = nI k) (h5 : a5 x = 0) (h2 : a2 x = nI p)
    (H : post (nI p) (e, s, cp, ce, oc, cu, sh, iu, re, a1, a2, a3, a4, a5, a6, a7, a8, a9, a10, a11, a12, a13, a14, a15, a16, a17, a18, upd a19 t 1, a20, a21, a22, a23, a24, a25, a26, a27, a28, a29, a30, a31, a32)) : wpX_compilePart post (e, s, cp, ce, oc, cu, sh, iu, re, a1, a2, a3, a4, a5, a6, a7, a8, a9, a10, a11, a12, a13, a14, a15, a16, a17, a18, a19, a20, a21, a22, a23, a24, a25, a26, a27, a28, a29, a30, a31, a32) (nI t) := by
  have et : (nI t).toNatClampNeg = t := nI_clamp (by omega)
  have ex : (nI x).toNatClampNeg = x := nI_clamp (by omega)
  have vt : vp_in (nI t) 8 := vp_in_nI ht (by omega)
  have vx : vp_in (nI x) 30 := vp_in_nI hx (by omega)
  have n1 : ¬ nI k = 1 := fun z => absurd ((nI_eq (a := k) (b := 1) (by omega) (by omega)).mp z) (by omega)
  have n11 : ¬ nI k = 11 := fun z => absurd ((nI_eq (a := k) (b := 11) (by omega) (by omega)).mp z) (by omega)
  refine And.intro vt (nm_r (e' := nI x) (by rw [et]; exact h17) (And.intro vt (nm_r (e' := nI r) (by rw [et]; exact h18) (And.intro vx (nm_r (e' := nI k) (by rw [ex]; exact h1) (And.intro vt (nm_r (e' := 0) (by rw [et]; exact h19) (And.intro vt (And.intro vt (nm_r (e' := upd a19 t 1) (tm_ue et (by rw [et, h19]; decide)) (And.intro vx
    (br_t (by rw [ex]; exact h5) (br_f n1 (br_f n11 (tm_isc1 hx h1 hk (br_f (by decide) (br_t rfl (And.intro vx ?_))))))))))))))))))
  rw [ex, h2]
  exact H
/-- a choice, behind its first part -/
theorem tm_cpc1 {post : Int32 → St1 → Prop} {t c x r k q : Nat} (o : Int32) (ht : t < 8) (hc : c < 350) (hx : x < 30) (hr : r < 128) (hk : k = 7 ∧ o = 19 ∨ k = 8 ∧ o = 20) (h17 : a17 t = nI x) (h18 : a18 t = nI r) (h19 : a19 t = 1) (h1 : a1 x = nI k) (h5 : a5 x = 0) (h3 : a3 x = nI q)
    (H : ∀ (b12 b13 b14 b15 b16 : Nat → Int32), tm_ag c a12 a13 a14 a15 a16 b12 b13 b14 b15 b16 → tm_ins b12 b13 b14 b15 b16 c o (nI r) 0 0 0 → post (nI q) (e, s, cp, nI (c + 1), oc, cu, sh, iu, re, a1, a2, a3, a4, a5, a6, a7, a8, a9, a10, a11, b12, b13, b14, b15, b16, a17, a18, upd a19 t 2, upd a20 t (nI c), a21, a22, a23, a24, a25, a26, a27, a28, a29, a30, a31, a32)) : wpX_compilePart post (e, s, cp, nI c, oc, cu, sh, iu, re, a1, a2, a3, a4, a5, a6, a7, a8, a9, a10, a11, a12, a13, a14, a15, a16, a17, a18, a19, a20, a21, a22, a23, a24, a25, a26, a27, a28, a29, a30, a31, a32) (nI t) := by
  have et : (nI t).toNatClampNeg = t := nI_clamp (by omega)
  have ex : (nI x).toNatClampNeg = x := nI_clamp (by omega)
  have vt : vp_in (nI t) 8 := vp_in_nI ht (by omega)
  have vx : vp_in (nI x) 30 := vp_in_nI hx (by omega)
  have n1 : ¬ nI k = 1 := fun z => absurd ((nI_eq (a := k) (b := 1) (by omega) (by omega)).mp z) (by omega)
  have n11 : ¬ nI k = 11 := fun z => absurd ((nI_eq (a := k) (b := 11) (by omega) (by omega)).mp z) (by omega)
  refine And.intro vt (nm_r (e' := nI x) (by rw [et]; exact h17) (And.intro vt (nm_r (e' := nI r) (by rw [et]; exact h18) (And.intro vx (nm_r (e' := nI k) (by rw [ex]; exact h1) (And.intro vt (nm_r (e' := 1) (by rw [et]; exact h19) (And.intro vt (And.intro vt (nm_r (e' := upd a19 t 2) (tm_ue et (by rw [et, h19]; decide)) (And.intro vx
    (br_t (by rw [ex]; exact h5) (br_f n1 (br_f n11 (tm_isc1 hx h1 (by omega) (br_f (by decide) (br_f (by decide) (br_t rfl (And.intro vt (nm_r (e' := upd a20 t (nI c)) (tm_ue et (tm_b16 c hc)) ?_))))))))))))))))))))
  rcases hk with ⟨rfl, rfl⟩ | ⟨rfl, rfl⟩
  · refine br_t rfl (tm_write 19 (nI r) 0 0 0 hc (by decide) (tm_b8 r hr) rfl rfl rfl (fun _ _ _ _ _ g1 g2 => And.intro vx ?_))
    show post (a3 (nI x).toNatClampNeg) _
    rw [ex, h3]
    exact H _ _ _ _ _ g1 g2
  · refine br_f (by decide) (tm_write 20 (nI r) 0 0 0 hc (by decide) (tm_b8 r hr) rfl rfl rfl (fun _ _ _ _ _ g1 g2 => And.intro vx ?_))
    show post (a3 (nI x).toNatClampNeg) _
    rw [ex, h3]
    exact H _ _ _ _ _ g1 g2
/-- a choice, its end -/
theorem tm_cpc2 {post : Int32 → St1 → Prop} {t c x r k g : Nat} (ht : t < 8) (hg : g < 350) (hx : x < 30) (hk : k = 7 ∨ k = 8) (h17 : a17 t = nI x) (h18 : a18 t = nI r) (h19 : a19 t = 2) (h20 : a20 t = nI g) (h1 : a1 x = nI k) (h5 : a5 x = 0)
    (H : post (-1) (e, s, cp, nI c, oc, cu, sh, iu, re, a1, a2, a3, a4, a5, a6, a7, a8, a9, a10, a11, a12, a13, a14, a15, upd a16 g (nI c), a17, a18, upd a19 t 3, a20, a21, a22, a23, a24, a25, a26, a27, a28, a29, a30, a31, a32)) : wpX_compilePart post (e, s, cp, nI c, oc, cu, sh, iu, re, a1, a2, a3, a4, a5, a6, a7, a8, a9, a10, a11, a12, a13, a14, a15, a16, a17, a18, a19, a20, a21, a22, a23, a24, a25, a26, a27, a28, a29, a30, a31, a32) (nI t) := by
  have et : (nI t).toNatClampNeg = t := nI_clamp (by omega)
  have ex : (nI x).toNatClampNeg = x := nI_clamp (by omega)
  have vt : vp_in (nI t) 8 := vp_in_nI ht (by omega)
  have vx : vp_in (nI x) 30 := vp_in_nI hx (by omega)
  have n1 : ¬ nI k = 1 := fun z => absurd ((nI_eq (a := k) (b := 1) (by omega) (by omega)).mp z) (by omega)
  have n11 : ¬ nI k = 11 := fun z => absurd ((nI_eq (a := k) (b := 11) (by omega) (by omega)).mp z) (by omega)
  exact And.intro vt (nm_r (e' := nI x) (by rw [et]; exact h17) (And.intro vt (nm_r (e' := nI r) (by rw [et]; exact h18) (And.intro vx (nm_r (e' := nI k) (by rw [ex]; exact h1) (And.intro vt (nm_r (e' := 2) (by rw [et]; exact h19) (And.intro vt (And.intro vt (nm_r (e' := upd a19 t 3) (tm_ue et (by rw [et, h19]; decide)) (And.intro vx
    (br_t (by rw [ex]; exact h5) (br_f n1 (br_f n11 (tm_isc1 hx h1 hk (br_f (by decide) (br_f (by decide) (br_f (by decide) (And.intro vt (And.intro (by rw [et, h20]; exact vp_in_nI hg (by omega)) (nm_r (e' := upd a16 g (nI c)) (tm_ue (by rw [et, h20]; exact nI_clamp (by omega)) rfl) H)))))))))))))))))))))
/-- not: its part -/
theorem tm_cpn0 {post : Int32 → St1 → Prop} {t x r p : Nat} (ht : t < 8) (hx : x < 30) (h17 : a17 t = nI x) (h18 : a18 t = nI r) (h19 : a19 t = 0) (h1 : a1 x = nI 9) (h5 : a5 x = 0) (h2 : a2 x = nI p)
    (H : post (nI p) (e, s, cp, ce, oc, cu, sh, iu, re, a1, a2, a3, a4, a5, a6, a7, a8, a9, a10, a11, a12, a13, a14, a15, a16, a17, a18, upd a19 t 1, a20, a21, a22, a23, a24, a25, a26, a27, a28, a29, a30, a31, a32)) : wpX_compilePart post (e, s, cp, ce, oc, cu, sh, iu, re, a1, a2, a3, a4, a5, a6, a7, a8, a9, a10, a11, a12, a13, a14, a15, a16, a17, a18, a19, a20, a21, a22, a23, a24, a25, a26, a27, a28, a29, a30, a31, a32) (nI t) := by
  have et : (nI t).toNatClampNeg = t := nI_clamp (by omega)
  have ex : (nI x).toNatClampNeg = x := nI_clamp (by omega)
  have vt : vp_in (nI t) 8 := vp_in_nI ht (by omega)
  have vx : vp_in (nI x) 30 := vp_in_nI hx (by omega)
  refine And.intro vt (nm_r (e' := nI x) (by rw [et]; exact h17) (And.intro vt (nm_r (e' := nI r) (by rw [et]; exact h18) (And.intro vx (nm_r (e' := nI 9) (by rw [ex]; exact h1) (And.intro vt (nm_r (e' := 0) (by rw [et]; exact h19) (And.intro vt (And.intro vt (nm_r (e' := upd a19 t 1) (tm_ue et (by rw [et, h19]; decide)) (And.intro vx
    (br_t (by rw [ex]; exact h5) (br_f (by decide) (br_f (by decide) (tm_isc0 hx h1 (by omega) (by omega) (br_t rfl (br_t rfl (br_t rfl (And.intro vx ?_)))))))))))))))))))
  rw [ex, h2]
  exact H
/-- not: behind its part -/
theorem tm_cpn1 {post : Int32 → St1 → Prop} {t c x r : Nat} (ht : t < 8) (hc : c < 350) (hx : x < 30) (hr : r < 128) (h17 : a17 t = nI x) (h18 : a18 t = nI r) (h19 : a19 t = 1) (h1 : a1 x = nI 9) (h5 : a5 x = 0)
    (H : ∀ (b12 b13 b14 b15 b16 : Nat → Int32), tm_ag c a12 a13 a14 a15 a16 b12 b13 b14 b15 b16 → tm_ins b12 b13 b14 b15 b16 c 9 (nI r) (nI r) 0 0 → post (-1) (e, s, cp, nI (c + 1), oc, cu, sh, iu, re, a1, a2, a3, a4, a5, a6, a7, a8, a9, a10, a11, b12, b13, b14, b15, b16, a17, a18, upd a19 t 2, a20, a21, a22, a23, a24, a25, a26, a27, a28, a29, a30, a31, a32)) : wpX_compilePart post (e, s, cp, nI c, oc, cu, sh, iu, re, a1, a2, a3, a4, a5, a6, a7, a8, a9, a10, a11, a12, a13, a14, a15, a16, a17, a18, a19, a20, a21, a22, a23, a24, a25, a26, a27, a28, a29, a30, a31, a32) (nI t) := by
  have et : (nI t).toNatClampNeg = t := nI_clamp (by omega)
  have ex : (nI x).toNatClampNeg = x := nI_clamp (by omega)
  have vt : vp_in (nI t) 8 := vp_in_nI ht (by omega)
  have vx : vp_in (nI x) 30 := vp_in_nI hx (by omega)
  exact And.intro vt (nm_r (e' := nI x) (by rw [et]; exact h17) (And.intro vt (nm_r (e' := nI r) (by rw [et]; exact h18) (And.intro vx (nm_r (e' := nI 9) (by rw [ex]; exact h1) (And.intro vt (nm_r (e' := 1) (by rw [et]; exact h19) (And.intro vt (And.intro vt (nm_r (e' := upd a19 t 2) (tm_ue et (by rw [et, h19]; decide)) (And.intro vx
    (br_t (by rw [ex]; exact h5) (br_f (by decide) (br_f (by decide) (tm_isc0 hx h1 (by omega) (by omega) (br_t rfl (br_t rfl (br_f (by decide) (tm_write 9 (nI r) (nI r) 0 0 hc (by decide) (tm_b8 r hr) (tm_b8 r hr) rfl rfl H)))))))))))))))))))
/-- two variables under an operation -/
theorem tm_cpb {post : Int32 → St1 → Prop} {t c x r k p q : Nat} (ht : t < 8) (hc : c < 350) (hx : x < 30) (hr : r < 128) (hk : 2 ≤ k) (hk6 : k ≤ 6) (hp : p < 30) (hq : q < 30) (h17 : a17 t = nI x) (h18 : a18 t = nI r) (h19 : a19 t = 0) (h1 : a1 x = nI k) (h5 : a5 x = 0) (h2 : a2 x = nI p) (h3 : a3 x = nI q)
    (p1 : a1 p = 1) (p2 : a2 p = nI p) (p5 : a5 p = 0) (p7 : a7 p = nI p) (q1 : a1 q = 1) (q2 : a2 q = nI q) (q5 : a5 q = 0) (q7 : a7 q = nI q)
    (H : ∀ (b12 b13 b14 b15 b16 : Nat → Int32), tm_ag c a12 a13 a14 a15 a16 b12 b13 b14 b15 b16 → tm_ins b12 b13 b14 b15 b16 c (nI k) (nI r) (nI p) (nI q) 0 → post (-1) (e, s, cp, nI (c + 1), oc, cu, sh, iu, re, a1, a2, a3, a4, a5, a6, a7, a8, a9, a10, a11, b12, b13, b14, b15, b16, a17, a18, upd (upd a19 t 1) t 2, a20, a21, a22, a23, a24, a25, a26, a27, a28, a29, a30, a31, a32)) : wpX_compilePart post (e, s, cp, nI c, oc, cu, sh, iu, re, a1, a2, a3, a4, a5, a6, a7, a8, a9, a10, a11, a12, a13, a14, a15, a16, a17, a18, a19, a20, a21, a22, a23, a24, a25, a26, a27, a28, a29, a30, a31, a32) (nI t) := by
  have et : (nI t).toNatClampNeg = t := nI_clamp (by omega)
  have ex : (nI x).toNatClampNeg = x := nI_clamp (by omega)
  have ep : (nI p).toNatClampNeg = p := nI_clamp (by omega)
  have eq : (nI q).toNatClampNeg = q := nI_clamp (by omega)
  have vt : vp_in (nI t) 8 := vp_in_nI ht (by omega)
  have vx : vp_in (nI x) 30 := vp_in_nI hx (by omega)
  have wp : vp_in (nI p) 30 := vp_in_nI hp (by omega)
  have wq : vp_in (nI q) 30 := vp_in_nI hq (by omega)
  have n1 : ¬ nI k = 1 := fun z => absurd ((nI_eq (a := k) (b := 1) (by omega) (by omega)).mp z) (by omega)
  have n11 : ¬ nI k = 11 := fun z => absurd ((nI_eq (a := k) (b := 11) (by omega) (by omega)).mp z) (by omega)
  have n9 : ¬ nI k = 9 := fun z => absurd ((nI_eq (a := k) (b := 9) (by omega) (by omega)).mp z) (by omega)
  have n12 : ¬ nI k = 12 := fun z => absurd ((nI_eq (a := k) (b := 12) (by omega) (by omega)).mp z) (by omega)
  refine And.intro vt (nm_r (e' := nI x) (by rw [et]; exact h17) (And.intro vt (nm_r (e' := nI r) (by rw [et]; exact h18) (And.intro vx (nm_r (e' := nI k) (by rw [ex]; exact h1) (And.intro vt (nm_r (e' := 0) (by rw [et]; exact h19) (And.intro vt (And.intro vt (nm_r (e' := upd a19 t 1) (tm_ue et (by rw [et, h19]; decide)) (And.intro vx
    (br_t (by rw [ex]; exact h5) (br_f n1 (br_f n11 (tm_isc0 hx h1 (by omega) (by omega) (br_t rfl (br_f n9 (br_f n12 (And.intro vx (And.intro (by rw [ex, h2]; exact wp) (nm_r (e' := nI p) (by rw [ex, h2, ep]; exact p7) (And.intro vx (And.intro (by rw [ex, h3]; exact wq) (nm_r (e' := nI q) (by rw [ex, h3, eq]; exact q7) ?_))))))))))))))))))))))))
  refine br_t rfl (tm_isi hp p5 p1 (br_f (by decide) (br_t rfl (And.intro vt (And.intro vt (nm_r (e' := upd (upd a19 t 1) t 2) (tm_ue et (by rw [et, pk_us]; decide)) (And.intro vt (br_t (by rw [et, pk_us]) (tm_isi hq q5 q1 (br_f (by decide) (tm_isi hp p5 p1 (br_f (by decide) (And.intro wp (tm_isi hq q5 q1 (br_f (by decide) (And.intro wq ?_))))))))))))))))
  exact tm_write (nI k) (nI r) (nI p) (nI q) 0 hc (tm_b8 k (by omega)) (tm_b8 r hr) (by rw [ep, p2]; exact tm_b8 p (by omega)) (by rw [eq, q2]; exact tm_b8 q (by omega)) rfl H
/-- a variable pushed onto the work list, compiled and done with -/
theorem tm_rt {post : St1 → Prop} {n c x r : Nat} (hc : c < 350) (hx : x < 30) (hr : r < 128) (x1 : a1 x = 1) (x2 : a2 x = nI x) (x5 : a5 x = 0) (x7 : a7 x = nI x)
    (H : ∀ (b12 b13 b14 b15 b16 w17 w18 w19 : Nat → Int32), tm_ag c a12 a13 a14 a15 a16 b12 b13 b14 b15 b16 → tm_ins b12 b13 b14 b15 b16 c 1 (nI r) (nI x) 0 0 → w17 0 = a17 0 → w18 0 = a18 0 → w19 0 = a19 0 →
      wX_compileExpression_29 post n (nI 0) e s cp (nI (c + 1)) oc cu sh iu re a1 a2 a3 a4 a5 a6 a7 a8 a9 a10 a11 b12 b13 b14 b15 b16 w17 w18 w19 a20 a21 a22 a23 a24 a25 a26 a27 a28 a29 a30 a31 a32) :
    wX_compileExpression_85 post (wX_compileExpression_29 post (n + 1)) (nI 0) (nI x) (nI r) e s cp (nI c) oc cu sh iu re a1 a2 a3 a4 a5 a6 a7 a8 a9 a10 a11 a12 a13 a14 a15 a16 a17 a18 a19 a20 a21 a22 a23 a24 a25 a26 a27 a28 a29 a30 a31 a32 := by
  have ex : (nI x).toNatClampNeg = x := nI_clamp (by omega)
  have e1 : (nI 1).toNatClampNeg = 1 := nI_clamp (by omega)
  have vx : vp_in (nI x) 30 := vp_in_nI hx (by omega)
  have v1 : vp_in (nI 1) 8 := vp_in_nI (by omega) (by omega)
  refine nm_r (nI_1 0) (And.intro vx (And.intro v1 (nm_r (e' := upd a17 1 (nI x)) (tm_ue e1 (by rw [ex, x7]; exact tm_nb (by omega))) (And.intro v1 (nm_r (e' := upd a18 1 (nI r)) (tm_ue e1 (tm_b8 r hr)) (And.intro v1 (nm_r (e' := upd a19 1 0) (tm_ue e1 rfl) ?_)))))))
  exact br_f (by decide) (tm_cp1 (t := 1) (by omega) hc hx hr (by omega) pk_us pk_us x1 x5 x2 (fun _ _ _ _ _ _ g1 g2 g3 => br_f (by decide) (nm_r (e' := nI 0) (by decide) (H _ _ _ _ _ _ _ _ g1 g2 (pk_un (by omega)) (pk_un (by omega)) ((g3 0 (by omega)).trans (pk_un (by omega)))))))
end
end
section
/-! ===== compileExpression, compileStatement, compile, sound ===== -/
section
variable {a12 a13 a14 a15 a16 b12 b13 b14 b15 b16 : Nat → Int32}
theorem tm_ag16 {n g : Nat} {v : Int32} (h : tm_ag n a12 a13 a14 a15 a16 b12 b13 b14 b15 b16) (hg : n ≤ g) : tm_ag n a12 a13 a14 a15 a16 b12 b13 b14 b15 (upd b16 g v) := by
  intro j hj
  obtain ⟨g1, g2, g3, g4, g5⟩ := h j hj
  exact ⟨g1, g2, g3, g4, (pk_un (by omega)).trans g5⟩
theorem tm_ins16 {j g : Nat} {o a b d k v : Int32} (h : tm_ins b12 b13 b14 b15 b16 j o a b d k) (hg : j ≠ g) : tm_ins b12 b13 b14 b15 (upd b16 g v) j o a b d k :=
  ⟨h.1, h.2.1, h.2.2.1, h.2.2.2.1, (pk_un hg).trans h.2.2.2.2⟩
theorem tm_ins16s {g : Nat} {o a b d k v : Int32} (h : tm_ins b12 b13 b14 b15 b16 g o a b d k) : tm_ins b12 b13 b14 b15 (upd b16 g v) g o a b d v :=
  ⟨h.1, h.2.1, h.2.2.1, h.2.2.2.1, pk_us⟩
theorem tm_cxb {k p q c : Nat} {num : Int32} (hk : 2 ≤ k) (hk6 : k ≤ 6) (h : tm_ins b12 b13 b14 b15 b16 c (nI k) 6 (nI p) (nI q) 0) : tm_cx k p q num c b12 b13 b14 b15 b16 := by
  unfold tm_cx
  rw [if_neg (by omega), if_neg (by omega), if_neg (by omega), if_neg (by omega)]
  exact h
theorem tm_lxb1 {k : Nat} (hk6 : k ≤ 6) : tm_lx k = 1 := by
  unfold tm_lx
  rw [if_neg (by omega), if_neg (by omega), if_neg (by omega)]
theorem tm_lx7 : tm_lx 7 = 3 := rfl
theorem tm_lx8 : tm_lx 8 = 3 := rfl
theorem tm_lx9 : tm_lx 9 = 2 := rfl
end
def tm_E (kd dd pp qq : Nat → Nat) (nu : Nat → Int32) (n : Nat) (a1 a2 a3 a4 a5 a6 a7 a8 a9 a10 : Nat → Int32) : Prop :=
  (∀ v, v < 3 → a1 v = 1 ∧ a2 v = nI v ∧ a4 v = 1 ∧ a5 v = 0 ∧ a7 v = nI v) ∧
  (∀ i, i < n → a1 (3 + i) = nI (tm_ek (kd i)) ∧ a7 (3 + i) = nI (3 + i) ∧ (tm_ek (kd i) = 0 → a5 (3 + i) = 1 ∧ a6 (3 + i) = nu i) ∧
    (¬ tm_ek (kd i) = 0 → a5 (3 + i) = 0 ∧ a2 (3 + i) = nI (pp i) ∧ a3 (3 + i) = nI (qq i)) ∧
    (kd i = 11 → a8 i = 4 ∧ a9 i = nI (3 + i)) ∧ (¬ kd i = 11 → a8 i = 0 ∧ a9 i = nI (dd i) ∧ a10 i = nI (3 + i)))
def tm_B (kd dd pp qq : Nat → Nat) : Prop := ∀ i, kd i < 12 ∧ dd i < 3 ∧ pp i < 3 ∧ qq i < 3
theorem tm_ekr {k : Nat} (h : k < 12) : tm_ek k = 0 ∨ (2 ≤ tm_ek k ∧ tm_ek k ≤ 9) := by
  unfold tm_ek
  split <;> omega
section
variable {e s cp ce oc cu sh iu re : Int32} {a1 a2 a3 a4 a5 a6 a7 a8 a9 a10 a11 a12 a13 a14 a15 a16 a17 a18 a19 a20 a21 a22 a23 a24 a25 a26 a27 : Nat → Int32} {a28 : Nat → Int64} {a29 a30 a31 a32 : Nat → Int32}
theorem tm_isc1y {post : Int32 → Prop} {x k : Nat} {y : Int32} (hy : y = nI x) (hx : x < 30) (h1 : a1 x = nI k) (hk : k = 7 ∨ k = 8) (H : post 1) : wpX_isChoice post (e, s, cp, ce, oc, cu, sh, iu, re, a1, a2, a3, a4, a5, a6, a7, a8, a9, a10, a11, a12, a13, a14, a15, a16, a17, a18, a19, a20, a21, a22, a23, a24, a25, a26, a27, a28, a29, a30, a31, a32) y := by
  subst hy
  exact tm_isc1 hx h1 hk H
theorem tm_ce0 {post : St1 → Prop} {c x : Nat} {y num : Int32} (hy : y = nI x) (hc : c < 350) (hx : x < 30) (h7 : a7 x = nI x) (h1 : a1 x = nI 0) (h5 : a5 x = 1) (h6 : a6 x = num)
    (H : ∀ b12 b13 b14 b15 b16 w17 w18 w19 w20 : Nat → Int32, tm_ag c a12 a13 a14 a15 a16 b12 b13 b14 b15 b16 → tm_ins b12 b13 b14 b15 b16 c 0 6 0 0 num → post (e, s, cp, nI (c + 1), oc, cu, sh, iu, re, a1, a2, a3, a4, a5, a6, a7, a8, a9, a10, a11, b12, b13, b14, b15, b16, w17, w18, w19, w20, a21, a22, a23, a24, a25, a26, a27, a28, a29, a30, a31, a32)) : wpX_compileExpression post (e, s, cp, nI c, oc, cu, sh, iu, re, a1, a2, a3, a4, a5, a6, a7, a8, a9, a10, a11, a12, a13, a14, a15, a16, a17, a18, a19, a20, a21, a22, a23, a24, a25, a26, a27, a28, a29, a30, a31, a32) y 6 := by
  subst hy
  have ex : (nI x).toNatClampNeg = x := nI_clamp (by omega)
  have vx : vp_in (nI x) 30 := vp_in_nI hx (by omega)
  refine And.intro vx (nm_r (e' := upd a17 0 (nI x)) (by rw [ex, h7, tm_nb (by omega)]) (nm_r (e' := upd a18 0 (nI 6)) (congrArg (upd a18 0) (by decide)) (nm_e ⟨0 + 1 + 1, ?_⟩)))
  exact br_f (by decide) (tm_cp0 (t := 0) (by omega) hc hx (by omega) pk_us pk_us h1 h5 h6 (fun _ _ _ _ _ _ g1 g2 _ => br_f (by decide) (nm_r (e' := -1) (by decide) (br_t (by decide) (H _ _ _ _ _ _ _ _ _ g1 g2)))))
theorem tm_ceb {post : St1 → Prop} {c x k p q : Nat} {y : Int32} (hy : y = nI x) (hc : c < 350) (hx : x < 30) (h7 : a7 x = nI x) (hk : 2 ≤ k) (hk6 : k ≤ 6) (hp : p < 3) (hq : q < 3) (h1 : a1 x = nI k) (h5 : a5 x = 0) (h2 : a2 x = nI p) (h3 : a3 x = nI q)
    (hv : ∀ v, v < 3 → a1 v = 1 ∧ a2 v = nI v ∧ a4 v = 1 ∧ a5 v = 0 ∧ a7 v = nI v)
    (H : ∀ b12 b13 b14 b15 b16 w17 w18 w19 w20 : Nat → Int32, tm_ag c a12 a13 a14 a15 a16 b12 b13 b14 b15 b16 → tm_ins b12 b13 b14 b15 b16 c (nI k) 6 (nI p) (nI q) 0 → post (e, s, cp, nI (c + 1), oc, cu, sh, iu, re, a1, a2, a3, a4, a5, a6, a7, a8, a9, a10, a11, b12, b13, b14, b15, b16, w17, w18, w19, w20, a21, a22, a23, a24, a25, a26, a27, a28, a29, a30, a31, a32)) : wpX_compileExpression post (e, s, cp, nI c, oc, cu, sh, iu, re, a1, a2, a3, a4, a5, a6, a7, a8, a9, a10, a11, a12, a13, a14, a15, a16, a17, a18, a19, a20, a21, a22, a23, a24, a25, a26, a27, a28, a29, a30, a31, a32) y 6 := by
  subst hy
  have ex : (nI x).toNatClampNeg = x := nI_clamp (by omega)
  have vx : vp_in (nI x) 30 := vp_in_nI hx (by omega)
  obtain ⟨p1, p2, p4, p5, p7⟩ := hv p hp
  obtain ⟨q1, q2, q4, q5, q7⟩ := hv q hq
  refine And.intro vx (nm_r (e' := upd a17 0 (nI x)) (by rw [ex, h7, tm_nb (by omega)]) (nm_r (e' := upd a18 0 (nI 6)) (congrArg (upd a18 0) (by decide)) (nm_e ⟨0 + 1 + 1, ?_⟩)))
  exact br_f (by decide) (tm_cpb (t := 0) (r := 6) (by omega) hc hx (by omega) hk hk6 (by omega) (by omega) pk_us pk_us pk_us h1 h5 h2 h3 p1 p2 p5 p7 q1 q2 q5 q7 (fun _ _ _ _ _ g1 g2 => br_f (by decide) (nm_r (e' := -1) (by decide) (br_t (by decide) (H _ _ _ _ _ _ _ _ _ g1 g2)))))
theorem tm_cen {post : St1 → Prop} {c x p : Nat} {y : Int32} (hy : y = nI x) (hc : c + 1 < 350) (hx : x < 30) (h7 : a7 x = nI x) (hp : p < 3) (h1 : a1 x = nI 9) (h5 : a5 x = 0) (h2 : a2 x = nI p)
    (hv : ∀ v, v < 3 → a1 v = 1 ∧ a2 v = nI v ∧ a4 v = 1 ∧ a5 v = 0 ∧ a7 v = nI v)
    (H : ∀ b12 b13 b14 b15 b16 w17 w18 w19 w20 : Nat → Int32, tm_ag c a12 a13 a14 a15 a16 b12 b13 b14 b15 b16 → tm_ins b12 b13 b14 b15 b16 c 1 6 (nI p) 0 0 → tm_ins b12 b13 b14 b15 b16 (c + 1) 9 6 6 0 0 → post (e, s, cp, nI (c + 2), oc, cu, sh, iu, re, a1, a2, a3, a4, a5, a6, a7, a8, a9, a10, a11, b12, b13, b14, b15, b16, w17, w18, w19, w20, a21, a22, a23, a24, a25, a26, a27, a28, a29, a30, a31, a32)) : wpX_compileExpression post (e, s, cp, nI c, oc, cu, sh, iu, re, a1, a2, a3, a4, a5, a6, a7, a8, a9, a10, a11, a12, a13, a14, a15, a16, a17, a18, a19, a20, a21, a22, a23, a24, a25, a26, a27, a28, a29, a30, a31, a32) y 6 := by
  subst hy
  have ex : (nI x).toNatClampNeg = x := nI_clamp (by omega)
  have vx : vp_in (nI x) 30 := vp_in_nI hx (by omega)
  have v0 : vp_in (nI 0) 8 := vp_in_nI (by omega) (by omega)
  obtain ⟨p1, p2, p4, p5, p7⟩ := hv p hp
  refine And.intro vx (nm_r (e' := upd a17 0 (nI x)) (by rw [ex, h7, tm_nb (by omega)]) (nm_r (e' := upd a18 0 (nI 6)) (congrArg (upd a18 0) (by decide)) (nm_e ⟨0 + 1 + 1 + 1 + 1, ?_⟩)))
  refine br_f (by decide) (tm_cpn0 (t := 0) (r := 6) (by omega) hx pk_us pk_us pk_us h1 h5 h2 (br_t (nI_pos' (by omega)) (And.intro v0 (nm_r (e' := nI 6) pk_us (And.intro v0 (br_f ?_ (tm_rt (by omega) (by omega) (by omega) p1 p2 p5 p7 ?_)))))))
  · show ¬ upd (upd a19 0 0) 0 1 0 = 2
    rw [pk_us]
    decide
  · intro b12 b13 b14 b15 b16 w17 w18 w19 g1 g2 e17 e18 e19
    exact br_f (by decide) (tm_cpn1 (t := 0) (r := 6) (by omega) hc hx (by omega) (e17.trans pk_us) (e18.trans pk_us) (e19.trans pk_us) h1 h5 (fun _ _ _ _ _ g3 g4 => br_f (by decide) (nm_r (e' := -1) (by decide) (br_t (by decide) (H _ _ _ _ _ _ _ _ _ (tm_agt g1 g3 (by omega)) (tm_insa g2 g3 (by omega)) g4)))))
theorem tm_cec {post : St1 → Prop} {c x p q k : Nat} {y : Int32} (o : Int32) (hy : y = nI x) (hc : c + 2 < 350) (hx : x < 30) (h7 : a7 x = nI x) (hp : p < 3) (hq : q < 3) (hk : k = 7 ∧ o = 19 ∨ k = 8 ∧ o = 20) (h1 : a1 x = nI k) (h5 : a5 x = 0) (h2 : a2 x = nI p) (h3 : a3 x = nI q)
    (hv : ∀ v, v < 3 → a1 v = 1 ∧ a2 v = nI v ∧ a4 v = 1 ∧ a5 v = 0 ∧ a7 v = nI v)
    (H : ∀ b12 b13 b14 b15 b16 w17 w18 w19 w20 : Nat → Int32, tm_ag c a12 a13 a14 a15 a16 b12 b13 b14 b15 b16 → tm_ins b12 b13 b14 b15 b16 c 1 6 (nI p) 0 0 → tm_ins b12 b13 b14 b15 b16 (c + 1) o 6 0 0 (nI (c + 3)) → tm_ins b12 b13 b14 b15 b16 (c + 2) 1 6 (nI q) 0 0 → post (e, s, cp, nI (c + 3), oc, cu, sh, iu, re, a1, a2, a3, a4, a5, a6, a7, a8, a9, a10, a11, b12, b13, b14, b15, b16, w17, w18, w19, w20, a21, a22, a23, a24, a25, a26, a27, a28, a29, a30, a31, a32)) : wpX_compileExpression post (e, s, cp, nI c, oc, cu, sh, iu, re, a1, a2, a3, a4, a5, a6, a7, a8, a9, a10, a11, a12, a13, a14, a15, a16, a17, a18, a19, a20, a21, a22, a23, a24, a25, a26, a27, a28, a29, a30, a31, a32) y 6 := by
  subst hy
  have ex : (nI x).toNatClampNeg = x := nI_clamp (by omega)
  have vx : vp_in (nI x) 30 := vp_in_nI hx (by omega)
  have v0 : vp_in (nI 0) 8 := vp_in_nI (by omega) (by omega)
  obtain ⟨p1, p2, p4, p5, p7⟩ := hv p hp
  obtain ⟨q1, q2, q4, q5, q7⟩ := hv q hq
  refine And.intro vx (nm_r (e' := upd a17 0 (nI x)) (by rw [ex, h7, tm_nb (by omega)]) (nm_r (e' := upd a18 0 (nI 6)) (congrArg (upd a18 0) (by decide)) (nm_e ⟨0 + 1 + 1 + 1 + 1 + 1 + 1, ?_⟩)))
  refine br_f (by decide) (tm_cpc0 (t := 0) (r := 6) (by omega) hx (by omega) pk_us pk_us pk_us h1 h5 h2 (br_t (nI_pos' (by omega)) (And.intro v0 (nm_r (e' := nI 6) pk_us (And.intro v0 (br_f ?_ (tm_rt (by omega) (by omega) (by omega) p1 p2 p5 p7 ?_)))))))
  · show ¬ upd (upd a19 0 0) 0 1 0 = 2
    rw [pk_us]
    decide
  · intro b12 b13 b14 b15 b16 w17 w18 w19 g1 g2 e17 e18 e19
    have f17 : w17 0 = nI x := e17.trans pk_us
    have f18 : w18 0 = nI 6 := e18.trans pk_us
    have f19 : w19 0 = 1 := e19.trans pk_us
    refine br_f (by decide) (tm_cpc1 (t := 0) (r := 6) o (by omega) (by omega) hx (by omega) hk f17 f18 f19 h1 h5 h3 ?_)
    intro c12 c13 c14 c15 c16 g3 g4
    refine br_t (nI_pos' (by omega)) (And.intro v0 (nm_r (e' := nI 6) f18 (And.intro v0 (br_t pk_us (And.intro v0 (tm_isc1y (x := x) f17 hx h1 (by omega) (br_f (by decide) (tm_rt (by omega) (by omega) (by omega) q1 q2 q5 q7 ?_))))))))
    intro d12 d13 d14 d15 d16 y17 y18 y19 g5 g6 i17 i18 i19
    refine br_f (by decide) (tm_cpc2 (t := 0) (r := 6) (c := c + 3) (g := c + 1) (by omega) (by omega) hx (by omega) (i17.trans f17) (i18.trans f18) (i19.trans pk_us) pk_us h1 h5 (br_f (by decide) (nm_r (e' := -1) (by decide) (br_t (by decide) ?_))))
    exact H _ _ _ _ _ _ _ _ _ (tm_ag16 (tm_agt (tm_agt g1 g3 (by omega)) g5 (by omega)) (by omega)) (tm_ins16 (tm_insa (tm_insa g2 g3 (by omega)) g5 (by omega)) (by omega)) (tm_ins16s (tm_insa g4 g5 (by omega))) (tm_ins16 g6 (by omega))
theorem tm_cexpr {post : St1 → Prop} {c x p q k : Nat} {y num : Int32} (hy : y = nI x) (hc : c + 2 < 350) (hx : x < 30) (h7 : a7 x = nI x) (hp : p < 3) (hq : q < 3) (hk : k = 0 ∨ (2 ≤ k ∧ k ≤ 9)) (h1 : a1 x = nI k) (h0 : k = 0 → a5 x = 1 ∧ a6 x = num) (h2 : ¬ k = 0 → a5 x = 0 ∧ a2 x = nI p ∧ a3 x = nI q)
    (hv : ∀ v, v < 3 → a1 v = 1 ∧ a2 v = nI v ∧ a4 v = 1 ∧ a5 v = 0 ∧ a7 v = nI v)
    (H : ∀ b12 b13 b14 b15 b16 w17 w18 w19 w20 : Nat → Int32, tm_ag c a12 a13 a14 a15 a16 b12 b13 b14 b15 b16 → tm_cx k p q num c b12 b13 b14 b15 b16 → post (e, s, cp, nI (c + tm_lx k), oc, cu, sh, iu, re, a1, a2, a3, a4, a5, a6, a7, a8, a9, a10, a11, b12, b13, b14, b15, b16, w17, w18, w19, w20, a21, a22, a23, a24, a25, a26, a27, a28, a29, a30, a31, a32)) : wpX_compileExpression post (e, s, cp, nI c, oc, cu, sh, iu, re, a1, a2, a3, a4, a5, a6, a7, a8, a9, a10, a11, a12, a13, a14, a15, a16, a17, a18, a19, a20, a21, a22, a23, a24, a25, a26, a27, a28, a29, a30, a31, a32) y 6 := by
  by_cases z0 : k = 0
  · subst z0
    rw [tm_lxb1 (by omega)] at H
    exact tm_ce0 hy (by omega) hx h7 h1 (h0 rfl).1 (h0 rfl).2 (fun _ _ _ _ _ _ _ _ _ g1 g2 => H _ _ _ _ _ _ _ _ _ g1 g2)
  · obtain ⟨f5, f2, f3⟩ := h2 z0
    by_cases z6 : k ≤ 6
    · rw [tm_lxb1 z6] at H
      exact tm_ceb hy (by omega) hx h7 (by omega) z6 hp hq h1 f5 f2 f3 hv (fun _ _ _ _ _ _ _ _ _ g1 g2 => H _ _ _ _ _ _ _ _ _ g1 (tm_cxb (by omega) z6 g2))
    · have c9 : k = 7 ∨ k = 8 ∨ k = 9 := by omega
      rcases c9 with rfl | rfl | rfl
      · rw [tm_lx7] at H
        exact tm_cec 19 hy hc hx h7 hp hq (Or.inl ⟨rfl, rfl⟩) h1 f5 f2 f3 hv (fun _ _ _ _ _ _ _ _ _ g1 g2 g3 g4 => H _ _ _ _ _ _ _ _ _ g1 (And.intro g2 (And.intro g3 g4)))
      · rw [tm_lx8] at H
        exact tm_cec 20 hy hc hx h7 hp hq (Or.inr ⟨rfl, rfl⟩) h1 f5 f2 f3 hv (fun _ _ _ _ _ _ _ _ _ g1 g2 g3 g4 => H _ _ _ _ _ _ _ _ _ g1 (And.intro g2 (And.intro g3 g4)))
      · rw [tm_lx9] at H
        exact tm_cen hy (by omega) hx h7 hp h1 f5 f2 hv (fun _ _ _ _ _ _ _ _ _ g1 g2 g3 => H _ _ _ _ _ _ _ _ _ g1 (And.intro g2 g3))
theorem tm_cst {post : St1 → Prop} {kd dd pp qq : Nat → Nat} {nu : Nat → Int32} {c i N : Nat} (E : tm_E kd dd pp qq nu N a1 a2 a3 a4 a5 a6 a7 a8 a9 a10) (B : tm_B kd dd pp qq) (hi : i < N) (hN : N ≤ 14) (hc : c + 5 ≤ 350)
    (H : ∀ b12 b13 b14 b15 b16 w17 w18 w19 w20 : Nat → Int32, tm_ag c a12 a13 a14 a15 a16 b12 b13 b14 b15 b16 → tm_cs kd dd pp qq nu i c b12 b13 b14 b15 b16 → post (e, s, cp, nI (c + (2 + tm_lx (tm_ek (kd i)))), oc, cu, sh, iu, re, a1, a2, a3, a4, a5, a6, a7, a8, a9, a10, a11, b12, b13, b14, b15, b16, w17, w18, w19, w20, a21, a22, a23, a24, a25, a26, a27, a28, a29, a30, a31, a32)) : wpX_compileStatement post (e, s, cp, nI c, oc, cu, sh, iu, re, a1, a2, a3, a4, a5, a6, a7, a8, a9, a10, a11, a12, a13, a14, a15, a16, a17, a18, a19, a20, a21, a22, a23, a24, a25, a26, a27, a28, a29, a30, a31, a32) (nI i) := by
  obtain ⟨hv, hs⟩ := E
  obtain ⟨f1, f7, fa, fb, f11, fn⟩ := hs i hi
  obtain ⟨bk, bd, bp, bq⟩ := B i
  have ei : (nI i).toNatClampNeg = i := nI_clamp (by omega)
  have vi : vp_in (nI i) 14 := vp_in_nI (by omega) (by omega)
  have hl := tm_lxb (tm_ek (kd i))
  by_cases z : kd i = 11
  · obtain ⟨f8, f9⟩ := f11 z
    refine And.intro vi (nm_r (e' := 4) (by rw [ei]; exact f8) (tm_write 18 0 0 0 (nI i) (by omega) (by decide) rfl rfl rfl rfl ?_))
    intro b12 b13 b14 b15 b16 g1 g2
    refine br_f (by decide) (br_f (by decide) (br_f (by decide) (br_f (by decide) (And.intro vi (tm_cexpr (x := 3 + i) (c := c + 1) (by rw [ei]; exact f9) (by omega) (by omega) f7 bp bq (tm_ekr bk) f1 fa fb hv ?_)))))
    intro c12 c13 c14 c15 c16 w17 w18 w19 w20 g3 g4
    refine tm_write (c := c + 1 + tm_lx (tm_ek (kd i))) 14 6 0 0 0 (by omega) (by decide) (by decide) rfl rfl rfl ?_
    intro d12 d13 d14 d15 d16 g5 g6
    have e2 : c + 1 + tm_lx (tm_ek (kd i)) + 1 = c + (2 + tm_lx (tm_ek (kd i))) := by omega
    rw [e2]
    exact H _ _ _ _ _ _ _ _ _ (tm_agt (tm_agt g1 g3 (by omega)) g5 (by omega)) ⟨tm_insa (tm_insa g2 g3 (by omega)) g5 (by omega), tm_cxa g4 g5 (by omega), fun _ => g6, fun z' => absurd z z'⟩
  · obtain ⟨f8, f9, f10⟩ := fn z
    refine And.intro vi (nm_r (e' := 0) (by rw [ei]; exact f8) (tm_write 18 0 0 0 (nI i) (by omega) (by decide) rfl rfl rfl rfl ?_))
    intro b12 b13 b14 b15 b16 g1 g2
    refine br_t rfl (And.intro vi (tm_cexpr (x := 3 + i) (c := c + 1) (by rw [ei]; exact f10) (by omega) (by omega) f7 bp bq (tm_ekr bk) f1 fa fb hv ?_))
    intro c12 c13 c14 c15 c16 w17 w18 w19 w20 g3 g4
    refine And.intro vi (tm_write (c := c + 1 + tm_lx (tm_ek (kd i))) 1 (nI (dd i)) 6 0 0 (by omega) (by decide) (by rw [ei, f9]; exact tm_b8 _ (by omega)) (by decide) rfl rfl ?_)
    intro d12 d13 d14 d15 d16 g5 g6
    have e2 : c + 1 + tm_lx (tm_ek (kd i)) + 1 = c + (2 + tm_lx (tm_ek (kd i))) := by omega
    rw [e2]
    exact H _ _ _ _ _ _ _ _ _ (tm_agt (tm_agt g1 g3 (by omega)) g5 (by omega)) ⟨tm_insa (tm_insa g2 g3 (by omega)) g5 (by omega), tm_cxa g4 g5 (by omega), fun z' => absurd z' z, fun _ => g6⟩
theorem tm_close {post : St1 → Prop} {x : Int32} (H : post (e, s, cp, ce, 0, cu, sh, iu, re, a1, a2, a3, a4, a5, a6, a7, a8, a9, a10, a11, a12, a13, a14, a15, a16, a17, a18, a19, a20, a21, a22, a23, a24, a25, a26, a27, a28, a29, a30, a31, a32)) : wpX_closeStretches post (e, s, cp, ce, 0, cu, sh, iu, re, a1, a2, a3, a4, a5, a6, a7, a8, a9, a10, a11, a12, a13, a14, a15, a16, a17, a18, a19, a20, a21, a22, a23, a24, a25, a26, a27, a28, a29, a30, a31, a32) x := ⟨0 + 1, br_t (by decide) H⟩
theorem tm_c25 {post : St1 → Prop} {kd dd pp qq : Nat → Nat} {nu : Nat → Int32} {N : Nat} (E : tm_E kd dd pp qq nu N a1 a2 a3 a4 a5 a6 a7 a8 a9 a10) (B : tm_B kd dd pp qq) (hN : N ≤ 14)
    (H : ∀ b12 b13 b14 b15 b16 w17 w18 w19 w20 : Nat → Int32, (∀ k, k < N → tm_cs kd dd pp qq nu k (tm_ps kd k) b12 b13 b14 b15 b16) → post (e, nI N, cp, nI (tm_ps kd N), 0, cu, sh, iu, re, a1, a2, a3, a4, a5, a6, a7, a8, a9, a10, a11, b12, b13, b14, b15, b16, w17, w18, w19, w20, a21, a22, a23, a24, a25, a26, a27, a28, a29, a30, a31, a32)) :
    ∀ m i, i ≤ N → N - i < m → ∀ b12 b13 b14 b15 b16 w17 w18 w19 w20 : Nat → Int32, (∀ k, k < i → tm_cs kd dd pp qq nu k (tm_ps kd k) b12 b13 b14 b15 b16) → wX_compile_25 post m (nI i) e (nI N) cp (nI (tm_ps kd i)) 0 cu sh iu re a1 a2 a3 a4 a5 a6 a7 a8 a9 a10 a11 b12 b13 b14 b15 b16 w17 w18 w19 w20 a21 a22 a23 a24 a25 a26 a27 a28 a29 a30 a31 a32 := by
  intro m
  induction m with
  | zero => exact fun i _ h => absurd h (by omega)
  | succ m ih =>
    intro i hi hm b12 b13 b14 b15 b16 w17 w18 w19 w20 hk
    refine pk_le N i (fun z => ?_) (fun z => ?_)
    · have e : i = N := by omega
      subst e
      exact tm_close (H _ _ _ _ _ _ _ _ _ hk)
    · have hb := tm_psb kd i
      refine tm_close (tm_cst E B z hN (by omega) ?_)
      intro c12 c13 c14 c15 c16 y17 y18 y19 y20 g1 g2
      refine nm_r (nI_1 i) (ih (i + 1) (by omega) (by omega) _ _ _ _ _ _ _ _ _ ?_)
      intro k hki
      by_cases e : k = i
      · rw [e]
        exact g2
      · have hmn : tm_ps kd (k + 1) ≤ tm_ps kd i := tm_psm kd (by omega)
        exact tm_csa (hk k (by omega)) g1 hmn
theorem tm_comp {post : St1 → Prop} {kd dd pp qq : Nat → Nat} {nu : Nat → Int32} {N : Nat} (E : tm_E kd dd pp qq nu N a1 a2 a3 a4 a5 a6 a7 a8 a9 a10) (B : tm_B kd dd pp qq) (hN : N ≤ 14)
    (H : ∀ b12 b13 b14 b15 b16 w17 w18 w19 w20 : Nat → Int32, (∀ k, k < N → tm_cs kd dd pp qq nu k (tm_ps kd k) b12 b13 b14 b15 b16) → post (e, nI N, 1, nI (tm_ps kd N), 0, cu, sh, iu, re, a1, a2, a3, a4, a5, a6, a7, a8, a9, a10, a11, b12, b13, b14, b15, b16, w17, w18, w19, w20, a21, a22, a23, a24, a25, a26, a27, a28, a29, a30, a31, a32)) : wpX_compile post (e, nI N, 0, ce, oc, cu, sh, iu, re, a1, a2, a3, a4, a5, a6, a7, a8, a9, a10, a11, a12, a13, a14, a15, a16, a17, a18, a19, a20, a21, a22, a23, a24, a25, a26, a27, a28, a29, a30, a31, a32) :=
  br_t rfl ⟨N + 1, tm_c25 E B hN H (N + 1) 0 (by omega) (by omega) _ _ _ _ _ _ _ _ _ (fun k hk => absurd hk (by omega))⟩
theorem tm_sound {post : Int32 → St1 → Prop} {kd dd pp qq : Nat → Nat} {nu : Nat → Int32} {N : Nat} (E : tm_E kd dd pp qq nu N a1 a2 a3 a4 a5 a6 a7 a8 a9 a10) (hN : N ≤ 14)
    (H : post 1 (e, nI N, cp, ce, 0, cu, sh, iu, re, a1, a2, a3, a4, a5, a6, a7, a8, a9, a10, a11, a12, a13, a14, a15, a16, a17, a18, a19, a20, a21, a22, a23, a24, a25, a26, a27, a28, a29, a30, a31, a32)) : wpX_sound post (e, nI N, cp, ce, oc, cu, sh, iu, re, a1, a2, a3, a4, a5, a6, a7, a8, a9, a10, a11, a12, a13, a14, a15, a16, a17, a18, a19, a20, a21, a22, a23, a24, a25, a26, a27, a28, a29, a30, a31, a32) := by
  have h8 : ∀ i, i < N → ¬ a8 i = 2 ∧ ¬ a8 i = 3 := by
    intro i hi
    by_cases z : kd i = 11
    · rw [((E.2 i hi).2.2.2.2.1 z).1]
      decide
    · rw [((E.2 i hi).2.2.2.2.2 z).1]
      decide
  exact pk_loop (σ := Unit) (fun n i _ => wX_sound_9 post e (nI N) cp ce cu sh iu re n 0 (nI i) 0 a1 a2 a3 a4 a5 a6 a7 a8 a9 a10 a11 a12 a13 a14 a15 a16 a17 a18 a19 a20 a21 a22 a23 a24 a25 a26 a27 a28 a29 a30 a31 a32) (fun _ _ => True) N 0 () (by omega) trivial
    (fun n _ _ => pk_le N N (fun _ => H) (fun z => absurd z (by omega)))
    (fun n i _ hi _ hw => pk_le N i (fun z => absurd z (by omega)) (fun _ => ⟨0 + 1, br_t (by decide) (And.intro (pk_in i 14 (by omega)) (br_f (by rw [nI_clamp (by omega)]; exact (h8 i hi).1) (And.intro (pk_in i 14 (by omega)) (br_f (by rw [nI_clamp (by omega)]; exact (h8 i hi).2) (nm_r (nI_1 i) (hw () trivial))))))⟩))
end
end
section
/-! ===== the machine, one operation at a time ===== -/
theorem tm_Rhi {a24 a25 : Nat → Int32} {V : Nat → Option Int32} {k : Nat} {x y : Int32} (h : tm_R a24 a25 V) (hk : 6 ≤ k) : tm_R (upd a24 k x) (upd a25 k y) V := by
  intro r hr
  have z : r ≠ k := by omega
  rw [pk_un z, pk_un z]
  exact h r hr
theorem tm_Rset {a24 a25 : Nat → Int32} {V : Nat → Option Int32} {k : Nat} {v : Option Int32} (h : tm_R a24 a25 V) : tm_R (upd a24 k (tm_tag v)) (upd a25 k (tm_val v)) (tm_set V k v) := by
  intro r hr
  unfold tm_set
  by_cases z : r = k
  · rw [if_pos z, z, pk_us, pk_us]
    exact ⟨rfl, rfl⟩
  · rw [if_neg z, pk_un z, pk_un z]
    exact h r hr
section
variable {e s cp ce oc cu sh iu re : Int32} {a1 a2 a3 a4 a5 a6 a7 a8 a9 a10 a11 a12 a13 a14 a15 a16 a17 a18 a19 a20 a21 a22 a23 a24 a25 a26 a27 : Nat → Int32} {a28 : Nat → Int64} {a29 a30 a31 a32 : Nat → Int32}
theorem tm_setr {post : St1 → Prop} {r : Nat} {y p1 p2 : Int32} (x1 x2 : Int32) (hy : y = nI r) (hr : r < 18) (h1 : p1.toInt8.toInt32 = x1) (h2 : p2 = x2)
    (H : post (e, s, cp, ce, oc, cu, sh, iu, re, a1, a2, a3, a4, a5, a6, a7, a8, a9, a10, a11, a12, a13, a14, a15, a16, a17, a18, a19, a20, a21, a22, a23, upd a24 r x1, upd a25 r x2, a26, a27, a28, a29, a30, a31, a32)) : wpX_setRegister post (e, s, cp, ce, oc, cu, sh, iu, re, a1, a2, a3, a4, a5, a6, a7, a8, a9, a10, a11, a12, a13, a14, a15, a16, a17, a18, a19, a20, a21, a22, a23, a24, a25, a26, a27, a28, a29, a30, a31, a32) y p1 p2 := by
  subst hy
  have c : (nI r).toNatClampNeg = r := nI_clamp (by omega)
  have v : vp_in (nI r) 18 := vp_in_nI hr (by omega)
  exact And.intro v (nm_r (tm_ue c h1) (And.intro v (nm_r (tm_ue c h2) H)))
theorem tm_clr {post : St1 → Prop} {r : Nat} (hr : r < 18) (H : post (e, s, cp, ce, oc, cu, sh, iu, re, a1, a2, a3, a4, a5, a6, a7, a8, a9, a10, a11, a12, a13, a14, a15, a16, a17, a18, a19, a20, a21, a22, a23, upd a24 r 0, upd a25 r 0, a26, a27, a28, a29, a30, a31, a32)) : wpX_clearRegister post (e, s, cp, ce, oc, cu, sh, iu, re, a1, a2, a3, a4, a5, a6, a7, a8, a9, a10, a11, a12, a13, a14, a15, a16, a17, a18, a19, a20, a21, a22, a23, a24, a25, a26, a27, a28, a29, a30, a31, a32) (nI r) :=
  have c : (nI r).toNatClampNeg = r := nI_clamp (by omega)
  have v : vp_in (nI r) 18 := vp_in_nI hr (by omega)
  And.intro v (nm_r (tm_ue c rfl) (And.intro v (nm_r (tm_ue c rfl) H)))
theorem tm_setT {post : St1 → Prop} {r : Nat} {y : Int32} (b : Bool) (hy : y = nI r) (hr : r < 18)
    (H : post (e, s, cp, ce, oc, cu, sh, iu, re, a1, a2, a3, a4, a5, a6, a7, a8, a9, a10, a11, a12, a13, a14, a15, a16, a17, a18, a19, a20, a21, a22, a23, upd a24 r (tm_tag (tm_tr b)), upd a25 r (tm_val (tm_tr b)), a26, a27, a28, a29, a30, a31, a32)) : wpX_setTruth post (e, s, cp, ce, oc, cu, sh, iu, re, a1, a2, a3, a4, a5, a6, a7, a8, a9, a10, a11, a12, a13, a14, a15, a16, a17, a18, a19, a20, a21, a22, a23, a24, a25, a26, a27, a28, a29, a30, a31, a32) y (if b then 1 else 0) := by
  cases b with
  | false => exact br_t rfl (br_t rfl (tm_setr 0 0 hy hr rfl rfl H))
  | true => exact br_f (by decide) (br_f (by decide) (tm_setr 1 1 hy hr rfl rfl H))
theorem tm_setT0 {post : St1 → Prop} {r : Nat} {y : Int32} {b : Bool} (hb : b = false) (hy : y = nI r) (hr : r < 18)
    (H : post (e, s, cp, ce, oc, cu, sh, iu, re, a1, a2, a3, a4, a5, a6, a7, a8, a9, a10, a11, a12, a13, a14, a15, a16, a17, a18, a19, a20, a21, a22, a23, upd a24 r (tm_tag (tm_tr b)), upd a25 r (tm_val (tm_tr b)), a26, a27, a28, a29, a30, a31, a32)) : wpX_setTruth post (e, s, cp, ce, oc, cu, sh, iu, re, a1, a2, a3, a4, a5, a6, a7, a8, a9, a10, a11, a12, a13, a14, a15, a16, a17, a18, a19, a20, a21, a22, a23, a24, a25, a26, a27, a28, a29, a30, a31, a32) y 0 := by
  subst hb
  exact tm_setT false hy hr H
theorem tm_setT1 {post : St1 → Prop} {r : Nat} {y : Int32} {b : Bool} (hb : b = true) (hy : y = nI r) (hr : r < 18)
    (H : post (e, s, cp, ce, oc, cu, sh, iu, re, a1, a2, a3, a4, a5, a6, a7, a8, a9, a10, a11, a12, a13, a14, a15, a16, a17, a18, a19, a20, a21, a22, a23, upd a24 r (tm_tag (tm_tr b)), upd a25 r (tm_val (tm_tr b)), a26, a27, a28, a29, a30, a31, a32)) : wpX_setTruth post (e, s, cp, ce, oc, cu, sh, iu, re, a1, a2, a3, a4, a5, a6, a7, a8, a9, a10, a11, a12, a13, a14, a15, a16, a17, a18, a19, a20, a21, a22, a23, a24, a25, a26, a27, a28, a29, a30, a31, a32) y 1 := by
  subst hb
  exact tm_setT true hy hr H
/-- LOAD_INT -/
theorem tm_k0 {P : Int32 → St1 → Prop} {j r : Nat} {a b d k : Int32} (hj : j < 350) (hi : tm_ins a12 a13 a14 a15 a16 j 0 a b d k) (ha : a = nI r) (hr : r < 18)
    (H : P 1 (e, s, cp, ce, oc, cu, sh, iu, re, a1, a2, a3, a4, a5, a6, a7, a8, a9, a10, a11, a12, a13, a14, a15, a16, a17, a18, a19, a20, a21, a22, a23, upd a24 r (tm_tag (some k)), upd a25 r (tm_val (some k)), a26, a27, a28, a29, a30, a31, a32)) : wpX_calculate P (e, s, cp, ce, oc, cu, sh, iu, re, a1, a2, a3, a4, a5, a6, a7, a8, a9, a10, a11, a12, a13, a14, a15, a16, a17, a18, a19, a20, a21, a22, a23, a24, a25, a26, a27, a28, a29, a30, a31, a32) (nI 0) (nI j) := by
  have c : (nI j).toNatClampNeg = j := nI_clamp (by omega)
  have v : vp_in (nI j) 350 := vp_in_nI hj (by omega)
  obtain ⟨i12, i13, i14, i15, i16⟩ := hi
  exact And.intro v (nm_r (e' := a) (by rw [c]; exact i13) (And.intro v (nm_e (And.intro v (nm_e (br_t rfl (And.intro v (tm_setr 1 k ha hr rfl (by rw [c]; exact i16) H))))))))
/-- MOVE -/
theorem tm_k1 {P : Int32 → St1 → Prop} {j r q : Nat} {w : Option Int32} {a b d k : Int32} (hj : j < 350) (hi : tm_ins a12 a13 a14 a15 a16 j 1 a b d k) (ha : a = nI r) (hr : r < 18) (hb : b = nI q) (hq : q < 18) (h24 : a24 q = tm_tag w) (h25 : a25 q = tm_val w)
    (H : P 1 (e, s, cp, ce, oc, cu, sh, iu, re, a1, a2, a3, a4, a5, a6, a7, a8, a9, a10, a11, a12, a13, a14, a15, a16, a17, a18, a19, a20, a21, a22, a23, upd a24 r (tm_tag w), upd a25 r (tm_val w), a26, a27, a28, a29, a30, a31, a32)) : wpX_calculate P (e, s, cp, ce, oc, cu, sh, iu, re, a1, a2, a3, a4, a5, a6, a7, a8, a9, a10, a11, a12, a13, a14, a15, a16, a17, a18, a19, a20, a21, a22, a23, a24, a25, a26, a27, a28, a29, a30, a31, a32) (nI 1) (nI j) := by
  have c : (nI j).toNatClampNeg = j := nI_clamp (by omega)
  have cq : (nI q).toNatClampNeg = q := nI_clamp (by omega)
  have v : vp_in (nI j) 350 := vp_in_nI hj (by omega)
  have vq : vp_in (nI q) 18 := vp_in_nI hq (by omega)
  obtain ⟨i12, i13, i14, i15, i16⟩ := hi
  exact And.intro v (nm_r (e' := a) (by rw [c]; exact i13) (And.intro v (nm_r (e' := nI q) (by rw [c, ← hb]; exact i14) (And.intro v (nm_e (br_f (by decide) (br_f (by decide) (br_t rfl (And.intro vq (And.intro vq (tm_setr (tm_tag w) (tm_val w) ha hr (by rw [cq, h24]; exact tm_tb w) (by rw [cq]; exact h25) H)))))))))))
/-- NOT -/
theorem tm_k9 {P : Int32 → St1 → Prop} {j r q : Nat} {w : Option Int32} {a b d k : Int32} (hj : j < 350) (hi : tm_ins a12 a13 a14 a15 a16 j 9 a b d k) (ha : a = nI r) (hr : r < 18) (hb : b = nI q) (hq : q < 18) (h24 : a24 q = tm_tag w)
    (H : P 1 (e, s, cp, ce, oc, cu, sh, iu, re, a1, a2, a3, a4, a5, a6, a7, a8, a9, a10, a11, a12, a13, a14, a15, a16, a17, a18, a19, a20, a21, a22, a23, upd a24 r (tm_tag (tm_tr (decide (w = none)))), upd a25 r (tm_val (tm_tr (decide (w = none)))), a26, a27, a28, a29, a30, a31, a32)) : wpX_calculate P (e, s, cp, ce, oc, cu, sh, iu, re, a1, a2, a3, a4, a5, a6, a7, a8, a9, a10, a11, a12, a13, a14, a15, a16, a17, a18, a19, a20, a21, a22, a23, a24, a25, a26, a27, a28, a29, a30, a31, a32) (nI 9) (nI j) := by
  have c : (nI j).toNatClampNeg = j := nI_clamp (by omega)
  have cq : (nI q).toNatClampNeg = q := nI_clamp (by omega)
  have v : vp_in (nI j) 350 := vp_in_nI hj (by omega)
  have vq : vp_in (nI q) 18 := vp_in_nI hq (by omega)
  obtain ⟨i12, i13, i14, i15, i16⟩ := hi
  refine And.intro v (nm_r (e' := a) (by rw [c]; exact i13) (And.intro v (nm_r (e' := nI q) (by rw [c, ← hb]; exact i14) (And.intro v (nm_e (br_f (by decide) (br_f (by decide) (br_f (by decide) (br_f (by decide) (br_t rfl (And.intro vq (br_c (fun z => ?_) (fun z => ?_)))))))))))))
  · rw [cq, h24] at z
    exact tm_setT1 (decide_eq_true (tm_tag0.mp z)) ha hr H
  · rw [cq, h24] at z
    exact tm_setT0 (decide_eq_false (fun g => z (tm_tag0.mpr g))) ha hr H
/-- SAME -/
theorem tm_k6 {P : Int32 → St1 → Prop} {V : Nat → Option Int32} {j r p q : Nat} {a b d k : Int32} (hj : j < 350) (hi : tm_ins a12 a13 a14 a15 a16 j (nI 6) a b d k) (ha : a = nI r) (hr : r < 18) (hb : b = nI p) (hp : p < 6) (hd : d = nI q) (hq : q < 6) (hR : tm_R a24 a25 V)
    (H : P 1 (e, s, cp, ce, oc, cu, sh, iu, re, a1, a2, a3, a4, a5, a6, a7, a8, a9, a10, a11, a12, a13, a14, a15, a16, a17, a18, a19, a20, a21, a22, a23, upd a24 r (tm_tag (tm_tr (decide (V p = V q)))), upd a25 r (tm_val (tm_tr (decide (V p = V q)))), a26, a27, a28, a29, a30, a31, a32)) : wpX_calculate P (e, s, cp, ce, oc, cu, sh, iu, re, a1, a2, a3, a4, a5, a6, a7, a8, a9, a10, a11, a12, a13, a14, a15, a16, a17, a18, a19, a20, a21, a22, a23, a24, a25, a26, a27, a28, a29, a30, a31, a32) (nI 6) (nI j) := by
  have c : (nI j).toNatClampNeg = j := nI_clamp (by omega)
  have v : vp_in (nI j) 350 := vp_in_nI hj (by omega)
  obtain ⟨i12, i13, i14, i15, i16⟩ := hi
  refine And.intro v (nm_r (e' := a) (by rw [c]; exact i13) (And.intro v (nm_r (e' := nI p) (by rw [c, ← hb]; exact i14) (And.intro v (nm_r (e' := nI q) (by rw [c, ← hd]; exact i15) (br_f (by decide) (br_f (by decide) (br_f (by decide) (br_t rfl ?_))))))))) 
  unfold wpX_setSame
  exact tm_samev hR hp hq (fun g => tm_setT1 (decide_eq_true g) ha hr H) (fun g => tm_setT0 (decide_eq_false g) ha hr H)
/-- +, -, *, <: it fails -/
theorem tm_kf {P : Int32 → St1 → Prop} {V : Nat → Option Int32} {j p q o : Nat} {a b d k : Int32} (hj : j < 350) (ho : o = 2 ∨ o = 3 ∨ o = 4 ∨ o = 5) (hi : tm_ins a12 a13 a14 a15 a16 j (nI o) a b d k) (hb : b = nI p) (hp : p < 6) (hd : d = nI q) (hq : q < 6) (hR : tm_R a24 a25 V)
    (hf : ¬ ∃ x y, V p = some x ∧ V q = some y) (H : P 0 (e, s, cp, ce, oc, cu, sh, iu, re, a1, a2, a3, a4, a5, a6, a7, a8, a9, a10, a11, a12, a13, a14, a15, a16, a17, a18, a19, a20, a21, a22, a23, a24, a25, a26, a27, a28, a29, a30, a31, a32)) : wpX_calculate P (e, s, cp, ce, oc, cu, sh, iu, re, a1, a2, a3, a4, a5, a6, a7, a8, a9, a10, a11, a12, a13, a14, a15, a16, a17, a18, a19, a20, a21, a22, a23, a24, a25, a26, a27, a28, a29, a30, a31, a32) (nI o) (nI j) := by
  have c : (nI j).toNatClampNeg = j := nI_clamp (by omega)
  have cp' : (nI p).toNatClampNeg = p := nI_clamp (by omega)
  have cq : (nI q).toNatClampNeg = q := nI_clamp (by omega)
  have v : vp_in (nI j) 350 := vp_in_nI hj (by omega)
  have vp' : vp_in (nI p) 18 := vp_in_nI (by omega) (by omega)
  have vq : vp_in (nI q) 18 := vp_in_nI (by omega) (by omega)
  have n0 : ¬ nI o = 0 := nI_ne0 (by omega) (by omega)
  have n7 : ¬ nI o = 7 := fun z => absurd ((nI_eq (a := o) (b := 7) (by omega) (by omega)).mp z) (by omega)
  have n1 : ¬ nI o = 1 := fun z => absurd ((nI_eq (a := o) (b := 1) (by omega) (by omega)).mp z) (by omega)
  have n6 : ¬ nI o = 6 := fun z => absurd ((nI_eq (a := o) (b := 6) (by omega) (by omega)).mp z) (by omega)
  have n9 : ¬ nI o = 9 := fun z => absurd ((nI_eq (a := o) (b := 9) (by omega) (by omega)).mp z) (by omega)
  have n10 : ¬ nI o = 10 := fun z => absurd ((nI_eq (a := o) (b := 10) (by omega) (by omega)).mp z) (by omega)
  obtain ⟨i12, i13, i14, i15, i16⟩ := hi
  refine And.intro v (nm_r (e' := a) (by rw [c]; exact i13) (And.intro v (nm_r (e' := nI p) (by rw [c, ← hb]; exact i14) (And.intro v (nm_r (e' := nI q) (by rw [c, ← hd]; exact i15) (br_f n0 (br_f n7 (br_f n1 (br_f n6 (br_f n9 (br_f n10 (And.intro vp' ?_))))))))))))
  cases hx : V p with
  | none => exact br_f (by rw [cp', (hR p hp).1, hx]; decide) H
  | some x =>
    cases hy : V q with
    | none => exact br_t (by rw [cp', (hR p hp).1, hx]; rfl) (And.intro vq (br_f (by rw [cq, (hR q hq).1, hy]; decide) H))
    | some y => exact absurd ⟨x, y, hx, hy⟩ hf
/-- +, -, *, < over ints -/
theorem tm_ks {P : Int32 → St1 → Prop} {V : Nat → Option Int32} {j r p q o : Nat} {x y : Int32} {num : Int32} {a b d k : Int32} (w : Option Int32) (hj : j < 350) (ho : o = 2 ∨ o = 3 ∨ o = 4 ∨ o = 5) (hi : tm_ins a12 a13 a14 a15 a16 j (nI o) a b d k) (ha : a = nI r) (hr : r < 18) (hb : b = nI p) (hp : p < 6) (hd : d = nI q) (hq : q < 6) (hR : tm_R a24 a25 V)
    (hx : V p = some x) (hy : V q = some y) (hw : tm_res o (some x) (some y) num = some w) (H : P 1 (e, s, cp, ce, oc, cu, sh, iu, re, a1, a2, a3, a4, a5, a6, a7, a8, a9, a10, a11, a12, a13, a14, a15, a16, a17, a18, a19, a20, a21, a22, a23, upd a24 r (tm_tag w), upd a25 r (tm_val w), a26, a27, a28, a29, a30, a31, a32)) : wpX_calculate P (e, s, cp, ce, oc, cu, sh, iu, re, a1, a2, a3, a4, a5, a6, a7, a8, a9, a10, a11, a12, a13, a14, a15, a16, a17, a18, a19, a20, a21, a22, a23, a24, a25, a26, a27, a28, a29, a30, a31, a32) (nI o) (nI j) := by
  have c : (nI j).toNatClampNeg = j := nI_clamp (by omega)
  have cp' : (nI p).toNatClampNeg = p := nI_clamp (by omega)
  have cq : (nI q).toNatClampNeg = q := nI_clamp (by omega)
  have v : vp_in (nI j) 350 := vp_in_nI hj (by omega)
  have vp' : vp_in (nI p) 18 := vp_in_nI (by omega) (by omega)
  have vq : vp_in (nI q) 18 := vp_in_nI (by omega) (by omega)
  have n0 : ¬ nI o = 0 := nI_ne0 (by omega) (by omega)
  have n7 : ¬ nI o = 7 := fun z => absurd ((nI_eq (a := o) (b := 7) (by omega) (by omega)).mp z) (by omega)
  have n1 : ¬ nI o = 1 := fun z => absurd ((nI_eq (a := o) (b := 1) (by omega) (by omega)).mp z) (by omega)
  have n6 : ¬ nI o = 6 := fun z => absurd ((nI_eq (a := o) (b := 6) (by omega) (by omega)).mp z) (by omega)
  have n9 : ¬ nI o = 9 := fun z => absurd ((nI_eq (a := o) (b := 9) (by omega) (by omega)).mp z) (by omega)
  have n10 : ¬ nI o = 10 := fun z => absurd ((nI_eq (a := o) (b := 10) (by omega) (by omega)).mp z) (by omega)
  obtain ⟨i12, i13, i14, i15, i16⟩ := hi
  refine And.intro v (nm_r (e' := a) (by rw [c]; exact i13) (And.intro v (nm_r (e' := nI p) (by rw [c, ← hb]; exact i14) (And.intro v (nm_r (e' := nI q) (by rw [c, ← hd]; exact i15) (br_f n0 (br_f n7 (br_f n1 (br_f n6 (br_f n9 (br_f n10 (And.intro vp' (br_t (by rw [cp', (hR p hp).1, hx]; rfl) (And.intro vq (br_t (by rw [cq, (hR q hq).1, hy]; rfl) (And.intro vp' (nm_r (e' := x) (by rw [cp', (hR p hp).2, hx]; rfl) (And.intro vq (nm_r (e' := y) (by rw [cq, (hR q hq).2, hy]; rfl) ?_)))))))))))))))))))
  rcases ho with rfl | rfl | rfl | rfl
  · have e2 : w = some (x + y) := (Option.some.inj hw).symm
    subst e2
    exact br_f (by decide) (br_t rfl (tm_setr 1 (x + y) ha hr rfl rfl H))
  · have e2 : w = some (x - y) := (Option.some.inj hw).symm
    subst e2
    exact br_f (by decide) (br_f (by decide) (br_t rfl (tm_setr 1 (x - y) ha hr rfl rfl H)))
  · have e2 : w = some (x * y) := (Option.some.inj hw).symm
    subst e2
    exact br_f (by decide) (br_f (by decide) (br_f (by decide) (tm_setr 1 (x * y) ha hr rfl rfl H)))
  · have e2 : w = tm_tr (decide (x < y)) := (Option.some.inj hw).symm
    subst e2
    refine br_t rfl (br_c (fun g => ?_) (fun g => ?_))
    · exact tm_setT0 (decide_eq_false (Int32.not_lt.mpr g)) ha hr H
    · exact tm_setT1 (decide_eq_true (Int32.not_le.mp g)) ha hr H
/-- BEGIN -/
theorem tm_begin {post : Int32 → St1 → Prop} {V : Nat → Option Int32} {y : Int32} (hR : tm_R a24 a25 V)
    (H : ∀ r24 r25 : Nat → Int32, tm_R r24 r25 V → post 1 (e, s, cp, ce, oc, y, sh, iu, 0, a1, a2, a3, a4, a5, a6, a7, a8, a9, a10, a11, a12, a13, a14, a15, a16, a17, a18, a19, a20, a21, a22, a23, r24, r25, a26, a27, a28, a29, a30, a31, a32)) : wpX_beginStatement post (e, s, cp, ce, oc, cu, sh, iu, re, a1, a2, a3, a4, a5, a6, a7, a8, a9, a10, a11, a12, a13, a14, a15, a16, a17, a18, a19, a20, a21, a22, a23, a24, a25, a26, a27, a28, a29, a30, a31, a32) y :=
  pk_loop (σ := (Nat → Int32) × (Nat → Int32)) (fun n i t => wX_beginStatement_8 post n (nI i) e s cp ce oc y sh iu re a1 a2 a3 a4 a5 a6 a7 a8 a9 a10 a11 a12 a13 a14 a15 a16 a17 a18 a19 a20 a21 a22 a23 t.1 t.2 a26 a27 a28 a29 a30 a31 a32) (fun i t => 6 ≤ i ∧ tm_R t.1 t.2 V) 18 6 (a24, a25) (by omega) ⟨Nat.le_refl 6, hR⟩
    (fun n t h => pk_le 18 18 (fun _ => tm_tables (tm_R2 h.2) (br_f (by decide) (H _ _ h.2))) (fun z => absurd z (by omega)))
    (fun n i t hi h hw => pk_le 18 i (fun z => absurd z (by omega)) (fun z => tm_clr hi (nm_r (nI_1 i) (hw (_, _) ⟨Nat.le_succ_of_le h.1, tm_Rhi h.2 h.1⟩))))
end
end
section
/-! ===== the machine: steps, expressions, statements, a run ===== -/
section
variable {e s cp ce oc cu sh iu re : Int32} {a1 a2 a3 a4 a5 a6 a7 a8 a9 a10 a11 a12 a13 a14 a15 a16 a17 a18 a19 a20 a21 a22 a23 a24 a25 a26 a27 : Nat → Int32} {a28 : Nat → Int64} {a29 a30 a31 a32 : Nat → Int32}
/-- one operation that only works out a value, and does -/
theorem tm_xc {post : Int32 → St1 → Prop} {n j o C : Nat} (r24 r25 : Nat → Int32) (hj : j < C) (hC : C ≤ 350) (h12 : a12 j = nI o) (ho : o ≤ 10)
    (hc : ∀ P : Int32 → St1 → Prop, P 1 (e, s, cp, nI C, oc, cu, sh, iu, re, a1, a2, a3, a4, a5, a6, a7, a8, a9, a10, a11, a12, a13, a14, a15, a16, a17, a18, a19, a20, a21, a22, a23, r24, r25, a26, a27, a28, a29, a30, a31, a32) → wpX_calculate P (e, s, cp, nI C, oc, cu, sh, iu, re, a1, a2, a3, a4, a5, a6, a7, a8, a9, a10, a11, a12, a13, a14, a15, a16, a17, a18, a19, a20, a21, a22, a23, a24, a25, a26, a27, a28, a29, a30, a31, a32) (nI o) (nI j))
    (hn : wX_execute_2 post n (nI (j + 1)) e s cp (nI C) oc cu sh iu re a1 a2 a3 a4 a5 a6 a7 a8 a9 a10 a11 a12 a13 a14 a15 a16 a17 a18 a19 a20 a21 a22 a23 r24 r25 a26 a27 a28 a29 a30 a31 a32) : wX_execute_2 post (n + 1) (nI j) e s cp (nI C) oc cu sh iu re a1 a2 a3 a4 a5 a6 a7 a8 a9 a10 a11 a12 a13 a14 a15 a16 a17 a18 a19 a20 a21 a22 a23 a24 a25 a26 a27 a28 a29 a30 a31 a32 := by
  have c : (nI j).toNatClampNeg = j := nI_clamp (by omega)
  have n17 : ¬ nI o = 17 := fun z => absurd ((nI_eq (a := o) (b := 17) (by omega) (by omega)).mp z) (by omega)
  have n19 : ¬ nI o = 19 := fun z => absurd ((nI_eq (a := o) (b := 19) (by omega) (by omega)).mp z) (by omega)
  have n20 : ¬ nI o = 20 := fun z => absurd ((nI_eq (a := o) (b := 20) (by omega) (by omega)).mp z) (by omega)
  have n16 : ¬ nI o = 16 := fun z => absurd ((nI_eq (a := o) (b := 16) (by omega) (by omega)).mp z) (by omega)
  have n10 : ¬ (10 : Int32) < nI o := nI_nlt (a := 10) (b := o) ho (by omega)
  exact br_f (nI_ge hj (by omega)) (And.intro (vp_in_nI (by omega) (by omega)) (nm_r (e' := nI o) (by rw [c]; exact h12) (nm_r (nI_1 j) (br_f n17 (br_f n19 (br_f n20 (br_f n16 (br_f n10 (hc _ (br_f (by decide) (br_t rfl hn)))))))))))
/-- one that fails -/
theorem tm_xf {post : Int32 → St1 → Prop} {n j o C : Nat} (hj : j < C) (hC : C ≤ 350) (h12 : a12 j = nI o) (ho : o ≤ 10)
    (hc : ∀ P : Int32 → St1 → Prop, P 0 (e, s, cp, nI C, oc, cu, sh, iu, re, a1, a2, a3, a4, a5, a6, a7, a8, a9, a10, a11, a12, a13, a14, a15, a16, a17, a18, a19, a20, a21, a22, a23, a24, a25, a26, a27, a28, a29, a30, a31, a32) → wpX_calculate P (e, s, cp, nI C, oc, cu, sh, iu, re, a1, a2, a3, a4, a5, a6, a7, a8, a9, a10, a11, a12, a13, a14, a15, a16, a17, a18, a19, a20, a21, a22, a23, a24, a25, a26, a27, a28, a29, a30, a31, a32) (nI o) (nI j))
    (hp : post cu (e, s, cp, nI C, oc, cu, sh, iu, re, a1, a2, a3, a4, a5, a6, a7, a8, a9, a10, a11, a12, a13, a14, a15, a16, a17, a18, a19, a20, a21, a22, a23, a24, a25, a26, a27, a28, a29, a30, a31, a32)) : wX_execute_2 post (n + 1) (nI j) e s cp (nI C) oc cu sh iu re a1 a2 a3 a4 a5 a6 a7 a8 a9 a10 a11 a12 a13 a14 a15 a16 a17 a18 a19 a20 a21 a22 a23 a24 a25 a26 a27 a28 a29 a30 a31 a32 := by
  have c : (nI j).toNatClampNeg = j := nI_clamp (by omega)
  have n17 : ¬ nI o = 17 := fun z => absurd ((nI_eq (a := o) (b := 17) (by omega) (by omega)).mp z) (by omega)
  have n19 : ¬ nI o = 19 := fun z => absurd ((nI_eq (a := o) (b := 19) (by omega) (by omega)).mp z) (by omega)
  have n20 : ¬ nI o = 20 := fun z => absurd ((nI_eq (a := o) (b := 20) (by omega) (by omega)).mp z) (by omega)
  have n16 : ¬ nI o = 16 := fun z => absurd ((nI_eq (a := o) (b := 16) (by omega) (by omega)).mp z) (by omega)
  have n10 : ¬ (10 : Int32) < nI o := nI_nlt (a := 10) (b := o) ho (by omega)
  exact br_f (nI_ge hj (by omega)) (And.intro (vp_in_nI (by omega) (by omega)) (nm_r (e' := nI o) (by rw [c]; exact h12) (nm_r (nI_1 j) (br_f n17 (br_f n19 (br_f n20 (br_f n16 (br_f n10 (hc _ (br_t rfl (br_f (by decide) hp)))))))))))
/-- IF_NOTHING, IF_SOMETHING -/
theorem tm_x19 {post : Int32 → St1 → Prop} {n j g C : Nat} {b d : Int32} {v : Option Int32} (hj : j < C) (hC : C ≤ 350) (hi : tm_ins a12 a13 a14 a15 a16 j 19 6 b d (nI g)) (h6 : a24 6 = tm_tag v)
    (h0 : v = none → wX_execute_2 post n (nI g) e s cp (nI C) oc cu sh iu re a1 a2 a3 a4 a5 a6 a7 a8 a9 a10 a11 a12 a13 a14 a15 a16 a17 a18 a19 a20 a21 a22 a23 a24 a25 a26 a27 a28 a29 a30 a31 a32) (h1 : ¬ v = none → wX_execute_2 post n (nI (j + 1)) e s cp (nI C) oc cu sh iu re a1 a2 a3 a4 a5 a6 a7 a8 a9 a10 a11 a12 a13 a14 a15 a16 a17 a18 a19 a20 a21 a22 a23 a24 a25 a26 a27 a28 a29 a30 a31 a32) : wX_execute_2 post (n + 1) (nI j) e s cp (nI C) oc cu sh iu re a1 a2 a3 a4 a5 a6 a7 a8 a9 a10 a11 a12 a13 a14 a15 a16 a17 a18 a19 a20 a21 a22 a23 a24 a25 a26 a27 a28 a29 a30 a31 a32 := by
  have c : (nI j).toNatClampNeg = j := nI_clamp (by omega)
  have vj : vp_in (nI j) 350 := vp_in_nI (by omega) (by omega)
  have e6 : a24 (a13 (nI j).toNatClampNeg).toNatClampNeg = tm_tag v := by
    rw [c, hi.2.1]
    exact h6
  refine br_f (nI_ge hj (by omega)) (And.intro vj (nm_r (e' := 19) (by rw [c]; exact hi.1) (nm_r (nI_1 j) (br_f (by decide) (br_t rfl (And.intro vj (And.intro (by rw [c, hi.2.1]; exact vp_in_nI (n := 6) (by omega) (by omega)) (br_c (fun z => And.intro vj (br_t rfl ?_)) (fun z => br_t rfl (h1 (fun g' => z (e6.trans (tm_tag0.mpr g'))))))))))))) 
  rw [c, hi.2.2.2.2]
  exact h0 (tm_tag0.mp (e6.symm.trans z))
theorem tm_x20 {post : Int32 → St1 → Prop} {n j g C : Nat} {b d : Int32} {v : Option Int32} (hj : j < C) (hC : C ≤ 350) (hi : tm_ins a12 a13 a14 a15 a16 j 20 6 b d (nI g)) (h6 : a24 6 = tm_tag v)
    (h0 : v = none → wX_execute_2 post n (nI (j + 1)) e s cp (nI C) oc cu sh iu re a1 a2 a3 a4 a5 a6 a7 a8 a9 a10 a11 a12 a13 a14 a15 a16 a17 a18 a19 a20 a21 a22 a23 a24 a25 a26 a27 a28 a29 a30 a31 a32) (h1 : ¬ v = none → wX_execute_2 post n (nI g) e s cp (nI C) oc cu sh iu re a1 a2 a3 a4 a5 a6 a7 a8 a9 a10 a11 a12 a13 a14 a15 a16 a17 a18 a19 a20 a21 a22 a23 a24 a25 a26 a27 a28 a29 a30 a31 a32) : wX_execute_2 post (n + 1) (nI j) e s cp (nI C) oc cu sh iu re a1 a2 a3 a4 a5 a6 a7 a8 a9 a10 a11 a12 a13 a14 a15 a16 a17 a18 a19 a20 a21 a22 a23 a24 a25 a26 a27 a28 a29 a30 a31 a32 := by
  have c : (nI j).toNatClampNeg = j := nI_clamp (by omega)
  have vj : vp_in (nI j) 350 := vp_in_nI (by omega) (by omega)
  have e6 : a24 (a13 (nI j).toNatClampNeg).toNatClampNeg = tm_tag v := by
    rw [c, hi.2.1]
    exact h6
  refine br_f (nI_ge hj (by omega)) (And.intro vj (nm_r (e' := 20) (by rw [c]; exact hi.1) (nm_r (nI_1 j) (br_f (by decide) (br_f (by decide) (br_t rfl (And.intro vj (And.intro (by rw [c, hi.2.1]; exact vp_in_nI (n := 6) (by omega) (by omega)) (br_c (fun z => br_t rfl (h0 (tm_tag0.mp (e6.symm.trans z)))) (fun z => And.intro vj (br_t rfl ?_))))))))))) 
  rw [c, hi.2.2.2.2]
  exact h1 (fun g' => z (e6.trans (tm_tag0.mpr g')))
/-- BEGIN -/
theorem tm_x18 {post : Int32 → St1 → Prop} {V : Nat → Option Int32} {n j C : Nat} {a b d k : Int32} (hj : j < C) (hC : C ≤ 350) (hi : tm_ins a12 a13 a14 a15 a16 j 18 a b d k) (hR : tm_R a24 a25 V)
    (hn : ∀ r24 r25 : Nat → Int32, tm_R r24 r25 V → wX_execute_2 post n (nI (j + 1)) e s cp (nI C) oc k sh iu 0 a1 a2 a3 a4 a5 a6 a7 a8 a9 a10 a11 a12 a13 a14 a15 a16 a17 a18 a19 a20 a21 a22 a23 r24 r25 a26 a27 a28 a29 a30 a31 a32) : wX_execute_2 post (n + 1) (nI j) e s cp (nI C) oc cu sh iu re a1 a2 a3 a4 a5 a6 a7 a8 a9 a10 a11 a12 a13 a14 a15 a16 a17 a18 a19 a20 a21 a22 a23 a24 a25 a26 a27 a28 a29 a30 a31 a32 := by
  have c : (nI j).toNatClampNeg = j := nI_clamp (by omega)
  have vj : vp_in (nI j) 350 := vp_in_nI (by omega) (by omega)
  refine br_f (nI_ge hj (by omega)) (And.intro vj (nm_r (e' := 18) (by rw [c]; exact hi.1) (nm_r (nI_1 j) (br_f (by decide) (br_f (by decide) (br_f (by decide) (br_f (by decide) (br_t (by decide) (And.intro vj (nm_e (br_t rfl (And.intro vj (tm_begin hR ?_)))))))))))))
  intro r24 r25 hr
  refine And.intro rfl (br_f (by decide) (br_t rfl ?_))
  have e16 : a16 (nI j).toNatClampNeg = k := by
    rw [c]
    exact hi.2.2.2.2
  rw [e16]
  exact hn r24 r25 hr
/-- SHOW_VALUE -/
theorem tm_x14 {post : Int32 → St1 → Prop} {n j m C : Nat} {b d k num : Int32} (hj : j < C) (hC : C ≤ 350) (hm : m < 30) (hi : tm_ins a12 a13 a14 a15 a16 j 14 6 b d k) (h24 : a24 6 = tm_tag (some num)) (h25 : a25 6 = tm_val (some num))
    (hn : wX_execute_2 post n (nI (j + 1)) e s cp (nI C) oc cu (nI (m + 1)) iu re a1 a2 a3 a4 a5 a6 a7 a8 a9 a10 a11 a12 a13 a14 a15 a16 a17 a18 a19 a20 a21 a22 a23 a24 a25 a26 a27 (vp_updL a28 m (tm_enc (some num))) a29 a30 a31 a32) : wX_execute_2 post (n + 1) (nI j) e s cp (nI C) oc cu (nI m) iu re a1 a2 a3 a4 a5 a6 a7 a8 a9 a10 a11 a12 a13 a14 a15 a16 a17 a18 a19 a20 a21 a22 a23 a24 a25 a26 a27 a28 a29 a30 a31 a32 := by
  have c : (nI j).toNatClampNeg = j := nI_clamp (by omega)
  have c6 : (nI 6).toNatClampNeg = 6 := nI_clamp (by omega)
  have cm : (nI m).toNatClampNeg = m := nI_clamp (by omega)
  have vj : vp_in (nI j) 350 := vp_in_nI (by omega) (by omega)
  have v6 : vp_in (nI 6) 18 := vp_in_nI (by omega) (by omega)
  have vm : vp_in (nI m) 30 := vp_in_nI hm (by omega)
  refine br_f (nI_ge hj (by omega)) (And.intro vj (nm_r (e' := 14) (by rw [c]; exact hi.1) (nm_r (nI_1 j) (br_f (by decide) (br_f (by decide) (br_f (by decide) (br_f (by decide) (br_t (by decide) (And.intro vj (nm_r (e' := nI 6) (by rw [c]; exact hi.2.1) (br_f (by decide) (br_f (by decide) (br_f (by decide) (br_t rfl (br_f (nI_ge (b := 30) hm (by decide)) (And.intro v6 (And.intro v6 ?_)))))))))))))))))
  rw [c6, h24, h25]
  refine tm_shn (some num) (And.intro v6 (And.intro vm (nm_r (e' := vp_updL a28 m (tm_enc (some num))) ?_ (nm_r (nI_1 m) (br_f (by decide) (br_t rfl hn))))))
  rw [cm]
  exact congrArg (vp_updL a28 m) rfl
/-- an expression's code: register 6 holds what it gives, or the run fails -/
theorem tm_xe {post : Int32 → St1 → Prop} {V : Nat → Option Int32} {k p q c C : Nat} {num : Int32} (hx : tm_cx k p q num c a12 a13 a14 a15 a16) (hk : k = 0 ∨ (2 ≤ k ∧ k ≤ 9)) (hp : p < 3) (hq : q < 3) (hC : C ≤ 350) (hc : c + tm_lx k ≤ C) (hR : tm_R a24 a25 V)
    (Hs : ∀ v, tm_res k (V p) (V q) num = some v → ∀ r24 r25 : Nat → Int32, tm_R r24 r25 V → r24 6 = tm_tag v → r25 6 = tm_val v → ∀ n, C - (c + tm_lx k) < n → wX_execute_2 post n (nI (c + tm_lx k)) e s cp (nI C) oc cu sh iu re a1 a2 a3 a4 a5 a6 a7 a8 a9 a10 a11 a12 a13 a14 a15 a16 a17 a18 a19 a20 a21 a22 a23 r24 r25 a26 a27 a28 a29 a30 a31 a32)
    (Hf : tm_res k (V p) (V q) num = none → post cu (e, s, cp, nI C, oc, cu, sh, iu, re, a1, a2, a3, a4, a5, a6, a7, a8, a9, a10, a11, a12, a13, a14, a15, a16, a17, a18, a19, a20, a21, a22, a23, a24, a25, a26, a27, a28, a29, a30, a31, a32)) : ∀ n, C - c < n → wX_execute_2 post n (nI c) e s cp (nI C) oc cu sh iu re a1 a2 a3 a4 a5 a6 a7 a8 a9 a10 a11 a12 a13 a14 a15 a16 a17 a18 a19 a20 a21 a22 a23 a24 a25 a26 a27 a28 a29 a30 a31 a32 := by
  intro n hn
  have hl := tm_lxb k
  have Rp := hR p (by omega)
  have Rq := hR q (by omega)
  obtain ⟨n, rfl⟩ : ∃ m, n = m + 1 := ⟨n - 1, by omega⟩
  by_cases z0 : k = 0
  · subst z0
    have hi : tm_ins a12 a13 a14 a15 a16 c 0 6 0 0 num := hx
    rw [tm_lxb1 (by omega)] at Hs hc
    exact tm_xc (o := 0) _ _ (by omega) hC hi.1 (by omega) (fun P => tm_k0 (r := 6) (by omega) hi rfl (by omega)) (Hs (some num) rfl _ _ (tm_Rhi hR (by omega)) pk_us pk_us n (by omega))
  · by_cases z6 : k ≤ 6
    · have hi : tm_ins a12 a13 a14 a15 a16 c (nI k) 6 (nI p) (nI q) 0 := by
        unfold tm_cx at hx
        rw [if_neg z0, if_neg (by omega), if_neg (by omega), if_neg (by omega)] at hx
        exact hx
      rw [tm_lxb1 z6] at Hs hc
      by_cases y6 : k = 6
      · subst y6
        exact tm_xc _ _ (by omega) hC hi.1 (by omega) (fun P => tm_k6 (r := 6) (by omega) hi rfl (by omega) rfl (by omega) rfl (by omega) hR) (Hs _ rfl _ _ (tm_Rhi hR (by omega)) pk_us pk_us n (by omega))
      · have ho : k = 2 ∨ k = 3 ∨ k = 4 ∨ k = 5 := by omega
        by_cases hf : ∃ x y, V p = some x ∧ V q = some y
        · obtain ⟨x, y, ex, ey⟩ := hf
          have hw : ∃ w, tm_res k (some x) (some y) num = some w := by
            rcases ho with rfl | rfl | rfl | rfl
            · exact ⟨_, rfl⟩
            · exact ⟨_, rfl⟩
            · exact ⟨_, rfl⟩
            · exact ⟨_, rfl⟩
          obtain ⟨w, hw⟩ := hw
          exact tm_xc _ _ (by omega) hC hi.1 (by omega) (fun P => tm_ks (r := 6) w (by omega) ho hi rfl (by omega) rfl (by omega) rfl (by omega) hR ex ey hw) (Hs w (by rw [ex, ey]; exact hw) _ _ (tm_Rhi hR (by omega)) pk_us pk_us n (by omega))
        · exact tm_xf (by omega) hC hi.1 (by omega) (fun P => tm_kf (by omega) ho hi rfl (by omega) rfl (by omega) hR hf) (Hf (tm_resN ho hf))
    · have c9 : k = 7 ∨ k = 8 ∨ k = 9 := by omega
      rcases c9 with rfl | rfl | rfl
      · obtain ⟨h1, h2, h3⟩ : tm_ins a12 a13 a14 a15 a16 c 1 6 (nI p) 0 0 ∧ tm_ins a12 a13 a14 a15 a16 (c + 1) 19 6 0 0 (nI (c + 3)) ∧ tm_ins a12 a13 a14 a15 a16 (c + 2) 1 6 (nI q) 0 0 := hx
        rw [tm_lx7] at Hs hc
        obtain ⟨n, rfl⟩ : ∃ m, n = m + 1 := ⟨n - 1, by omega⟩
        refine tm_xc (o := 1) _ _ (by omega) hC h1.1 (by omega) (fun P => tm_k1 (r := 6) (w := V p) (by omega) h1 rfl (by omega) rfl (by omega) Rp.1 Rp.2) ?_
        refine tm_x19 (v := V p) (by omega) hC h2 pk_us (fun z => ?_) (fun z => ?_)
        · exact Hs none (congrArg some (if_pos z)) _ _ (tm_Rhi hR (by omega)) (pk_us.trans (congrArg tm_tag z)) (pk_us.trans (congrArg tm_val z)) n (by omega)
        · obtain ⟨n, rfl⟩ : ∃ m, n = m + 1 := ⟨n - 1, by omega⟩
          have R' := tm_Rhi (x := tm_tag (V p)) (y := tm_val (V p)) hR (Nat.le_refl 6)
          have Rq' := R' q (by omega)
          exact tm_xc (o := 1) _ _ (by omega) hC h3.1 (by omega) (fun P => tm_k1 (r := 6) (w := V q) (by omega) h3 rfl (by omega) rfl (by omega) Rq'.1 Rq'.2) (Hs (V q) (congrArg some (if_neg z)) _ _ (tm_Rhi R' (by omega)) pk_us pk_us n (by omega))
      · obtain ⟨h1, h2, h3⟩ : tm_ins a12 a13 a14 a15 a16 c 1 6 (nI p) 0 0 ∧ tm_ins a12 a13 a14 a15 a16 (c + 1) 20 6 0 0 (nI (c + 3)) ∧ tm_ins a12 a13 a14 a15 a16 (c + 2) 1 6 (nI q) 0 0 := hx
        rw [tm_lx8] at Hs hc
        obtain ⟨n, rfl⟩ : ∃ m, n = m + 1 := ⟨n - 1, by omega⟩
        refine tm_xc (o := 1) _ _ (by omega) hC h1.1 (by omega) (fun P => tm_k1 (r := 6) (w := V p) (by omega) h1 rfl (by omega) rfl (by omega) Rp.1 Rp.2) ?_
        refine tm_x20 (v := V p) (by omega) hC h2 pk_us (fun z => ?_) (fun z => ?_)
        · obtain ⟨n, rfl⟩ : ∃ m, n = m + 1 := ⟨n - 1, by omega⟩
          have R' := tm_Rhi (x := tm_tag (V p)) (y := tm_val (V p)) hR (Nat.le_refl 6)
          have Rq' := R' q (by omega)
          exact tm_xc (o := 1) _ _ (by omega) hC h3.1 (by omega) (fun P => tm_k1 (r := 6) (w := V q) (by omega) h3 rfl (by omega) rfl (by omega) Rq'.1 Rq'.2) (Hs (V q) (congrArg some (if_pos z)) _ _ (tm_Rhi R' (by omega)) pk_us pk_us n (by omega))
        · exact Hs (V p) (congrArg some (if_neg z)) _ _ (tm_Rhi hR (by omega)) pk_us pk_us n (by omega)
      · obtain ⟨h1, h2⟩ : tm_ins a12 a13 a14 a15 a16 c 1 6 (nI p) 0 0 ∧ tm_ins a12 a13 a14 a15 a16 (c + 1) 9 6 6 0 0 := hx
        rw [tm_lx9] at Hs hc
        obtain ⟨n, rfl⟩ : ∃ m, n = m + 1 := ⟨n - 1, by omega⟩
        refine tm_xc (o := 1) _ _ (by omega) hC h1.1 (by omega) (fun P => tm_k1 (r := 6) (w := V p) (by omega) h1 rfl (by omega) rfl (by omega) Rp.1 Rp.2) ?_
        have R' := tm_Rhi (x := tm_tag (V p)) (y := tm_val (V p)) hR (Nat.le_refl 6)
        exact tm_xc (o := 9) _ _ (by omega) hC h2.1 (by omega) (fun P => tm_k9 (r := 6) (q := 6) (w := V p) (by omega) h2 rfl (by omega) rfl (by omega) pk_us) (Hs _ rfl _ _ (tm_Rhi R' (by omega)) pk_us pk_us n (by omega))
/-- a statement's code -/
theorem tm_xs {post : Int32 → St1 → Prop} {kd dd pp qq : Nat → Nat} {nu : Nat → Int32} {V : Nat → Option Int32} {i c m C : Nat} (B : tm_B kd dd pp qq) (hx : tm_cs kd dd pp qq nu i c a12 a13 a14 a15 a16) (hC : C ≤ 350) (hc : c + (2 + tm_lx (tm_ek (kd i))) ≤ C) (hm : m < 30) (hR : tm_R a24 a25 V)
    (Hs : ∀ v, tm_res (tm_ek (kd i)) (V (pp i)) (V (qq i)) (nu i) = some v → ¬ kd i = 11 → ∀ r24 r25 : Nat → Int32, tm_R r24 r25 (tm_set V (dd i) v) → ∀ n, C - (c + (2 + tm_lx (tm_ek (kd i)))) < n → wX_execute_2 post n (nI (c + (2 + tm_lx (tm_ek (kd i))))) e s cp (nI C) oc (nI i) (nI m) iu 0 a1 a2 a3 a4 a5 a6 a7 a8 a9 a10 a11 a12 a13 a14 a15 a16 a17 a18 a19 a20 a21 a22 a23 r24 r25 a26 a27 a28 a29 a30 a31 a32)
    (Ho : kd i = 11 → ∀ r24 r25 : Nat → Int32, tm_R r24 r25 V → ∀ n, C - (c + (2 + tm_lx (tm_ek (kd i)))) < n → wX_execute_2 post n (nI (c + (2 + tm_lx (tm_ek (kd i))))) e s cp (nI C) oc (nI i) (nI (m + 1)) iu 0 a1 a2 a3 a4 a5 a6 a7 a8 a9 a10 a11 a12 a13 a14 a15 a16 a17 a18 a19 a20 a21 a22 a23 r24 r25 a26 a27 (vp_updL a28 m (tm_enc (some (nu i)))) a29 a30 a31 a32)
    (Hf : tm_res (tm_ek (kd i)) (V (pp i)) (V (qq i)) (nu i) = none → ∀ r24 r25 : Nat → Int32, tm_R r24 r25 V → post (nI i) (e, s, cp, nI C, oc, nI i, nI m, iu, 0, a1, a2, a3, a4, a5, a6, a7, a8, a9, a10, a11, a12, a13, a14, a15, a16, a17, a18, a19, a20, a21, a22, a23, r24, r25, a26, a27, a28, a29, a30, a31, a32)) : ∀ n, C - c < n → wX_execute_2 post n (nI c) e s cp (nI C) oc cu (nI m) iu re a1 a2 a3 a4 a5 a6 a7 a8 a9 a10 a11 a12 a13 a14 a15 a16 a17 a18 a19 a20 a21 a22 a23 a24 a25 a26 a27 a28 a29 a30 a31 a32 := by
  intro n hn
  obtain ⟨h1, h2, h3, h4⟩ := hx
  obtain ⟨bk, bd, bp, bq⟩ := B i
  have hl := tm_lxb (tm_ek (kd i))
  obtain ⟨n, rfl⟩ : ∃ m, n = m + 1 := ⟨n - 1, by omega⟩
  refine tm_x18 (by omega) hC h1 hR ?_
  intro r24 r25 hr
  refine tm_xe h2 (tm_ekr bk) bp bq hC (by omega) hr ?_ (fun z => Hf z r24 r25 hr) n (by omega)
  intro v hv t24 t25 ht e24 e25 n hn
  obtain ⟨n, rfl⟩ : ∃ m, n = m + 1 := ⟨n - 1, by omega⟩
  have e2 : c + 1 + tm_lx (tm_ek (kd i)) + 1 = c + (2 + tm_lx (tm_ek (kd i))) := by omega
  by_cases z : kd i = 11
  · have ev : v = some (nu i) := by
      rw [tm_ek0 (by omega)] at hv
      exact (Option.some.inj hv).symm
    subst ev
    have t := Ho z t24 t25 ht n (by omega)
    rw [← e2] at t
    exact tm_x14 (by omega) hC hm (h3 z) e24 e25 t
  · have t := Hs v hv z (upd t24 (dd i) (tm_tag v)) (upd t25 (dd i) (tm_val v)) (tm_Rset ht) n (by omega)
    rw [← e2] at t
    exact tm_xc (o := 1) _ _ (by omega) hC (h4 z).1 (by omega) (fun P => tm_k1 (r := dd i) (q := 6) (w := v) (by omega) (h4 z) rfl (by omega) rfl (by omega) e24 e25) t
end
/-! ===== the pure run ===== -/
section
variable {kd dd pp qq : Nat → Nat} {nu : Nat → Int32}
theorem tm_exf {k f : Nat} (h : (tm_ex kd dd pp qq nu k).2.1 = some f) : tm_ex kd dd pp qq nu (k + 1) = tm_ex kd dd pp qq nu k := by
  show tm_step kd dd pp qq nu k (tm_ex kd dd pp qq nu k) = _
  unfold tm_step
  rw [h]
  exact Prod.ext rfl (Prod.ext h.symm rfl)
theorem tm_exs {k f : Nat} (h : (tm_ex kd dd pp qq nu k).2.1 = some f) : ∀ g, tm_ex kd dd pp qq nu (k + g) = tm_ex kd dd pp qq nu k := by
  intro g
  induction g with
  | zero => rfl
  | succ g ih =>
    have h' : (tm_ex kd dd pp qq nu (k + g)).2.1 = some f := by
      rw [ih]
      exact h
    exact (tm_exf h').trans ih
theorem tm_exn {k : Nat} (h : (tm_ex kd dd pp qq nu k).2.1 = none) (h' : tm_res (tm_ek (kd k)) ((tm_ex kd dd pp qq nu k).1 (pp k)) ((tm_ex kd dd pp qq nu k).1 (qq k)) (nu k) = none) :
    tm_ex kd dd pp qq nu (k + 1) = ((tm_ex kd dd pp qq nu k).1, some k, (tm_ex kd dd pp qq nu k).2.2) := by
  show tm_step kd dd pp qq nu k (tm_ex kd dd pp qq nu k) = _
  unfold tm_step
  rw [h]
  show (match tm_res (tm_ek (kd k)) ((tm_ex kd dd pp qq nu k).1 (pp k)) ((tm_ex kd dd pp qq nu k).1 (qq k)) (nu k) with | none => _ | some v => _) = _
  rw [h']
theorem tm_exv {k : Nat} {v : Option Int32} (h : (tm_ex kd dd pp qq nu k).2.1 = none) (h' : tm_res (tm_ek (kd k)) ((tm_ex kd dd pp qq nu k).1 (pp k)) ((tm_ex kd dd pp qq nu k).1 (qq k)) (nu k) = some v) :
    tm_ex kd dd pp qq nu (k + 1) = if kd k = 11 then ((tm_ex kd dd pp qq nu k).1, none, (tm_ex kd dd pp qq nu k).2.2 + 1) else (tm_set (tm_ex kd dd pp qq nu k).1 (dd k) v, none, (tm_ex kd dd pp qq nu k).2.2) := by
  show tm_step kd dd pp qq nu k (tm_ex kd dd pp qq nu k) = _
  unfold tm_step
  rw [h]
  show (match tm_res (tm_ek (kd k)) ((tm_ex kd dd pp qq nu k).1 (pp k)) ((tm_ex kd dd pp qq nu k).1 (qq k)) (nu k) with | none => _ | some v => _) = _
  rw [h']
theorem tm_ex11 {k : Nat} (h : (tm_ex kd dd pp qq nu k).2.1 = none) (z : kd k = 11) : tm_ex kd dd pp qq nu (k + 1) = ((tm_ex kd dd pp qq nu k).1, none, (tm_ex kd dd pp qq nu k).2.2 + 1) := by
  have h' : tm_res (tm_ek (kd k)) ((tm_ex kd dd pp qq nu k).1 (pp k)) ((tm_ex kd dd pp qq nu k).1 (qq k)) (nu k) = some (some (nu k)) := by
    rw [tm_ek0 (by omega)]
    rfl
  rw [tm_exv h h', if_pos z]
theorem tm_exb : ∀ k, (tm_ex kd dd pp qq nu k).2.2 ≤ k ∧ ∀ f, (tm_ex kd dd pp qq nu k).2.1 = some f → f < k := by
  intro k
  induction k with
  | zero => exact ⟨Nat.le_refl 0, fun f h => absurd h.symm (Option.some_ne_none f)⟩
  | succ k ih =>
    cases h : (tm_ex kd dd pp qq nu k).2.1 with
    | some g =>
      rw [tm_exf h]
      exact ⟨by have := ih.1; omega, fun f hf => by have := ih.2 f hf; omega⟩
    | none =>
      cases h' : tm_res (tm_ek (kd k)) ((tm_ex kd dd pp qq nu k).1 (pp k)) ((tm_ex kd dd pp qq nu k).1 (qq k)) (nu k) with
      | none =>
        rw [tm_exn h h']
        refine ⟨?_, fun f hf => ?_⟩
        · show (tm_ex kd dd pp qq nu k).2.2 ≤ k + 1
          have := ih.1
          omega
        · have e : k = f := Option.some.inj hf
          omega
      | some v =>
        rw [tm_exv h h']
        by_cases z : kd k = 11
        · rw [if_pos z]
          refine ⟨?_, fun f hf => absurd hf.symm (Option.some_ne_none f)⟩
          show (tm_ex kd dd pp qq nu k).2.2 + 1 ≤ k + 1
          have := ih.1
          omega
        · rw [if_neg z]
          refine ⟨?_, fun f hf => absurd hf.symm (Option.some_ne_none f)⟩
          show (tm_ex kd dd pp qq nu k).2.2 ≤ k + 1
          have := ih.1
          omega
end
/-- the last one shown -/
def tm_last (kd dd pp qq : Nat → Nat) (nu : Nat → Int32) (i : Nat) (a28 : Nat → Int64) : Prop := ∀ k, i = k + 1 → kd k = 11 → a28 (tm_ex kd dd pp qq nu k).2.2 = tm_enc (some (nu k))
section
variable {e s cp ce oc cu sh iu re : Int32} {a1 a2 a3 a4 a5 a6 a7 a8 a9 a10 a11 a12 a13 a14 a15 a16 a17 a18 a19 a20 a21 a22 a23 a24 a25 a26 a27 : Nat → Int32} {a28 : Nat → Int64} {a29 a30 a31 a32 : Nat → Int32}
variable {kd dd pp qq : Nat → Nat} {nu : Nat → Int32}
theorem tm_xa {post : Int32 → St1 → Prop} {N : Nat} (B : tm_B kd dd pp qq) (hN : N ≤ 14) (hx : ∀ k, k < N → tm_cs kd dd pp qq nu k (tm_ps kd k) a12 a13 a14 a15 a16)
    (H : ∀ (r24 r25 : Nat → Int32) (b28 : Nat → Int64) (cu re : Int32), tm_R r24 r25 (tm_ex kd dd pp qq nu N).1 → ((tm_ex kd dd pp qq nu N).2.1 = none → tm_last kd dd pp qq nu N b28) →
      post (tm_fc (tm_ex kd dd pp qq nu N).2.1) (e, s, cp, nI (tm_ps kd N), oc, cu, nI (tm_ex kd dd pp qq nu N).2.2, iu, re, a1, a2, a3, a4, a5, a6, a7, a8, a9, a10, a11, a12, a13, a14, a15, a16, a17, a18, a19, a20, a21, a22, a23, r24, r25, a26, a27, b28, a29, a30, a31, a32)) :
    ∀ g i, i + g = N → ∀ (r24 r25 : Nat → Int32) (b28 : Nat → Int64) (cu re : Int32), tm_R r24 r25 (tm_ex kd dd pp qq nu i).1 → (tm_ex kd dd pp qq nu i).2.1 = none → tm_last kd dd pp qq nu i b28 →
      ∀ n, tm_ps kd N - tm_ps kd i < n → wX_execute_2 post n (nI (tm_ps kd i)) e s cp (nI (tm_ps kd N)) oc cu (nI (tm_ex kd dd pp qq nu i).2.2) iu re a1 a2 a3 a4 a5 a6 a7 a8 a9 a10 a11 a12 a13 a14 a15 a16 a17 a18 a19 a20 a21 a22 a23 r24 r25 a26 a27 b28 a29 a30 a31 a32 := by
  have hb := tm_psb kd N
  intro g
  induction g with
  | zero =>
    intro i hi r24 r25 b28 cu re hR hf hl n hn
    have e : i = N := by omega
    subst e
    obtain ⟨n, rfl⟩ : ∃ m, n = m + 1 := ⟨n - 1, by omega⟩
    have t := H r24 r25 b28 cu re hR (fun _ => hl)
    rw [hf] at t
    exact br_t (nI_le (Nat.le_refl _) (by omega)) t
  | succ g ih =>
    intro i hi r24 r25 b28 cu re hR hf hl n hn
    have hs := (tm_exb (kd := kd) (dd := dd) (pp := pp) (qq := qq) (nu := nu) i).1
    have hm : tm_ps kd (i + 1) ≤ tm_ps kd N := tm_psm kd (by omega)
    refine tm_xs B (hx i (by omega)) (by omega) hm (by omega) hR ?_ ?_ ?_ n hn
    · intro v hv z t24 t25 ht n hn
      have e := tm_exv hf hv
      rw [if_neg z] at e
      have t := ih (i + 1) (by omega) t24 t25 b28 (nI i) 0
      rw [e] at t
      exact t ht rfl (fun k hk hz => absurd hz (by rw [← (by omega : i = k)]; exact z)) n hn
    · intro z t24 t25 ht n hn
      have e := tm_ex11 hf z
      have t := ih (i + 1) (by omega) t24 t25 (vp_updL b28 (tm_ex kd dd pp qq nu i).2.2 (tm_enc (some (nu i)))) (nI i) 0
      rw [e] at t
      refine t ht rfl (fun k hk hz => ?_) n hn
      have ek : k = i := by omega
      subst ek
      exact pk_uLs
    · intro hv t24 t25 ht
      have e := tm_exn hf hv
      have f1 : (tm_ex kd dd pp qq nu (i + 1)).2.1 = some i := by rw [e]
      have eN : tm_ex kd dd pp qq nu N = tm_ex kd dd pp qq nu (i + 1) := by
        have eg : N = (i + 1) + g := by omega
        rw [eg]
        exact tm_exs f1 g
      have t := H t24 t25 b28 (nI i) 0
      rw [eN, e] at t
      exact t ht (fun z => absurd z.symm (fun z' => Option.some_ne_none i z'.symm))
theorem tm_run {post : Int32 → St1 → Prop} {N : Nat} (E : tm_E kd dd pp qq nu N a1 a2 a3 a4 a5 a6 a7 a8 a9 a10) (B : tm_B kd dd pp qq) (hN : N ≤ 14)
    (H : ∀ (b12 b13 b14 b15 b16 w17 w18 w19 w20 r24 r25 : Nat → Int32) (b28 : Nat → Int64) (ce cu re : Int32), tm_R r24 r25 (tm_ex kd dd pp qq nu N).1 → ((tm_ex kd dd pp qq nu N).2.1 = none → tm_last kd dd pp qq nu N b28) →
      post (tm_fc (tm_ex kd dd pp qq nu N).2.1) (e, nI N, 1, ce, 0, cu, nI (tm_ex kd dd pp qq nu N).2.2, 0, re, a1, a2, a3, a4, a5, a6, a7, a8, a9, a10, a11, b12, b13, b14, b15, b16, w17, w18, w19, w20, a21, a22, a23, r24, r25, a26, a27, b28, a29, a30, a31, a32)) : wpX_run post (e, nI N, 0, ce, oc, cu, sh, iu, re, a1, a2, a3, a4, a5, a6, a7, a8, a9, a10, a11, a12, a13, a14, a15, a16, a17, a18, a19, a20, a21, a22, a23, a24, a25, a26, a27, a28, a29, a30, a31, a32) := by
  unfold wpX_run
  refine tm_sound E hN (br_f (by decide) (tm_comp E B hN ?_))
  intro b12 b13 b14 b15 b16 w17 w18 w19 w20 hx
  refine pk_loop (σ := (Nat → Int32) × (Nat → Int32)) (fun n i t => wX_run_16 post n (nI i) e (nI N) 1 (nI (tm_ps kd N)) 0 cu sh iu re a1 a2 a3 a4 a5 a6 a7 a8 a9 a10 a11 b12 b13 b14 b15 b16 w17 w18 w19 w20 a21 a22 a23 t.1 t.2 a26 a27 a28 a29 a30 a31 a32) (fun i t => ∀ r, r < i → t.1 r = 0 ∧ t.2 r = 0) 18 0 (a24, a25) (by omega) (fun r hr => absurd hr (by omega)) ?_ ?_
  · intro n t ht
    refine pk_le 18 18 (fun _ => ?_) (fun z => absurd z (by omega))
    have R0 : tm_R t.1 t.2 (fun _ => none) := fun r hr => ht r (by omega)
    exact ⟨tm_ps kd N + 1, tm_xa B hN hx (fun r24 r25 b28 cu re h1 h2 => H _ _ _ _ _ _ _ _ _ r24 r25 b28 _ cu re h1 h2) N 0 (by omega) t.1 t.2 a28 cu re R0 rfl (fun k hk => absurd hk (by omega)) (tm_ps kd N + 1) (by omega)⟩
  · intro n i t hi ht hw
    refine pk_le 18 i (fun z => absurd z (by omega)) (fun z => tm_clr hi (nm_r (nI_1 i) (hw (_, _) (fun r hr => ?_))))
    by_cases e : r = i
    · rw [e]
      exact ⟨pk_us, pk_us⟩
    · exact ⟨(pk_un e).trans (ht r (by omega)).1, (pk_un e).trans (ht r (by omega)).2⟩
end
end
section
/-! ===== the law ===== -/
def tm_Ex (kd pp qq : Nat → Nat) (nu : Nat → Int32) (n : Nat) (a1 a2 a3 a4 a5 a6 a7 : Nat → Int32) : Prop :=
  (∀ v, v < 3 → a1 v = 1 ∧ a2 v = nI v ∧ a4 v = 1 ∧ a5 v = 0 ∧ a7 v = nI v) ∧
  (∀ i, i < n → a1 (3 + i) = nI (tm_ek (kd i)) ∧ a7 (3 + i) = nI (3 + i) ∧ (tm_ek (kd i) = 0 → a5 (3 + i) = 1 ∧ a6 (3 + i) = nu i) ∧
    (¬ tm_ek (kd i) = 0 → a5 (3 + i) = 0 ∧ a2 (3 + i) = nI (pp i) ∧ a3 (3 + i) = nI (qq i)))
def tm_Es (kd dd : Nat → Nat) (n : Nat) (a8 a9 a10 : Nat → Int32) : Prop :=
  ∀ i, i < n → (kd i = 11 → a8 i = 4 ∧ a9 i = nI (3 + i)) ∧ (¬ kd i = 11 → a8 i = 0 ∧ a9 i = nI (dd i) ∧ a10 i = nI (3 + i))
theorem tm_Emk {kd dd pp qq : Nat → Nat} {nu : Nat → Int32} {n : Nat} {a1 a2 a3 a4 a5 a6 a7 a8 a9 a10 : Nat → Int32} (h : tm_Ex kd pp qq nu n a1 a2 a3 a4 a5 a6 a7) (h' : tm_Es kd dd n a8 a9 a10) : tm_E kd dd pp qq nu n a1 a2 a3 a4 a5 a6 a7 a8 a9 a10 :=
  ⟨h.1, fun i hi => ⟨(h.2 i hi).1, (h.2 i hi).2.1, (h.2 i hi).2.2.1, (h.2 i hi).2.2.2, (h' i hi).1, (h' i hi).2⟩⟩
theorem tm_Ex0 {kd pp qq : Nat → Nat} {nu : Nat → Int32} {n : Nat} {a1 a2 a3 a4 a5 a6 a7 : Nat → Int32} (h : tm_Ex kd pp qq nu n a1 a2 a3 a4 a5 a6 a7) (hk : tm_ek (kd n) = 0) :
    tm_Ex kd pp qq nu (n + 1) (upd a1 (3 + n) 0) (upd a2 (3 + n) (nu n)) (upd a3 (3 + n) 0) (upd a4 (3 + n) 1) (upd (upd a5 (3 + n) 0) (3 + n) 1) (upd (upd a6 (3 + n) 0) (3 + n) (nu n)) (upd a7 (3 + n) (nI (3 + n))) := by
  refine ⟨fun v hv => ?_, fun i hi => ?_⟩
  · have z : v ≠ 3 + n := by omega
    rw [pk_un z, pk_un z, pk_un z, pk_un z, pk_un z, pk_un z]
    exact h.1 v hv
  · by_cases e : i = n
    · subst e
      rw [pk_us, pk_us, pk_us, pk_us, pk_us]
      exact ⟨by rw [hk]; rfl, rfl, fun _ => ⟨rfl, rfl⟩, fun z => absurd hk z⟩
    · have z : 3 + i ≠ 3 + n := by omega
      rw [pk_un z, pk_un z, pk_un z, pk_un z, pk_un z, pk_un z, pk_un z, pk_un z]
      exact h.2 i (by omega)
theorem tm_Ex2 {kd pp qq : Nat → Nat} {nu : Nat → Int32} {n : Nat} {w : Int32} {a1 a2 a3 a4 a5 a6 a7 : Nat → Int32} (h : tm_Ex kd pp qq nu n a1 a2 a3 a4 a5 a6 a7) (hk : ¬ tm_ek (kd n) = 0) :
    tm_Ex kd pp qq nu (n + 1) (upd a1 (3 + n) (nI (tm_ek (kd n)))) (upd a2 (3 + n) (nI (pp n))) (upd a3 (3 + n) (nI (qq n))) (upd a4 (3 + n) w) (upd a5 (3 + n) 0) (upd a6 (3 + n) 0) (upd a7 (3 + n) (nI (3 + n))) := by
  refine ⟨fun v hv => ?_, fun i hi => ?_⟩
  · have z : v ≠ 3 + n := by omega
    rw [pk_un z, pk_un z, pk_un z, pk_un z, pk_un z]
    exact h.1 v hv
  · by_cases e : i = n
    · subst e
      rw [pk_us, pk_us, pk_us, pk_us, pk_us, pk_us]
      exact ⟨rfl, rfl, fun z => absurd z hk, fun _ => ⟨rfl, rfl, rfl⟩⟩
    · have z : 3 + i ≠ 3 + n := by omega
      rw [pk_un z, pk_un z, pk_un z, pk_un z, pk_un z, pk_un z]
      exact h.2 i (by omega)
theorem tm_Es0 {kd dd : Nat → Nat} {n : Nat} {a8 a9 a10 : Nat → Int32} (h : tm_Es kd dd n a8 a9 a10) (hk : ¬ kd n = 11) : tm_Es kd dd (n + 1) (upd a8 n 0) (upd a9 n (nI (dd n))) (upd a10 n (nI (3 + n))) := by
  intro i hi
  by_cases e : i = n
  · subst e
    rw [pk_us, pk_us, pk_us]
    exact ⟨fun z => absurd z hk, fun _ => ⟨rfl, rfl, rfl⟩⟩
  · rw [pk_un e, pk_un e, pk_un e]
    exact h i (by omega)
theorem tm_Es4 {kd dd : Nat → Nat} {n : Nat} {a8 a9 a10 : Nat → Int32} (h : tm_Es kd dd n a8 a9 a10) (hk : kd n = 11) : tm_Es kd dd (n + 1) (upd a8 n 4) (upd a9 n (nI (3 + n))) (upd a10 n 0) := by
  intro i hi
  by_cases e : i = n
  · subst e
    rw [pk_us, pk_us, pk_us]
    exact ⟨fun _ => ⟨rfl, rfl⟩, fun z => absurd hk z⟩
  · rw [pk_un e, pk_un e, pk_un e]
    exact h i (by omega)
section
variable {e s cp ce oc cu sh iu re : Int32} {a1 a2 a3 a4 a5 a6 a7 a8 a9 a10 a11 a12 a13 a14 a15 a16 a17 a18 a19 a20 a21 a22 a23 a24 a25 a26 a27 : Nat → Int32} {a28 : Nat → Int64} {a29 a30 a31 a32 : Nat → Int32}
variable {kd dd pp qq : Nat → Nat} {nu : Nat → Int32}
theorem tm_outy {post : Int64 → Prop} {m k : Nat} {y : Int32} (hy : y = nI k) (hk : k < m) (hm : m ≤ 14) (H : post (a28 k)) : wpX_output post (e, s, cp, ce, oc, cu, nI m, iu, re, a1, a2, a3, a4, a5, a6, a7, a8, a9, a10, a11, a12, a13, a14, a15, a16, a17, a18, a19, a20, a21, a22, a23, a24, a25, a26, a27, a28, a29, a30, a31, a32) y := by
  subst hy
  exact tm_out hk hm H
theorem tm_420 {post : Int32 → Prop} {L : Nat} {xs : Nat → Int32} {J : Int32 → Int32 → Int64 → Int64 → Int64 → Int32 → Int32 → Int32 → Int32 → Int32 → Int32 → Int32 → Int32 → Int32 → Int32 → Int32 → Int32 → (Nat → Int32) → (Nat → Int32) → (Nat → Int32) → (Nat → Int32) → (Nat → Int32) → (Nat → Int32) → (Nat → Int32) → (Nat → Int32) → (Nat → Int32) → (Nat → Int32) → (Nat → Int32) → (Nat → Int32) → (Nat → Int32) → (Nat → Int32) → (Nat → Int32) → (Nat → Int32) → (Nat → Int32) → (Nat → Int32) → (Nat → Int32) → (Nat → Int32) → (Nat → Int32) → (Nat → Int32) → (Nat → Int32) → (Nat → Int32) → (Nat → Int32) → (Nat → Int32) → (Nat → Int32) → (Nat → Int64) → (Nat → Int32) → (Nat → Int32) → (Nat → Int32) → (Nat → Int32) → Prop} {x2 x3 x10 x11 x12 : Int32} {kc ks : Nat} {V : Nat → Option Int32} (hR : tm_R a24 a25 V)
    (H : J x2 x3 (tm_enc (V 0)) (tm_enc (V 1)) (tm_enc (V 2)) x10 x11 (x12 + 4) e s cp ce oc cu sh iu 0 a1 a2 a3 a4 a5 a6 a7 a8 a9 a10 a11 a12 a13 a14 a15 a16 a17 a18 a19 a20 a21 a22 a23 a24 a25 a26 a27 a28 a29 a30 a31 a32) :
    ∃ n, wL_law_420 post L xs J x2 x3 (tm_enc (V 0)) (tm_enc (V 1)) (tm_enc (V 2)) x10 x11 x12 kc ks e s cp ce oc cu sh iu re a1 a2 a3 a4 a5 a6 a7 a8 a9 a10 a11 a12 a13 a14 a15 a16 a17 a18 a19 a20 a21 a22 a23 a24 a25 a26 a27 a28 a29 a30 a31 a32 n 0 := by
  refine pk_loop (σ := Unit) (fun n i _ => wL_law_420 post L xs J x2 x3 (tm_enc (V 0)) (tm_enc (V 1)) (tm_enc (V 2)) x10 x11 x12 kc ks e s cp ce oc cu sh iu re a1 a2 a3 a4 a5 a6 a7 a8 a9 a10 a11 a12 a13 a14 a15 a16 a17 a18 a19 a20 a21 a22 a23 a24 a25 a26 a27 a28 a29 a30 a31 a32 n (nI i)) (fun _ _ => True) 3 0 () (by omega) trivial ?_ ?_
  · intro n _ _
    refine pk_le 3 3 (fun _ => tm_tables (tm_R2 hR) (br_t rfl ?_)) (fun z => absurd z (by omega))
    refine tm_same (v := 0) (w := 1) hR (by omega) (by omega) (fun g => br_t (by rw [g]) (br_t rfl ?_)) (fun g => br_f (fun z => g (tm_encJ.mp z)) (br_t rfl ?_))
    · exact tm_same (v := 2) (w := 1) hR (by omega) (by omega) (fun g => br_t (by rw [g]) (br_t rfl (nm_e H))) (fun g => br_f (fun z => g (tm_encJ.mp z)) (br_t rfl (nm_e H)))
    · exact tm_same (v := 2) (w := 1) hR (by omega) (by omega) (fun g => br_t (by rw [g]) (br_t rfl (nm_e H))) (fun g => br_f (fun z => g (tm_encJ.mp z)) (br_t rfl (nm_e H)))
  · intro n i _ hi _ hw
    exact pk_le 3 i (fun z => absurd z (by omega)) (fun _ => tm_pick hi (tm_sortm hR (by omega) (br_t (tm_sort _).symm (tm_numm hR (by omega) (br_t (tm_num _).symm (nm_r (nI_1 i) (hw () trivial)))))))
theorem tm_368 {post : Int32 → Prop} {L : Nat} {xs : Nat → Int32} {J : Int32 → Int32 → Int64 → Int64 → Int64 → Int32 → Int32 → Int32 → Int32 → Int32 → Int32 → Int32 → Int32 → Int32 → Int32 → Int32 → Int32 → (Nat → Int32) → (Nat → Int32) → (Nat → Int32) → (Nat → Int32) → (Nat → Int32) → (Nat → Int32) → (Nat → Int32) → (Nat → Int32) → (Nat → Int32) → (Nat → Int32) → (Nat → Int32) → (Nat → Int32) → (Nat → Int32) → (Nat → Int32) → (Nat → Int32) → (Nat → Int32) → (Nat → Int32) → (Nat → Int32) → (Nat → Int32) → (Nat → Int32) → (Nat → Int32) → (Nat → Int32) → (Nat → Int32) → (Nat → Int32) → (Nat → Int32) → (Nat → Int32) → (Nat → Int32) → (Nat → Int64) → (Nat → Int32) → (Nat → Int32) → (Nat → Int32) → (Nat → Int32) → Prop} {x2 x12 x25 y10 y11 : Int32} {x22 y4 y6 y8 : Int64} {kc ks n : Nat} (E : tm_E kd dd pp qq nu (n + 1) a1 a2 a3 a4 a5 a6 a7 a8 a9 a10) (B : tm_B kd dd pp qq) (hn : n < 14)
    (e4 : y4 = tm_enc ((tm_ex kd dd pp qq nu (n + 1)).1 0)) (e6 : y6 = tm_enc ((tm_ex kd dd pp qq nu (n + 1)).1 1)) (e8 : y8 = tm_enc ((tm_ex kd dd pp qq nu (n + 1)).1 2)) (e10 : y10 = tm_fc (tm_ex kd dd pp qq nu (n + 1)).2.1) (e11 : y11 = nI (tm_ex kd dd pp qq nu (n + 1)).2.2)
    (h25 : ¬ x25 = 0 → (tm_ex kd dd pp qq nu (n + 1)).2.1 = none → kd n = 11 ∧ (tm_ex kd dd pp qq nu (n + 1)).2.2 = (tm_ex kd dd pp qq nu n).2.2 + 1 ∧ x22 = tm_enc (some (nu n)))
    (H : ∀ (ce cu sh : Int32) (b12 b13 b14 b15 b16 w17 w18 w19 w20 r24 r25 : Nat → Int32) (b28 : Nat → Int64), tm_R r24 r25 (tm_ex kd dd pp qq nu (n + 1)).1 →
      J x2 (nI (n + 1)) (tm_enc ((tm_ex kd dd pp qq nu (n + 1)).1 0)) (tm_enc ((tm_ex kd dd pp qq nu (n + 1)).1 1)) (tm_enc ((tm_ex kd dd pp qq nu (n + 1)).1 2)) (tm_fc (tm_ex kd dd pp qq nu (n + 1)).2.1) (nI (tm_ex kd dd pp qq nu (n + 1)).2.2) (x12 + 4)
        e (nI (n + 1)) 1 ce 0 cu sh 0 0 a1 a2 a3 a4 a5 a6 a7 a8 a9 a10 a11 b12 b13 b14 b15 b16 w17 w18 w19 w20 a21 a22 a23 r24 r25 a26 a27 b28 a29 a30 a31 a32) :
    wL_law_368 post L xs J x2 (nI n) y4 y6 y8 y10 y11 x12 x22 x25 kc ks e (nI (n + 1)) 0 ce oc cu sh iu re a1 a2 a3 a4 a5 a6 a7 a8 a9 a10 a11 a12 a13 a14 a15 a16 a17 a18 a19 a20 a21 a22 a23 a24 a25 a26 a27 a28 a29 a30 a31 a32 := by
  subst e4 e6 e8 e10 e11
  refine nm_r (nI_1 n) (tm_run E B (by omega) ?_)
  intro b12 b13 b14 b15 b16 w17 w18 w19 w20 r24 r25 b28 ce cu re hR hl
  have t := H ce cu (nI (tm_ex kd dd pp qq nu (n + 1)).2.2) b12 b13 b14 b15 b16 w17 w18 w19 w20 r24 r25 b28 hR
  refine br_t rfl (br_t rfl (br_c (fun _ => tm_420 hR t) (fun z => br_c (fun z' => ?_) (fun _ => tm_420 hR t))))
  have hb := tm_exb (kd := kd) (dd := dd) (pp := pp) (qq := qq) (nu := nu) (n + 1)
  have f0 : (tm_ex kd dd pp qq nu (n + 1)).2.1 = none := (tm_fcn (fun k hk => by have := hb.2 k hk; omega)).mp z'
  obtain ⟨g1, g2, g3⟩ := h25 z f0
  refine tm_outy (k := (tm_ex kd dd pp qq nu n).2.2) (by rw [g2]; exact nI_pred _) (by omega) (by have := hb.1; omega) (br_t ?_ (tm_420 hR t))
  rw [hl f0 n rfl g1, g3]
theorem tm_282 {post : Int32 → Prop} {L : Nat} {xs : Nat → Int32} {J : Int32 → Int32 → Int64 → Int64 → Int64 → Int32 → Int32 → Int32 → Int32 → Int32 → Int32 → Int32 → Int32 → Int32 → Int32 → Int32 → Int32 → (Nat → Int32) → (Nat → Int32) → (Nat → Int32) → (Nat → Int32) → (Nat → Int32) → (Nat → Int32) → (Nat → Int32) → (Nat → Int32) → (Nat → Int32) → (Nat → Int32) → (Nat → Int32) → (Nat → Int32) → (Nat → Int32) → (Nat → Int32) → (Nat → Int32) → (Nat → Int32) → (Nat → Int32) → (Nat → Int32) → (Nat → Int32) → (Nat → Int32) → (Nat → Int32) → (Nat → Int32) → (Nat → Int32) → (Nat → Int32) → (Nat → Int32) → (Nat → Int32) → (Nat → Int32) → (Nat → Int64) → (Nat → Int32) → (Nat → Int32) → (Nat → Int32) → (Nat → Int32) → Prop} {x2 x12 x25 : Int32} {x22 : Int64} {kc ks n : Nat} (E : tm_E kd dd pp qq nu (n + 1) a1 a2 a3 a4 a5 a6 a7 a8 a9 a10) (B : tm_B kd dd pp qq) (hn : n < 14)
    (h25 : x25 = 0 ↔ ¬ kd n = 11) (h22 : x22 = tm_due (tm_res (tm_ek (kd n)) ((tm_ex kd dd pp qq nu n).1 (pp n)) ((tm_ex kd dd pp qq nu n).1 (qq n)) (nu n)))
    (H : ∀ (ce cu sh : Int32) (b12 b13 b14 b15 b16 w17 w18 w19 w20 r24 r25 : Nat → Int32) (b28 : Nat → Int64), tm_R r24 r25 (tm_ex kd dd pp qq nu (n + 1)).1 →
      J x2 (nI (n + 1)) (tm_enc ((tm_ex kd dd pp qq nu (n + 1)).1 0)) (tm_enc ((tm_ex kd dd pp qq nu (n + 1)).1 1)) (tm_enc ((tm_ex kd dd pp qq nu (n + 1)).1 2)) (tm_fc (tm_ex kd dd pp qq nu (n + 1)).2.1) (nI (tm_ex kd dd pp qq nu (n + 1)).2.2) (x12 + 4)
        e (nI (n + 1)) 1 ce 0 cu sh 0 0 a1 a2 a3 a4 a5 a6 a7 a8 a9 a10 a11 b12 b13 b14 b15 b16 w17 w18 w19 w20 a21 a22 a23 r24 r25 a26 a27 b28 a29 a30 a31 a32) :
    wL_law_282 post L xs J x2 (nI n) (tm_enc ((tm_ex kd dd pp qq nu n).1 0)) (tm_enc ((tm_ex kd dd pp qq nu n).1 1)) (tm_enc ((tm_ex kd dd pp qq nu n).1 2)) (tm_fc (tm_ex kd dd pp qq nu n).2.1) (nI (tm_ex kd dd pp qq nu n).2.2) x12 (nI (dd n)) x22 x25 (nI (n + 1)) kc ks e (nI (n + 1)) 0 ce oc cu sh iu re a1 a2 a3 a4 a5 a6 a7 a8 a9 a10 a11 a12 a13 a14 a15 a16 a17 a18 a19 a20 a21 a22 a23 a24 a25 a26 a27 a28 a29 a30 a31 a32 := by
  have hb := tm_exb (kd := kd) (dd := dd) (pp := pp) (qq := qq) (nu := nu) n
  refine br_t (nI_1 n).symm ?_
  cases hf : (tm_ex kd dd pp qq nu n).2.1 with
  | some f =>
    have e := tm_exf hf
    have nf : ¬ tm_fc (some f) = -4 := fun z => absurd ((tm_fcn (f := some f) (fun k hk => by have := hb.2 k (hf.trans hk); omega)).mp z) (Option.some_ne_none f)
    refine br_f nf (br_f nf (tm_368 E B hn (by rw [e]) (by rw [e]) (by rw [e]) (by rw [e, hf]) (by rw [e]) ?_ H))
    intro _ z
    rw [e, hf] at z
    exact absurd z (Option.some_ne_none f)
  | none =>
    cases hr : tm_res (tm_ek (kd n)) ((tm_ex kd dd pp qq nu n).1 (pp n)) ((tm_ex kd dd pp qq nu n).1 (qq n)) (nu n) with
    | none =>
      rw [hr] at h22
      have e := tm_exn hf hr
      have nf : ¬ nI n = -4 := fun z => absurd ((tm_fcn (f := some n) (fun k hk => by have := Option.some.inj hk; omega)).mp z) (Option.some_ne_none n)
      refine br_t rfl (br_t h22 (br_f nf (tm_368 E B hn (by rw [e]) (by rw [e]) (by rw [e]) (by rw [e] <;> rfl) (by rw [e]) ?_ H)))
      intro _ z
      rw [e] at z
      exact absurd z (Option.some_ne_none n)
    | some v =>
      rw [hr] at h22
      have h22' : x22 = tm_enc v := h22
      have e := tm_exv hf hr
      refine br_t rfl (br_f (fun z => tm_encM v (h22'.symm.trans z)) (br_t rfl ?_))
      by_cases z : kd n = 11
      · have z25 : ¬ x25 = 0 := fun g => h25.mp g z
        rw [if_pos z] at e
        have ev : v = some (nu n) := by
          rw [tm_ek0 (by omega)] at hr
          exact (Option.some.inj hr).symm
        refine br_f z25 (nm_r (nI_1 _) (br_f z25 (br_f z25 (br_f z25 (tm_368 E B hn (by rw [e]) (by rw [e]) (by rw [e]) (by rw [e] <;> rfl) (by rw [e]) (fun _ _ => ⟨z, by rw [e], by rw [h22', ev]⟩) H)))))
      · have z25 : x25 = 0 := h25.mpr z
        rw [if_neg z] at e
        have bd := (B n).2.1
        have c : dd n = 0 ∨ dd n = 1 ∨ dd n = 2 := by omega
        rcases c with c | c | c
        · refine br_t z25 (br_t z25 (br_t (by rw [c]; rfl) (br_t z25 (br_f (by rw [c]; decide) (br_t z25 (br_f (by rw [c]; decide) (tm_368 E B hn ?_ ?_ ?_ (by rw [e] <;> rfl) (by rw [e]) (fun g => absurd z25 g) H)))))))
          · rw [e, h22', c] <;> rfl
          · rw [e, c] <;> rfl
          · rw [e, c] <;> rfl
        · refine br_t z25 (br_t z25 (br_f (by rw [c]; decide) (br_t z25 (br_t (by rw [c]; rfl) (br_t z25 (br_f (by rw [c]; decide) (tm_368 E B hn ?_ ?_ ?_ (by rw [e] <;> rfl) (by rw [e]) (fun g => absurd z25 g) H)))))))
          · rw [e, c] <;> rfl
          · rw [e, h22', c] <;> rfl
          · rw [e, c] <;> rfl
        · refine br_t z25 (br_t z25 (br_f (by rw [c]; decide) (br_t z25 (br_f (by rw [c]; decide) (br_t z25 (br_t (by rw [c]; rfl) (tm_368 E B hn ?_ ?_ ?_ (by rw [e] <;> rfl) (by rw [e]) (fun g => absurd z25 g) H)))))))
          · rw [e, c] <;> rfl
          · rw [e, c] <;> rfl
          · rw [e, h22', c] <;> rfl
/-- behind express -/
theorem tm_230 {post : Int32 → Prop} {L : Nat} {xs : Nat → Int32} {J : Int32 → Int32 → Int64 → Int64 → Int64 → Int32 → Int32 → Int32 → Int32 → Int32 → Int32 → Int32 → Int32 → Int32 → Int32 → Int32 → Int32 → (Nat → Int32) → (Nat → Int32) → (Nat → Int32) → (Nat → Int32) → (Nat → Int32) → (Nat → Int32) → (Nat → Int32) → (Nat → Int32) → (Nat → Int32) → (Nat → Int32) → (Nat → Int32) → (Nat → Int32) → (Nat → Int32) → (Nat → Int32) → (Nat → Int32) → (Nat → Int32) → (Nat → Int32) → (Nat → Int32) → (Nat → Int32) → (Nat → Int32) → (Nat → Int32) → (Nat → Int32) → (Nat → Int32) → (Nat → Int32) → (Nat → Int32) → (Nat → Int32) → (Nat → Int32) → (Nat → Int64) → (Nat → Int32) → (Nat → Int32) → (Nat → Int32) → (Nat → Int32) → Prop} {x12 : Int32} {x22 : Int64} {kc ks n : Nat} (Ex : tm_Ex kd pp qq nu (n + 1) a1 a2 a3 a4 a5 a6 a7) (Es : tm_Es kd dd n a8 a9 a10) (B : tm_B kd dd pp qq) (hn : n < 14)
    (h22 : x22 = tm_due (tm_res (tm_ek (kd n)) ((tm_ex kd dd pp qq nu n).1 (pp n)) ((tm_ex kd dd pp qq nu n).1 (qq n)) (nu n)))
    (H : ∀ (ce cu sh : Int32) (b8 b9 b10 b11 b12 b13 b14 b15 b16 w17 w18 w19 w20 r24 r25 : Nat → Int32) (b28 : Nat → Int64), tm_Es kd dd (n + 1) b8 b9 b10 → tm_R r24 r25 (tm_ex kd dd pp qq nu (n + 1)).1 →
      J (nI (3 + n + 1)) (nI (n + 1)) (tm_enc ((tm_ex kd dd pp qq nu (n + 1)).1 0)) (tm_enc ((tm_ex kd dd pp qq nu (n + 1)).1 1)) (tm_enc ((tm_ex kd dd pp qq nu (n + 1)).1 2)) (tm_fc (tm_ex kd dd pp qq nu (n + 1)).2.1) (nI (tm_ex kd dd pp qq nu (n + 1)).2.2) (x12 + 4)
        (nI (3 + n + 1)) (nI (n + 1)) 1 ce 0 cu sh 0 0 a1 a2 a3 a4 a5 a6 a7 b8 b9 b10 b11 b12 b13 b14 b15 b16 w17 w18 w19 w20 a21 a22 a23 r24 r25 a26 a27 b28 a29 a30 a31 a32) :
    wL_law_230 post L xs J (nI (3 + n)) (nI n) (tm_enc ((tm_ex kd dd pp qq nu n).1 0)) (tm_enc ((tm_ex kd dd pp qq nu n).1 1)) (tm_enc ((tm_ex kd dd pp qq nu n).1 2)) (tm_fc (tm_ex kd dd pp qq nu n).2.1) (nI (tm_ex kd dd pp qq nu n).2.2) x12 (nI (dd n)) (nI (kd n)) x22 (nI (3 + n)) kc ks (nI (3 + n + 1)) (nI n) cp ce oc cu sh iu re a1 a2 a3 a4 a5 a6 a7 a8 a9 a10 a11 a12 a13 a14 a15 a16 a17 a18 a19 a20 a21 a22 a23 a24 a25 a26 a27 a28 a29 a30 a31 a32 := by
  obtain ⟨bk, bd, bp, bq⟩ := B n
  refine br_t rfl (nm_r (nI_1 (3 + n)) (pk_eq (kd n) 11 (fun z => ?_) (fun z => ?_)))
  · refine br_f (by decide) (tm_st4 hn (by omega) (by omega) ?_)
    have Es' := tm_Es4 Es z
    exact tm_282 (tm_Emk Ex Es') B hn ⟨fun g => absurd g (by decide), fun g => absurd z g⟩ h22 (fun ce cu sh b12 b13 b14 b15 b16 w17 w18 w19 w20 r24 r25 b28 hR => H ce cu sh _ _ _ _ b12 b13 b14 b15 b16 w17 w18 w19 w20 r24 r25 b28 Es' hR)
  · refine br_t rfl (tm_st0 hn (by omega) (by omega) (by omega) ?_)
    have Es' := tm_Es0 Es z
    exact tm_282 (tm_Emk Ex Es') B hn ⟨fun _ => z, fun _ => rfl⟩ h22 (fun ce cu sh b12 b13 b14 b15 b16 w17 w18 w19 w20 r24 r25 b28 hR => H ce cu sh _ _ _ _ b12 b13 b14 b15 b16 w17 w18 w19 w20 r24 r25 b28 Es' hR)
end
end
section
/-! ===== the law's loop; what is owed ===== -/
def tm_kd (xs : Nat → Int32) (t : Nat) : Nat := (xs (4 * t)).toBitVec.toNat % 256 % 12
def tm_dd (xs : Nat → Int32) (t : Nat) : Nat := (xs (4 * t + 1)).toBitVec.toNat % 256 % 3
def tm_pp (xs : Nat → Int32) (t : Nat) : Nat := (xs (4 * t + 2)).toBitVec.toNat % 256 % 3
def tm_qq (xs : Nat → Int32) (t : Nat) : Nat := (xs (4 * t + 2) >>> ((8 : Int32) &&& 31)).toBitVec.toNat % 256 % 3
def tm_nu (xs : Nat → Int32) (t : Nat) : Int32 := xs (4 * t + 3)
theorem tm_Bx (xs : Nat → Int32) : tm_B (tm_kd xs) (tm_dd xs) (tm_pp xs) (tm_qq xs) := fun t =>
  ⟨Nat.mod_lt _ (by omega), Nat.mod_lt _ (by omega), Nat.mod_lt _ (by omega), Nat.mod_lt _ (by omega)⟩
theorem tm_m3 (x : Int32) : (x &&& 255) - (x &&& 255) / 3 * 3 = nI (x.toBitVec.toNat % 256 % 3) := by
  rw [pk_and x 8 (by decide)]
  have h : x.toBitVec.toNat % 2 ^ 8 < 256 := Nat.mod_lt _ (by omega)
  exact pk_rem (d := 3) (by omega) (by omega) (by omega)
theorem tm_m12 (x : Int32) : (x &&& 255) - (x &&& 255) / 12 * 12 = nI (x.toBitVec.toNat % 256 % 12) := by
  rw [pk_and x 8 (by decide)]
  have h : x.toBitVec.toNat % 2 ^ 8 < 256 := Nat.mod_lt _ (by omega)
  exact pk_rem (d := 12) (by omega) (by omega) (by omega)
theorem tm_cnt {L t : Nat} (hL : L ≤ 260) (ht : t ≤ 65) (h : ¬ (Int32.ofNat L) - 4 < nI (4 * t)) : 4 * t + 4 ≤ L := by
  have e : ((Int32.ofNat L) - 4).toInt = (L : Int) - (4 : Nat) := pk_sub_toInt (a := L) (b := 4) (by omega) (by omega)
  have e2 := nI_toInt (n := 4 * t) (by omega)
  rw [Int32.lt_iff_toInt_lt, e, e2] at h
  omega
section
variable {L : Nat} {xs : Nat → Int32}
theorem tm_57 {post : Int32 → Prop} {kc ks : Nat} (hL : L ≤ 260) (hp : post 1) : ∀ f t, t ≤ 65 → 65 - t < f → ∀ n, n = min t 14 → ∀ (cp ce oc cu sh iu re : Int32) (a1 a2 a3 a4 a5 a6 a7 a8 a9 a10 a11 a12 a13 a14 a15 a16 a17 a18 a19 a20 a21 a22 a23 a24 a25 a26 a27 : Nat → Int32) (a28 : Nat → Int64) (a29 a30 a31 a32 : Nat → Int32),
    tm_Ex (tm_kd xs) (tm_pp xs) (tm_qq xs) (tm_nu xs) n a1 a2 a3 a4 a5 a6 a7 → tm_Es (tm_kd xs) (tm_dd xs) n a8 a9 a10 → tm_R a24 a25 (tm_ex (tm_kd xs) (tm_dd xs) (tm_pp xs) (tm_qq xs) (tm_nu xs) n).1 →
    wL_law_57 post L xs kc ks f (nI (3 + n)) (nI n) (tm_enc ((tm_ex (tm_kd xs) (tm_dd xs) (tm_pp xs) (tm_qq xs) (tm_nu xs) n).1 0)) (tm_enc ((tm_ex (tm_kd xs) (tm_dd xs) (tm_pp xs) (tm_qq xs) (tm_nu xs) n).1 1)) (tm_enc ((tm_ex (tm_kd xs) (tm_dd xs) (tm_pp xs) (tm_qq xs) (tm_nu xs) n).1 2)) (tm_fc (tm_ex (tm_kd xs) (tm_dd xs) (tm_pp xs) (tm_qq xs) (tm_nu xs) n).2.1) (nI (tm_ex (tm_kd xs) (tm_dd xs) (tm_pp xs) (tm_qq xs) (tm_nu xs) n).2.2) (nI (4 * t)) (nI (3 + n)) (nI n) cp ce oc cu sh iu re a1 a2 a3 a4 a5 a6 a7 a8 a9 a10 a11 a12 a13 a14 a15 a16 a17 a18 a19 a20 a21 a22 a23 a24 a25 a26 a27 a28 a29 a30 a31 a32 := by
  intro f
  induction f with
  | zero => exact fun t _ h => absurd h (by omega)
  | succ f ih =>
    intro t ht hf n hn cp ce oc cu sh iu re a1 a2 a3 a4 a5 a6 a7 a8 a9 a10 a11 a12 a13 a14 a15 a16 a17 a18 a19 a20 a21 a22 a23 a24 a25 a26 a27 a28 a29 a30 a31 a32 hE hS hR
    refine br_c (fun _ => hp) (fun z => ?_)
    have hl := tm_cnt hL ht z
    have c0 : (nI (4 * t)).toNatClampNeg = 4 * t := nI_clamp (by omega)
    have i1 : nI (4 * t) + 1 = nI (4 * t + 1) := nI_1 _
    have i2 : nI (4 * t) + 2 = nI (4 * t + 2) := nI_add (4 * t) 2
    have i3 : nI (4 * t) + 3 = nI (4 * t + 3) := nI_add (4 * t) 3
    have i4 : nI (4 * t) + 4 = nI (4 * (t + 1)) := nI_add (4 * t) 4
    have c1 : (nI (4 * t) + 1).toNatClampNeg = 4 * t + 1 := by rw [i1]; exact nI_clamp (by omega)
    have c2 : (nI (4 * t) + 2).toNatClampNeg = 4 * t + 2 := by rw [i2]; exact nI_clamp (by omega)
    have c3 : (nI (4 * t) + 3).toNatClampNeg = 4 * t + 3 := by rw [i3]; exact nI_clamp (by omega)
    have v0 : vp_in (nI (4 * t)) L := vp_in_nI (by omega) (by omega)
    have v1 : vp_in (nI (4 * t) + 1) L := by rw [i1]; exact vp_in_nI (by omega) (by omega)
    have v2 : vp_in (nI (4 * t) + 2) L := by rw [i2]; exact vp_in_nI (by omega) (by omega)
    have v3 : vp_in (nI (4 * t) + 3) L := by rw [i3]; exact vp_in_nI (by omega) (by omega)
    have d3 : ¬ (3 : Int32) = 0 := by decide
    have d12 : ¬ (12 : Int32) = 0 := by decide
    refine And.intro v1 (And.intro d3 (nm_r (e' := nI (tm_dd xs t)) (by rw [c1]; exact tm_m3 _) (And.intro v2 (And.intro d3 (nm_r (e' := nI (tm_pp xs t)) (by rw [c2]; exact tm_m3 _) (And.intro v2 (And.intro d3 (nm_r (e' := nI (tm_qq xs t)) (by rw [c2]; exact tm_m3 _) (And.intro v3 (nm_r (e' := tm_nu xs t) (by rw [c3]; rfl) (And.intro v0 (And.intro d12 (nm_r (e' := nI (tm_kd xs t)) (by rw [c0]; exact tm_m12 _) ?_)))))))))))))
    refine pk_le 14 n (fun h14 => ?_) (fun h14 => ?_)
    · refine tm_420 hR ?_
      rw [i4]
      exact ih (t + 1) (by omega) (by omega) n (by omega) _ _ _ _ _ _ _ _ _ _ _ _ _ _ _ _ _ _ _ _ _ _ _ _ _ _ _ _ _ _ _ _ _ _ _ _ _ _ _ hE hS hR
    · have e : n = t := by omega
      subst e
      refine br_f (nI_ge (b := 30) (by omega) (by decide)) (tm_pick (tm_Bx xs n).2.2.1 (tm_pick (tm_Bx xs n).2.2.2 ?_))
      have next : ∀ (b1 b2 b3 b4 b5 b6 b7 : Nat → Int32) (x22 : Int64), tm_Ex (tm_kd xs) (tm_pp xs) (tm_qq xs) (tm_nu xs) (n + 1) b1 b2 b3 b4 b5 b6 b7 →
          x22 = tm_due (tm_res (tm_ek (tm_kd xs n)) ((tm_ex (tm_kd xs) (tm_dd xs) (tm_pp xs) (tm_qq xs) (tm_nu xs) n).1 (tm_pp xs n)) ((tm_ex (tm_kd xs) (tm_dd xs) (tm_pp xs) (tm_qq xs) (tm_nu xs) n).1 (tm_qq xs n)) (tm_nu xs n)) →
          wL_law_230 post L xs (wL_law_57 post L xs kc ks f) (nI (3 + n)) (nI n) (tm_enc ((tm_ex (tm_kd xs) (tm_dd xs) (tm_pp xs) (tm_qq xs) (tm_nu xs) n).1 0)) (tm_enc ((tm_ex (tm_kd xs) (tm_dd xs) (tm_pp xs) (tm_qq xs) (tm_nu xs) n).1 1)) (tm_enc ((tm_ex (tm_kd xs) (tm_dd xs) (tm_pp xs) (tm_qq xs) (tm_nu xs) n).1 2)) (tm_fc (tm_ex (tm_kd xs) (tm_dd xs) (tm_pp xs) (tm_qq xs) (tm_nu xs) n).2.1) (nI (tm_ex (tm_kd xs) (tm_dd xs) (tm_pp xs) (tm_qq xs) (tm_nu xs) n).2.2) (nI (4 * n)) (nI (tm_dd xs n)) (nI (tm_kd xs n)) x22 (nI (3 + n)) kc ks (nI (3 + n + 1)) (nI n) cp ce oc cu sh iu re b1 b2 b3 b4 b5 b6 b7 a8 a9 a10 a11 a12 a13 a14 a15 a16 a17 a18 a19 a20 a21 a22 a23 a24 a25 a26 a27 a28 a29 a30 a31 a32 := by
        intro b1 b2 b3 b4 b5 b6 b7 x22 hE' h22
        refine tm_230 hE' hS (tm_Bx xs) h14 h22 ?_
        intro ce cu sh b8 b9 b10 b11 b12 b13 b14 b15 b16 w17 w18 w19 w20 r24 r25 b28 hS' hR'
        rw [i4]
        exact ih (n + 1) (by omega) (by omega) (n + 1) (by omega) _ _ _ _ _ _ _ _ _ _ _ _ _ _ _ _ _ _ _ _ _ _ _ _ _ _ _ _ _ _ _ _ _ _ _ _ _ _ _ hE' hS' hR'
      have low : ∀ h0 : tm_kd xs n < 2 ∨ 9 < tm_kd xs n, wL_law_183 post L xs (wL_law_57 post L xs kc ks f) (nI (3 + n)) (nI n) (tm_enc ((tm_ex (tm_kd xs) (tm_dd xs) (tm_pp xs) (tm_qq xs) (tm_nu xs) n).1 0)) (tm_enc ((tm_ex (tm_kd xs) (tm_dd xs) (tm_pp xs) (tm_qq xs) (tm_nu xs) n).1 1)) (tm_enc ((tm_ex (tm_kd xs) (tm_dd xs) (tm_pp xs) (tm_qq xs) (tm_nu xs) n).1 2)) (tm_fc (tm_ex (tm_kd xs) (tm_dd xs) (tm_pp xs) (tm_qq xs) (tm_nu xs) n).2.1) (nI (tm_ex (tm_kd xs) (tm_dd xs) (tm_pp xs) (tm_qq xs) (tm_nu xs) n).2.2) (nI (4 * n)) (nI (tm_dd xs n)) (tm_nu xs n) (nI (tm_kd xs n)) kc ks (nI (3 + n)) (nI n) cp ce oc cu sh iu re a1 a2 a3 a4 a5 a6 a7 a8 a9 a10 a11 a12 a13 a14 a15 a16 a17 a18 a19 a20 a21 a22 a23 a24 a25 a26 a27 a28 a29 a30 a31 a32 := by
        intro h0
        refine tm_x0 (by omega) (nm_e (next _ _ _ _ _ _ _ _ (tm_Ex0 hE (tm_ek0 h0)) ?_))
        rw [tm_ek0 h0]
        rfl
      refine pk_lt (tm_kd xs n) 2 (fun h2 => low (Or.inl h2)) (fun h2 => pk_le (tm_kd xs n) 9 (fun h9 => ?_) (fun h9 => low (Or.inr h9)) rfl rfl (by have := (tm_Bx xs n).1; omega)) rfl rfl (by have := (tm_Bx xs n).1; omega)
      have ek : tm_ek (tm_kd xs n) = tm_kd xs n := tm_ek1 (by omega)
      have bp := (tm_Bx xs n).2.2.1
      have bq := (tm_Bx xs n).2.2.2
      have E2 := fun w => tm_Ex2 (w := w) hE (by rw [ek]; omega)
      rw [ek] at E2
      refine tm_x2 (by omega) h2 h9 (by omega) (by omega) (hE.1 _ bp).2.2.2.1 (hE.1 _ bp).2.2.1 (hE.1 _ bq).2.2.1 (fun w => ?_)
      refine tm_result (num := tm_nu xs n) h2 h9 (next _ _ _ _ _ _ _ _ (E2 w) ?_)
      rw [ek]
end
theorem tm_init {post : St1 → Prop} (H : post (0, 0, 0, 0, 0, 0, 0, 0, 0, (fun _ => 0), (fun _ => 0), (fun _ => 0), (fun _ => 0), (fun _ => 0), (fun _ => 0), (fun _ => 0), (fun _ => 0), (fun _ => 0), (fun _ => 0), (fun _ => 0), (fun _ => 0), (fun _ => 0), (fun _ => 0), (fun _ => 0), (fun _ => 0), (fun _ => 0), (fun _ => 0), (fun _ => 0), (fun _ => 0), (fun _ => 0), (fun _ => 0), (fun _ => 0), (fun _ => 0), (fun _ => 0), (fun _ => 0), (fun _ => 0), (fun _ => 0), (fun _ => 0), (fun _ => 0), (fun _ => 0), (fun _ => 0))) : wpX_init post 32 2960 (0, 0, 0, 0, 0, 0, 0, 0, 0) :=
  And.intro (by decide) (And.intro (by decide) (And.intro (by decide) (And.intro (by decide) (And.intro (by decide) (And.intro (by decide) (And.intro (by decide) (And.intro (by decide) (And.intro (by decide) (And.intro (by decide) (And.intro (by decide) (And.intro (by decide) (And.intro (by decide) (And.intro (by decide) (And.intro (by decide) (And.intro (by decide) (And.intro (by decide) (And.intro (by decide) (And.intro (by decide) (And.intro (by decide) (And.intro (by decide) (And.intro (by decide) (And.intro (by decide) (And.intro (by decide) (And.intro (by decide) (And.intro (by decide) (And.intro (by decide) (And.intro (by decide) (And.intro (by decide) (And.intro (by decide) (And.intro (by decide) (And.intro (by decide) (And.intro (by decide) (And.intro (by decide) (And.intro (by decide) (And.intro (by decide) (And.intro (by decide) (And.intro (by decide) (And.intro (by decide) (And.intro (by decide) (And.intro (by decide) (And.intro (by decide) (And.intro (by decide) (And.intro (by decide) (And.intro (by decide) (And.intro (by decide) (And.intro (by decide) (And.intro (by decide) (And.intro (by decide) (And.intro (by decide) (And.intro (by decide) (And.intro (by decide) (And.intro (by decide) (And.intro (by decide) (And.intro (by decide) (And.intro (by decide) (And.intro (by decide) (And.intro (by decide) (And.intro (by decide) (And.intro (by decide) (And.intro (by decide) (And.intro (by decide) (And.intro (by decide) (And.intro (by decide) (H))))))))))))))))))))))))))))))))))))))))))))))))))))))))))))))))
theorem tm_v3 {f : Nat → Int32} {a b c : Int32} (P : Nat → Int32 → Prop) (h0 : P 0 a) (h1 : P 1 b) (h2 : P 2 c) : ∀ v, v < 3 → P v (upd (upd (upd f 0 a) 1 b) 2 c v) := by
  intro v hv
  have h : v = 0 ∨ v = 1 ∨ v = 2 := by omega
  rcases h with rfl | rfl | rfl
  · exact h0
  · exact h1
  · exact h2
theorem i_vc (xs : Nat → Int32) (L : Nat) (hL : L ≤ 260) : wpL_law (fun r => r = 1) L xs := by
  refine ⟨32, 2960, by omega, by omega, tm_init ⟨0 + 1 + 1 + 1 + 1, ?_⟩⟩
  refine br_f (by decide) (tm_x1 (m := 0) (w := 0) (by omega) (by omega) (br_t rfl (nm_r (nI_1 0) ?_)))
  refine br_f (by decide) (tm_x1 (m := 1) (w := 1) (by omega) (by omega) (br_t rfl (nm_r (nI_1 1) ?_)))
  refine br_f (by decide) (tm_x1 (m := 2) (w := 2) (by omega) (by omega) (br_t rfl (nm_r (nI_1 2) ?_)))
  refine br_t (by decide) ⟨66, tm_57 (xs := xs) (post := fun r => r = 1) hL rfl 66 0 (by omega) (by omega) 0 rfl _ _ _ _ _ _ _ _ _ _ _ _ _ _ _ _ _ _ _ _ _ _ _ _ _ _ _ _ _ _ _ _ _ _ _ _ _ _ _ ?_ (fun i hi => absurd hi (by omega)) ?_⟩
  rotate_left 1
  · intro r hr
    exact ⟨rfl, rfl⟩
  refine ⟨fun v hv => ⟨?_, ?_, ?_, ?_, ?_⟩, fun i hi => absurd hi (by omega)⟩
  · exact tm_v3 (fun _ x => x = 1) rfl rfl rfl v hv
  · exact tm_v3 (fun w x => x = nI w) rfl rfl rfl v hv
  · exact tm_v3 (fun _ x => x = 1) rfl rfl rfl v hv
  · exact tm_v3 (fun _ x => x = 0) rfl rfl rfl v hv
  · exact tm_v3 (fun w x => x = nI w) rfl rfl rfl v hv
end
