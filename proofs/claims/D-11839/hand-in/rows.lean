section
/-! ===== Int32 by its bits (a family of laws/BITS) ===== -/
def sz_t (x : Int32) (i : Nat) : Bool := x.toBitVec.getLsbD i
theorem sz_te {x y : Int32} (h : ∀ i, i < 32 → sz_t x i = sz_t y i) : x = y := Int32.toBitVec_inj.mp (BitVec.eq_of_getLsbD_eq (fun i hi => h i hi))
theorem sz_ta (x y : Int32) (i : Nat) : sz_t (x &&& y) i = (sz_t x i && sz_t y i) := by unfold sz_t; rw [Int32.toBitVec_and, BitVec.getLsbD_and]
theorem sz_t0 (i : Nat) : sz_t 0 i = false := BitVec.getLsbD_zero
theorem sz_t1 : ∀ i, i < 32 → sz_t 1 i = decide (i = 0) := by decide +kernel
theorem sz_su : ∀ n, n < 32 → (((nI n).toUInt32 &&& Int32.toUInt32 31).toBitVec % 32).toNat = n := by decide +kernel
theorem sz_tu (n : Nat) (hn : n < 32) (x : Int32) (i : Nat) : sz_t ((x.toUInt32 >>> ((nI n).toUInt32 &&& Int32.toUInt32 31)).toInt32) i = sz_t x (n + i) := by
  show (x.toUInt32 >>> ((nI n).toUInt32 &&& Int32.toUInt32 31)).toBitVec.getLsbD i = x.toUInt32.toBitVec.getLsbD (n + i)
  rw [UInt32.toBitVec_shiftRight]
  show (x.toUInt32.toBitVec >>> (((nI n).toUInt32 &&& Int32.toUInt32 31).toBitVec % 32).toNat).getLsbD i = _
  rw [sz_su n hn, BitVec.getLsbD_ushiftRight]
/-- one digit of an int, as setColumn takes it -/
theorem sz_dig0 {v : Int32} {b : Nat} (hb : b < 32) (h : sz_t v b = false) : ((v.toUInt32 >>> ((nI b).toUInt32 &&& Int32.toUInt32 31)).toInt32) &&& 1 = 0 := by
  apply sz_te
  intro i hi
  rw [sz_ta, sz_tu b hb, sz_t0, sz_t1 i hi]
  by_cases e : i = 0
  · subst e
    rw [Nat.add_zero, h]
    rfl
  · rw [decide_eq_false e, Bool.and_false]
theorem sz_dig1 {v : Int32} {b : Nat} (hb : b < 32) (h : sz_t v b = true) : ((v.toUInt32 >>> ((nI b).toUInt32 &&& Int32.toUInt32 31)).toInt32) &&& 1 = 1 := by
  apply sz_te
  intro i hi
  rw [sz_ta, sz_tu b hb, sz_t1 i hi]
  by_cases e : i = 0
  · subst e
    rw [Nat.add_zero, h]
    rfl
  · rw [decide_eq_false e, Bool.and_false]
theorem sz_bitN {k j : Nat} (hk : k < 2 ^ 32) : sz_t (nI k) j = k.testBit j := by
  show (BitVec.ofNat 32 k).getLsbD j = _
  rw [BitVec.getLsbD_ofNat]
  by_cases hj : j < 32
  · rw [decide_eq_true hj, Bool.true_and]
  · rw [decide_eq_false hj, Bool.false_and]
    exact (Nat.testBit_lt_two_pow (Nat.lt_of_lt_of_le hk (Nat.pow_le_pow_right (by decide) (by omega)))).symm
/-! ===== longs by their digits ===== -/
def sz_b (x : Int64) (i : Nat) : Bool := x.toBitVec.getLsbD i
theorem sz_ext {x y : Int64} (h : ∀ i, i < 64 → sz_b x i = sz_b y i) : x = y := Int64.toBitVec_inj.mp (BitVec.eq_of_getLsbD_eq (fun i hi => h i hi))
theorem sz_or (x y : Int64) (i : Nat) : sz_b (x ||| y) i = (sz_b x i || sz_b y i) := by unfold sz_b; rw [Int64.toBitVec_or, BitVec.getLsbD_or]
theorem sz_and (x y : Int64) (i : Nat) : sz_b (x &&& y) i = (sz_b x i && sz_b y i) := by unfold sz_b; rw [Int64.toBitVec_and, BitVec.getLsbD_and]
theorem sz_xor (x y : Int64) (i : Nat) : sz_b (x ^^^ y) i = (sz_b x i ^^ sz_b y i) := by unfold sz_b; rw [Int64.toBitVec_xor, BitVec.getLsbD_xor]
theorem sz_m1 : ∀ i, i < 64 → sz_b (-1) i = true := by decide +kernel
theorem sz_0 (i : Nat) : sz_b 0 i = false := BitVec.getLsbD_zero
theorem sz_not (x : Int64) {i : Nat} (hi : i < 64) : sz_b (x ^^^ (-1)) i = !sz_b x i := by rw [sz_xor, sz_m1 i hi, Bool.xor_true]
theorem sz_one : ∀ r, r < 64 → ∀ i, i < 64 → sz_b ((1 : Int64) <<< ((nI r).toInt64 &&& 63)) i = decide (i = r) := by decide +kernel
theorem sz_zer : ∀ r, r < 64 → (0 : Int64) <<< ((nI r).toInt64 &&& 63) = 0 := by decide +kernel
/-- a digit put into row r -/
theorem sz_put1 (X : Int64) (v : Int32) {b r i : Nat} (hb : b < 32) (hr : r < 64) (hi : i < 64) :
    sz_b ((X &&& (((1 : Int64) <<< ((nI r).toInt64 &&& 63)) ^^^ (-1))) ||| (((((v.toUInt32 >>> ((nI b).toUInt32 &&& Int32.toUInt32 31)).toInt32) &&& 1).toInt64) <<< ((nI r).toInt64 &&& 63))) i = if i = r then sz_t v b else sz_b X i := by
  rw [sz_or, sz_and, sz_not _ hi, sz_one r hr i hi]
  cases h : sz_t v b
  · rw [sz_dig0 hb h, show (0 : Int32).toInt64 = 0 from by decide, sz_zer r hr, sz_0]
    by_cases e : i = r
    · rw [if_pos e, decide_eq_true e, Bool.not_true, Bool.and_false]; rfl
    · rw [if_neg e, decide_eq_false e, Bool.not_false, Bool.and_true, Bool.or_false]
  · rw [sz_dig1 hb h, show (1 : Int32).toInt64 = 1 from by decide, sz_one r hr i hi]
    by_cases e : i = r
    · rw [if_pos e, decide_eq_true e, Bool.or_true]
    · rw [if_neg e, decide_eq_false e, Bool.not_false, Bool.and_true, Bool.or_false]
/-- the low eight digits of an int -/
def sz_v (v : Int32) : Nat := v.toBitVec.toNat % 256
theorem sz_vlt (v : Int32) : sz_v v < 256 := Nat.mod_lt _ (by decide)
theorem sz_vand (v : Int32) : v &&& 255 = nI (sz_v v) := pk_and v 8 (by decide)
theorem sz_vb (v : Int32) {b : Nat} (hb : b < 8) : (sz_v v).testBit b = sz_t v b := by
  show (v.toBitVec.toNat % 2 ^ 8).testBit b = v.toBitVec.getLsbD b
  rw [Nat.testBit_mod_two_pow, decide_eq_true hb, Bool.true_and]
  exact BitVec.testBit_toNat _
/-! ===== numbers by their digits ===== -/
theorem sz_sh (a i : Nat) : a >>> i = 2 * (a >>> (i + 1)) + (a.testBit i).toNat := by
  rw [Nat.testBit_eq_decide_div_mod_eq, Nat.shiftRight_eq_div_pow, Nat.shiftRight_eq_div_pow, Nat.pow_succ, ← Nat.div_div_eq_div_mul]
  generalize a / 2 ^ i = z
  by_cases h : z % 2 = 1
  · rw [decide_eq_true h]
    show z = 2 * (z / 2) + 1
    omega
  · rw [decide_eq_false h]
    show z = 2 * (z / 2) + 0
    omega
theorem sz_sh9 {a : Nat} (h : a < 512) : a >>> 9 = 0 := by
  rw [Nat.shiftRight_eq_div_pow]
  omega
theorem sz_sh8 {a : Nat} (h : a < 256) : a >>> 8 = 0 := by
  rw [Nat.shiftRight_eq_div_pow]
  omega
/-! ===== sets of the rows 5, 60, 31 ===== -/
def sz_mk (x y z : Bool) : Int64 := (bif x then 32 else 0) ||| ((bif y then 1152921504606846976 else 0) ||| (bif z then 2147483648 else 0))
theorem sz_mkb : ∀ x y z : Bool, ∀ i, i < 64 → sz_b (sz_mk x y z) i = ((x && decide (i = 5)) || ((y && decide (i = 60)) || (z && decide (i = 31)))) := by decide +kernel
theorem sz_mk_and : ∀ x y z x' y' z' : Bool, sz_mk x y z &&& sz_mk x' y' z' = sz_mk (x && x') (y && y') (z && z') := by decide +kernel
theorem sz_mk_andn : ∀ x y z x' y' z' : Bool, sz_mk x y z &&& (sz_mk x' y' z' ^^^ (-1)) = sz_mk (x && !x') (y && !y') (z && !z') := by decide +kernel
theorem sz_mk_of {X : Int64} {x y z : Bool} {q : Nat → Bool} (h : ∀ i, i < 64 → sz_b X i = (sz_b (sz_mk x y z) i && q i)) : X = sz_mk (x && q 5) (y && q 60) (z && q 31) := by
  apply sz_ext
  intro i hi
  rw [h i hi, sz_mkb _ _ _ i hi, sz_mkb _ _ _ i hi]
  by_cases e1 : i = 5
  · subst e1
    simp
  · by_cases e2 : i = 60
    · subst e2
      simp
    · by_cases e3 : i = 31
      · subst e3
        simp
      · simp [e1, e2, e3]
/-- how many rows -/
def sz_n (x y z : Bool) : Nat := x.toNat + y.toNat + z.toNat
/-- the mask that the law holds against a set -/
def sz_w (x y z : Bool) : Nat := x.toNat + 2 * y.toNat + 4 * z.toNat
theorem sz_n_le (x y z : Bool) : sz_n x y z ≤ 3 := by cases x <;> cases y <;> cases z <;> decide
end
section
section
variable {pr ls qe : Int64} {cn : Int32} {a1 a7 a9 a10 a11 : Nat → Int64} {a2 a3 a4 a5 a6 a8 : Nat → Int32}
/-- the slices hold the values V: row, column -/
def sz_T (sl : Nat → Int64) (V : Nat → Nat → Nat) : Prop := ∀ c, c < 3 → ∀ b, b < 8 → ∀ i, i < 64 → sz_b (sl (8 * c + b)) i = (V i c).testBit b
theorem sz_T_eq {sl : Nat → Int64} {V V' : Nat → Nat → Nat} (h : sz_T sl V) (e : ∀ i c, c < 3 → V i c = V' i c) : sz_T sl V' := by
  intro c hc b hb i hi
  rw [← e i c hc]
  exact h c hc b hb i hi
def sz_u1 (V : Nat → Nat → Nat) (r c w : Nat) : Nat → Nat → Nat := fun i k => if i = r ∧ k = c then w else V i k
def sz_u3 (V : Nat → Nat → Nat) (r w0 w1 w2 : Nat) : Nat → Nat → Nat := fun i k => if i = r then (if k = 0 then w0 else if k = 1 then w1 else w2) else V i k
theorem sz_u3_eq (V : Nat → Nat → Nat) (r w0 w1 w2 i c : Nat) (hc : c < 3) : sz_u1 (sz_u1 (sz_u1 V r 0 w0) r 1 w1) r 2 w2 i c = sz_u3 V r w0 w1 w2 i c := by
  unfold sz_u1 sz_u3
  by_cases e : i = r
  · have : c = 0 ∨ c = 1 ∨ c = 2 := by omega
    rcases this with rfl | rfl | rfl <;> simp [e]
  · simp [e]
theorem sz_at8 (c i : Nat) : 8 * nI c + nI i = nI (8 * c + i) := by
  rw [show (8 : Int32) = nI 8 from rfl, pk_mul, nI_add]
theorem sz_set {post : St2 → Prop} {V : Nat → Nat → Nat} {r c : Nat} (v : Int32) (hr : r < 64) (hc : c < 3) (hT : sz_T a1 V)
    (H : ∀ a1', sz_T a1' (sz_u1 V r c (sz_v v)) → post (pr, cn, ls, qe, a1', a2, a3, a4, a5, a6, a7, a8, a9, a10, a11)) : wpX_setColumn post (pr, cn, ls, qe, a1, a2, a3, a4, a5, a6, a7, a8, a9, a10, a11) (nI r) (nI c) v := by
  show ∃ fu, wX_setColumn_3 post (nI r) (nI c) v pr cn ls qe fu 0 a1 a2 a3 a4 a5 a6 a7 a8 a9 a10 a11
  refine pk_loop (fun n i s => wX_setColumn_3 post (nI r) (nI c) v pr cn ls qe n (nI i) s a2 a3 a4 a5 a6 a7 a8 a9 a10 a11)
    (fun i s => ∀ k, k < 3 → ∀ b, b < 8 → ∀ t, t < 64 → sz_b (s (8 * k + b)) t = if t = r ∧ k = c ∧ b < i then (sz_v v).testBit b else (V t k).testBit b) 8 0 a1 (by omega) ?_ ?_ ?_
  · intro k hk b hb t ht
    rw [if_neg (fun z => absurd z.2.2 (by omega))]
    exact hT k hk b hb t ht
  · intro n s h
    refine pk_le 8 8 (fun _ => H s ?_) (fun z => absurd z (by omega))
    intro k hk b hb t ht
    rw [h k hk b hb t ht]
    unfold sz_u1
    by_cases e : t = r ∧ k = c
    · rw [if_pos ⟨e.1, e.2, hb⟩, if_pos e]
    · rw [if_neg (fun z => e ⟨z.1, z.2.1⟩), if_neg e]
  · intro n i s hi h hw
    refine pk_le 8 i (fun z => absurd z (by omega)) (fun _ => nm_r (sz_at8 c i) ⟨pk_in (8 * c + i) 24 (by omega), pk_in (8 * c + i) 24 (by omega), nm_e (nm_r (nI_1 i) (hw _ ?_))⟩)
    rw [nI_clamp (by omega)]
    intro k hk b hb t ht
    by_cases e : 8 * k + b = 8 * c + i
    · have ek : k = c := by omega
      have eb : b = i := by omega
      subst ek eb
      rw [pk_uLs, sz_put1 _ _ (by omega) hr ht, h k hk b hb t ht, if_neg (show ¬ (t = r ∧ k = k ∧ b < b) from fun z => absurd z.2.2 (by omega)), ← sz_vb v hb]
      by_cases e2 : t = r
      · rw [if_pos e2, if_pos ⟨e2, rfl, by omega⟩]
      · rw [if_neg e2, if_neg (fun z => e2 z.1)]
    · rw [pk_uLn e, h k hk b hb t ht]
      by_cases e2 : t = r ∧ k = c ∧ b < i
      · rw [if_pos e2, if_pos ⟨e2.1, e2.2.1, by omega⟩]
      · rw [if_neg e2, if_neg (fun z => e2 ⟨z.1, z.2.1, by omega⟩)]
theorem sz_forget {post : St2 → Prop} (H : ∀ a8', (∀ j, j < 16 → a8' j = 0) → post (pr, cn, ls, qe, a1, a2, a3, a4, a5, a6, a7, a8', a9, a10, a11)) : wpX_forgetAnswers post (pr, cn, ls, qe, a1, a2, a3, a4, a5, a6, a7, a8, a9, a10, a11) := by
  show ∃ fu, wX_forgetAnswers_2 post pr cn ls qe fu 0 a1 a2 a3 a4 a5 a6 a7 a8 a9 a10 a11
  refine pk_loop (fun n i s => wX_forgetAnswers_2 post pr cn ls qe n (nI i) a1 a2 a3 a4 a5 a6 a7 s a9 a10 a11) (fun i s => ∀ j, j < i → s j = 0) 16 0 a8 (by omega) (fun j hj => absurd hj (by omega)) ?_ ?_
  · intro n s h
    exact pk_le 16 16 (fun _ => H s h) (fun z => absurd z (by omega))
  · intro n i s hi h hw
    refine pk_le 16 i (fun z => absurd z (by omega)) (fun _ => ⟨pk_in i 16 hi, nm_e (nm_r (nI_1 i) (hw _ ?_))⟩)
    rw [nI_clamp (by omega)]
    intro j hj
    by_cases e : j = i
    · rw [e, pk_us]
    · rw [pk_un e]
      exact h j (by omega)
theorem sz_put {post : Int32 → St2 → Prop} {V : Nat → Nat → Nat} {r : Nat} (v0 v1 v2 : Int32) (hr : r < 64) (hT : sz_T a1 V)
    (H : ∀ a1' a8', sz_T a1' (sz_u3 V r (sz_v v0) (sz_v v1) (sz_v v2)) → post 0 (pr ||| ((1 : Int64) <<< ((nI r).toInt64 &&& 63)), cn, ls, qe, a1', a2, a3, a4, a5, a6, a7, a8', a9, a10, a11)) :
    wpX_put post (pr, cn, ls, qe, a1, a2, a3, a4, a5, a6, a7, a8, a9, a10, a11) (nI r) v0 v1 v2 := by
  unfold wpX_put
  refine br_f (nI_pos (by omega)) (br_t (nI_le (b := 63) (by omega) (by decide)) (nm_e ?_))
  refine sz_set (c := 0) v0 hr (by decide) hT (fun b1 h1 => ?_)
  refine sz_set (c := 1) v1 hr (by decide) h1 (fun b2 h2 => ?_)
  refine sz_set (c := 2) v2 hr (by decide) h2 (fun b3 h3 => ?_)
  refine sz_forget (fun b8 h8 => ?_)
  exact H b3 b8 (sz_T_eq h3 (fun i c hc => sz_u3_eq V r _ _ _ i c hc))
theorem sz_drop {post : Int32 → St2 → Prop} {w : Int32} {pr' : Int64}
    (hw : ((pr.toUInt64 >>> ((60 : Int32).toInt64.toUInt64 &&& Int64.toUInt64 63)).toInt64).toInt32 &&& 1 = w) (hp : pr &&& (((1 : Int64) <<< ((60 : Int32).toInt64 &&& 63)) ^^^ (-1)) = pr')
    (H : ∀ a8', (∀ j, j < 16 → a8' j = 0) → post w (pr', cn, ls, qe, a1, a2, a3, a4, a5, a6, a7, a8', a9, a10, a11)) : wpX_drop post (pr, cn, ls, qe, a1, a2, a3, a4, a5, a6, a7, a8, a9, a10, a11) 60 := by
  unfold wpX_drop
  refine br_f (by decide) (br_t (by decide) (nm_r hw (nm_r hp ?_)))
  exact sz_forget (fun b8 h8 => H b8 h8)
theorem sz_clear {post : St2 → Prop} (H : ∀ a8', post (pr, 0, ls, qe, a1, a2, a3, a4, a5, a6, a7, a8', a9, a10, a11)) : wpX_clear post (pr, cn, ls, qe, a1, a2, a3, a4, a5, a6, a7, a8, a9, a10, a11) := by
  unfold wpX_clear
  exact sz_forget (fun b8 h8 => H b8)
theorem sz_make {post : Int32 → St2 → Prop} {n : Nat} (s a b h k : Int32) (hn : n < 16)
    (H : post (nI n) (pr, nI (n + 1), ls, qe, a1, upd a2 n s, upd a3 n a, upd a4 n b, upd a5 n h, upd a6 n k, a7, upd a8 n 0, a9, a10, a11)) : wpX_make post (pr, nI n, ls, qe, a1, a2, a3, a4, a5, a6, a7, a8, a9, a10, a11) s a b h k := by
  unfold wpX_make
  dsimp only
  rw [nI_clamp (by omega)]
  have i : vp_in (nI n) 16 := pk_in n 16 hn
  exact br_t (nI_lt (b := 16) hn (by decide)) ⟨i, nm_e ⟨i, nm_e ⟨i, nm_e ⟨i, nm_e ⟨i, nm_e ⟨i, nm_e (nm_r (nI_1 n) H)⟩⟩⟩⟩⟩⟩
theorem sz_compare {post : Int32 → St2 → Prop} (k : Int32)
    (H : post 0 (pr, nI 1, ls, qe, a1, upd a2 0 0, upd a3 0 0, upd a4 0 0, upd a5 0 1, upd a6 0 k, a7, upd a8 0 0, a9, a10, a11)) : wpX_compare post (pr, nI 0, ls, qe, a1, a2, a3, a4, a5, a6, a7, a8, a9, a10, a11) 0 1 k := by
  unfold wpX_compare wpX_isColumn
  exact br_f (by decide) (br_f (by decide) (br_f (by decide) (br_f (by decide) (br_t (by decide) (sz_make (n := 0) 0 0 0 1 k (by decide) H)))))
theorem sz_sums {post : Int32 → St2 → Prop} (l : Int32)
    (H : post 1 (pr, nI 2, ls, qe, a1, upd a2 1 2, upd a3 1 0, upd a4 1 1, upd a5 1 5, upd a6 1 l, a7, upd a8 1 0, a9, a10, a11)) : wpX_sums post (pr, nI 1, ls, qe, a1, a2, a3, a4, a5, a6, a7, a8, a9, a10, a11) 0 1 5 l := by
  unfold wpX_sums wpX_isColumn
  exact br_f (by decide) (br_f (by decide) (br_f (by decide) (br_f (by decide) (br_f (by decide) (br_f (by decide) (br_f (by decide) (br_t (by decide) (sz_make (n := 1) 2 0 1 5 l (by decide) H))))))))
theorem sz_join {post : Int32 → St2 → Prop} {h : Nat} (hh : h < 4)
    (H : post 2 (pr, nI 3, ls, qe, a1, upd a2 2 3, upd a3 2 0, upd a4 2 1, upd a5 2 (nI h), upd a6 2 0, a7, upd a8 2 0, a9, a10, a11)) : wpX_join post (pr, nI 2, ls, qe, a1, a2, a3, a4, a5, a6, a7, a8, a9, a10, a11) 0 (nI h) 1 := by
  unfold wpX_join
  exact br_f (by decide) (br_f (by decide) (br_f (by decide) (br_f (by decide) (br_f (nI_pos (by omega)) (br_t (nI_le (b := 3) (by omega) (by decide)) (sz_make (n := 2) 3 0 1 (nI h) 0 (by decide) H))))))
theorem sz_join3 {post : Int32 → St2 → Prop} (H : post (-1) (pr, nI 3, ls, qe, a1, a2, a3, a4, a5, a6, a7, a8, a9, a10, a11)) : wpX_join post (pr, nI 3, ls, qe, a1, a2, a3, a4, a5, a6, a7, a8, a9, a10, a11) 3 0 0 := by
  unfold wpX_join
  exact br_f (by decide) (br_t (by decide) H)
theorem sz_columns {post : Int32 → St2 → Prop} {h : Nat} (hh : h < 4)
    (H : post 0 (pr, nI 1, ls, qe, a1, upd a2 0 1, upd a3 0 0, upd a4 0 1, upd a5 0 (nI h), upd a6 0 0, a7, upd a8 0 0, a9, a10, a11)) : wpX_columns post (pr, nI 0, ls, qe, a1, a2, a3, a4, a5, a6, a7, a8, a9, a10, a11) 0 (nI h) 1 := by
  unfold wpX_columns wpX_isColumn
  exact br_f (by decide) (br_f (by decide) (br_f (by decide) (br_f (by decide) (br_f (by decide) (br_f (by decide) (br_f (nI_pos (by omega)) (br_t (nI_le (b := 5) (by omega) (by decide)) (sz_make (n := 0) 1 0 1 (nI h) 0 (by decide) H))))))))
end
end
section
section
variable {pr ls qe : Int64} {cn : Int32} {a1 a7 a9 a10 a11 : Nat → Int64} {a2 a3 a4 a5 a6 a8 : Nat → Int32}
/-! ===== the sum's digits ===== -/
def sz_cy (i A B : Nat) : Bool := BitVec.carry i (BitVec.ofNat 9 A) (BitVec.ofNat 9 B) false
theorem sz_cy0 (A B : Nat) : sz_cy 0 A B = false := BitVec.carry_zero
theorem sz_bo {i : Nat} (hi : i < 9) (A : Nat) : (BitVec.ofNat 9 A).getLsbD i = A.testBit i := by
  rw [BitVec.getLsbD_ofNat, decide_eq_true hi, Bool.true_and]
theorem sz_cyS {i : Nat} (hi : i < 9) (A B : Nat) : sz_cy (i + 1) A B = ((A.testBit i && B.testBit i) || ((A.testBit i ^^ B.testBit i) && sz_cy i A B)) := by
  unfold sz_cy
  rw [BitVec.carry_succ, sz_bo hi, sz_bo hi]
  generalize BitVec.carry i (BitVec.ofNat 9 A) (BitVec.ofNat 9 B) false = c
  cases A.testBit i <;> cases B.testBit i <;> cases c <;> rfl
theorem sz_cyA {i : Nat} (hi : i < 9) (A B : Nat) : (A + B).testBit i = ((A.testBit i ^^ B.testBit i) ^^ sz_cy i A B) := by
  rw [← sz_bo hi, BitVec.ofNat_add, BitVec.getLsbD_add hi, sz_bo hi, sz_bo hi]
  unfold sz_cy
  rw [Bool.xor_assoc]
theorem sz_t8 {A : Nat} (h : A < 256) : A.testBit 8 = false := Nat.testBit_lt_two_pow h
/-- the digits of a total: one number a row -/
def sz_D (to : Nat → Int64) (t : Nat → Nat) : Prop := ∀ b, b < 9 → ∀ i, i < 64 → sz_b (to b) i = (t i).testBit b
theorem sz_take {post : St2 → Prop} {V : Nat → Nat → Nat} {c : Nat} (hc : c < 3) (hV : ∀ i c, V i c < 256) (hT : sz_T a1 V)
    (H : ∀ a9', sz_D a9' (fun i => V i c) → post (pr, cn, ls, qe, a1, a2, a3, a4, a5, a6, a7, a8, a9', a10, a11)) : wpX_takeColumn post (pr, cn, ls, qe, a1, a2, a3, a4, a5, a6, a7, a8, a9, a10, a11) (nI c) := by
  show ∃ fu, wX_takeColumn_2 post (nI c) pr cn ls qe fu 0 a1 a2 a3 a4 a5 a6 a7 a8 a9 a10 a11
  refine pk_loop (fun n i s => wX_takeColumn_2 post (nI c) pr cn ls qe n (nI i) a1 a2 a3 a4 a5 a6 a7 a8 s a10 a11) (fun i s => ∀ b, b < i → ∀ t, t < 64 → sz_b (s b) t = (V t c).testBit b) 8 0 a9 (by omega) (fun b hb => absurd hb (by omega)) ?_ ?_
  · intro n s h
    refine pk_le 8 8 (fun _ => nm_e (H _ ?_)) (fun z => absurd z (by omega))
    intro b hb t ht
    by_cases e : b = 8
    · rw [e, pk_uLs, sz_0]
      exact (sz_t8 (hV t c)).symm
    · rw [pk_uLn e]
      exact h b (by omega) t ht
  · intro n i s hi h hw
    refine pk_le 8 i (fun z => absurd z (by omega)) (fun _ => ⟨pk_in (8 * c + i) 24 (by omega) (sz_at8 c i), pk_in i 9 (by omega), nm_e (nm_r (nI_1 i) (hw _ ?_))⟩)
    rw [nI_clamp (by omega), pk_cl (8 * c + i) (sz_at8 c i) (by omega)]
    intro b hb t ht
    by_cases e : b = i
    · rw [e, pk_uLs]
      exact hT c hc i hi t ht
    · rw [pk_uLn e]
      exact h b (by omega) t ht
theorem sz_adds {post : St2 → Prop} {V : Nat → Nat → Nat} {c d : Nat} (hc : c < 3) (hd : d < 3) (hV : ∀ i c, V i c < 256) (hT : sz_T a1 V)
    (H : ∀ a9', sz_D a9' (fun i => V i c + V i d) → post (pr, cn, ls, qe, a1, a2, a3, a4, a5, a6, a7, a8, a9', a10, a11)) : wpX_addColumns post (pr, cn, ls, qe, a1, a2, a3, a4, a5, a6, a7, a8, a9, a10, a11) (nI c) (nI d) := by
  show ∃ fu, wX_addColumns_5 post (nI c) (nI d) pr cn ls qe fu 0 0 a1 a2 a3 a4 a5 a6 a7 a8 a9 a10 a11
  refine pk_loop (fun n i (s : Int64 × (Nat → Int64)) => wX_addColumns_5 post (nI c) (nI d) pr cn ls qe n s.1 (nI i) a1 a2 a3 a4 a5 a6 a7 a8 s.2 a10 a11)
    (fun i s => (∀ t, t < 64 → sz_b s.1 t = sz_cy i (V t c) (V t d)) ∧ ∀ b, b < i → ∀ t, t < 64 → sz_b (s.2 b) t = (V t c + V t d).testBit b) 8 0 (0, a9) (by omega) ⟨fun t _ => by rw [sz_cy0]; exact sz_0 t, fun b hb => absurd hb (by omega)⟩ ?_ ?_
  · intro n s h
    refine pk_le 8 8 (fun _ => nm_e (H _ ?_)) (fun z => absurd z (by omega))
    intro b hb t ht
    by_cases e : b = 8
    · rw [e, pk_uLs, h.1 t ht]
      show _ = (V t c + V t d).testBit 8
      rw [sz_cyA (by decide), sz_t8 (hV t c), sz_t8 (hV t d)]
      cases sz_cy 8 (V t c) (V t d) <;> rfl
    · rw [pk_uLn e]
      exact h.2 b (by omega) t ht
  · intro n i s hi h hw
    have ec : (8 * nI c + nI i).toNatClampNeg = 8 * c + i := pk_cl (8 * c + i) (sz_at8 c i) (by omega)
    have ed : (8 * nI d + nI i).toNatClampNeg = 8 * d + i := pk_cl (8 * d + i) (sz_at8 d i) (by omega)
    refine pk_le 8 i (fun z => absurd z (by omega)) (fun _ => ⟨pk_in (8 * c + i) 24 (by omega) (sz_at8 c i), nm_r (congrArg a1 ec) ⟨pk_in (8 * d + i) 24 (by omega) (sz_at8 d i), nm_r (congrArg a1 ed) ⟨pk_in i 9 (by omega), nm_e (nm_e (nm_r (nI_1 i) (hw (_, _) ⟨?_, ?_⟩)))⟩⟩⟩)
    · intro t ht
      show sz_b ((a1 (8 * c + i) &&& a1 (8 * d + i)) ||| ((a1 (8 * c + i) ^^^ a1 (8 * d + i)) &&& s.1)) t = _
      rw [sz_cyS (by omega), sz_or, sz_and, sz_and, sz_xor, hT c hc i hi t ht, hT d hd i hi t ht, h.1 t ht]
    · intro b hb t ht
      show sz_b (vp_updL s.2 (nI i).toNatClampNeg ((a1 (8 * c + i) ^^^ a1 (8 * d + i)) ^^^ s.1) b) t = _
      rw [nI_clamp (by omega)]
      by_cases e : b = i
      · rw [e, pk_uLs, sz_xor, sz_xor, hT c hc i hi t ht, hT d hd i hi t ht, h.1 t ht, sz_cyA (by omega)]
      · rw [pk_uLn e]
        exact h.2 b (by omega) t ht
/-! ===== the comparison, digit by digit ===== -/
theorem sz_lt1 {a k i : Nat} (h : k.testBit i = true) : decide (a >>> i < k >>> i) = (decide (a >>> (i + 1) < k >>> (i + 1)) || (decide (a >>> (i + 1) = k >>> (i + 1)) && !a.testBit i)) := by
  rw [sz_sh a i, sz_sh k i, h]
  generalize a >>> (i + 1) = x
  generalize k >>> (i + 1) = y
  cases a.testBit i
  · simp only [Bool.toNat_false, Bool.toNat_true, Bool.not_false, Bool.and_true, ← Bool.decide_or]
    exact decide_eq_decide.mpr (by omega)
  · simp only [Bool.toNat_true, Bool.not_true, Bool.and_false, Bool.or_false]
    exact decide_eq_decide.mpr (by omega)
theorem sz_eq1 {a k i : Nat} (h : k.testBit i = true) : decide (a >>> i = k >>> i) = (decide (a >>> (i + 1) = k >>> (i + 1)) && a.testBit i) := by
  rw [sz_sh a i, sz_sh k i, h]
  generalize a >>> (i + 1) = x
  generalize k >>> (i + 1) = y
  cases a.testBit i
  · simp only [Bool.toNat_false, Bool.toNat_true, Bool.and_false]
    exact decide_eq_false (by omega)
  · simp only [Bool.toNat_true, Bool.and_true]
    exact decide_eq_decide.mpr (by omega)
theorem sz_lt0 {a k i : Nat} (h : k.testBit i = false) : decide (a >>> i < k >>> i) = decide (a >>> (i + 1) < k >>> (i + 1)) := by
  rw [sz_sh a i, sz_sh k i, h]
  generalize a >>> (i + 1) = x
  generalize k >>> (i + 1) = y
  cases a.testBit i
  · simp only [Bool.toNat_false]
    exact decide_eq_decide.mpr (by omega)
  · simp only [Bool.toNat_true, Bool.toNat_false]
    exact decide_eq_decide.mpr (by omega)
theorem sz_eq0 {a k i : Nat} (h : k.testBit i = false) : decide (a >>> i = k >>> i) = (decide (a >>> (i + 1) = k >>> (i + 1)) && !a.testBit i) := by
  rw [sz_sh a i, sz_sh k i, h]
  generalize a >>> (i + 1) = x
  generalize k >>> (i + 1) = y
  cases a.testBit i
  · simp only [Bool.toNat_false, Bool.not_false, Bool.and_true]
    exact decide_eq_decide.mpr (by omega)
  · simp only [Bool.toNat_true, Bool.toNat_false, Bool.not_true, Bool.and_false]
    exact decide_eq_false (by omega)
theorem sz_cmpL {post : St2 → Prop} {t : Nat → Nat} {K : Nat} (hK : K < 512) (hD : sz_D a9 t)
    (H : ∀ ls' qe', (∀ r, r < 64 → sz_b ls' r = decide (t r < K)) → (∀ r, r < 64 → sz_b qe' r = decide (t r = K)) → post (pr, cn, ls', qe', a1, a2, a3, a4, a5, a6, a7, a8, a9, a10, a11)) :
    ∀ (i : Nat) (x : Int32) (L E : Int64), i ≤ 9 → x = nI i + (-1) → (∀ r, r < 64 → sz_b L r = decide (t r >>> i < K >>> i)) → (∀ r, r < 64 → sz_b E r = decide (t r >>> i = K >>> i)) →
      wX_compareWithConstant_45 post (nI K) pr cn a1 a2 a3 a4 a5 a6 a7 a8 a9 a10 a11 (i + 1) x L E := by
  intro i
  induction i with
  | zero =>
    intro x L E _ hx h1 h2
    subst hx
    exact br_t (by decide) (H L E h1 h2)
  | succ i ih =>
    intro x L E hi hx h1 h2
    rw [pk_m1] at hx
    subst hx
    have hin : vp_in (nI i) 9 := pk_in i 9 (by omega)
    have ec : (nI i).toNatClampNeg = i := nI_clamp (by omega)
    refine br_f (nI_pos (by omega)) ?_
    cases hb : K.testBit i
    · refine br_t (sz_dig0 (by omega) ((sz_bitN (by omega)).trans hb)) ⟨hin, nm_e (nm_e (ih _ _ _ (by omega) rfl ?_ ?_))⟩
      · intro r hr
        rw [h1 r hr, sz_lt0 hb]
      · intro r hr
        rw [ec, sz_and, sz_not _ hr, h2 r hr, hD i (by omega) r hr, sz_eq0 hb]
    · refine br_f (by rw [sz_dig1 (by omega) ((sz_bitN (by omega)).trans hb)]; decide) ⟨hin, nm_e ⟨hin, nm_e (nm_e (ih _ _ _ (by omega) rfl ?_ ?_))⟩⟩
      · intro r hr
        rw [ec, sz_or, sz_and, sz_not _ hr, h1 r hr, h2 r hr, hD i (by omega) r hr, sz_lt1 hb]
      · intro r hr
        rw [ec, sz_and, h2 r hr, hD i (by omega) r hr, sz_eq1 hb]
theorem sz_cmp {post : St2 → Prop} {t : Nat → Nat} (k : Int32) (ht : ∀ i, t i < 512) (hD : sz_D a9 t)
    (H : ∀ ls' qe', (∀ r, r < 64 → sz_b ls' r = decide ((t r : Int) < k.toInt)) → (∀ r, r < 64 → sz_b qe' r = decide ((t r : Int) = k.toInt)) → post (pr, cn, ls', qe', a1, a2, a3, a4, a5, a6, a7, a8, a9, a10, a11)) :
    wpX_compareWithConstant post (pr, cn, ls, qe, a1, a2, a3, a4, a5, a6, a7, a8, a9, a10, a11) k := by
  unfold wpX_compareWithConstant
  refine br_c (fun h0 => br_c (fun h5 => ?_) (fun h5 => ?_)) (fun h0 => ?_)
  · have h0' : ¬ k < 0 := by
      rw [Int32.lt_iff_toInt_lt]
      rw [Int32.le_iff_toInt_le] at h0
      omega
    obtain ⟨K, hK, rfl⟩ := nI_of2 (M := 511) (n := 511) (by decide) h0' h5
    have hKi : (nI K).toInt = (K : Int) := nI_toInt (by omega)
    refine ⟨10, sz_cmpL (t := t) (by omega) hD (fun ls' qe' h1 h2 => H ls' qe' ?_ ?_) 9 8 0 (-1) (by omega) (by decide) ?_ ?_⟩
    · intro r hr
      rw [h1 r hr, hKi]
      exact decide_eq_decide.mpr (by omega)
    · intro r hr
      rw [h2 r hr, hKi]
      exact decide_eq_decide.mpr (by omega)
    · intro r hr
      rw [sz_sh9 (ht r), sz_sh9 (show K < 512 by omega), sz_0]
      rfl
    · intro r hr
      rw [sz_sh9 (ht r), sz_sh9 (show K < 512 by omega), sz_m1 r hr]
      rfl
  · rw [Int32.le_iff_toInt_le] at h5
    have e : (511 : Int32).toInt = 511 := by decide
    rw [e] at h5
    refine H (-1) 0 ?_ ?_
    · intro r hr
      have := ht r
      rw [sz_m1 r hr]
      exact (decide_eq_true (by omega)).symm
    · intro r hr
      have := ht r
      rw [sz_0]
      exact (decide_eq_false (by omega)).symm
  · rw [Int32.le_iff_toInt_le] at h0
    have e : (0 : Int32).toInt = 0 := by decide
    rw [e] at h0
    refine H 0 0 ?_ ?_
    · intro r hr
      rw [sz_0]
      exact (decide_eq_false (by omega)).symm
    · intro r hr
      rw [sz_0]
      exact (decide_eq_false (by omega)).symm
end
end
section
section
variable {pr ls qe : Int64} {cn : Int32} {a1 a7 a9 a10 a11 : Nat → Int64} {a2 a3 a4 a5 a6 a8 : Nat → Int32}
/-- how the join takes two answers -/
def sz_cb (h : Nat) (p q : Bool) : Bool := if h = 0 then p && q else if h = 1 then p || q else if h = 2 then p ^^ q else p && !q
/-- row i meets condition j -/
def sz_Q (V : Nat → Nat → Nat) (k l : Int32) (h : Nat) (j i : Nat) : Bool :=
  if j = 0 then decide ((V i 0 : Int) < k.toInt) else if j = 1 then decide (l.toInt < ((V i 0 + V i 1 : Nat) : Int)) else sz_cb h (decide ((V i 0 : Int) < k.toInt)) (decide (l.toInt < ((V i 0 + V i 1 : Nat) : Int)))
def sz_C (k l : Int32) (h : Nat) (so fi se ho co : Nat → Int32) : Prop :=
  (so 0 = 0 ∧ fi 0 = 0 ∧ ho 0 = 1 ∧ co 0 = k) ∧ (so 1 = 2 ∧ fi 1 = 0 ∧ se 1 = 1 ∧ ho 1 = 5 ∧ co 1 = l) ∧ (so 2 = 3 ∧ fi 2 = 0 ∧ se 2 = 1 ∧ ho 2 = nI h)
def sz_M (pr : Int64) (Q : Nat → Nat → Bool) (me : Nat → Int64) (fr : Nat → Int32) : Prop := ∀ j, j < 3 → ¬ fr j = 0 → ∀ i, i < 64 → sz_b (me j) i = (sz_b pr i && Q j i)
theorem sz_cbp (h : Nat) (p q r : Bool) : (sz_cb h (p && q) (p && r) && p) = (p && sz_cb h q r) := by
  unfold sz_cb
  by_cases h0 : h = 0
  · simp only [h0, if_true]
    cases p <;> cases q <;> cases r <;> rfl
  · by_cases h1 : h = 1
    · simp only [h1, if_true]
      cases p <;> cases q <;> cases r <;> rfl
    · by_cases h2 : h = 2
      · simp only [h2, if_true]
        cases p <;> cases q <;> cases r <;> rfl
      · simp only [if_neg h0, if_neg h1, if_neg h2]
        cases p <;> cases q <;> cases r <;> rfl
theorem sz_work {post : Int64 → St2 → Prop} {V : Nat → Nat → Nat} {k l : Int32} {h : Nat} (hh : h < 4) (hV : ∀ i c, V i c < 256) (hT : sz_T a1 V) (hC : sz_C k l h a2 a3 a4 a5 a6) (hM : sz_M pr (sz_Q V k l h) a7 a8)
    {j : Nat} (hj : j < 3) (hf : ∀ i, i < j → ¬ a8 i = 0)
    (H : ∀ r ls' qe' a9', (∀ i, i < 64 → (sz_b r i && sz_b pr i) = (sz_b pr i && sz_Q V k l h j i)) → post r (pr, cn, ls', qe', a1, a2, a3, a4, a5, a6, a7, a8, a9', a10, a11)) : wpX_workOut post (pr, cn, ls, qe, a1, a2, a3, a4, a5, a6, a7, a8, a9, a10, a11) (nI j) := by
  obtain ⟨⟨s0, f0, o0, c0⟩, ⟨s1, f1, e1, o1, c1⟩, s2, f2, e2, o2⟩ := hC
  have hin : vp_in (nI j) 16 := pk_in j 16 (by omega)
  unfold wpX_workOut
  dsimp only
  have hcl : (nI j).toNatClampNeg = j := nI_clamp (by omega)
  rw [hcl]
  have hcase : j = 0 ∨ j = 1 ∨ j = 2 := by omega
  rcases hcase with rfl | rfl | rfl
  · refine ⟨hin, br_f (by rw [s0]; decide) ⟨hin, br_t s0 ⟨hin, ?_⟩⟩⟩
    rw [f0]
    refine sz_take (c := 0) (by decide) hV hT (fun b9 h9 => ⟨hin, ?_⟩)
    dsimp only
    rw [c0]
    refine sz_cmp k (fun i => Nat.lt_trans (hV i 0) (by decide)) h9 (fun L E hL hE => ?_)
    show wX_workOut_181 post (nI 0) pr cn L E a1 a2 a3 a4 a5 a6 a7 a8 b9 a10 a11
    unfold wX_workOut_181
    rw [hcl, o0]
    refine ⟨hin, ?_⟩
    unfold wpX_chosen
    refine br_f (by decide) (br_t rfl (H _ _ _ _ ?_))
    intro i hi
    rw [hL i hi, Bool.and_comm]
    rfl
  · refine ⟨hin, br_f (by rw [s1]; decide) ⟨hin, br_f (by rw [s1]; decide) ⟨hin, br_f (by rw [s1]; decide) ⟨hin, hin, ?_⟩⟩⟩⟩
    rw [f1, e1]
    refine sz_adds (c := 0) (d := 1) (by decide) (by decide) hV hT (fun b9 h9 => ⟨hin, ?_⟩)
    dsimp only
    rw [c1]
    refine sz_cmp l (fun i => by have := hV i 0; have := hV i 1; show V i 0 + V i 1 < 512; omega) h9 (fun L E hL hE => ?_)
    show wX_workOut_181 post (nI 1) pr cn L E a1 a2 a3 a4 a5 a6 a7 a8 b9 a10 a11
    unfold wX_workOut_181
    rw [hcl, o1]
    refine ⟨hin, ?_⟩
    unfold wpX_chosen
    refine br_f (by decide) (br_f (by decide) (br_f (by decide) (br_f (by decide) (br_f (by decide) (H _ _ _ _ ?_)))))
    intro i hi
    rw [sz_not _ hi, sz_or, hL i hi, hE i hi, Bool.and_comm]
    congr 1
    show (!(decide (((V i 0 + V i 1 : Nat) : Int) < l.toInt) || decide (((V i 0 + V i 1 : Nat) : Int) = l.toInt))) = decide (l.toInt < ((V i 0 + V i 1 : Nat) : Int))
    rw [← Bool.decide_or, ← decide_not]
    exact decide_eq_decide.mpr (by omega)
  · have m0 := hM 0 (by decide) (hf 0 (by decide))
    have m1 := hM 1 (by decide) (hf 1 (by decide))
    have z0 : (0 : Int32).toNatClampNeg = 0 := by decide
    have z1 : (1 : Int32).toNatClampNeg = 1 := by decide
    have i0 : vp_in (0 : Int32) 16 := pk_in 0 16 (by decide)
    have i1 : vp_in (1 : Int32) 16 := pk_in 1 16 (by decide)
    rw [f2, e2, o2, z0, z1]
    have fin : ∀ r, (∀ i, i < 64 → sz_b r i = sz_cb h (sz_b (a7 0) i) (sz_b (a7 1) i)) → post r (pr, cn, ls, qe, a1, a2, a3, a4, a5, a6, a7, a8, a9, a10, a11) := by
      intro r hr
      refine H r _ _ _ ?_
      intro i hi
      rw [hr i hi, m0 i hi, m1 i hi, sz_cbp]
      rfl
    refine ⟨hin, br_t s2 ⟨hin, i0, nm_e ⟨hin, i1, nm_e ⟨hin, ?_⟩⟩⟩⟩
    have hq : h = 0 ∨ h = 1 ∨ h = 2 ∨ h = 3 := by omega
    rcases hq with rfl | rfl | rfl | rfl
    · exact br_t rfl (fin _ (fun i hi => sz_and _ _ _))
    · exact br_f (by decide) ⟨hin, br_t rfl (fin _ (fun i hi => sz_or _ _ _))⟩
    · exact br_f (by decide) ⟨hin, br_f (by decide) ⟨hin, br_t rfl (fin _ (fun i hi => sz_xor _ _ _))⟩⟩
    · exact br_f (by decide) ⟨hin, br_f (by decide) ⟨hin, br_f (by decide) (fin _ (fun i hi => by rw [sz_and, sz_not _ hi]; rfl))⟩⟩
/-! ===== the table with its three conditions ===== -/
def sz_I (V : Nat → Nat → Nat) (k l : Int32) (h : Nat) (p : Int64) (u : St2) : Prop := match u with
  | (pr, cn, ls, qe, a1, a2, a3, a4, a5, a6, a7, a8, a9, a10, a11) => pr = p ∧ cn = nI 3 ∧ sz_T a1 V ∧ sz_C k l h a2 a3 a4 a5 a6 ∧ sz_M p (sz_Q V k l h) a7 a8
/-- the conditions up to c are worked out -/
def sz_F (c : Nat) (u : St2) : Prop := match u with
  | (pr, cn, ls, qe, a1, a2, a3, a4, a5, a6, a7, a8, a9, a10, a11) => ∀ j, j ≤ c → ¬ a8 j = 0
theorem sz_rowsL {post : Int64 → St2 → Prop} {V : Nat → Nat → Nat} {k l : Int32} {h : Nat} {p : Int64} (hh : h < 4) (hV : ∀ i c, V i c < 256) {c : Nat} (hc : c < 3)
    (H : ∀ r u', sz_I V k l h p u' → sz_F c u' → (∀ i, i < 64 → sz_b r i = (sz_b p i && sz_Q V k l h c i)) → post r u') :
    ∀ (n i : Nat), i ≤ c + 1 → c + 1 - i < n → ∀ (pr : Int64) (cn : Int32) (ls qe : Int64) (a1 : Nat → Int64) (a2 a3 a4 a5 a6 : Nat → Int32) (a7 : Nat → Int64) (a8 : Nat → Int32) (a9 a10 a11 : Nat → Int64),
      sz_I V k l h p (pr, cn, ls, qe, a1, a2, a3, a4, a5, a6, a7, a8, a9, a10, a11) → (∀ j, j < i → ¬ a8 j = 0) → wX_rowsOf_11 post (nI c) n (nI i) pr cn ls qe a1 a2 a3 a4 a5 a6 a7 a8 a9 a10 a11 := by
  intro n
  induction n with
  | zero => intro i _ hn; exact absurd hn (by omega)
  | succ n ih =>
    intro i hi hn pr cn ls qe a1 a2 a3 a4 a5 a6 a7 a8 a9 a10 a11 hI hf
    have hI' := hI
    obtain ⟨hp, hcn, hT, hC, hM⟩ := hI'
    have ec : (nI c).toNatClampNeg = c := nI_clamp (by omega)
    have ei : (nI i).toNatClampNeg = i := nI_clamp (by omega)
    refine pk_lt c i (fun hlt => ⟨pk_in c 16 (by omega), ?_⟩) (fun hge => ⟨pk_in i 16 (by omega), br_c (fun hz => ?_) (fun hz => ?_)⟩)
    · rw [ec]
      exact H _ _ hI (fun j hj => hf j (by omega)) (hM c hc (hf c (by omega)))
    · rw [ei] at hz
      subst hp
      refine sz_work hh hV hT hC hM (j := i) (by omega) hf (fun r L E b9 hr => ⟨pk_in i 16 (by omega), nm_e ⟨pk_in i 16 (by omega), nm_e (nm_r (nI_1 i) ?_)⟩⟩)
      rw [ei]
      refine ih (i + 1) (by omega) (by omega) _ _ _ _ _ _ _ _ _ _ _ _ _ _ _ ⟨rfl, hcn, hT, hC, ?_⟩ ?_
      · intro j hj hfj t ht
        by_cases e : j = i
        · rw [e, pk_uLs, sz_and]
          exact hr t ht
        · rw [pk_uLn e]
          rw [pk_un e] at hfj
          exact hM j hj hfj t ht
      · intro j hj
        by_cases e : j = i
        · rw [e, pk_us]
          decide
        · rw [pk_un e]
          exact hf j (by omega)
    · rw [ei] at hz
      refine nm_r (nI_1 i) (ih (i + 1) (by omega) (by omega) _ _ _ _ _ _ _ _ _ _ _ _ _ _ _ hI ?_)
      intro j hj
      by_cases e : j = i
      · rw [e]
        exact hz
      · exact hf j (by omega)
/-- the rows that meet condition c -/
def sz_R (V : Nat → Nat → Nat) (k l : Int32) (h : Nat) (x y z : Bool) (c : Nat) : Int64 := sz_mk (x && sz_Q V k l h c 5) (y && sz_Q V k l h c 60) (z && sz_Q V k l h c 31)
theorem sz_rows {post : Int64 → St2 → Prop} {V : Nat → Nat → Nat} {k l : Int32} {h : Nat} {x y z : Bool} (hh : h < 4) (hV : ∀ i c, V i c < 256) {c : Nat} (hc : c < 3) {u : St2} (hI : sz_I V k l h (sz_mk x y z) u)
    (H : ∀ u', sz_I V k l h (sz_mk x y z) u' → sz_F c u' → post (sz_R V k l h x y z c) u') : wpX_rowsOf post u (nI c) := by
  obtain ⟨pr, cn, ls, qe, a1, a2, a3, a4, a5, a6, a7, a8, a9, a10, a11⟩ := u
  unfold wpX_rowsOf
  refine br_t (nI_pos' (by omega)) ⟨c + 2, sz_rowsL hh hV hc (fun r u' h1 h2 h3 => ?_) (c + 2) 0 (by omega) (by omega) _ _ _ _ _ _ _ _ _ _ _ _ _ _ _ hI (fun j hj => absurd hj (by omega))⟩
  rw [sz_mk_of h3]
  exact H u' h1 h2
theorem sz_rows2L {post : Int64 → St2 → Prop} {c : Nat} (hc : c < 3) (hF : ∀ j, j ≤ c → ¬ a8 j = 0) (H : post (a7 c) (pr, cn, ls, qe, a1, a2, a3, a4, a5, a6, a7, a8, a9, a10, a11)) :
    ∀ (n i : Nat), i ≤ c + 1 → c + 1 - i < n → wX_rowsOf_2_11 post (nI c) n (nI i) pr cn ls qe a1 a2 a3 a4 a5 a6 a7 a8 a9 a10 a11 := by
  intro n
  induction n with
  | zero => intro i _ hn; exact absurd hn (by omega)
  | succ n ih =>
    intro i hi hn
    have ec : (nI c).toNatClampNeg = c := nI_clamp (by omega)
    have ei : (nI i).toNatClampNeg = i := nI_clamp (by omega)
    refine pk_lt c i (fun hlt => ⟨pk_in c 16 (by omega), ?_⟩) (fun hge => ⟨pk_in i 16 (by omega), br_f ?_ ?_⟩)
    · rw [ec]
      exact H
    · rw [ei]
      exact hF i hge
    · exact nm_r (nI_1 i) (ih (i + 1) (by omega) (by omega))
theorem sz_rows2 {post : Int64 → St2 → Prop} {V : Nat → Nat → Nat} {k l : Int32} {h : Nat} {x y z : Bool} {c : Nat} (hc : c < 3) (hI : sz_I V k l h (sz_mk x y z) (pr, cn, ls, qe, a1, a2, a3, a4, a5, a6, a7, a8, a9, a10, a11)) (hF : sz_F c (pr, cn, ls, qe, a1, a2, a3, a4, a5, a6, a7, a8, a9, a10, a11))
    (H : post (sz_R V k l h x y z c) (pr, cn, ls, qe, a1, a2, a3, a4, a5, a6, a7, a8, a9, a10, a11)) : wpX_rowsOf_2 post (pr, cn, ls, qe, a1, a2, a3, a4, a5, a6, a7, a8, a9, a10, a11) (nI c) := by
  obtain ⟨hp, hcn, hT, hC, hM⟩ := hI
  unfold wpX_rowsOf_2
  refine br_t (nI_pos' (by omega)) ⟨c + 2, sz_rows2L hc hF ?_ (c + 2) 0 (by omega) (by omega)⟩
  rw [sz_mk_of (hM c hc (hF c (by omega)))]
  exact H
end
end
section
section
variable {pr ls qe : Int64} {cn : Int32} {a1 a7 a9 a10 a11 : Nat → Int64} {a2 a3 a4 a5 a6 a8 : Nat → Int32}
/-! ===== ones ===== -/
def sz_o1 (p : Int64) : Int64 := p - (((p.toUInt64 >>> ((1 : Int32).toInt64.toUInt64 &&& Int64.toUInt64 63)).toInt64) &&& 6148914691236517205)
def sz_o2 (p : Int64) : Int64 := (p &&& 3689348814741910323) + (((p.toUInt64 >>> ((2 : Int32).toInt64.toUInt64 &&& Int64.toUInt64 63)).toInt64) &&& 3689348814741910323)
def sz_o3 (p : Int64) : Int64 := (p + ((p.toUInt64 >>> ((4 : Int32).toInt64.toUInt64 &&& Int64.toUInt64 63)).toInt64)) &&& 1085102592571150095
def sz_o4 (p : Int64) : Int32 := (((p * 72340172838076673).toUInt64 >>> ((56 : Int32).toInt64.toUInt64 &&& Int64.toUInt64 63)).toInt64).toInt32
def sz_ones (p : Int64) : Int32 := sz_o4 (sz_o3 (sz_o2 (sz_o1 p)))
theorem sz_ones_ok {post : Int32 → Prop} {p : Int64} (H : post (sz_ones p)) : wpX_ones post () p := by
  unfold wpX_ones
  refine nm_r (show _ = sz_o1 p from rfl) (nm_r (show _ = sz_o2 (sz_o1 p) from rfl) (nm_r (show _ = sz_o3 (sz_o2 (sz_o1 p)) from rfl) ?_))
  exact H
theorem sz_ones_mk : ∀ x y z : Bool, sz_ones (sz_mk x y z) = nI (sz_n x y z) := by decide +kernel
theorem sz_cut (p q r : Bool) (X : Int64) : sz_mk p q r &&& X = sz_mk (p && sz_b X 5) (q && sz_b X 60) (r && sz_b X 31) := sz_mk_of (fun i hi => sz_and _ _ _)
theorem sz_cutn (p q r : Bool) (X : Int64) : sz_mk p q r &&& (X ^^^ (-1)) = sz_mk (p && !sz_b X 5) (q && !sz_b X 60) (r && !sz_b X 31) := by
  rw [sz_cut, sz_not X (by decide), sz_not X (by decide), sz_not X (by decide)]
/-! ===== is it a condition ===== -/
theorem sz_m1i : (-1 : Int32).toInt = -1 := by decide
theorem sz_isc {post : Int32 → Prop} {c : Nat} (hcn : cn = nI 3) (hc : c < 3) (H : post 1) : wpX_isCondition post (pr, cn, ls, qe, a1, a2, a3, a4, a5, a6, a7, a8, a9, a10, a11) (nI c) := by
  subst hcn
  unfold wpX_isCondition
  exact br_f (by rw [Int32.lt_iff_toInt_lt, nI_toInt (by omega), sz_m1i]; omega) (br_f (nI_ge hc (by decide)) H)
theorem sz_isc3 {post : Int32 → Prop} (hcn : cn = nI 3) (H : post 0) : wpX_isCondition post (pr, cn, ls, qe, a1, a2, a3, a4, a5, a6, a7, a8, a9, a10, a11) 3 := by
  subst hcn
  unfold wpX_isCondition
  exact br_f (by decide) (br_t (by decide) H)
/-! ===== count ===== -/
theorem sz_count {post : Int32 → St2 → Prop} {V : Nat → Nat → Nat} {k l : Int32} {h : Nat} {x y z : Bool} (hh : h < 4) (hV : ∀ i c, V i c < 256) {c : Nat} (hc : c < 3) {u : St2} (hI : sz_I V k l h (sz_mk x y z) u)
    (H : ∀ u', sz_I V k l h (sz_mk x y z) u' → sz_F c u' → post (nI (sz_n (x && sz_Q V k l h c 5) (y && sz_Q V k l h c 60) (z && sz_Q V k l h c 31))) u') : wpX_count post u (nI c) := by
  obtain ⟨pr, cn, ls, qe, a1, a2, a3, a4, a5, a6, a7, a8, a9, a10, a11⟩ := u
  have hcn := hI.2.1
  unfold wpX_count
  refine sz_isc hcn hc (br_f (by decide) (sz_rows hh hV hc hI (fun u' h1 h2 => ?_)))
  obtain ⟨pr, cn, ls, qe, a1, a2, a3, a4, a5, a6, a7, a8, a9, a10, a11⟩ := u'
  refine sz_ones_ok ?_
  unfold sz_R
  rw [sz_ones_mk]
  exact H _ h1 h2
theorem sz_count3 {post : Int32 → St2 → Prop} (hcn : cn = nI 3) (H : post (-1) (pr, cn, ls, qe, a1, a2, a3, a4, a5, a6, a7, a8, a9, a10, a11)) : wpX_count post (pr, cn, ls, qe, a1, a2, a3, a4, a5, a6, a7, a8, a9, a10, a11) 3 := by
  unfold wpX_count
  exact sz_isc3 hcn (br_t rfl H)
theorem sz_countM {post : Int32 → St2 → Prop} {x y z : Bool} {n : Nat} (hcn : cn = nI n) (hn : n < 4) (hp : pr = sz_mk x y z) (H : post (nI (sz_n x y z)) (pr, cn, ls, qe, a1, a2, a3, a4, a5, a6, a7, a8, a9, a10, a11)) : wpX_count post (pr, cn, ls, qe, a1, a2, a3, a4, a5, a6, a7, a8, a9, a10, a11) (-1) := by
  subst hcn hp
  unfold wpX_count wpX_isCondition
  refine br_f (by decide) (br_f ?_ (br_f (by decide) ?_))
  · rw [Int32.le_iff_toInt_le, nI_toInt (by omega), sz_m1i]
    omega
  · unfold wpX_rowsOf
    refine br_f (by decide) (sz_ones_ok ?_)
    rw [sz_ones_mk]
    exact H
theorem sz_countC {post : Int32 → St2 → Prop} (hcn : cn = nI 0) (H : post (-1) (pr, cn, ls, qe, a1, a2, a3, a4, a5, a6, a7, a8, a9, a10, a11)) : wpX_count post (pr, cn, ls, qe, a1, a2, a3, a4, a5, a6, a7, a8, a9, a10, a11) 2 := by
  subst hcn
  unfold wpX_count wpX_isCondition
  exact br_f (by decide) (br_t (by decide) (br_t rfl H))
/-! ===== sum ===== -/
theorem sz_sumS (p : Bool) (A i : Nat) : p.toNat * (A >>> i) = 2 * (p.toNat * (A >>> (i + 1))) + (p && A.testBit i).toNat := by
  cases p
  · simp
  · rw [sz_sh A i]
    simp only [Bool.toNat_true, Nat.one_mul, Bool.true_and]
theorem sz_sumL {post : Int32 → St2 → Prop} {V : Nat → Nat → Nat} {c : Nat} (hc : c < 3) (hT : sz_T a1 V) {p q r : Bool} (H : post (nI (p.toNat * V 5 c + q.toNat * V 60 c + r.toNat * V 31 c)) (pr, cn, ls, qe, a1, a2, a3, a4, a5, a6, a7, a8, a9, a10, a11)) :
    ∀ (i : Nat) (x5 x6 : Int32), i ≤ 8 → x6 = nI i + (-1) → x5 = nI (p.toNat * (V 5 c >>> i) + q.toNat * (V 60 c >>> i) + r.toNat * (V 31 c >>> i)) → wX_sum_30 post (nI c) (sz_mk p q r) pr cn ls qe a1 a2 a3 a4 a5 a6 a7 a8 a9 a10 a11 (i + 1) x5 x6 := by
  intro i
  induction i with
  | zero =>
    intro x5 x6 _ h6 h5
    subst h6 h5
    exact br_t (by decide) H
  | succ i ih =>
    intro x5 x6 hi h6 h5
    rw [pk_m1] at h6
    subst h6 h5
    refine br_f (nI_pos (by omega)) ⟨pk_in (8 * c + i) 24 (by omega) (sz_at8 c i), ?_⟩
    rw [pk_cl (8 * c + i) (sz_at8 c i) (by omega), sz_cut, hT c hc i (by omega) 5 (by decide), hT c hc i (by omega) 60 (by decide), hT c hc i (by omega) 31 (by decide)]
    refine sz_ones_ok ?_
    rw [sz_ones_mk]
    refine nm_e (nm_e (ih _ _ (by omega) rfl ?_))
    rw [show (2 : Int32) = nI 2 from rfl, pk_mul, nI_add, sz_sumS p _ i, sz_sumS q _ i, sz_sumS r _ i]
    unfold sz_n
    congr 1
    omega
theorem sz_sum {post : Int32 → St2 → Prop} {V : Nat → Nat → Nat} {k l : Int32} {h : Nat} {x y z : Bool} (hh : h < 4) (hV : ∀ i c, V i c < 256) {c d : Nat} (hc : c < 3) (hd : d < 3) {u : St2} (hI : sz_I V k l h (sz_mk x y z) u)
    (H : ∀ u', sz_I V k l h (sz_mk x y z) u' → post (nI ((x && sz_Q V k l h c 5).toNat * V 5 d + (y && sz_Q V k l h c 60).toNat * V 60 d + (z && sz_Q V k l h c 31).toNat * V 31 d)) u') : wpX_sum post u (nI c) (nI d) := by
  obtain ⟨pr, cn, ls, qe, a1, a2, a3, a4, a5, a6, a7, a8, a9, a10, a11⟩ := u
  have hcn := hI.2.1
  unfold wpX_sum wpX_isColumn
  refine br_f (nI_pos (by omega)) (br_f (nI_nlt (b := d) (a := 2) (by omega) (by decide)) (br_f (by decide) ?_))
  refine sz_isc hcn hc (br_f (by decide) (sz_rows hh hV hc hI (fun u' h1 h2 => ?_)))
  obtain ⟨pr, cn, ls, qe, a1, a2, a3, a4, a5, a6, a7, a8, a9, a10, a11⟩ := u'
  refine ⟨9, sz_sumL hd h1.2.2.1 (H _ h1) 8 0 7 (by omega) (by decide) ?_⟩
  rw [sz_sh8 (hV _ _), sz_sh8 (hV _ _), sz_sh8 (hV _ _)]
  rfl
/-! ===== row ===== -/
def sz_rowF (x3 : Int64) : Nat → Int32 → Int32 → Int32 → Option Int32
  | 0 => fun _ _ _ => none
  | n + 1 => fun x5 x6 x7 =>
    if x7 ≤ 0 then some x5
    else if x6 < sz_ones (((x3.toUInt64 >>> (x5.toInt64.toUInt64 &&& Int64.toUInt64 63)).toInt64) &&& (((1 : Int64) <<< (x7.toInt64 &&& 63)) - 1)) then sz_rowF x3 n x5 x6 (x7 / 2)
    else sz_rowF x3 n (x5 + x7) (x6 - sz_ones (((x3.toUInt64 >>> (x5.toInt64.toUInt64 &&& Int64.toUInt64 63)).toInt64) &&& (((1 : Int64) <<< (x7.toInt64 &&& 63)) - 1))) (x7 / 2)
theorem sz_rowL {post : Int32 → St2 → Prop} {x3 : Int64} {w : Int32} (H : post w (pr, cn, ls, qe, a1, a2, a3, a4, a5, a6, a7, a8, a9, a10, a11)) : ∀ (n : Nat) (x5 x6 x7 : Int32), sz_rowF x3 n x5 x6 x7 = some w → wX_row_40 post x3 pr cn ls qe a1 a2 a3 a4 a5 a6 a7 a8 a9 a10 a11 n x5 x6 x7 := by
  intro n
  induction n with
  | zero => intro x5 x6 x7 h; exact absurd h (by simp [sz_rowF])
  | succ n ih =>
    intro x5 x6 x7 h
    unfold sz_rowF at h
    refine br_c (fun g => ?_) (fun g => nm_e (sz_ones_ok (br_c (fun g2 => ⟨by decide, nm_e (ih _ _ _ ?_)⟩) (fun g2 => nm_e (nm_e ⟨by decide, nm_e (ih _ _ _ ?_)⟩)))))
    · rw [if_pos g] at h
      rw [Option.some.inj h]
      exact H
    · rw [if_neg g, if_pos g2] at h
      exact h
    · rw [if_neg g, if_neg g2] at h
      exact h
def sz_first (p q r : Bool) : Int32 := bif p then 5 else bif r then 31 else bif q then 60 else -1
theorem sz_rowT : ∀ p q r : Bool, (0 : Int32) < nI (sz_n p q r) → sz_rowF (sz_mk p q r) 7 0 0 32 = some (sz_first p q r) := by decide +kernel
theorem sz_rowE : ∀ p q r : Bool, ¬ (0 : Int32) < nI (sz_n p q r) → -1 = sz_first p q r := by decide +kernel
theorem sz_row0 {post : Int32 → St2 → Prop} {V : Nat → Nat → Nat} {k l : Int32} {h : Nat} {x y z : Bool} (hh : h < 4) (hV : ∀ i c, V i c < 256) {c : Nat} (hc : c < 3) {u : St2} (hI : sz_I V k l h (sz_mk x y z) u)
    (H : ∀ u', sz_I V k l h (sz_mk x y z) u' → post (sz_first (x && sz_Q V k l h c 5) (y && sz_Q V k l h c 60) (z && sz_Q V k l h c 31)) u') : wpX_row post u (nI c) 0 := by
  obtain ⟨pr, cn, ls, qe, a1, a2, a3, a4, a5, a6, a7, a8, a9, a10, a11⟩ := u
  have hcn := hI.2.1
  unfold wpX_row
  refine sz_isc hcn hc (br_f (by decide) (br_t (by decide) (sz_rows hh hV hc hI (fun u' h1 h2 => ?_))))
  obtain ⟨pr, cn, ls, qe, a1, a2, a3, a4, a5, a6, a7, a8, a9, a10, a11⟩ := u'
  refine sz_ones_ok ?_
  unfold sz_R
  rw [sz_ones_mk]
  refine br_c (fun g => ⟨7, sz_rowL (H _ h1) 7 0 0 32 (sz_rowT _ _ _ g)⟩) (fun g => ?_)
  rw [sz_rowE _ _ _ g]
  exact H _ h1
theorem sz_rowN {post : Int32 → St2 → Prop} {V : Nat → Nat → Nat} {k l : Int32} {h : Nat} {x y z : Bool} (hh : h < 4) (hV : ∀ i c, V i c < 256) {c : Nat} (hc : c < 3) {u : St2} (hI : sz_I V k l h (sz_mk x y z) u)
    {n : Nat} (hn : n = sz_n (x && sz_Q V k l h c 5) (y && sz_Q V k l h c 60) (z && sz_Q V k l h c 31)) (H : ∀ u', sz_I V k l h (sz_mk x y z) u' → post (-1) u') : wpX_row post u (nI c) (nI n) := by
  obtain ⟨pr, cn, ls, qe, a1, a2, a3, a4, a5, a6, a7, a8, a9, a10, a11⟩ := u
  have hcn := hI.2.1
  have hn3 : n ≤ 3 := by rw [hn]; exact sz_n_le _ _ _
  unfold wpX_row
  refine sz_isc hcn hc (br_f (by decide) (br_t (nI_pos' (by omega)) (sz_rows hh hV hc hI (fun u' h1 h2 => ?_))))
  obtain ⟨pr, cn, ls, qe, a1, a2, a3, a4, a5, a6, a7, a8, a9, a10, a11⟩ := u'
  refine sz_ones_ok ?_
  unfold sz_R
  rw [sz_ones_mk, ← hn]
  exact br_f (nI_nlt (Nat.le_refl n) (by omega)) (H _ h1)
end
end
section
section
variable {pr ls qe : Int64} {cn : Int32} {a1 a7 a9 a10 a11 : Nat → Int64} {a2 a3 a4 a5 a6 a8 : Nat → Int32}
/-! ===== ranked ===== -/
theorem sz_to (x y : Int32) (i : Nat) : sz_t (x ||| y) i = (sz_t x i || sz_t y i) := by unfold sz_t; rw [Int32.toBitVec_or, BitVec.getLsbD_or]
theorem sz_tone : ∀ r, r < 32 → ∀ i, i < 32 → sz_t ((1 : Int32) <<< (nI r &&& 31)) i = decide (i = r) := by decide +kernel
/-- the digits from i on are those of m -/
def sz_e (m i A : Nat) : Bool := decide (A >>> i = m >>> i)
theorem sz_e1 {m i A : Nat} (h : m.testBit i = true) : sz_e m i A = (sz_e m (i + 1) A && A.testBit i) := sz_eq1 h
theorem sz_e0 {m i A : Nat} (h : m.testBit i = false) : sz_e m i A = (sz_e m (i + 1) A && !A.testBit i) := sz_eq0 h
theorem sz_e8 {m A : Nat} (hm : m < 256) (hA : A < 256) : sz_e m 8 A = true := by
  unfold sz_e
  rw [sz_sh8 hm, sz_sh8 hA]
  rfl
/-- how many of the rows at hand have a zero at digit i -/
def sz_nz (p q r : Bool) (A B C m i : Nat) : Nat := sz_n ((p && sz_e m (i + 1) A) && !A.testBit i) ((q && sz_e m (i + 1) B) && !B.testBit i) ((r && sz_e m (i + 1) C) && !C.testBit i)
theorem sz_rankL {post : Int32 → St2 → Prop} {V : Nat → Nat → Nat} {c : Nat} (hc : c < 3) (hT : sz_T a1 V) {p q r : Bool} {m : Nat} (hm : m < 256) {J : Nat → Nat → Prop}
    (hJ : ∀ i s, i < 8 → J (i + 1) s → (m.testBit i = true → sz_nz p q r (V 5 c) (V 60 c) (V 31 c) m i ≤ s ∧ J i (s - sz_nz p q r (V 5 c) (V 60 c) (V 31 c) m i)) ∧ (m.testBit i = false → s < sz_nz p q r (V 5 c) (V 60 c) (V 31 c) m i ∧ J i s))
    (H : post (nI m) (pr, cn, ls, qe, a1, a2, a3, a4, a5, a6, a7, a8, a9, a10, a11)) :
    ∀ (i s : Nat) (v x8 : Int32), i ≤ 8 → s ≤ 3 → x8 = nI i + (-1) → J i s → (∀ b, b < 32 → sz_t v b = (decide (i ≤ b) && m.testBit b)) →
      wX_ranked_49 post (nI c) pr cn ls qe a1 a2 a3 a4 a5 a6 a7 a8 a9 a10 a11 (i + 1) (sz_mk (p && sz_e m i (V 5 c)) (q && sz_e m i (V 60 c)) (r && sz_e m i (V 31 c))) (nI s) v x8 := by
  intro i
  induction i with
  | zero =>
    intro s v x8 _ _ h8 _ hv
    subst h8
    have e : v = nI m := by
      apply sz_te
      intro b hb
      rw [hv b hb, sz_bitN (by omega), decide_eq_true (Nat.zero_le b), Bool.true_and]
    rw [e]
    exact br_t (by decide) H
  | succ i ih =>
    intro s v x8 hi hs h8 hj hv
    rw [pk_m1] at h8
    subst h8
    have t5 := hT c hc i (by omega) 5 (by decide)
    have t60 := hT c hc i (by omega) 60 (by decide)
    have t31 := hT c hc i (by omega) 31 (by decide)
    have hin : vp_in (8 * nI c + nI i) 24 := pk_in (8 * c + i) 24 (by omega) (sz_at8 c i)
    have ec : (8 * nI c + nI i).toNatClampNeg = 8 * c + i := pk_cl (8 * c + i) (sz_at8 c i) (by omega)
    have hn3 : sz_nz p q r (V 5 c) (V 60 c) (V 31 c) m i ≤ 3 := sz_n_le _ _ _
    refine br_f (nI_pos (by omega)) ⟨hin, nm_r (by rw [ec, sz_cutn, t5, t60, t31]) (sz_ones_ok ?_)⟩
    rw [sz_ones_mk]
    obtain ⟨j1, j0⟩ := hJ i s (by omega) hj
    cases hb : m.testBit i
    · obtain ⟨g, g2⟩ := j0 hb
      refine br_f (nI_ge g (Nat.lt_of_le_of_lt hn3 (by decide))) (nm_e ?_)
      have t := ih s v (nI i + (-1)) (by omega) hs rfl g2 ?_
      · rw [sz_e0 hb, sz_e0 hb, sz_e0 hb, ← Bool.and_assoc, ← Bool.and_assoc, ← Bool.and_assoc] at t
        exact t
      · intro b hbb
        rw [hv b hbb]
        by_cases e : b = i
        · rw [e, hb, Bool.and_false, Bool.and_false]
        · rw [show decide (i + 1 ≤ b) = decide (i ≤ b) from decide_eq_decide.mpr (by omega)]
    · obtain ⟨g, g2⟩ := j1 hb
      refine br_t (nI_le g (by omega)) (nm_r (pk_sub g) ⟨hin, nm_r (by rw [ec, sz_cut, t5, t60, t31]) (nm_e (nm_e ?_))⟩)
      have t := ih (s - sz_nz p q r (V 5 c) (V 60 c) (V 31 c) m i) (v ||| ((1 : Int32) <<< (nI i &&& 31))) (nI i + (-1)) (by omega) (by omega) rfl g2 ?_
      · rw [sz_e1 hb, sz_e1 hb, sz_e1 hb, ← Bool.and_assoc, ← Bool.and_assoc, ← Bool.and_assoc] at t
        exact t
      · intro b hbb
        rw [sz_to, hv b hbb, sz_tone i (by omega) b hbb]
        by_cases e : b = i
        · rw [e, hb, decide_eq_true (rfl : i = i), decide_eq_true (Nat.le_refl i), Bool.or_true]
          rfl
        · rw [decide_eq_false e, Bool.or_false, show decide (i + 1 ≤ b) = decide (i ≤ b) from decide_eq_decide.mpr (by omega)]
theorem sz_ranked {post : Int32 → St2 → Prop} {V : Nat → Nat → Nat} {k l : Int32} {h : Nat} {x y z : Bool} (hh : h < 4) (hV : ∀ i c, V i c < 256) {u : St2} (hI : sz_I V k l h (sz_mk x y z) u)
    {p q r : Bool} (hp : (x && sz_Q V k l h 2 5) = p) (hq : (y && sz_Q V k l h 2 60) = q) (hr : (z && sz_Q V k l h 2 31) = r)
    {m s : Nat} (hm : m < 256) (hs : s < sz_n p q r) {J : Nat → Nat → Prop} (h0 : J 8 s)
    (hJ : ∀ i s, i < 8 → J (i + 1) s → (m.testBit i = true → sz_nz p q r (V 5 0) (V 60 0) (V 31 0) m i ≤ s ∧ J i (s - sz_nz p q r (V 5 0) (V 60 0) (V 31 0) m i)) ∧ (m.testBit i = false → s < sz_nz p q r (V 5 0) (V 60 0) (V 31 0) m i ∧ J i s))
    (H : ∀ u', sz_I V k l h (sz_mk x y z) u' → post (nI m) u') : wpX_ranked post u 2 0 (nI s) := by
  obtain ⟨pr, cn, ls, qe, a1, a2, a3, a4, a5, a6, a7, a8, a9, a10, a11⟩ := u
  have hcn := hI.2.1
  have hn3 := sz_n_le p q r
  unfold wpX_ranked wpX_isColumn
  refine br_f (by decide) (br_f (by decide) (br_f (by decide) ?_))
  refine sz_isc (c := 2) hcn (by decide) (br_f (by decide) (br_t (nI_pos' (by omega)) (sz_rows (c := 2) hh hV (by decide) hI (fun u' h1 h2 => ?_))))
  obtain ⟨pr, cn, ls, qe, a1, a2, a3, a4, a5, a6, a7, a8, a9, a10, a11⟩ := u'
  refine sz_ones_ok ?_
  unfold sz_R
  rw [hp, hq, hr, sz_ones_mk]
  refine br_t (nI_lt hs (by omega)) ⟨9, ?_⟩
  have t := sz_rankL (post := post) (pr := pr) (cn := cn) (ls := ls) (qe := qe) (a2 := a2) (a3 := a3) (a4 := a4) (a5 := a5) (a6 := a6) (a7 := a7) (a8 := a8) (a9 := a9) (a10 := a10) (a11 := a11) (c := 0) (by decide) h1.2.2.1 hm hJ (H _ h1) 8 s 0 7 (by omega) (by omega) (by decide) h0 ?_
  · rw [sz_e8 hm (hV _ _), sz_e8 hm (hV _ _), sz_e8 hm (hV _ _), Bool.and_true, Bool.and_true, Bool.and_true] at t
    exact t
  · intro b hb
    rw [sz_t0]
    by_cases e : 8 ≤ b
    · rw [show m.testBit b = false from Nat.testBit_lt_two_pow (Nat.lt_of_lt_of_le hm (Nat.pow_le_pow_right (n := 2) (by decide) e)), Bool.and_false]
    · rw [decide_eq_false e, Bool.false_and]
theorem sz_rankedE {post : Int32 → St2 → Prop} {V : Nat → Nat → Nat} {k l : Int32} {h : Nat} {x y z : Bool} (hh : h < 4) (hV : ∀ i c, V i c < 256) {u : St2} (hI : sz_I V k l h (sz_mk x y z) u)
    {p q r : Bool} (hp : (x && sz_Q V k l h 2 5) = p) (hq : (y && sz_Q V k l h 2 60) = q) (hr : (z && sz_Q V k l h 2 31) = r) (hn : sz_n p q r = 0)
    (H : ∀ u', sz_I V k l h (sz_mk x y z) u' → post (-1) u') : wpX_ranked post u 2 0 0 := by
  obtain ⟨pr, cn, ls, qe, a1, a2, a3, a4, a5, a6, a7, a8, a9, a10, a11⟩ := u
  have hcn := hI.2.1
  unfold wpX_ranked wpX_isColumn
  refine br_f (by decide) (br_f (by decide) (br_f (by decide) ?_))
  refine sz_isc (c := 2) hcn (by decide) (br_f (by decide) (br_t (by decide) (sz_rows (c := 2) hh hV (by decide) hI (fun u' h1 h2 => ?_))))
  obtain ⟨pr, cn, ls, qe, a1, a2, a3, a4, a5, a6, a7, a8, a9, a10, a11⟩ := u'
  refine sz_ones_ok ?_
  unfold sz_R
  rw [hp, hq, hr, sz_ones_mk, hn]
  exact br_f (by decide) (H _ h1)
theorem sz_rankedM {post : Int32 → St2 → Prop} (hcn : cn = nI 3) (H : post (-1) (pr, cn, ls, qe, a1, a2, a3, a4, a5, a6, a7, a8, a9, a10, a11)) : wpX_ranked post (pr, cn, ls, qe, a1, a2, a3, a4, a5, a6, a7, a8, a9, a10, a11) 2 0 (-1) := by
  unfold wpX_ranked wpX_isColumn
  refine br_f (by decide) (br_f (by decide) (br_f (by decide) ?_))
  exact sz_isc (c := 2) hcn (by decide) (br_f (by decide) (br_f (by decide) H))
/-! ===== least and greatest ===== -/
theorem sz_shl {a m i : Nat} (h : a >>> i < m >>> i) : a < m := by
  rw [Nat.shiftRight_eq_div_pow, Nat.shiftRight_eq_div_pow] at h
  rcases Nat.lt_or_ge a m with g | g
  · exact g
  · exact absurd (Nat.div_le_div_right (c := 2 ^ i) g) (by omega)
theorem sz_zl {A m i : Nat} (h : sz_e m (i + 1) A = true) (h0 : A.testBit i = false) (h1 : m.testBit i = true) : A < m := by
  have e := of_decide_eq_true h
  apply sz_shl (i := i)
  rw [sz_sh A i, sz_sh m i, h0, h1, e]
  show 2 * (m >>> (i + 1)) + 0 < 2 * (m >>> (i + 1)) + 1
  omega
theorem sz_ee (m i : Nat) : sz_e m i m = true := decide_eq_true rfl
/-- m is one of the values at hand -/
def sz_mem (p q r : Bool) (A B C m : Nat) : Prop := (p = true ∧ A = m) ∨ (q = true ∧ B = m) ∨ (r = true ∧ C = m)
theorem sz_zero {p : Bool} {A m i : Nat} (hl : p = true → m ≤ A) (h1 : m.testBit i = true) : ((p && sz_e m (i + 1) A) && !A.testBit i) = false := by
  cases hp : p
  · rfl
  · cases he : sz_e m (i + 1) A
    · rfl
    · cases hb : A.testBit i
      · exact absurd (sz_zl he hb h1) (by have := hl hp; omega)
      · rfl
theorem sz_allz {p : Bool} {A m i : Nat} (hl : p = true → A ≤ m) (h1 : m.testBit i = false) : ((p && sz_e m (i + 1) A) && !A.testBit i) = (p && sz_e m (i + 1) A) := by
  cases hp : p
  · rfl
  · cases he : sz_e m (i + 1) A
    · rfl
    · cases hb : A.testBit i
      · rfl
      · have e : sz_e A (i + 1) m = true := decide_eq_true (of_decide_eq_true he).symm
        exact absurd (sz_zl e h1 hb) (by have := hl hp; omega)
theorem sz_n_split (a b c x y z : Bool) : sz_n a b c = sz_n (a && !x) (b && !y) (c && !z) + sz_n (a && x) (b && y) (c && z) := by
  cases a <;> cases b <;> cases c <;> cases x <;> cases y <;> cases z <;> rfl
theorem sz_n_pos {a b c : Bool} (h : a = true ∨ b = true ∨ c = true) : 0 < sz_n a b c := by
  revert h
  cases a <;> cases b <;> cases c <;> decide
theorem sz_Jmin {p q r : Bool} {A B C m : Nat} (hm : sz_mem p q r A B C m) (hp : p = true → m ≤ A) (hq : q = true → m ≤ B) (hr : r = true → m ≤ C) (i s : Nat) (hs : s = 0) :
    (m.testBit i = true → sz_nz p q r A B C m i ≤ s ∧ s - sz_nz p q r A B C m i = 0) ∧ (m.testBit i = false → s < sz_nz p q r A B C m i ∧ s = 0) := by
  refine ⟨fun h => ?_, fun h => ?_⟩
  · unfold sz_nz
    rw [sz_zero hp h, sz_zero hq h, sz_zero hr h]
    exact ⟨Nat.zero_le _, by omega⟩
  · refine ⟨?_, hs⟩
    rw [hs]
    apply sz_n_pos
    rcases hm with ⟨g, e⟩ | ⟨g, e⟩ | ⟨g, e⟩
    · left; rw [g, e, sz_ee, h]; rfl
    · right; left; rw [g, e, sz_ee, h]; rfl
    · right; right; rw [g, e, sz_ee, h]; rfl
def sz_cn (p q r : Bool) (A B C m i : Nat) : Nat := sz_n (p && sz_e m i A) (q && sz_e m i B) (r && sz_e m i C)
theorem sz_Jmax {p q r : Bool} {A B C m : Nat} (hm : sz_mem p q r A B C m) (hp : p = true → A ≤ m) (hq : q = true → B ≤ m) (hr : r = true → C ≤ m) (i s : Nat) (hs : s + 1 = sz_cn p q r A B C m (i + 1)) :
    (m.testBit i = true → sz_nz p q r A B C m i ≤ s ∧ s - sz_nz p q r A B C m i + 1 = sz_cn p q r A B C m i) ∧ (m.testBit i = false → s < sz_nz p q r A B C m i ∧ s + 1 = sz_cn p q r A B C m i) := by
  refine ⟨fun h => ?_, fun h => ?_⟩
  · have hsp := sz_n_split (p && sz_e m (i + 1) A) (q && sz_e m (i + 1) B) (r && sz_e m (i + 1) C) (A.testBit i) (B.testBit i) (C.testBit i)
    have hcn : sz_cn p q r A B C m i = sz_n ((p && sz_e m (i + 1) A) && A.testBit i) ((q && sz_e m (i + 1) B) && B.testBit i) ((r && sz_e m (i + 1) C) && C.testBit i) := by
      unfold sz_cn
      rw [sz_e1 h, sz_e1 h, sz_e1 h, Bool.and_assoc, Bool.and_assoc, Bool.and_assoc]
    have hpos : 0 < sz_n ((p && sz_e m (i + 1) A) && A.testBit i) ((q && sz_e m (i + 1) B) && B.testBit i) ((r && sz_e m (i + 1) C) && C.testBit i) := by
      apply sz_n_pos
      rcases hm with ⟨g, e⟩ | ⟨g, e⟩ | ⟨g, e⟩
      · left; rw [g, e, sz_ee, h]; rfl
      · right; left; rw [g, e, sz_ee, h]; rfl
      · right; right; rw [g, e, sz_ee, h]; rfl
    rw [hcn]
    unfold sz_cn at hs
    rw [hsp] at hs
    unfold sz_nz
    generalize sz_n ((p && sz_e m (i + 1) A) && A.testBit i) ((q && sz_e m (i + 1) B) && B.testBit i) ((r && sz_e m (i + 1) C) && C.testBit i) = w at hs hpos ⊢
    generalize sz_n ((p && sz_e m (i + 1) A) && !A.testBit i) ((q && sz_e m (i + 1) B) && !B.testBit i) ((r && sz_e m (i + 1) C) && !C.testBit i) = w2 at hs ⊢
    omega
  · have hcn : sz_cn p q r A B C m i = sz_nz p q r A B C m i := by
      unfold sz_cn sz_nz
      rw [sz_e0 h, sz_e0 h, sz_e0 h, Bool.and_assoc, Bool.and_assoc, Bool.and_assoc]
    have hz : sz_nz p q r A B C m i = sz_cn p q r A B C m (i + 1) := by
      unfold sz_cn sz_nz
      rw [sz_allz hp h, sz_allz hq h, sz_allz hr h]
    rw [hcn, hz, ← hs]
    omega
end
end
section
section
variable {pr ls qe : Int64} {cn : Int32} {a1 a7 a9 a10 a11 : Nat → Int64} {a2 a3 a4 a5 a6 a8 : Nat → Int32}
/-! ===== lists of sets ===== -/
def sz_h (a : Nat → Int64) (l : List Int64) : Prop := ∀ j, j < l.length → a j = l.getD j 0
def sz_nzl (s : Int64) : List Int64 := if s = 0 then [] else [s]
def sz_sp (d : Int64) : List Int64 → List Int64
  | [] => []
  | s :: l => sz_nzl (s &&& d) ++ (sz_nzl (s &&& (d ^^^ (-1))) ++ sz_sp d l)
theorem sz_h_app {a : Nat → Int64} {l : List Int64} (h : sz_h a l) (s : Int64) : sz_h (vp_updL a l.length s) (l ++ [s]) := by
  intro j hj
  rw [List.length_append] at hj
  have hj' : j < l.length + 1 := hj
  by_cases e : j = l.length
  · rw [e, pk_uLs]
    simp
  · rw [pk_uLn e, h j (by omega)]
    simp [List.getElem?_append_left (show j < l.length by omega)]
theorem sz_nzl_le (s : Int64) : (sz_nzl s).length ≤ 1 := by
  unfold sz_nzl
  by_cases h : s = 0
  · rw [if_pos h]
    exact Nat.zero_le _
  · rw [if_neg h]
    exact Nat.le_refl _
theorem sz_sp_le (d : Int64) (l : List Int64) : (sz_sp d l).length ≤ 2 * l.length := by
  induction l with
  | nil => exact Nat.le_refl _
  | cons s l ih =>
    show (sz_nzl (s &&& d) ++ (sz_nzl (s &&& (d ^^^ (-1))) ++ sz_sp d l)).length ≤ 2 * (l.length + 1)
    rw [List.length_append, List.length_append]
    have h1 := sz_nzl_le (s &&& d)
    have h2 := sz_nzl_le (s &&& (d ^^^ (-1)))
    omega
theorem sz_57 {post : Int32 → St2 → Prop} {J6 : Int32 → Int32 → (Nat → Int64) → (Nat → Int32) → (Nat → Int32) → (Nat → Int32) → (Nat → Int32) → (Nat → Int32) → (Nat → Int64) → (Nat → Int32) → (Nat → Int64) → (Nat → Int64) → (Nat → Int64) → Prop}
    {x1 : Int32} {x2 x8 : Int64} {acc : List Int64} {k : Nat} (hacc : acc.length < 64) (h : sz_h a11 acc)
    (H : ∀ a11', sz_h a11' (acc ++ sz_nzl x8) → J6 (nI (acc ++ sz_nzl x8).length) (nI (k + 1)) a1 a2 a3 a4 a5 a6 a7 a8 a9 a10 a11') : wX_splitSets_57 post J6 x1 x2 (nI acc.length) (nI k) x8 pr cn ls qe a1 a2 a3 a4 a5 a6 a7 a8 a9 a10 a11 := by
  unfold wX_splitSets_57
  refine br_c (fun g => nm_r (nI_1 k) ?_) (fun g => ⟨pk_in acc.length 64 hacc, nm_e (nm_r (nI_1 _) (nm_r (nI_1 k) ?_))⟩)
  · have e : acc ++ sz_nzl x8 = acc := by unfold sz_nzl; rw [if_pos g, List.append_nil]
    rw [e] at H
    exact H a11 h
  · have e : sz_nzl x8 = [x8] := by unfold sz_nzl; rw [if_neg g]
    rw [e] at H
    rw [nI_clamp (by omega)]
    have t := H _ (sz_h_app h x8)
    rw [List.length_append] at t
    exact t
theorem sz_spL {post : Int32 → St2 → Prop} {d : Int64} {L : Nat} {R : List Int64} (hL : L ≤ 32)
    (H : ∀ a11', sz_h a11' R → ∃ fu, wX_splitSets_85 post (nI R.length) pr cn ls qe fu 0 a1 a2 a3 a4 a5 a6 a7 a8 a9 a10 a11') :
    ∀ (rest : List Int64) (k : Nat) (acc : List Int64) (a11 : Nat → Int64), (∀ j, j < rest.length → a10 (k + j) = rest.getD j 0) → k + rest.length = L → acc.length + 2 * rest.length ≤ 64 → sz_h a11 acc → acc ++ sz_sp d rest = R →
      wX_splitSets_6 post (nI L) d pr cn ls qe (rest.length + 1) (nI acc.length) (nI k) a1 a2 a3 a4 a5 a6 a7 a8 a9 a10 a11 := by
  intro rest
  induction rest with
  | nil =>
    intro k acc b11 _ hk _ hh hR
    have hk' : k = L := hk
    have hR' : acc = R := by rw [← hR]; exact (List.append_nil acc).symm
    subst hk' hR'
    exact br_t (nI_le (Nat.le_refl k) (by omega)) (H b11 hh)
  | cons s rest ih =>
    intro k acc b11 hs hk hl hh hR
    have hk' : k + (rest.length + 1) = L := hk
    have hl' : acc.length + 2 * (rest.length + 1) ≤ 64 := hl
    have h0 : a10 k = s := hs 0 (by show 0 < rest.length + 1; omega)
    have hs' : ∀ j, j < rest.length → a10 (k + 1 + j) = rest.getD j 0 := by
      intro j hj
      have t := hs (j + 1) (by show j + 1 < rest.length + 1; omega)
      rw [show k + 1 + j = k + (j + 1) by omega, t]
      simp
    have hin : vp_in (nI k) 64 := pk_in k 64 (by omega)
    have ek : a10 (nI k).toNatClampNeg = s := by rw [nI_clamp (by omega)]; exact h0
    refine br_f (nI_ge (by omega) (by omega)) ⟨hin, nm_r (congrArg (fun w => w &&& d) ek) ⟨hin, nm_r (congrArg (fun w => w &&& (d ^^^ (-1))) ek) ?_⟩⟩
    have n1 := sz_nzl_le (s &&& d)
    have n2 := sz_nzl_le (s &&& (d ^^^ (-1)))
    have fin : ∀ b, sz_h b ((acc ++ sz_nzl (s &&& d)) ++ sz_nzl (s &&& (d ^^^ (-1)))) → wX_splitSets_6 post (nI L) d pr cn ls qe (rest.length + 1) (nI ((acc ++ sz_nzl (s &&& d)) ++ sz_nzl (s &&& (d ^^^ (-1)))).length) (nI (k + 1)) a1 a2 a3 a4 a5 a6 a7 a8 a9 a10 b := by
      intro b hb
      refine ih (k + 1) _ b hs' (by omega) ?_ hb ?_
      · rw [List.length_append, List.length_append]
        omega
      · rw [← hR, List.append_assoc, List.append_assoc]
        rfl
    refine br_c (fun g => ?_) (fun g => ⟨pk_in acc.length 64 (by omega), nm_e (nm_r (nI_1 _) ?_)⟩)
    · have e : acc ++ sz_nzl (s &&& d) = acc := by
        unfold sz_nzl
        rw [if_pos g, List.append_nil]
      rw [e] at fin
      exact sz_57 (by omega) hh fin
    · have e : sz_nzl (s &&& d) = [s &&& d] := by unfold sz_nzl; rw [if_neg g]
      rw [e] at fin
      rw [nI_clamp (by omega)]
      have t := sz_57 (post := post) (pr := pr) (cn := cn) (ls := ls) (qe := qe) (x1 := nI L) (x2 := d) (acc := acc ++ [s &&& d]) (x8 := s &&& (d ^^^ (-1))) (k := k) (by rw [List.length_append]; show acc.length + 1 < 64; omega) (sz_h_app hh _) fin
      rw [List.length_append] at t
      exact t
theorem sz_cpy {post : Int32 → St2 → Prop} {n : Nat} (hn : n ≤ 64) (H : ∀ a10', (∀ j, j < n → a10' j = a11 j) → post (nI n) (pr, cn, ls, qe, a1, a2, a3, a4, a5, a6, a7, a8, a9, a10', a11)) : ∃ fu, wX_splitSets_85 post (nI n) pr cn ls qe fu 0 a1 a2 a3 a4 a5 a6 a7 a8 a9 a10 a11 := by
  refine pk_loop (fun m i s => wX_splitSets_85 post (nI n) pr cn ls qe m (nI i) a1 a2 a3 a4 a5 a6 a7 a8 a9 s a11) (fun i s => ∀ j, j < i → s j = a11 j) n 0 a10 (by omega) (fun j hj => absurd hj (by omega)) ?_ ?_
  · intro m s h
    exact pk_le n n (fun _ => H s h) (fun z => absurd z (by omega))
  · intro m i s hi h hw
    refine pk_le n i (fun z => absurd z (by omega)) (fun _ => ⟨pk_in i 64 (by omega), pk_in i 64 (by omega), nm_e (nm_r (nI_1 i) (hw _ ?_))⟩)
    rw [nI_clamp (by omega)]
    intro j hj
    by_cases e : j = i
    · rw [e, pk_uLs]
    · rw [pk_uLn e]
      exact h j (by omega)
theorem sz_split {post : Int32 → St2 → Prop} {d : Int64} {l : List Int64} (hl : l.length ≤ 32) (h : sz_h a10 l)
    (H : ∀ a10' a11', sz_h a10' (sz_sp d l) → post (nI (sz_sp d l).length) (pr, cn, ls, qe, a1, a2, a3, a4, a5, a6, a7, a8, a9, a10', a11')) : wpX_splitSets post (pr, cn, ls, qe, a1, a2, a3, a4, a5, a6, a7, a8, a9, a10, a11) (nI l.length) d := by
  have hle := sz_sp_le d l
  refine ⟨l.length + 1, sz_spL (L := l.length) (R := sz_sp d l) hl (fun b11 h11 => sz_cpy (by omega) (fun b10 h10 => H b10 b11 (fun j hj => ?_))) l 0 [] a11 (fun j hj => ?_) (by omega) (by show 0 + 2 * l.length ≤ 64; omega) (fun j hj => absurd hj (Nat.not_lt_zero j)) rfl⟩
  · rw [h10 j hj]
    exact h11 j hj
  · rw [Nat.zero_add]
    exact h j hj
/-! ===== different ===== -/
def sz_it (D : Nat → Int64) (l : List Int64) : Nat → List Int64
  | 0 => l
  | b + 1 => sz_sp (D b) (sz_it D l b)
def sz_D2 (b : Nat) : Int64 := sz_mk (decide (b = 0)) (decide (b = 1)) (decide (b = 2))
theorem sz_it_le : ∀ p q r : Bool, ∀ b, b < 9 → (sz_it sz_D2 (sz_nzl (sz_mk p q r)) b).length ≤ 32 := by decide +kernel
theorem sz_it_8 : ∀ p q r : Bool, (sz_it sz_D2 (sz_nzl (sz_mk p q r)) 8).length = sz_n p q r := by decide +kernel
/-- column 2 as the law fills it -/
def sz_V2 (i : Nat) : Nat := if i = 5 then 1 else if i = 60 then 2 else if i = 31 then 4 else 0
theorem sz_V2_b : ∀ b, b < 8 → ∀ i, i < 64 → (sz_V2 i).testBit b = sz_b (sz_D2 b) i := by decide +kernel
theorem sz_diffL {post : Int32 → St2 → Prop} {p q r : Bool} (hd : ∀ b, b < 8 → a1 (16 + b) = sz_D2 b) (h : sz_h a10 (sz_nzl (sz_mk p q r)))
    (H : ∀ a10' a11', post (nI (sz_n p q r)) (pr, cn, ls, qe, a1, a2, a3, a4, a5, a6, a7, a8, a9, a10', a11')) : ∃ fu, wX_different_48 post (nI 2) fu (nI (sz_nzl (sz_mk p q r)).length) 0 pr cn ls qe a1 a2 a3 a4 a5 a6 a7 a8 a9 a10 a11 := by
  refine pk_loop (fun n i (s : (Nat → Int64) × (Nat → Int64)) => wX_different_48 post (nI 2) n (nI (sz_it sz_D2 (sz_nzl (sz_mk p q r)) i).length) (nI i) pr cn ls qe a1 a2 a3 a4 a5 a6 a7 a8 a9 s.1 s.2) (fun i s => sz_h s.1 (sz_it sz_D2 (sz_nzl (sz_mk p q r)) i)) 8 0 (a10, a11) (by omega) h ?_ ?_
  · intro n s hs
    refine pk_le 8 8 (fun _ => ?_) (fun z => absurd z (by omega))
    rw [sz_it_8]
    exact H _ _
  · intro n i s hi hs hw
    refine pk_le 8 i (fun z => absurd z (by omega)) (fun _ => ⟨pk_in (8 * 2 + i) 24 (by omega) (sz_at8 2 i), ?_⟩)
    rw [pk_cl (8 * 2 + i) (sz_at8 2 i) (by omega), hd i hi]
    refine sz_split (sz_it_le p q r i (by omega)) hs (fun b10 b11 hb => nm_r (nI_1 i) ?_)
    exact hw (b10, b11) hb
theorem sz_diff {post : Int32 → St2 → Prop} {V : Nat → Nat → Nat} {k l : Int32} {h : Nat} {x y z : Bool} (hV2 : ∀ i, V i 2 = sz_V2 i) {u : St2} (hI : sz_I V k l h (sz_mk x y z) u) (hF : sz_F 2 u)
    (H : ∀ u', sz_I V k l h (sz_mk x y z) u' → post (nI (sz_n (x && sz_Q V k l h 2 5) (y && sz_Q V k l h 2 60) (z && sz_Q V k l h 2 31))) u') : wpX_different post u 2 2 := by
  obtain ⟨pr, cn, ls, qe, a1, a2, a3, a4, a5, a6, a7, a8, a9, a10, a11⟩ := u
  have hcn := hI.2.1
  unfold wpX_different wpX_isColumn
  refine br_f (by decide) (br_f (by decide) (br_f (by decide) ?_))
  refine sz_isc (c := 2) hcn (by decide) (br_f (by decide) (sz_rows2 (c := 2) (by decide) hI hF (nm_e ?_)))
  unfold sz_R
  generalize hp : (x && sz_Q V k l h 2 5) = p
  generalize hq : (y && sz_Q V k l h 2 60) = q
  generalize hr : (z && sz_Q V k l h 2 31) = r
  rw [hp, hq, hr] at H
  have hd : ∀ b, b < 8 → a1 (16 + b) = sz_D2 b := by
    intro b hb
    apply sz_ext
    intro i hi
    rw [← sz_V2_b b hb i hi, ← hV2 i]
    exact hI.2.2.1 2 (by decide) b hb i hi
  have fin : ∀ b10 b11, post (nI (sz_n p q r)) (pr, cn, ls, qe, a1, a2, a3, a4, a5, a6, a7, a8, a9, b10, b11) := fun b10 b11 => H _ hI
  have hd10 : vp_updL a10 0 (sz_mk p q r) 0 = sz_mk p q r := pk_uLs
  refine br_c (fun g => ?_) (fun g => ?_)
  · rw [hd10] at g
    have e : sz_nzl (sz_mk p q r) = [] := by unfold sz_nzl; rw [if_pos g]
    have t := sz_diffL (post := post) (pr := pr) (cn := cn) (ls := ls) (qe := qe) (a2 := a2) (a3 := a3) (a4 := a4) (a5 := a5) (a6 := a6) (a7 := a7) (a8 := a8) (a9 := a9) (a10 := vp_updL a10 0 (sz_mk p q r)) (a11 := a11) (p := p) (q := q) (r := r) hd (by rw [e]; exact fun j hj => absurd hj (Nat.not_lt_zero j)) fin
    rw [e] at t
    exact t
  · rw [hd10] at g
    have e : sz_nzl (sz_mk p q r) = [sz_mk p q r] := by unfold sz_nzl; rw [if_neg g]
    have t := sz_diffL (post := post) (pr := pr) (cn := cn) (ls := ls) (qe := qe) (a2 := a2) (a3 := a3) (a4 := a4) (a5 := a5) (a6 := a6) (a7 := a7) (a8 := a8) (a9 := a9) (a10 := vp_updL a10 0 (sz_mk p q r)) (a11 := a11) (p := p) (q := q) (r := r) hd (by
      rw [e]
      intro j hj
      have hj' : j < 1 := hj
      have ej : j = 0 := by omega
      rw [ej, hd10]
      rfl) fin
    rw [e] at t
    exact t
end
end
section
section
variable {pr ls qe : Int64} {cn : Int32} {a1 a7 a9 a10 a11 : Nat → Int64} {a2 a3 a4 a5 a6 a8 : Nat → Int32}
variable {mc ms kc ks : Nat}
/-! ===== the law's masks ===== -/
theorem sz_k1 : ∀ p q r : Bool, (nI (sz_w p q r) &&& 1) = 0 ↔ p = false := by decide +kernel
theorem sz_k2 : ∀ p q r : Bool, (nI (sz_w p q r) &&& 2) = 0 ↔ q = false := by decide +kernel
theorem sz_k4 : ∀ p q r : Bool, (nI (sz_w p q r) &&& 4) = 0 ↔ r = false := by decide +kernel
theorem sz_k0 : ∀ p q r : Bool, nI (sz_w p q r) = 0 ↔ sz_n p q r = 0 := by decide +kernel
theorem sz_kw : ∀ p q r : Bool, nI (p.toNat * sz_V2 5 + q.toNat * sz_V2 60 + r.toNat * sz_V2 31) = nI (sz_w p q r) := by decide +kernel
theorem sz_k5 : ∀ p q r : Bool, nI (p.toNat * sz_V2 5 + false.toNat * sz_V2 60 + r.toNat * sz_V2 31) = nI (sz_w p q r) &&& 5 := by decide +kernel
theorem sz_kn : ∀ p q r : Bool, ((nI (sz_w p q r) &&& 1) + ((nI (sz_w p q r) >>> ((1 : Int32) &&& 31)) &&& 1)) + ((nI (sz_w p q r) >>> ((2 : Int32) &&& 31)) &&& 1) = nI (sz_n p q r) := by decide +kernel
theorem sz_wand : ∀ a b c a' b' c' : Bool, nI (sz_w a b c) &&& nI (sz_w a' b' c') = nI (sz_w (a && a') (b && b') (c && c')) := by decide +kernel
theorem sz_wor : ∀ a b c a' b' c' : Bool, nI (sz_w a b c) ||| nI (sz_w a' b' c') = nI (sz_w (a || a') (b || b') (c || c')) := by decide +kernel
theorem sz_wxor : ∀ a b c a' b' c' : Bool, nI (sz_w a b c) ^^^ nI (sz_w a' b' c') = nI (sz_w (a ^^ a') (b ^^ b') (c ^^ c')) := by decide +kernel
theorem sz_wandn : ∀ a b c a' b' c' : Bool, nI (sz_w a b c) &&& (nI (sz_w a' b' c') ^^^ (-1)) = nI (sz_w (a && !a') (b && !b') (c && !c')) := by decide +kernel
theorem sz_bif {c A B : Prop} {p : Bool} (h : c ↔ p = false) (f : p = false → A) (g : p = true → B) : (c → A) ∧ (¬ c → B) := by
  refine ⟨fun hc => f (h.mp hc), fun hc => g ?_⟩
  cases hp : p
  · exact absurd (h.mpr hp) hc
  · rfl
/-! ===== what holds of the table all along ===== -/
def sz_K (V : Nat → Nat → Nat) (k l : Int32) (h : Nat) (p q r : Bool) : Prop := h < 4 ∧ (∀ i c, V i c < 256) ∧ (∀ i, V i 2 = sz_V2 i) ∧ sz_Q V k l h 2 5 = p ∧ sz_Q V k l h 2 60 = q ∧ sz_Q V k l h 2 31 = r
theorem sz_687 {post : Int32 → St0 → Prop} {V : Nat → Nat → Nat} {k l : Int32} {h : Nat} {p q r : Bool} (H : post 1 ()) (K : sz_K V k l h p q r) (hI : sz_I V k l h (sz_mk true false true) (pr, cn, ls, qe, a1, a2, a3, a4, a5, a6, a7, a8, a9, a10, a11)) {z0 z1 : Int32}
    (hz : z1 + z0 = nI (p.toNat * V 5 1 + r.toNat * V 31 1)) : wL_lawOf_687 post mc ms (nI h) z0 z1 kc ks pr cn ls qe a1 a2 a3 a4 a5 a6 a7 a8 a9 a10 a11 := by
  obtain ⟨hh, hV, hV2, hp, hq, hr⟩ := K
  unfold wL_lawOf_687
  refine nm_r hz (sz_sum (c := 2) (d := 1) hh hV (by decide) (by decide) hI (fun u' h1 => ?_))
  obtain ⟨pr, cn, ls, qe, a1, a2, a3, a4, a5, a6, a7, a8, a9, a10, a11⟩ := u'
  refine br_t ?_ ?_
  · rw [hp, hr]
    show nI (p.toNat * V 5 1 + 0 * V 60 1 + r.toNat * V 31 1) = _
    rw [Nat.zero_mul, Nat.add_zero]
  · refine sz_countM (n := 3) h1.2.1 (by decide) h1.1 (br_t (by decide) ?_)
    refine sz_clear (fun b8 => ?_)
    refine sz_countC rfl (br_t rfl ?_)
    refine sz_columns hh (br_t rfl ?_)
    exact sz_countM (n := 1) rfl (by decide) h1.1 (br_t (by decide) H)
theorem sz_674 {post : Int32 → St0 → Prop} {V : Nat → Nat → Nat} {k l : Int32} {h : Nat} {p q r : Bool} (H : post 1 ()) (K : sz_K V k l h p q r) (hI : sz_I V k l h (sz_mk true false true) (pr, cn, ls, qe, a1, a2, a3, a4, a5, a6, a7, a8, a9, a10, a11)) {z0 : Int32}
    (hz : z0 = nI (p.toNat * V 5 1)) : wL_lawOf_674 post mc ms (nI (V 31 1)) (nI h) (nI (sz_w p q r)) z0 kc ks pr cn ls qe a1 a2 a3 a4 a5 a6 a7 a8 a9 a10 a11 := by
  subst hz
  unfold wL_lawOf_674
  refine sz_bif (sz_k4 p q r) (fun e => ?_) (fun e => ?_)
  · refine sz_687 H K hI ?_
    rw [e, show (0 : Int32) = nI 0 from rfl, nI_add]
    show nI (p.toNat * V 5 1 + 0) = nI (p.toNat * V 5 1 + 0 * V 31 1)
    rw [Nat.zero_mul]
  · refine sz_687 H K hI ?_
    rw [e, nI_add]
    show nI (p.toNat * V 5 1 + V 31 1) = nI (p.toNat * V 5 1 + 1 * V 31 1)
    rw [Nat.one_mul]
/-! ===== least and greatest as the law finds them ===== -/
def sz_l0 (p : Bool) (A : Nat) : Nat := bif p then A else 300
def sz_lo (p : Bool) (b s : Nat) : Nat := bif p then min b s else s
def sz_h0 (p : Bool) (A : Nat) : Nat := bif p then A + 1 else 0
def sz_hi (p : Bool) (b t : Nat) : Nat := bif p then max t (b + 1) else t
theorem sz_minP {p q r : Bool} {A B C m : Nat} (hn : ¬ sz_n p q r = 0) (hA : A < 256) (hB : B < 256) (hC : C < 256) (hm : m = sz_lo r C (sz_lo q B (sz_l0 p A))) :
    m < 256 ∧ sz_mem p q r A B C m ∧ (p = true → m ≤ A) ∧ (q = true → m ≤ B) ∧ (r = true → m ≤ C) := by
  unfold sz_mem
  cases p <;> cases q <;> cases r <;> simp only [sz_lo, sz_l0, cond_true, cond_false] at hm
  · exact absurd rfl hn
  all_goals (simp only [reduceCtorEq, eq_self, false_and, true_and, false_or, or_false, true_implies, false_implies, and_true]; omega)
theorem sz_maxP {p q r : Bool} {A B C t : Nat} (hn : ¬ sz_n p q r = 0) (hA : A < 256) (hB : B < 256) (hC : C < 256) (hm : t = sz_hi r C (sz_hi q B (sz_h0 p A))) :
    ∃ m, t = m + 1 ∧ m < 256 ∧ sz_mem p q r A B C m ∧ (p = true → A ≤ m) ∧ (q = true → B ≤ m) ∧ (r = true → C ≤ m) := by
  refine ⟨t - 1, ?_⟩
  unfold sz_mem
  cases p <;> cases q <;> cases r <;> simp only [sz_hi, sz_h0, cond_true, cond_false] at hm
  · exact absurd rfl hn
  all_goals (simp only [reduceCtorEq, eq_self, false_and, true_and, false_or, or_false, true_implies, false_implies, and_true]; omega)
theorem sz_maxE {p q r : Bool} (hn : sz_n p q r = 0) (A B C : Nat) : sz_hi r C (sz_hi q B (sz_h0 p A)) = 0 := by
  revert hn
  cases p <;> cases q <;> cases r <;> first | (intro _; rfl) | (intro h; exact absurd h (by decide))
theorem sz_mE : nI 0 + (-1) = -1 := by decide
theorem sz_mS : nI 0 - 1 = -1 := by decide
theorem sz_hle {B t : Nat} (hB : B < 1000) (ht : t < 1000) : nI B ≤ nI t + (-1) ↔ B + 1 ≤ t := by
  cases t with
  | zero =>
    rw [sz_mE, Int32.le_iff_toInt_le, nI_toInt (by omega), sz_m1i]
    omega
  | succ t =>
    rw [pk_m1, nI_leI (by omega) (by omega)]
    omega
theorem sz_604 {post : Int32 → St0 → Prop} {V : Nat → Nat → Nat} {k l : Int32} {h : Nat} {p q r : Bool} (H : post 1 ()) (K : sz_K V k l h p q r) (hI : sz_I V k l h (sz_mk true true true) (pr, cn, ls, qe, a1, a2, a3, a4, a5, a6, a7, a8, a9, a10, a11)) {z0 : Int32}
    (hz : z0 = nI (sz_hi r (V 31 0) (sz_hi q (V 60 0) (sz_h0 p (V 5 0)))) + (-1)) :
    wL_lawOf_604 post mc ms (nI (V 5 1)) (nI (V 31 1)) (nI h) (nI (sz_w p q r)) (nI (sz_n p q r)) z0 kc ks pr cn ls qe a1 a2 a3 a4 a5 a6 a7 a8 a9 a10 a11 := by
  have K' := K
  obtain ⟨hh, hV, hV2, hp, hq, hr⟩ := K'
  have rest : ∀ u' : St2, sz_I V k l h (sz_mk true true true) u' → (match u' with | (pr, cn, ls, qe, a1, a2, a3, a4, a5, a6, a7, a8, a9, a10, a11) => wpX_drop (fun r_738 u => match u with | (pr, cn, ls, qe, a1, a2, a3, a4, a5, a6, a7, a8, a9, a10, a11) => (((r_738 = 1 → (wpX_drop (fun r_777 u => match u with | (pr, cn, ls, qe, a1, a2, a3, a4, a5, a6, a7, a8, a9, a10, a11) => (((r_777 = 0 → (wpX_sum (fun r_816 u => match u with | (pr, cn, ls, qe, a1, a2, a3, a4, a5, a6, a7, a8, a9, a10, a11) => (((r_816 = (nI (sz_w p q r) &&& 5) → ((((nI (sz_w p q r) &&& 1) = 0 → (wL_lawOf_674 post mc ms (nI (V 31 1)) (nI h) (nI (sz_w p q r)) 0 kc ks pr cn ls qe a1 a2 a3 a4 a5 a6 a7 a8 a9 a10 a11)) ∧ (¬ (nI (sz_w p q r) &&& 1) = 0 → (wL_lawOf_674 post mc ms (nI (V 31 1)) (nI h) (nI (sz_w p q r)) (nI (V 5 1)) kc ks pr cn ls qe a1 a2 a3 a4 a5 a6 a7 a8 a9 a10 a11))))) ∧ (¬ r_816 = (nI (sz_w p q r) &&& 5) → (post 0 ()))))) (pr, cn, ls, qe, a1, a2, a3, a4, a5, a6, a7, a8, a9, a10, a11) 2 2)) ∧ (¬ r_777 = 0 → (post 0 ()))))) (pr, cn, ls, qe, a1, a2, a3, a4, a5, a6, a7, a8, a9, a10, a11) 60)) ∧ (¬ r_738 = 1 → (post 0 ()))))) (pr, cn, ls, qe, a1, a2, a3, a4, a5, a6, a7, a8, a9, a10, a11) 60) := by
    intro u' h1
    obtain ⟨pr, cn, ls, qe, a1, a2, a3, a4, a5, a6, a7, a8, a9, a10, a11⟩ := u'
    obtain ⟨hpr, hcn, hT, hC, hM⟩ := h1
    subst hpr
    refine sz_drop (w := 1) (pr' := sz_mk true false true) (by decide +kernel) (by decide +kernel) (fun b8 h8 => br_t rfl ?_)
    refine sz_drop (w := 0) (pr' := sz_mk true false true) (by decide +kernel) (by decide +kernel) (fun c8 h8 => br_t rfl ?_)
    refine sz_sum (c := 2) (d := 2) (V := V) (k := k) (l := l) (h := h) (x := true) (y := false) (z := true) hh hV (by decide) (by decide) ⟨rfl, hcn, hT, hC, fun j hj hfj => absurd (h8 j (by omega)) hfj⟩ (fun u' h1 => ?_)
    obtain ⟨pr, cn, ls, qe, a1, a2, a3, a4, a5, a6, a7, a8, a9, a10, a11⟩ := u'
    refine br_t ?_ (sz_bif (sz_k1 p q r) (fun e => ?_) (fun e => ?_))
    · rw [hV2, hV2, hV2, hp, hr]
      exact sz_k5 p q r
    · refine sz_674 H K h1 ?_
      rw [e]
      show (0 : Int32) = nI (0 * V 5 1)
      rw [Nat.zero_mul]
      rfl
    · refine sz_674 H K h1 ?_
      rw [e]
      show _ = nI (1 * V 5 1)
      rw [Nat.one_mul]
  unfold wL_lawOf_604
  by_cases hn : sz_n p q r = 0
  · rw [hn, sz_mS]
    refine sz_rankedM hI.2.1 (br_t ?_ ?_)
    · rw [hz, sz_maxE hn, sz_mE]
    · exact rest (pr, cn, ls, qe, a1, a2, a3, a4, a5, a6, a7, a8, a9, a10, a11) hI
  · obtain ⟨m, ht, hm, h1, h2, h3, h4⟩ := sz_maxP hn (hV 5 0) (hV 60 0) (hV 31 0) rfl
    have en : nI (sz_n p q r) - 1 = nI (sz_n p q r - 1) := by
      have t := nI_pred (sz_n p q r - 1)
      rw [show sz_n p q r - 1 + 1 = sz_n p q r by omega] at t
      exact t
    rw [en]
    refine sz_ranked hh hV hI hp hq hr hm (by omega) (J := fun i s => s + 1 = sz_cn p q r (V 5 0) (V 60 0) (V 31 0) m i) ?_ (fun i s hi hs => sz_Jmax h1 h2 h3 h4 i s hs) (fun u' hu => ?_)
    · show sz_n p q r - 1 + 1 = sz_cn p q r (V 5 0) (V 60 0) (V 31 0) m 8
      unfold sz_cn
      rw [sz_e8 hm (hV _ _), sz_e8 hm (hV _ _), sz_e8 hm (hV _ _), Bool.and_true, Bool.and_true, Bool.and_true]
      omega
    · have t := rest u' hu
      obtain ⟨pr, cn, ls, qe, a1, a2, a3, a4, a5, a6, a7, a8, a9, a10, a11⟩ := u'
      refine br_t ?_ t
      rw [hz, ht, pk_m1]
theorem sz_581 {post : Int32 → St0 → Prop} {V : Nat → Nat → Nat} {k l : Int32} {h : Nat} {p q r : Bool} (H : post 1 ()) (K : sz_K V k l h p q r) (hI : sz_I V k l h (sz_mk true true true) (pr, cn, ls, qe, a1, a2, a3, a4, a5, a6, a7, a8, a9, a10, a11)) {z0 : Int32}
    (hz : z0 = nI (sz_hi q (V 60 0) (sz_h0 p (V 5 0))) + (-1)) (ht : sz_hi q (V 60 0) (sz_h0 p (V 5 0)) < 1000) :
    wL_lawOf_581 post mc ms (nI (V 5 1)) (nI (V 31 0)) (nI (V 31 1)) (nI h) (nI (sz_w p q r)) (nI (sz_n p q r)) z0 kc ks pr cn ls qe a1 a2 a3 a4 a5 a6 a7 a8 a9 a10 a11 := by
  have hV := K.2.1 31 0
  subst hz
  unfold wL_lawOf_581
  refine sz_bif (sz_k4 p q r) (fun e => sz_604 H K hI ?_) (fun e => ek_if (sz_hle (by omega) ht) (fun g => sz_604 H K hI ?_) (fun g => sz_604 H K hI ?_))
  · rw [e]; rfl
  · rw [e]
    show _ = nI (max (sz_hi q (V 60 0) (sz_h0 p (V 5 0))) (V 31 0 + 1)) + (-1)
    rw [Nat.max_eq_left g]
  · rw [e]
    show _ = nI (max (sz_hi q (V 60 0) (sz_h0 p (V 5 0))) (V 31 0 + 1)) + (-1)
    rw [Nat.max_eq_right (by omega), pk_m1]
theorem sz_558 {post : Int32 → St0 → Prop} {V : Nat → Nat → Nat} {k l : Int32} {h : Nat} {p q r : Bool} (H : post 1 ()) (K : sz_K V k l h p q r) (hI : sz_I V k l h (sz_mk true true true) (pr, cn, ls, qe, a1, a2, a3, a4, a5, a6, a7, a8, a9, a10, a11)) {z0 : Int32}
    (hz : z0 = nI (sz_h0 p (V 5 0)) + (-1)) (ht : sz_h0 p (V 5 0) < 1000) :
    wL_lawOf_558 post mc ms (nI (V 5 1)) (nI (V 60 0)) (nI (V 31 0)) (nI (V 31 1)) (nI h) (nI (sz_w p q r)) (nI (sz_n p q r)) z0 kc ks pr cn ls qe a1 a2 a3 a4 a5 a6 a7 a8 a9 a10 a11 := by
  have hV := K.2.1 60 0
  subst hz
  unfold wL_lawOf_558
  have e0 : q = false → sz_hi q (V 60 0) (sz_h0 p (V 5 0)) = sz_h0 p (V 5 0) := by intro e; rw [e]; rfl
  have e1 : q = true → V 60 0 + 1 ≤ sz_h0 p (V 5 0) → sz_hi q (V 60 0) (sz_h0 p (V 5 0)) = sz_h0 p (V 5 0) := by
    intro e g
    rw [e]
    exact Nat.max_eq_left g
  have e2 : q = true → ¬ V 60 0 + 1 ≤ sz_h0 p (V 5 0) → sz_hi q (V 60 0) (sz_h0 p (V 5 0)) = V 60 0 + 1 := by
    intro e g
    rw [e]
    exact Nat.max_eq_right (by omega)
  refine sz_bif (sz_k2 p q r) (fun e => sz_581 H K hI ?_ ?_) (fun e => ek_if (sz_hle (by omega) ht) (fun g => sz_581 H K hI ?_ ?_) (fun g => sz_581 H K hI ?_ ?_))
  · rw [e0 e]
  · rw [e0 e]; exact ht
  · rw [e1 e g]
  · rw [e1 e g]; exact ht
  · rw [e2 e g, pk_m1]
  · rw [e2 e g]; omega
theorem sz_540 {post : Int32 → St0 → Prop} {V : Nat → Nat → Nat} {k l : Int32} {h : Nat} {p q r : Bool} (H : post 1 ()) (K : sz_K V k l h p q r) (hI : sz_I V k l h (sz_mk true true true) (pr, cn, ls, qe, a1, a2, a3, a4, a5, a6, a7, a8, a9, a10, a11)) {z0 z1 : Int32} (hz : z1 = z0) :
    wL_lawOf_540 post mc ms (nI (V 5 0)) (nI (V 5 1)) (nI (V 60 0)) (nI (V 31 0)) (nI (V 31 1)) (nI h) (nI (sz_w p q r)) (nI (sz_n p q r)) z0 z1 kc ks pr cn ls qe a1 a2 a3 a4 a5 a6 a7 a8 a9 a10 a11 := by
  have hV := K.2.1 5 0
  unfold wL_lawOf_540
  refine br_t hz (sz_bif (sz_k1 p q r) (fun e => sz_558 H K hI ?_ ?_) (fun e => sz_558 H K hI ?_ ?_))
  · rw [e]; exact sz_mE.symm
  · rw [e]; show 0 < 1000; omega
  · rw [e]; exact (pk_m1 _).symm
  · rw [e]; show V 5 0 + 1 < 1000; omega
theorem sz_519 {post : Int32 → St0 → Prop} {V : Nat → Nat → Nat} {k l : Int32} {h : Nat} {p q r : Bool} (H : post 1 ()) (K : sz_K V k l h p q r) (hI : sz_I V k l h (sz_mk true true true) (pr, cn, ls, qe, a1, a2, a3, a4, a5, a6, a7, a8, a9, a10, a11)) {z0 : Int32}
    (hz : z0 = nI (sz_lo r (V 31 0) (sz_lo q (V 60 0) (sz_l0 p (V 5 0))))) :
    wL_lawOf_519 post mc ms (nI (V 5 0)) (nI (V 5 1)) (nI (V 60 0)) (nI (V 31 0)) (nI (V 31 1)) (nI h) (nI (sz_w p q r)) (nI (sz_n p q r)) z0 kc ks pr cn ls qe a1 a2 a3 a4 a5 a6 a7 a8 a9 a10 a11 := by
  have K' := K
  obtain ⟨hh, hV, hV2, hp, hq, hr⟩ := K'
  unfold wL_lawOf_519
  by_cases hn : sz_n p q r = 0
  · refine sz_rankedE hh hV hI hp hq hr hn (fun u' hu => ?_)
    obtain ⟨pr, cn, ls, qe, a1, a2, a3, a4, a5, a6, a7, a8, a9, a10, a11⟩ := u'
    exact br_t ((sz_k0 p q r).mpr hn) (sz_540 H K hu rfl)
  · obtain ⟨hm, h1, h2, h3, h4⟩ := sz_minP hn (hV 5 0) (hV 60 0) (hV 31 0) rfl
    refine sz_ranked (s := 0) hh hV hI hp hq hr hm (by omega) (J := fun _ s => s = 0) rfl (fun i s hi hs => sz_Jmin h1 h2 h3 h4 i s hs) (fun u' hu => ?_)
    obtain ⟨pr, cn, ls, qe, a1, a2, a3, a4, a5, a6, a7, a8, a9, a10, a11⟩ := u'
    exact br_f (fun e => hn ((sz_k0 p q r).mp e)) (sz_540 H K hu hz.symm)
theorem sz_496 {post : Int32 → St0 → Prop} {V : Nat → Nat → Nat} {k l : Int32} {h : Nat} {p q r : Bool} (H : post 1 ()) (K : sz_K V k l h p q r) (hI : sz_I V k l h (sz_mk true true true) (pr, cn, ls, qe, a1, a2, a3, a4, a5, a6, a7, a8, a9, a10, a11)) {z0 : Int32}
    (hz : z0 = nI (sz_lo q (V 60 0) (sz_l0 p (V 5 0)))) (ht : sz_lo q (V 60 0) (sz_l0 p (V 5 0)) < 1000) :
    wL_lawOf_496 post mc ms (nI (V 5 0)) (nI (V 5 1)) (nI (V 60 0)) (nI (V 31 0)) (nI (V 31 1)) (nI h) (nI (sz_w p q r)) (nI (sz_n p q r)) z0 kc ks pr cn ls qe a1 a2 a3 a4 a5 a6 a7 a8 a9 a10 a11 := by
  have hV := K.2.1 31 0
  subst hz
  unfold wL_lawOf_496
  refine sz_bif (sz_k4 p q r) (fun e => sz_519 H K hI ?_) (fun e => ek_if (nI_leI (by omega) (by omega)) (fun g => sz_519 H K hI ?_) (fun g => sz_519 H K hI ?_))
  · rw [e]; rfl
  · rw [e]
    exact congrArg nI (Nat.min_eq_right g).symm
  · rw [e]
    exact congrArg nI (Nat.min_eq_left (by omega)).symm
theorem sz_473 {post : Int32 → St0 → Prop} {V : Nat → Nat → Nat} {k l : Int32} {h : Nat} {p q r : Bool} (H : post 1 ()) (K : sz_K V k l h p q r) (hI : sz_I V k l h (sz_mk true true true) (pr, cn, ls, qe, a1, a2, a3, a4, a5, a6, a7, a8, a9, a10, a11)) {z0 : Int32}
    (hz : z0 = nI (sz_l0 p (V 5 0))) (ht : sz_l0 p (V 5 0) < 1000) :
    wL_lawOf_473 post mc ms (nI (V 5 0)) (nI (V 5 1)) (nI (V 60 0)) (nI (V 31 0)) (nI (V 31 1)) (nI h) (nI (sz_w p q r)) (nI (sz_n p q r)) z0 kc ks pr cn ls qe a1 a2 a3 a4 a5 a6 a7 a8 a9 a10 a11 := by
  have hV := K.2.1 60 0
  subst hz
  unfold wL_lawOf_473
  have e0 : q = false → sz_lo q (V 60 0) (sz_l0 p (V 5 0)) = sz_l0 p (V 5 0) := by intro e; rw [e]; rfl
  have e1 : q = true → sz_l0 p (V 5 0) ≤ V 60 0 → sz_lo q (V 60 0) (sz_l0 p (V 5 0)) = sz_l0 p (V 5 0) := by
    intro e g
    rw [e]
    exact Nat.min_eq_right g
  have e2 : q = true → ¬ sz_l0 p (V 5 0) ≤ V 60 0 → sz_lo q (V 60 0) (sz_l0 p (V 5 0)) = V 60 0 := by
    intro e g
    rw [e]
    exact Nat.min_eq_left (by omega)
  refine sz_bif (sz_k2 p q r) (fun e => sz_496 H K hI ?_ ?_) (fun e => ek_if (nI_leI (by omega) (by omega)) (fun g => sz_496 H K hI ?_ ?_) (fun g => sz_496 H K hI ?_ ?_))
  · rw [e0 e]
  · rw [e0 e]; exact ht
  · rw [e1 e g]
  · rw [e1 e g]; exact ht
  · rw [e2 e g]
  · rw [e2 e g]; omega
theorem sz_430 {post : Int32 → St0 → Prop} {V : Nat → Nat → Nat} {k l : Int32} {h : Nat} {p q r : Bool} (H : post 1 ()) (K : sz_K V k l h p q r) (hI : sz_I V k l h (sz_mk true true true) (pr, cn, ls, qe, a1, a2, a3, a4, a5, a6, a7, a8, a9, a10, a11)) {z0 : Int32} (hz : sz_first p q r = z0) :
    wL_lawOf_430 post mc ms (nI (V 5 0)) (nI (V 5 1)) (nI (V 60 0)) (nI (V 31 0)) (nI (V 31 1)) (nI h) (nI (sz_w p q r)) (nI (sz_n p q r)) z0 kc ks pr cn ls qe a1 a2 a3 a4 a5 a6 a7 a8 a9 a10 a11 := by
  have K' := K
  obtain ⟨hh, hV, hV2, hp, hq, hr⟩ := K'
  have hA := hV 5 0
  unfold wL_lawOf_430
  refine sz_row0 (c := 2) hh hV (by decide) hI (fun u' h1 => ?_)
  obtain ⟨pr, cn, ls, qe, a1, a2, a3, a4, a5, a6, a7, a8, a9, a10, a11⟩ := u'
  rw [hp, hq, hr]
  refine br_t hz (sz_rowN (c := 2) hh hV (by decide) h1 (by rw [hp, hq, hr]; rfl) (fun u' h2 => ?_))
  obtain ⟨pr, cn, ls, qe, a1, a2, a3, a4, a5, a6, a7, a8, a9, a10, a11⟩ := u'
  refine br_t rfl (sz_bif (sz_k1 p q r) (fun e => sz_473 H K h2 ?_ ?_) (fun e => sz_473 H K h2 ?_ ?_))
  · rw [e]; rfl
  · rw [e]; show 300 < 1000; omega
  · rw [e]; rfl
  · rw [e]; show V 5 0 < 1000; omega
end
end
section
section
variable {pr ls qe : Int64} {cn : Int32} {a1 a7 a9 a10 a11 : Nat → Int64} {a2 a3 a4 a5 a6 a8 : Nat → Int32}
variable {mc ms kc ks : Nat}
theorem sz_301 {post : Int32 → St0 → Prop} {V : Nat → Nat → Nat} {k l : Int32} {h : Nat} {p q r : Bool} (H : post 1 ()) (K : sz_K V k l h p q r) (hI : sz_I V k l h (sz_mk true true true) (pr, cn, ls, qe, a1, a2, a3, a4, a5, a6, a7, a8, a9, a10, a11)) {z0 : Int32} (hz : z0 = nI (sz_w p q r)) :
    wL_lawOf_301 post mc ms (nI (V 5 0)) (nI (V 5 1)) (nI (V 60 0)) (nI (V 31 0)) (nI (V 31 1)) (nI h) (nI (sz_w (sz_Q V k l h 0 5) (sz_Q V k l h 0 60) (sz_Q V k l h 0 31))) (nI (sz_w (sz_Q V k l h 1 5) (sz_Q V k l h 1 60) (sz_Q V k l h 1 31))) z0 kc ks pr cn ls qe a1 a2 a3 a4 a5 a6 a7 a8 a9 a10 a11 := by
  subst hz
  have K' := K
  obtain ⟨hh, hV, hV2, hp, hq, hr⟩ := K'
  unfold wL_lawOf_301
  refine sz_sum (c := 0) (d := 2) hh hV (by decide) (by decide) hI (fun u' h1 => ?_)
  obtain ⟨pr, cn, ls, qe, a1, a2, a3, a4, a5, a6, a7, a8, a9, a10, a11⟩ := u'
  refine br_t (by rw [hV2, hV2, hV2]; exact sz_kw _ _ _) ?_
  refine sz_sum (c := 1) (d := 2) hh hV (by decide) (by decide) h1 (fun u' h2 => ?_)
  obtain ⟨pr, cn, ls, qe, a1, a2, a3, a4, a5, a6, a7, a8, a9, a10, a11⟩ := u'
  refine br_t (by rw [hV2, hV2, hV2]; exact sz_kw _ _ _) ?_
  refine sz_sum (c := 2) (d := 2) hh hV (by decide) (by decide) h2 (fun u' h3 => ?_)
  obtain ⟨pr, cn, ls, qe, a1, a2, a3, a4, a5, a6, a7, a8, a9, a10, a11⟩ := u'
  refine br_t (by rw [hV2, hV2, hV2, hp, hq, hr]; exact sz_kw _ _ _) (nm_r (sz_kn p q r) ?_)
  refine sz_count (c := 2) hh hV (by decide) h3 (fun u' h4 hF => ?_)
  obtain ⟨pr, cn, ls, qe, a1, a2, a3, a4, a5, a6, a7, a8, a9, a10, a11⟩ := u'
  refine br_t (by rw [hp, hq, hr]; rfl) ?_
  refine sz_diff hV2 h4 hF (fun u' h5 => ?_)
  obtain ⟨pr, cn, ls, qe, a1, a2, a3, a4, a5, a6, a7, a8, a9, a10, a11⟩ := u'
  refine br_t (by rw [hp, hq, hr]; rfl) ?_
  refine sz_count3 h5.2.1 (br_t rfl ?_)
  refine sz_bif (sz_k1 p q r) (fun e1 => sz_bif (sz_k4 p q r) (fun e4 => br_c (fun e0 => sz_430 H K h5 ?_) (fun e0 => sz_430 H K h5 ?_)) (fun e4 => sz_430 H K h5 ?_)) (fun e1 => sz_430 H K h5 ?_)
  · have e := (sz_k0 p q r).mp e0
    rw [e1, e4] at e ⊢
    cases q
    · rfl
    · exact absurd e (by decide)
  · have e : ¬ sz_n p q r = 0 := fun g => e0 ((sz_k0 p q r).mpr g)
    rw [e1, e4] at e ⊢
    cases q
    · exact absurd rfl e
    · rfl
  · rw [e1, e4]
    cases q <;> rfl
  · rw [e1]
    cases q <;> cases r <;> rfl
theorem sz_250 {post : Int32 → St0 → Prop} {V : Nat → Nat → Nat} {k l : Int32} {h : Nat} (H : post 1 ()) (hh : h < 4) (hV : ∀ i c, V i c < 256) (hV2 : ∀ i, V i 2 = sz_V2 i) (hI : sz_I V k l h (sz_mk true true true) (pr, cn, ls, qe, a1, a2, a3, a4, a5, a6, a7, a8, a9, a10, a11)) {z0 z1 : Int32}
    (hz : z1 + z0 = nI (sz_w (sz_Q V k l h 1 5) (sz_Q V k l h 1 60) (sz_Q V k l h 1 31))) :
    wL_lawOf_250 post mc ms (nI (V 5 0)) (nI (V 5 1)) (nI (V 60 0)) (nI (V 31 0)) (nI (V 31 1)) (nI h) (nI (sz_w (sz_Q V k l h 0 5) (sz_Q V k l h 0 60) (sz_Q V k l h 0 31))) z0 z1 kc ks pr cn ls qe a1 a2 a3 a4 a5 a6 a7 a8 a9 a10 a11 := by
  have K : sz_K V k l h (sz_Q V k l h 2 5) (sz_Q V k l h 2 60) (sz_Q V k l h 2 31) := ⟨hh, hV, hV2, rfl, rfl, rfl⟩
  unfold wL_lawOf_250
  refine nm_r hz ?_
  have hq : h = 0 ∨ h = 1 ∨ h = 2 ∨ h = 3 := by omega
  rcases hq with rfl | rfl | rfl | rfl
  · exact br_t rfl (sz_301 H K hI (sz_wand _ _ _ _ _ _))
  · exact br_f (by decide) (br_t rfl (sz_301 H K hI (sz_wor _ _ _ _ _ _)))
  · exact br_f (by decide) (br_f (by decide) (br_t rfl (sz_301 H K hI (sz_wxor _ _ _ _ _ _))))
  · exact br_f (by decide) (br_f (by decide) (br_f (by decide) (sz_301 H K hI (sz_wandn _ _ _ _ _ _))))
theorem sz_c0 {V : Nat → Nat → Nat} (hV : ∀ i c, V i c < 256) (k l : Int32) (h i : Nat) : k ≤ nI (V i 0) ↔ sz_Q V k l h 0 i = false := by
  have := hV i 0
  show _ ↔ decide ((V i 0 : Int) < k.toInt) = false
  rw [Int32.le_iff_toInt_le, nI_toInt (by omega), decide_eq_false_iff_not]
  omega
theorem sz_c1 {V : Nat → Nat → Nat} (hV : ∀ i c, V i c < 256) (k l : Int32) (h i : Nat) : nI (V i 0) + nI (V i 1) ≤ l ↔ sz_Q V k l h 1 i = false := by
  have := hV i 0
  have := hV i 1
  show _ ↔ decide (l.toInt < ((V i 0 + V i 1 : Nat) : Int)) = false
  rw [nI_add, Int32.le_iff_toInt_le, nI_toInt (by omega), decide_eq_false_iff_not]
  omega
theorem sz_wadd : ∀ a b c : Bool, (nI a.toNat + nI (2 * b.toNat)) + nI (4 * c.toNat) = nI (sz_w a b c) := by decide +kernel
theorem sz_201 {post : Int32 → St0 → Prop} {V : Nat → Nat → Nat} {k l : Int32} {h : Nat} (H : post 1 ()) (hh : h < 4) (hV : ∀ i c, V i c < 256) (hV2 : ∀ i, V i 2 = sz_V2 i) (hI : sz_I V k l h (sz_mk true true true) (pr, cn, ls, qe, a1, a2, a3, a4, a5, a6, a7, a8, a9, a10, a11)) {z0 z1 : Int32}
    (hz : z1 + z0 = nI (sz_w (sz_Q V k l h 0 5) (sz_Q V k l h 0 60) (sz_Q V k l h 0 31))) :
    wL_lawOf_201 post mc ms l (nI (V 5 0)) (nI (V 5 1)) (nI (V 60 0)) (nI (V 60 1)) (nI (V 31 0)) (nI (V 31 1)) (nI h) z0 z1 kc ks pr cn ls qe a1 a2 a3 a4 a5 a6 a7 a8 a9 a10 a11 := by
  have g234 : ∀ z0 z1 : Int32, z1 + z0 = nI (sz_Q V k l h 1 5).toNat + nI (2 * (sz_Q V k l h 1 60).toNat) →
      wL_lawOf_234 post mc ms l (nI (V 5 0)) (nI (V 5 1)) (nI (V 60 0)) (nI (V 31 0)) (nI (V 31 1)) (nI h) (nI (sz_w (sz_Q V k l h 0 5) (sz_Q V k l h 0 60) (sz_Q V k l h 0 31))) z0 z1 kc ks pr cn ls qe a1 a2 a3 a4 a5 a6 a7 a8 a9 a10 a11 := by
    intro z0 z1 e
    unfold wL_lawOf_234
    refine sz_bif (sz_c1 hV k l h 31) (fun g => sz_250 H hh hV hV2 hI ?_) (fun g => sz_250 H hh hV hV2 hI ?_)
    · rw [e, ← sz_wadd, g]; rfl
    · rw [e, ← sz_wadd, g]; rfl
  have g219 : ∀ z0 : Int32, z0 = nI (sz_Q V k l h 1 5).toNat →
      wL_lawOf_219 post mc ms l (nI (V 5 0)) (nI (V 5 1)) (nI (V 60 0)) (nI (V 60 1)) (nI (V 31 0)) (nI (V 31 1)) (nI h) (nI (sz_w (sz_Q V k l h 0 5) (sz_Q V k l h 0 60) (sz_Q V k l h 0 31))) z0 kc ks pr cn ls qe a1 a2 a3 a4 a5 a6 a7 a8 a9 a10 a11 := by
    intro z0 e
    unfold wL_lawOf_219
    refine sz_bif (sz_c1 hV k l h 60) (fun g => g234 _ _ ?_) (fun g => g234 _ _ ?_)
    · rw [e, g]; rfl
    · rw [e, g]; rfl
  unfold wL_lawOf_201
  refine nm_r hz (sz_bif (sz_c1 hV k l h 5) (fun g => g219 _ ?_) (fun g => g219 _ ?_))
  · rw [g]; rfl
  · rw [g]; rfl
theorem sz_178 {post : Int32 → St0 → Prop} {V : Nat → Nat → Nat} {k l : Int32} {h : Nat} (H : post 1 ()) (hh : h < 4) (hV : ∀ i c, V i c < 256) (hV2 : ∀ i, V i 2 = sz_V2 i) (hI : sz_I V k l h (sz_mk true true true) (pr, cn, ls, qe, a1, a2, a3, a4, a5, a6, a7, a8, a9, a10, a11)) {z0 : Int32}
    (hz : z0 = nI (sz_Q V k l h 0 5).toNat) :
    wL_lawOf_178 post mc ms k l (nI (V 5 0)) (nI (V 5 1)) (nI (V 60 0)) (nI (V 60 1)) (nI (V 31 0)) (nI (V 31 1)) (nI h) z0 kc ks pr cn ls qe a1 a2 a3 a4 a5 a6 a7 a8 a9 a10 a11 := by
  have g189 : ∀ z0 z1 : Int32, z1 + z0 = nI (sz_Q V k l h 0 5).toNat + nI (2 * (sz_Q V k l h 0 60).toNat) →
      wL_lawOf_189 post mc ms k l (nI (V 5 0)) (nI (V 5 1)) (nI (V 60 0)) (nI (V 60 1)) (nI (V 31 0)) (nI (V 31 1)) (nI h) z0 z1 kc ks pr cn ls qe a1 a2 a3 a4 a5 a6 a7 a8 a9 a10 a11 := by
    intro z0 z1 e
    unfold wL_lawOf_189
    refine sz_bif (sz_c0 hV k l h 31) (fun g => sz_201 H hh hV hV2 hI ?_) (fun g => sz_201 H hh hV hV2 hI ?_)
    · rw [e, ← sz_wadd, g]; rfl
    · rw [e, ← sz_wadd, g]; rfl
  unfold wL_lawOf_178
  refine sz_bif (sz_c0 hV k l h 60) (fun g => g189 _ _ ?_) (fun g => g189 _ _ ?_)
  · rw [hz, g]; rfl
  · rw [hz, g]; rfl
end
/-! ===== the table that the law fills ===== -/
def sz_Vl (a b c : Int32) : Nat → Nat → Nat := sz_u3 (sz_u3 (sz_u3 (fun _ _ => 0) 5 (sz_v a) (sz_v (a >>> ((8 : Int32) &&& 31))) (sz_v 1)) 60 (sz_v b) (sz_v (b >>> ((8 : Int32) &&& 31))) (sz_v 2)) 31 (sz_v c) (sz_v (c >>> ((8 : Int32) &&& 31))) (sz_v 4)
theorem sz_u3_lt {V : Nat → Nat → Nat} (hV : ∀ i c, V i c < 256) (r : Nat) (v0 v1 v2 : Int32) (i c : Nat) : sz_u3 V r (sz_v v0) (sz_v v1) (sz_v v2) i c < 256 := by
  unfold sz_u3
  split
  · split
    · exact sz_vlt _
    · split
      · exact sz_vlt _
      · exact sz_vlt _
  · exact hV i c
theorem sz_Vl_lt (a b c : Int32) (i j : Nat) : sz_Vl a b c i j < 256 :=
  sz_u3_lt (fun i j => sz_u3_lt (fun i j => sz_u3_lt (fun _ _ => by decide) _ _ _ _ i j) _ _ _ _ i j) _ _ _ _ i j
theorem sz_Vl_2 (a b c : Int32) (i : Nat) : sz_Vl a b c i 2 = sz_V2 i := by
  have e1 : sz_v 1 = 1 := by decide
  have e2 : sz_v 2 = 2 := by decide
  have e4 : sz_v 4 = 4 := by decide
  unfold sz_Vl sz_u3 sz_V2
  rw [e1, e2, e4]
  by_cases h5 : i = 5
  · subst h5; rfl
  · by_cases h60 : i = 60
    · subst h60; rfl
    · by_cases h31 : i = 31
      · subst h31; rfl
      · simp [h5, h60, h31]
theorem sz_lawOf {post : Int32 → St0 → Prop} (H : post 1 ()) (p0 p1 p2 p3 p4 p5 : Int32) : wpL_lawOf post 12 288 () p0 p1 p2 p3 p4 p5 := by
  unfold wpL_lawOf
  refine ⟨by decide, by decide, 11, 273, by decide, by decide, ?_⟩
  refine ⟨by decide, by decide, by decide, by decide, by decide, by decide, by decide, by decide, by decide, by decide, by decide, by decide, by decide, by decide, by decide, by decide, by decide, by decide, by decide, by decide, by decide, by decide, ?_⟩
  refine nm_r (sz_vand p0) (nm_r (sz_vand _) (nm_r (sz_vand p1) (nm_r (sz_vand _) (nm_r (sz_vand p2) (nm_r (sz_vand _) ?_)))))
  refine sz_put (r := 5) (V := fun _ _ => 0) p0 _ 1 (by decide) (fun c hc b hb i hi => by rw [sz_0]; exact (Nat.zero_testBit b).symm) (fun b1 b8 h1 => br_t rfl ?_)
  refine sz_put (r := 60) p1 _ 2 (by decide) h1 (fun b1 b8 h1 => br_t rfl ?_)
  refine sz_put (r := 31) p2 _ 4 (by decide) h1 (fun b1 b8 h1 => br_t rfl ?_)
  obtain ⟨h, hh, he⟩ := pk_andE p5 (m := 3) 2 (by decide)
  refine nm_r he ?_
  refine sz_compare p3 (br_t rfl ?_)
  refine sz_sums p4 (br_t rfl ?_)
  refine sz_join hh (br_t rfl ?_)
  refine sz_join3 (br_t rfl ?_)
  have hI : ∀ (ls qe : Int64) (a2 a3 a4 a5 a6 : Nat → Int32) (a7 : Nat → Int64) (a8 : Nat → Int32) (a9 a10 a11 : Nat → Int64),
      sz_I (sz_Vl p0 p1 p2) p3 p4 h (sz_mk true true true) ((((0 : Int64) ||| ((1 : Int64) <<< ((nI 5).toInt64 &&& 63))) ||| ((1 : Int64) <<< ((nI 60).toInt64 &&& 63))) ||| ((1 : Int64) <<< ((nI 31).toInt64 &&& 63)), nI 3, ls, qe, b1, upd (upd (upd a2 0 0) 1 2) 2 3, upd (upd (upd a3 0 0) 1 0) 2 0, upd (upd (upd a4 0 0) 1 1) 2 1, upd (upd (upd a5 0 1) 1 5) 2 (nI h), upd (upd (upd a6 0 p3) 1 p4) 2 0, a7, upd (upd (upd a8 0 0) 1 0) 2 0, a9, a10, a11) := by
    intro ls qe a2 a3 a4 a5 a6 a7 a8 a9 a10 a11
    refine ⟨by decide +kernel, rfl, h1, ⟨⟨rfl, rfl, rfl, rfl⟩, ⟨rfl, rfl, rfl, rfl, rfl⟩, ⟨rfl, rfl, rfl, rfl⟩⟩, ?_⟩
    intro j hj hf
    have hcase : j = 0 ∨ j = 1 ∨ j = 2 := by omega
    rcases hcase with rfl | rfl | rfl
    · exact absurd rfl hf
    · exact absurd rfl hf
    · exact absurd rfl hf
  have hV := sz_Vl_lt p0 p1 p2
  refine sz_bif (sz_c0 hV p3 p4 h 5) (fun g => ?_) (fun g => ?_)
  · exact sz_178 H hh hV (sz_Vl_2 p0 p1 p2) (hI _ _ _ _ _ _ _ _ _ _ _ _) (by rw [g]; rfl)
  · exact sz_178 H hh hV (sz_Vl_2 p0 p1 p2) (hI _ _ _ _ _ _ _ _ _ _ _ _) (by rw [g]; rfl)
theorem sz_cell {post : Int32 → Prop} {L : Nat} {xs : Nat → Int32} (hL : L ≤ 6) (j : Nat) (hj : j < 6) (H : ∀ x, post x) : wpL_cellAt post L xs () (nI j) :=
  pk_le L j (fun _ => H _) (fun g => ⟨pk_in j L g, H _⟩)
theorem i_vc (xs : Nat → Int32) (L : Nat) (hL : L ≤ 6) : wpL_law (fun r => r = 1) L xs := by
  unfold wpL_law
  refine sz_cell hL 0 (by decide) (fun x0 => sz_cell hL 1 (by decide) (fun x1 => sz_cell hL 2 (by decide) (fun x2 => sz_cell hL 3 (by decide) (fun x3 => sz_cell hL 4 (by decide) (fun x4 => sz_cell hL 5 (by decide) (fun x5 => ⟨12, 288, by decide, by decide, ?_⟩))))))
  exact sz_lawOf rfl x0 x1 x2 x3 x4 x5
end
