section
/-! small numbers -/
theorem bq_z : (0 : Int32).toNatClampNeg = 0 := by decide
theorem bq_i16 {x : Int32} (h1 : -32768 ≤ x.toInt) (h2 : x.toInt ≤ 32767) : x.toInt16.toInt32 = x := by
  apply Int32.toInt_inj.mp
  rw [Int16.toInt_toInt32, Int32.toInt_toInt16]
  apply Int.bmod_eq_of_le <;> omega
theorem bq_i16n {t : Nat} (h : t < 30000) : (nI t).toInt16.toInt32 = nI t :=
  bq_i16 (by rw [nI_toInt (by omega)]; omega) (by rw [nI_toInt (by omega)]; omega)
theorem bq_add {x y : Int32} (h1 : -2000000000 ≤ x.toInt + y.toInt) (h2 : x.toInt + y.toInt ≤ 2000000000) : (x + y).toInt = x.toInt + y.toInt := by
  rw [Int32.toInt_add]
  apply Int.bmod_eq_of_le <;> omega
theorem bq_sub {x y : Int32} (h1 : -2000000000 ≤ x.toInt - y.toInt) (h2 : x.toInt - y.toInt ≤ 2000000000) : (x - y).toInt = x.toInt - y.toInt := by
  rw [Int32.toInt_sub]
  apply Int.bmod_eq_of_le <;> omega
theorem bq_ule {x y : Int32} : x ≤ y ↔ x.toInt ≤ y.toInt := Int32.le_iff_toInt_le
theorem bq_ult {x y : Int32} : x < y ↔ x.toInt < y.toInt := Int32.lt_iff_toInt_lt
/-! an Int32 by its bits (begun from kit/laws/BITS) -/
def bq_t (x : Int32) (i : Nat) : Bool := x.toBitVec.getLsbD i
theorem bq_or (x y : Int32) (i : Nat) : bq_t (x ||| y) i = (bq_t x i || bq_t y i) := by unfold bq_t; rw [Int32.toBitVec_or, BitVec.getLsbD_or]
theorem bq_and (x y : Int32) (i : Nat) : bq_t (x &&& y) i = (bq_t x i && bq_t y i) := by unfold bq_t; rw [Int32.toBitVec_and, BitVec.getLsbD_and]
theorem bq_xor (x y : Int32) (i : Nat) : bq_t (x ^^^ y) i = (bq_t x i ^^ bq_t y i) := by unfold bq_t; rw [Int32.toBitVec_xor, BitVec.getLsbD_xor]
theorem bq_m1 : ∀ i, i < 32 → bq_t (-1) i = true := by decide +kernel
theorem bq_sl : ∀ n, n < 32 → ((nI n &&& 31).toBitVec.smod 32).toNat = n := by decide +kernel
theorem bq_su : ∀ n, n < 32 → (((nI n).toUInt32 &&& Int32.toUInt32 31).toBitVec % 32).toNat = n := by decide +kernel
theorem bq_mask : ∀ m, m < 32 → ∀ i, i < 32 → bq_t ((1 : Int32) <<< (nI m &&& 31)) i = decide (i = m) := by decide +kernel
/-- one bit of a number, as putBits asks for it -/
theorem bq_test {v j : Nat} (hv : v < 2 ^ 31) (hj : j < 32) : ((nI v >>> (nI j &&& 31)) &&& 1) = 0 ↔ v.testBit j = false := by
  have hd : v / 2 ^ j < 2 ^ 31 := Nat.lt_of_le_of_lt (Nat.div_le_self _ _) hv
  rw [pk_shrN hv _ j (bq_sl j hj), pk_andN (by omega) 1 (by decide), ← nI_0, nI_eq (by omega) (by omega), Nat.testBit_eq_decide_div_mod_eq, decide_eq_false_iff_not]
  generalize v / 2 ^ j = z
  omega
/-- one bit of a word, as takeBits asks for it -/
theorem bq_get (x : Int32) {m : Nat} (hm : m < 32) : ((x.toUInt32 >>> ((nI m).toUInt32 &&& Int32.toUInt32 31)).toInt32 &&& 1) = nI (if bq_t x m = true then 1 else 0) := by
  rw [pk_and _ 1 (by decide), pk_ushr x (nI m) m (bq_su m hm)]
  have e : bq_t x m = decide (x.toBitVec.toNat / 2 ^ m % 2 = 1) := by
    show x.toBitVec.toNat.testBit m = _
    rw [Nat.testBit_eq_decide_div_mod_eq]
  rw [e]
  generalize x.toBitVec.toNat / 2 ^ m = z
  by_cases h : z % 2 = 1
  · rw [if_pos (by simp [h])]
    congr 1
  · rw [if_neg (by simp [h])]
    congr 1
    omega
/-! the bits of an array of words -/
def bq_g (a : Nat → Int32) (j : Nat) : Bool := bq_t (a (j / 32)) (j % 32)
/-- from place P on c bits hold v, its highest bit first -/
def bq_at (a : Nat → Int32) (P c v : Nat) : Prop := ∀ k, k < c → bq_g a (P + k) = v.testBit (c - 1 - k)
theorem bq_upd {a : Nat → Int32} {P : Nat} {x : Int32} {v : Bool} (h : ∀ i, i < 32 → bq_t x i = if i = P % 32 then v else bq_t (a (P / 32)) i) (j : Nat) : bq_g (upd a (P / 32) x) j = if j = P then v else bq_g a j := by
  unfold bq_g
  by_cases e : j / 32 = P / 32
  · rw [e, pk_us, h _ (Nat.mod_lt _ (by omega))]
    by_cases e2 : j = P
    · rw [if_pos e2, if_pos (by rw [e2])]
    · rw [if_neg e2, if_neg (by omega)]
  · rw [pk_un e, if_neg (fun z => e (by rw [z]))]
theorem bq_set (a : Nat → Int32) (P j : Nat) : bq_g (upd a (P / 32) (a (P / 32) ||| ((1 : Int32) <<< (nI (P % 32) &&& 31)))) j = if j = P then true else bq_g a j := by
  refine bq_upd (fun i hi => ?_) j
  rw [bq_or, bq_mask _ (Nat.mod_lt _ (by omega)) i hi]
  by_cases e : i = P % 32
  · rw [if_pos e, decide_eq_true e, Bool.or_true]
  · rw [if_neg e, decide_eq_false e, Bool.or_false]
theorem bq_clr (a : Nat → Int32) (P j : Nat) : bq_g (upd a (P / 32) (a (P / 32) &&& (((1 : Int32) <<< (nI (P % 32) &&& 31)) ^^^ (-1)))) j = if j = P then false else bq_g a j := by
  refine bq_upd (fun i hi => ?_) j
  rw [bq_and, bq_xor, bq_mask _ (Nat.mod_lt _ (by omega)) i hi, bq_m1 i hi]
  by_cases e : i = P % 32
  · rw [if_pos e, decide_eq_true e]
    simp
  · rw [if_neg e, decide_eq_false e]
    simp
/-- b is a, but that c bits from P on hold v -/
def bq_W (a b : Nat → Int32) (P c v k : Nat) : Prop := ∀ j, bq_g b j = if P ≤ j ∧ j < P + k then v.testBit (c - 1 - (j - P)) else bq_g a j
theorem bq_W_at {a b : Nat → Int32} {P c v : Nat} (h : bq_W a b P c v c) : bq_at b P c v := by
  intro k hk
  rw [h (P + k), if_pos ⟨by omega, by omega⟩, show P + k - P = k by omega]
theorem bq_W_keep {a b : Nat → Int32} {P c v Q d w : Nat} (h : bq_W a b P c v c) (hd : Q + d ≤ P) (ha : bq_at a Q d w) : bq_at b Q d w := by
  intro k hk
  rw [h (Q + k), if_neg (by omega)]
  exact ha k hk
theorem bq_split {a : Nat → Int32} {P c d v : Nat} (h : bq_at a P (c + d) v) : bq_at a P c (v / 2 ^ d) ∧ bq_at a (P + c) d (v % 2 ^ d) := by
  constructor
  · intro k hk
    rw [h k (by omega), Nat.testBit_div_two_pow, show c + d - 1 - k = c - 1 - k + d by omega]
  · intro k hk
    rw [Nat.add_assoc, h (c + k) (by omega), Nat.testBit_mod_two_pow, decide_eq_true (by omega), Bool.true_and, show c + d - 1 - (c + k) = d - 1 - k by omega]
theorem bq_step {v c i : Nat} (hi : i < c) : 2 * (v / 2 ^ (c - i)) + (if v.testBit (c - 1 - i) = true then 1 else 0) = v / 2 ^ (c - (i + 1)) := by
  have e : v / 2 ^ (c - i) = v / 2 ^ (c - (i + 1)) / 2 := by
    rw [Nat.div_div_eq_div_mul, ← Nat.pow_succ, show (c - (i + 1)).succ = c - i by omega]
  rw [e, Nat.testBit_eq_decide_div_mod_eq, show c - 1 - i = c - (i + 1) by omega]
  generalize v / 2 ^ (c - (i + 1)) = z
  by_cases h : z % 2 = 1
  · rw [if_pos (by simp [h])]
    omega
  · rw [if_neg (by simp [h])]
    omega
/-! folding -/
def bq_fo (x : Int) : Nat := if x < 0 then (-2 * x - 1).toNat else (2 * x).toNat
theorem bq_fo_lt {x : Int} {n : Nat} (h1 : -(n : Int) ≤ x) (h2 : x ≤ n) : bq_fo x ≤ 2 * n := by
  unfold bq_fo
  split <;> omega
/-- a number as packStep and packChange write it -/
def bq_num (b : Nat → Int32) (P few many used : Nat) (d : Int32) : Prop :=
  (used = 1 ∧ d = 0 ∧ bq_at b P 1 0) ∨
  (bq_fo d.toInt < 2 ^ few ∧ used = 2 + few ∧ bq_at b P 1 1 ∧ bq_at b (P + 1) 1 0 ∧ bq_at b (P + 2) few (bq_fo d.toInt)) ∨
  (bq_fo d.toInt < 2 ^ many ∧ used = 2 + many ∧ bq_at b P 1 1 ∧ bq_at b (P + 1) 1 1 ∧ bq_at b (P + 2) many (bq_fo d.toInt))
theorem bq_num_keep {a b : Nat → Int32} {P c v Q few many used : Nat} {d : Int32} (h : bq_W a b P c v c) (hd : Q + used ≤ P) (ha : bq_num a Q few many used d) : bq_num b Q few many used d := by
  rcases ha with ⟨e, z, h1⟩ | ⟨hw, e, h1, h2, h3⟩ | ⟨hw, e, h1, h2, h3⟩
  · exact Or.inl ⟨e, z, bq_W_keep h (by omega) h1⟩
  · exact Or.inr (Or.inl ⟨hw, e, bq_W_keep h (by omega) h1, bq_W_keep h (by omega) h2, bq_W_keep h (by omega) h3⟩)
  · exact Or.inr (Or.inr ⟨hw, e, bq_W_keep h (by omega) h1, bq_W_keep h (by omega) h2, bq_W_keep h (by omega) h3⟩)
theorem bq_head {a : Nat → Int32} {P f w H : Nat} (h : bq_at a P (2 + f) (H * 2 ^ f + w)) (hw : w < 2 ^ f) : bq_at a P 1 (H / 2) ∧ bq_at a (P + 1) 1 (H % 2) ∧ bq_at a (P + 2) f w := by
  have hp : 0 < 2 ^ f := Nat.pow_pos (by omega)
  have s := bq_split (c := 2) (d := f) h
  rw [show (H * 2 ^ f + w) / 2 ^ f = H by rw [Nat.add_comm, Nat.add_mul_div_right _ _ hp, Nat.div_eq_of_lt hw, Nat.zero_add], show (H * 2 ^ f + w) % 2 ^ f = w by rw [Nat.add_comm, Nat.add_mul_mod_self_right, Nat.mod_eq_of_lt hw]] at s
  have s2 := bq_split (c := 1) (d := 1) s.1
  exact ⟨s2.1, s2.2, s.2⟩
end
section
theorem sm_slot {post : Int32 → Prop} {u : St2} (H : post (nI 19200)) : wpX_slotBit post u 0 := by
  have e : (19200 : Int32) + (224 * 0) = nI 19200 := by decide
  show post (19200 + (224 * 0))
  rw [e]
  exact H
theorem sm_put {post : St2 → Prop} {sc sf ae ps fc fs fl fm fg bf fh lv : Int32} {a1 a2 a3 a4 a5 a6 a7 a8 a9 a10 a11 a12 a13 a14 a15 a16 a17 a18 a19 a20 a21 a22 a23 a24 a25 : Nat → Int32} {x1 x2 x3 : Int32} (P c v : Nat) (e1 : x1 = nI P) (e2 : x2 = nI c) (e3 : x3 = nI v) (hP : P + c ≤ 20992) (hc : c ≤ 31) (hv : v < 2 ^ 31)
    (H : ∀ b, bq_W a22 b P c v c → post (sc, sf, ae, ps, fc, fs, fl, fm, fg, bf, fh, lv, a1, a2, a3, a4, a5, a6, a7, a8, a9, a10, a11, a12, a13, a14, a15, a16, a17, a18, a19, a20, a21, b, a23, a24, a25)) : wpX_putBits post (sc, sf, ae, ps, fc, fs, fl, fm, fg, bf, fh, lv, a1, a2, a3, a4, a5, a6, a7, a8, a9, a10, a11, a12, a13, a14, a15, a16, a17, a18, a19, a20, a21, a22, a23, a24, a25) x1 x2 x3 := by
  subst e1 e2 e3
  refine pk_loop (fun n i s => wX_putBits_3 post (nI P) (nI c) (nI v) sc sf ae ps fc fs fl fm fg bf fh lv n (nI i) a1 a2 a3 a4 a5 a6 a7 a8 a9 a10 a11 a12 a13 a14 a15 a16 a17 a18 a19 a20 a21 s a23 a24 a25) (fun i s => bq_W a22 s P c v i) c 0 a22 (by omega) (fun j => by rw [if_neg (by omega)]) (fun n s h => pk_le c c (fun _ => H s h) (fun z => absurd z (by omega))) ?_
  intro n i s hi h hw
  refine pk_le c i (fun z => absurd z (by omega)) (fun _ => nm_r (nI_add P i) (nm_r (e' := (1 : Int32) <<< (nI ((P + i) % 32) &&& 31)) (by rw [pk_andN (n := P + i) (by omega) 5 (by decide)]) ?_))
  have e5 : nI (P + i) >>> ((5 : Int32) &&& 31) = nI ((P + i) / 32) := pk_shrN (by omega) _ 5 (by decide)
  have ek : (nI c - 1) - nI i = nI (c - 1 - i) := by
    rw [show (1 : Int32) = nI 1 from rfl, pk_sub (by omega), pk_sub (by omega)]
  rw [e5, ek, nI_clamp (show (P + i) / 32 < 2 ^ 31 by omega)]
  have hin : vp_in (nI ((P + i) / 32)) 656 := vp_in_nI (by omega) (by omega)
  have hnew : ∀ (x : Nat → Int32), (∀ j, bq_g x j = if j = P + i then v.testBit (c - 1 - i) else bq_g s j) → bq_W a22 x P c v (i + 1) := by
    intro x hx j
    rw [hx j, h j]
    by_cases ej : j = P + i
    · rw [if_pos ej, if_pos (by omega), ej, show P + i - P = i by omega]
    · rw [if_neg ej]
      by_cases e2 : P ≤ j ∧ j < P + i
      · rw [if_pos e2, if_pos (by omega)]
      · rw [if_neg e2, if_neg (by omega)]
  by_cases hb : v.testBit (c - 1 - i) = false
  · refine br_t ((bq_test hv (by omega)).mpr hb) ⟨hin, hin, nm_e (nm_r (nI_1 i) (hw _ (hnew _ (fun j => ?_))))⟩
    rw [bq_clr, hb]
  · refine br_f (fun z => hb ((bq_test hv (by omega)).mp z)) ⟨hin, hin, nm_e (nm_r (nI_1 i) (hw _ (hnew _ (fun j => ?_))))⟩
    rw [bq_set, Bool.of_not_eq_false hb]
theorem sm_take {post : Int32 → St2 → Prop} {sc sf ae ps fc fs fl fm fg bf fh lv : Int32} {a1 a2 a3 a4 a5 a6 a7 a8 a9 a10 a11 a12 a13 a14 a15 a16 a17 a18 a19 a20 a21 a22 a23 a24 a25 : Nat → Int32} {x1 : Int32} (P c v : Nat) (e1 : x1 = nI c) (e2 : ps = nI P) (hP : P + c ≤ 20992) (hc : c ≤ 30) (hv : v < 2 ^ c) (hb : bq_at a22 P c v)
    (H : post (nI v) (sc, sf, ae, nI (P + c), fc, fs, fl, fm, fg, bf, fh, lv, a1, a2, a3, a4, a5, a6, a7, a8, a9, a10, a11, a12, a13, a14, a15, a16, a17, a18, a19, a20, a21, a22, a23, a24, a25)) : wpX_takeBits post (sc, sf, ae, ps, fc, fs, fl, fm, fg, bf, fh, lv, a1, a2, a3, a4, a5, a6, a7, a8, a9, a10, a11, a12, a13, a14, a15, a16, a17, a18, a19, a20, a21, a22, a23, a24, a25) x1 := by
  subst e1 e2
  refine pk_loop (fun n i s => wX_takeBits_4 post (nI c) sc sf ae fc fs fl fm fg bf fh lv a1 a2 a3 a4 a5 a6 a7 a8 a9 a10 a11 a12 a13 a14 a15 a16 a17 a18 a19 a20 a21 a22 a23 a24 a25 n s (nI i) (nI (P + i))) (fun i s => s = nI (v / 2 ^ (c - i))) c 0 0 (by omega) (by rw [Nat.sub_zero, Nat.div_eq_of_lt hv]; rfl) ?_ ?_
  · intro n s h
    have h' : s = nI v := by rw [h, Nat.sub_self, Nat.pow_zero, Nat.div_one]
    exact pk_le c c (fun _ => by rw [h']; exact H) (fun z => absurd z (by omega))
  · intro n i s hi h hw
    have e5 : nI (P + i) >>> ((5 : Int32) &&& 31) = nI ((P + i) / 32) := pk_shrN (by omega) _ 5 (by decide)
    refine pk_le c i (fun z => absurd z (by omega)) (fun _ => ?_)
    rw [e5, nI_clamp (show (P + i) / 32 < 2 ^ 31 by omega), pk_andN (n := P + i) (by omega) 5 (by decide), bq_get _ (Nat.mod_lt _ (by omega))]
    refine ⟨vp_in_nI (by omega) (by omega), nm_r (e' := nI (v / 2 ^ (c - (i + 1)))) ?_ (nm_r (nI_1 (P + i)) (nm_r (nI_1 i) (hw _ rfl)))⟩
    have hg : bq_t (a22 ((P + i) / 32)) ((P + i) % 32) = v.testBit (c - 1 - i) := hb i hi
    rw [hg, h, show (2 : Int32) = nI 2 from rfl, pk_mul, nI_add, bq_step hi]
theorem sm_folded {post : Int32 → Prop} {u : St2} {x : Int32} (h1 : -100000 ≤ x.toInt) (h2 : x.toInt ≤ 100000) (H : post (nI (bq_fo x.toInt))) : wpX_folded post u x := by
  have hf : bq_fo x.toInt < 2 ^ 31 := Nat.lt_of_le_of_lt (bq_fo_lt (n := 100000) (by omega) (by omega)) (by omega)
  have e0 : (0 : Int32).toInt = 0 := by decide
  have e1 : (1 : Int32).toInt = 1 := by decide
  have e2 : (2 : Int32).toInt = 2 := by decide
  have e3 : (-2 : Int32).toInt = -2 := by decide
  refine br_c (fun z => ?_) (fun z => ?_)
  · rw [bq_ult, e0] at z
    have e : (-2) * x - 1 = nI (bq_fo x.toInt) := by
      apply Int32.toInt_inj.mp
      have m : ((-2) * x).toInt = -2 * x.toInt := by
        rw [Int32.toInt_mul, e3]
        apply Int.bmod_eq_of_le <;> omega
      rw [nI_toInt hf, bq_sub (by omega) (by omega), m, e1]
      unfold bq_fo
      rw [if_pos z]
      omega
    rw [e]
    exact H
  · rw [bq_ult, e0] at z
    have e : 2 * x = nI (bq_fo x.toInt) := by
      apply Int32.toInt_inj.mp
      rw [nI_toInt hf, Int32.toInt_mul, e2]
      unfold bq_fo
      rw [if_neg z, Int.bmod_eq_of_le (by omega) (by omega)]
      omega
    rw [e]
    exact H
theorem sm_unfolded {post : Int32 → Prop} {u : St2} {x y : Int32} (h1 : -100000 ≤ x.toInt) (h2 : x.toInt ≤ 100000) (ey : y = nI (bq_fo x.toInt)) (H : post x) : wpX_unfolded post u y := by
  subst ey
  have hf : bq_fo x.toInt ≤ 200000 := bq_fo_lt (n := 100000) (by omega) (by omega)
  have e1 : (1 : Int32).toInt = 1 := by decide
  have e2 : (2 : Int32).toInt = 2 := by decide
  have em : nI (bq_fo x.toInt) &&& 1 = nI (bq_fo x.toInt % 2) := pk_andN (by omega) 1 (by decide)
  by_cases z : x.toInt < 0
  · have ef : (bq_fo x.toInt : Int) = -2 * x.toInt - 1 := by
      unfold bq_fo
      rw [if_pos z]
      omega
    have eo : bq_fo x.toInt % 2 = 1 := by omega
    have e : (-(nI (bq_fo x.toInt) + 1)) / 2 = x := by
      apply Int32.toInt_inj.mp
      have s : (nI (bq_fo x.toInt) + 1).toInt = -2 * x.toInt := by
        rw [nI_1, nI_toInt (by omega)]
        omega
      have s2 : (-(nI (bq_fo x.toInt) + 1)).toInt = 2 * x.toInt := by
        rw [Int32.toInt_neg, s, Int.bmod_eq_of_le (by omega) (by omega)]
        omega
      rw [Int32.toInt_div, s2, e2, Int.mul_comm, Int.mul_tdiv_cancel _ (by decide), Int.bmod_eq_of_le (by omega) (by omega)]
    refine br_f (by rw [em, eo]; decide) ⟨by decide, ?_⟩
    rw [e]
    exact H
  · have ef : (bq_fo x.toInt : Int) = 2 * x.toInt := by
      unfold bq_fo
      rw [if_neg z]
      omega
    have eo : bq_fo x.toInt % 2 = 0 := by omega
    have e : nI (bq_fo x.toInt) / 2 = x := by
      rw [show (2 : Int32) = nI 2 from rfl, pk_div (by omega) (by omega) (by omega)]
      apply Int32.toInt_inj.mp
      rw [nI_toInt (by omega)]
      omega
    refine br_t (by rw [em, eo]; rfl) ⟨by decide, ?_⟩
    rw [e]
    exact H
theorem sm_packStep {post : Int32 → St2 → Prop} {sc sf ae ps fc fs fl fm fg bf fh lv : Int32} {a1 a2 a3 a4 a5 a6 a7 a8 a9 a10 a11 a12 a13 a14 a15 a16 a17 a18 a19 a20 a21 a22 a23 a24 a25 : Nat → Int32} {x1 d : Int32} (P : Nat) (e1 : x1 = nI P) (hP : P ≤ 20000) (h1 : -1000 ≤ d.toInt) (h2 : d.toInt ≤ 1000)
    (H : ∀ b k c v, k ≤ 13 → bq_W a22 b P c v c → bq_num b P 5 11 k d → post (nI k) (sc, sf, ae, ps, fc, fs, fl, fm, fg, bf, fh, lv, a1, a2, a3, a4, a5, a6, a7, a8, a9, a10, a11, a12, a13, a14, a15, a16, a17, a18, a19, a20, a21, b, a23, a24, a25)) : wpX_packStep post (sc, sf, ae, ps, fc, fs, fl, fm, fg, bf, fh, lv, a1, a2, a3, a4, a5, a6, a7, a8, a9, a10, a11, a12, a13, a14, a15, a16, a17, a18, a19, a20, a21, a22, a23, a24, a25) x1 d := by
  have hf : bq_fo d.toInt ≤ 2000 := bq_fo_lt (n := 1000) (by omega) (by omega)
  refine br_c (fun z => ?_) (fun z => ?_)
  · exact sm_put P 1 0 e1 rfl rfl (by omega) (by omega) (by omega) (fun b hb => H b 1 1 0 (by omega) hb (Or.inl ⟨rfl, z, bq_W_at hb⟩))
  · refine sm_folded (by omega) (by omega) (pk_le 32 (bq_fo d.toInt) (fun g => ?_) (fun g => ?_))
    · refine sm_put P 13 (6144 + bq_fo d.toInt) e1 rfl (nI_add 6144 _) (by omega) (by omega) (by omega) (fun b hb => H b 13 13 _ (by omega) hb (Or.inr (Or.inr ?_)))
      have s := bq_head (f := 11) (H := 3) (w := bq_fo d.toInt) (bq_W_at hb) (by omega)
      exact ⟨by omega, rfl, s.1, s.2.1, s.2.2⟩
    · refine sm_put P 7 (64 + bq_fo d.toInt) e1 rfl (nI_add 64 _) (by omega) (by omega) (by omega) (fun b hb => H b 7 7 _ (by omega) hb (Or.inr (Or.inl ?_)))
      have s := bq_head (f := 5) (H := 2) (w := bq_fo d.toInt) (bq_W_at hb) (by omega)
      exact ⟨by omega, rfl, s.1, s.2.1, s.2.2⟩
theorem sm_packChange {post : Int32 → St2 → Prop} {sc sf ae ps fc fs fl fm fg bf fh lv : Int32} {a1 a2 a3 a4 a5 a6 a7 a8 a9 a10 a11 a12 a13 a14 a15 a16 a17 a18 a19 a20 a21 a22 a23 a24 a25 : Nat → Int32} {x1 d : Int32} (P : Nat) (e1 : x1 = nI P) (hP : P ≤ 20000) (h1 : -2000 ≤ d.toInt) (h2 : d.toInt ≤ 2000)
    (H : ∀ b k c v, k ≤ 14 → bq_W a22 b P c v c → bq_num b P 6 12 k d → post (nI k) (sc, sf, ae, ps, fc, fs, fl, fm, fg, bf, fh, lv, a1, a2, a3, a4, a5, a6, a7, a8, a9, a10, a11, a12, a13, a14, a15, a16, a17, a18, a19, a20, a21, b, a23, a24, a25)) : wpX_packChange post (sc, sf, ae, ps, fc, fs, fl, fm, fg, bf, fh, lv, a1, a2, a3, a4, a5, a6, a7, a8, a9, a10, a11, a12, a13, a14, a15, a16, a17, a18, a19, a20, a21, a22, a23, a24, a25) x1 d := by
  have hf : bq_fo d.toInt ≤ 4000 := bq_fo_lt (n := 2000) (by omega) (by omega)
  refine br_c (fun z => ?_) (fun z => ?_)
  · exact sm_put P 1 0 e1 rfl rfl (by omega) (by omega) (by omega) (fun b hb => H b 1 1 0 (by omega) hb (Or.inl ⟨rfl, z, bq_W_at hb⟩))
  · refine sm_folded (by omega) (by omega) (pk_le 64 (bq_fo d.toInt) (fun g => ?_) (fun g => ?_))
    · refine sm_put P 14 (12288 + bq_fo d.toInt) e1 rfl (nI_add 12288 _) (by omega) (by omega) (by omega) (fun b hb => H b 14 14 _ (by omega) hb (Or.inr (Or.inr ?_)))
      have s := bq_head (f := 12) (H := 3) (w := bq_fo d.toInt) (bq_W_at hb) (by omega)
      exact ⟨by omega, rfl, s.1, s.2.1, s.2.2⟩
    · refine sm_put P 8 (128 + bq_fo d.toInt) e1 rfl (nI_add 128 _) (by omega) (by omega) (by omega) (fun b hb => H b 8 8 _ (by omega) hb (Or.inr (Or.inl ?_)))
      have s := bq_head (f := 6) (H := 2) (w := bq_fo d.toInt) (bq_W_at hb) (by omega)
      exact ⟨by omega, rfl, s.1, s.2.1, s.2.2⟩
theorem sm_takeNumber {post : Int32 → St2 → Prop} {sc sf ae ps fc fs fl fm fg bf fh lv : Int32} {a1 a2 a3 a4 a5 a6 a7 a8 a9 a10 a11 a12 a13 a14 a15 a16 a17 a18 a19 a20 a21 a22 a23 a24 a25 : Nat → Int32} {x1 x2 d : Int32} (P few many used : Nat) (e0 : ps = nI P) (e1 : x1 = nI few) (e2 : x2 = nI many) (hP : P ≤ 20000) (hf : few ≤ 12) (hm : many ≤ 12) (h1 : -5000 ≤ d.toInt) (h2 : d.toInt ≤ 5000)
    (hn : bq_num a22 P few many used d) (H : post d (sc, sf, ae, nI (P + used), fc, fs, fl, fm, fg, bf, fh, lv, a1, a2, a3, a4, a5, a6, a7, a8, a9, a10, a11, a12, a13, a14, a15, a16, a17, a18, a19, a20, a21, a22, a23, a24, a25)) : wpX_takeNumber post (sc, sf, ae, ps, fc, fs, fl, fm, fg, bf, fh, lv, a1, a2, a3, a4, a5, a6, a7, a8, a9, a10, a11, a12, a13, a14, a15, a16, a17, a18, a19, a20, a21, a22, a23, a24, a25) x1 x2 := by
  rcases hn with ⟨rfl, rfl, b1⟩ | ⟨hw, rfl, b1, b2, b3⟩ | ⟨hw, rfl, b1, b2, b3⟩
  · exact sm_take P 1 0 rfl e0 (by omega) (by omega) (by omega) b1 (br_t rfl H)
  · refine sm_take P 1 1 rfl e0 (by omega) (by omega) (by omega) b1 (br_f (by decide) (sm_take (P + 1) 1 0 rfl rfl (by omega) (by omega) (by omega) b2 (br_t rfl ?_)))
    refine sm_take (P + 2) few _ e1 rfl (by omega) (by omega) hw b3 (sm_unfolded (by omega) (by omega) rfl ?_)
    rw [show P + (2 + few) = P + 2 + few by omega] at H
    exact H
  · refine sm_take P 1 1 rfl e0 (by omega) (by omega) (by omega) b1 (br_f (by decide) (sm_take (P + 1) 1 1 rfl rfl (by omega) (by omega) (by omega) b2 (br_f (by decide) ?_)))
    refine sm_take (P + 2) many _ e2 rfl (by omega) (by omega) hw b3 (sm_unfolded (by omega) (by omega) rfl ?_)
    rw [show P + (2 + many) = P + 2 + many by omega] at H
    exact H
end
section
theorem sm_i8 : vp_in 0 8 := vp_in_iff.mpr (by decide)
theorem sm_i96 : vp_in 0 96 := vp_in_iff.mpr (by decide)
theorem sm_u {f : Nat → Int32} {x y : Int32} (h : x = y) : upd f (0 : Int32).toNatClampNeg x = upd f 0 y := by rw [bq_z, h]
theorem sm_id {f : Nat → Int32} {x : Int32} (h : x = f 0) : upd f (0 : Int32).toNatClampNeg x = f := by
  rw [bq_z, h]
  funext j
  unfold upd
  split
  · rename_i e
    rw [e]
  · rfl
theorem sm_at0 {f : Nat → Int32} {x : Int32} (h : f 0 = x) : f (0 : Int32).toNatClampNeg = x := by rw [bq_z, h]
theorem sm_ix {f : Nat → Int32} {x : Int32} (h : f 0 = 1) (hx : x = 12 * 0 + f (0 : Int32).toNatClampNeg - 1) : x = 0 := by rw [hx, sm_at0 h]; decide
theorem sm_isSeries {post : Int32 → Prop} {sc sf ae ps fc fs fl fm fg bf fh lv : Int32} {a1 a2 a3 a4 a5 a6 a7 a8 a9 a10 a11 a12 a13 a14 a15 a16 a17 a18 a19 a20 a21 a22 a23 a24 a25 : Nat → Int32} (h : sc = 1) (H : post 1) : wpX_isSeries post (sc, sf, ae, ps, fc, fs, fl, fm, fg, bf, fh, lv, a1, a2, a3, a4, a5, a6, a7, a8, a9, a10, a11, a12, a13, a14, a15, a16, a17, a18, a19, a20, a21, a22, a23, a24, a25) 0 :=
  br_f (by decide) (br_f (by rw [h]; decide) H)
def sm_lo (p q : Int32) : Int32 := if p ≤ q then p else q
def sm_hi (p q : Int32) : Int32 := if q ≤ p then p else q
def sm_gr (p q : Int32) : Int32 := if q < p then (if q ≤ 0 then 0 else q) else q - p
theorem sm_growthOf {post : Int32 → Prop} {u : St2} {p q : Int32} (H : post (sm_gr p q)) : wpX_growthOf post u p q := by
  unfold sm_gr at H
  refine br_c (fun z => br_c (fun y => ?_) (fun y => ?_)) (fun z => ?_)
  · rw [if_pos z, if_pos y] at H
    exact H
  · rw [if_pos z, if_neg y] at H
    exact H
  · rw [if_neg z] at H
    exact H
def sm_R (p : Int32) : Prop := -1000 ≤ p.toInt ∧ p.toInt ≤ 1000
theorem sm_R16 {p : Int32} (h : sm_R p) : p.toInt16.toInt32 = p := bq_i16 (by have := h.1; omega) (by have := h.2; omega)
theorem sm_open {post : St2 → Prop} {sc sf ae ps fc fs fl fm fg bf fh lv : Int32} {a1 a2 a3 a4 a5 a6 a7 a8 a9 a10 a11 a12 a13 a14 a15 a16 a17 a18 a19 a20 a21 a22 a23 a24 a25 : Nat → Int32} {t : Nat} {p x1 x2 : Int32} (ht : t < 1000) (hp : sm_R p) (e1 : x1 = nI t) (e2 : x2 = p) (h9 : a9 0 = 0)
    (H : ∀ b, bq_at b 19200 10 t → bq_at b 19210 11 (bq_fo p.toInt) → post (sc, sf, ae, ps, fc, fs, fl, fm, fg, bf, fh, lv, a1, a2, a3, a4, a5, a6, a7, a8, upd a9 0 1, upd a10 0 (-1), upd a11 0 21, upd a12 0 1, upd a13 0 (a3 0), upd a14 0 (nI t), upd a15 0 (nI t), upd a16 0 p, upd a17 0 p, upd a18 0 p, upd a19 0 p, upd a20 0 p, upd a21 0 0, b, upd a23 0 0, a24, a25)) :
    wpX_openBlock post (sc, sf, ae, ps, fc, fs, fl, fm, fg, bf, fh, lv, a1, a2, a3, a4, a5, a6, a7, a8, a9, a10, a11, a12, a13, a14, a15, a16, a17, a18, a19, a20, a21, a22, a23, a24, a25) 0 x1 x2 := by
  subst e1 e2
  have tn : (nI t).toInt16.toInt32 = nI t := bq_i16n (by omega)
  have pn := sm_R16 hp
  have hf : bq_fo x2.toInt ≤ 2000 := bq_fo_lt (n := 1000) hp.1 hp.2
  have e4 : 12 * 0 + a9 (0 : Int32).toNatClampNeg = 0 := by rw [sm_at0 h9]; decide
  have e9 : (a9 (0 : Int32).toNatClampNeg + 1).toInt8.toInt32 = 1 := by rw [sm_at0 h9]; decide
  unfold wpX_openBlock
  refine ⟨sm_i8, nm_r e4 ⟨sm_i8, sm_i8, nm_r (sm_u e9) ⟨sm_i96, nm_r (sm_u rfl) ⟨sm_i96, nm_r (sm_u rfl) ⟨sm_i8, sm_i96, nm_r (sm_u (sm_at0 rfl)) ⟨sm_i96, nm_r (sm_u tn) ⟨sm_i96, nm_r (sm_u tn) ⟨sm_i96, nm_r (sm_u pn) ⟨sm_i96, nm_r (sm_u pn) ⟨sm_i96, nm_r (sm_u pn) ⟨sm_i96, nm_r (sm_u pn) ⟨sm_i96, nm_r (sm_u pn) ⟨sm_i96, nm_r (sm_u rfl) ⟨sm_i8, nm_r (sm_u rfl) ?_⟩⟩⟩⟩⟩⟩⟩⟩⟩⟩⟩⟩⟩⟩
  refine sm_slot (sm_put 19200 10 t rfl rfl rfl (by omega) (by omega) (by omega) (fun b hb => ?_))
  refine sm_folded (by have := hp.1; omega) (by have := hp.2; omega) ?_
  refine sm_put 19210 11 (bq_fo x2.toInt) (nI_add 19200 10) rfl rfl (by omega) (by omega) (by omega) (fun c hc => ⟨sm_i96, nm_r (sm_u rfl) ?_⟩)
  exact H c (bq_W_keep hc (by omega) (bq_W_at hb)) (bq_W_at hc)
theorem sm_pack1 {post : St2 → Prop} {sc sf ae ps fc fs fl fm fg bf fh lv : Int32} {a1 a2 a3 a4 a5 a6 a7 a8 a9 a10 a11 a12 a13 a14 a15 a16 a17 a18 a19 a20 a21 a22 a23 a24 a25 : Nat → Int32} {t : Nat} {p x1 x2 : Int32} (ht : t < 1000) (hp : sm_R p) (e1 : x1 = nI t) (e2 : x2 = p) (h9 : a9 0 = 0)
    (H : ∀ b, bq_at b 19200 10 t → bq_at b 19210 11 (bq_fo p.toInt) → post (sc, sf, ae, ps, fc, fs, fl, fm, fg, bf, fh, lv, a1, a2, a3, a4, a5, a6, a7, a8, upd a9 0 1, upd a10 0 (-1), upd a11 0 21, upd a12 0 1, upd a13 0 (a3 0), upd a14 0 (nI t), upd a15 0 (nI t), upd a16 0 p, upd a17 0 p, upd a18 0 p, upd a19 0 p, upd a20 0 p, upd a21 0 0, b, upd a23 0 0, a24, a25)) :
    wpX_pack post (sc, sf, ae, ps, fc, fs, fl, fm, fg, bf, fh, lv, a1, a2, a3, a4, a5, a6, a7, a8, a9, a10, a11, a12, a13, a14, a15, a16, a17, a18, a19, a20, a21, a22, a23, a24, a25) 0 x1 x2 := by
  unfold wpX_pack
  refine ⟨sm_i8, nm_e ⟨sm_i8, br_t (sm_at0 h9) ?_⟩⟩
  exact sm_open ht hp e1 e2 h9 H
/-- two samples in the bits -/
def sm_bits (b : Nat → Int32) (t u : Nat) (p q : Int32) : Prop := bq_at b 19200 10 t ∧ bq_at b 19210 11 (bq_fo p.toInt) ∧ ∃ k1 k2, k1 ≤ 13 ∧ k2 ≤ 14 ∧ bq_num b 19221 5 11 k1 (nI (u - t)) ∧ bq_num b (19221 + k1) 6 12 k2 (q - p)
theorem sm_grR {p q : Int32} (hp : sm_R p) (hq : sm_R q) : (sm_gr p q).toInt16.toInt32 = sm_gr p q := by
  have e0 : (0 : Int32).toInt = 0 := by decide
  obtain ⟨h1, h2⟩ := hp
  obtain ⟨h3, h4⟩ := hq
  unfold sm_gr
  split
  · split
    · decide
    · exact bq_i16 (by omega) (by omega)
  · have s := bq_sub (x := q) (y := p) (by omega) (by omega)
    exact bq_i16 (by omega) (by omega)
theorem sm_pack2 {post : St2 → Prop} {sc sf ae ps fc fs fl fm fg bf fh lv : Int32} {a1 a2 a3 a4 a5 a6 a7 a8 a9 a10 a11 a12 a13 a14 a15 a16 a17 a18 a19 a20 a21 a22 a23 a24 a25 : Nat → Int32} {t u : Nat} {p q x1 : Int32} (htu : t < u) (hu : u < 1000) (hp : sm_R p) (hq : sm_R q) (e1 : x1 = nI u)
    (h9 : a9 0 = 1) (h10 : a10 0 = -1) (h11 : a11 0 = 21) (h12 : a12 0 = 1) (h15 : a15 0 = nI t) (h17 : a17 0 = p) (h18 : a18 0 = p) (h19 : a19 0 = p) (h20 : a20 0 = p) (h21 : a21 0 = 0) (h23 : a23 0 = 0)
    (b1 : bq_at a22 19200 10 t) (b2 : bq_at a22 19210 11 (bq_fo p.toInt))
    (H : ∀ c11 c19 c20 b c23, c19 0 = sm_lo p q → c20 0 = sm_hi p q → sm_bits b t u p q → post (sc, sf, ae, ps, fc, fs, fl, fm, fg, bf, fh, lv, a1, a2, a3, a4, a5, a6, a7, a8, a9, a10, c11, upd a12 0 2, a13, a14, upd a15 0 (nI u), a16, upd a17 0 q, upd a18 0 (p + q), c19, c20, upd a21 0 (sm_gr p q), b, c23, a24, a25)) :
    wpX_pack post (sc, sf, ae, ps, fc, fs, fl, fm, fg, bf, fh, lv, a1, a2, a3, a4, a5, a6, a7, a8, a9, a10, a11, a12, a13, a14, a15, a16, a17, a18, a19, a20, a21, a22, a23, a24, a25) 0 x1 q := by
  subst e1
  have un : (nI u).toInt16.toInt32 = nI u := bq_i16n (by omega)
  have qn := sm_R16 hq
  have gn := sm_grR hp hq
  have p1 := hp.1
  have p2 := hp.2
  have q1 := hq.1
  have q2 := hq.2
  have e4 : 12 * 0 + a9 (0 : Int32).toNatClampNeg - 1 = 0 := by rw [sm_at0 h9]; decide
  have es : nI u - a15 (0 : Int32).toNatClampNeg = nI (u - t) := by rw [sm_at0 h15, pk_sub (by omega)]
  have es2 : nI (u - t) - a23 (0 : Int32).toNatClampNeg = nI (u - t) := by
    rw [sm_at0 h23, ← nI_0, pk_sub (by omega)]
    rfl
  have ec : q - a17 (0 : Int32).toNatClampNeg = q - p := by rw [sm_at0 h17]
  have sd := bq_sub (x := q) (y := p) (by omega) (by omega)
  have sa := bq_add (x := p) (y := q) (by omega) (by omega)
  have an : (a18 (0 : Int32).toNatClampNeg + q).toInt16.toInt32 = p + q := by rw [sm_at0 h18]; exact bq_i16 (by omega) (by omega)
  have gs : (a21 (0 : Int32).toNatClampNeg + sm_gr p q).toInt16.toInt32 = sm_gr p q := by rw [sm_at0 h21, Int32.zero_add]; exact gn
  have et : (nI (u - t)).toInt = ((u - t : Nat) : Int) := nI_toInt (by omega)
  unfold wpX_pack
  refine ⟨sm_i8, nm_r e4 ⟨sm_i8, br_f (by rw [sm_at0 h9]; decide) ⟨sm_i96, br_t (sm_at0 h10) ⟨sm_i96, nm_r es ⟨sm_i96, nm_r ec (sm_slot ⟨sm_i96, nm_r (e' := nI 19221) (by rw [sm_at0 h11]; decide) ⟨sm_i8, ?_⟩⟩)⟩⟩⟩⟩⟩
  rw [es2]
  refine sm_packStep 19221 rfl (by omega) (by omega) (by omega) (fun b k1 c1 v1 k1h w1 n1 => ?_)
  refine sm_packChange (19221 + k1) (nI_add _ _) (by omega) (by omega) (by omega) (fun b' k2 c2 v2 k2h w2 n2 => ?_)
  have hb : sm_bits b' t u p q := ⟨bq_W_keep w2 (by omega) (bq_W_keep w1 (by omega) b1), bq_W_keep w2 (by omega) (bq_W_keep w1 (by omega) b2), k1, k2, k1h, k2h, bq_num_keep w2 (by omega) n1, n2⟩
  refine nm_e ⟨sm_i96, sm_i96, nm_e ⟨sm_i8, nm_e ⟨sm_i96, sm_i96, ?_⟩⟩⟩
  rw [sm_at0 h17]
  refine sm_growthOf ⟨sm_i96, nm_r (sm_u gs) ⟨sm_i96, nm_r (sm_u un) ⟨sm_i96, nm_r (sm_u qn) ⟨sm_i96, sm_i96, nm_r (sm_u an) ⟨sm_i96, ?_⟩⟩⟩⟩⟩
  have e12 : (a12 (0 : Int32).toNatClampNeg + 1).toInt8.toInt32 = 2 := by rw [sm_at0 h12]; decide
  have c1 : ∀ c11 c23 c19, c19 0 = sm_lo p q → wX_pack_208 post 0 q 0 sc sf ae ps fc fs fl fm fg bf fh lv a1 a2 a3 a4 a5 a6 a7 a8 a9 a10 c11 a12 a13 a14 (upd a15 0 (nI u)) a16 (upd a17 0 q) (upd a18 0 (p + q)) c19 a20 (upd a21 0 (sm_gr p q)) b' c23 a24 a25 := by
    intro c11 c23 c19 g19
    refine And.intro sm_i96 (br_c (fun z => ?_) (fun z => ⟨sm_i96, nm_r (sm_u qn) ?_⟩))
    · rw [sm_at0 h20] at z
      refine And.intro sm_i96 ⟨sm_i96, nm_r (sm_u e12) ⟨sm_i96, br_f (by rw [bq_z, pk_us]; decide) ?_⟩⟩
      exact H _ _ _ _ _ g19 (by unfold sm_hi; rw [if_pos z, h20]) hb
    · rw [sm_at0 h20] at z
      refine And.intro sm_i96 ⟨sm_i96, nm_r (sm_u e12) ⟨sm_i96, br_f (by rw [bq_z, pk_us]; decide) ?_⟩⟩
      exact H _ _ _ _ _ g19 (by unfold sm_hi; rw [if_neg z, pk_us]) hb
  refine br_c (fun z => ?_) (fun z => ⟨sm_i96, nm_r (sm_u qn) ?_⟩)
  · rw [sm_at0 h19] at z
    exact c1 _ _ _ (by unfold sm_lo; rw [if_pos z, h19])
  · rw [sm_at0 h19] at z
    exact c1 _ _ _ (by unfold sm_lo; rw [if_neg z, pk_us])
end
section
theorem sm_series1 {post : Int32 → St2 → Prop} {sc sf ae ps fc fs fl fm fg bf fh lv : Int32} {a1 a2 a3 a4 a5 a6 a7 a8 a9 a10 a11 a12 a13 a14 a15 a16 a17 a18 a19 a20 a21 a22 a23 a24 a25 : Nat → Int32} (h : sc = 0) (H : ∀ c8, post 0 (1, sf, ae, ps, fc, fs, fl, fm, fg, bf, fh, lv, upd a1 0 27, upd a2 0 0, upd a3 0 0, a4, a5, upd a6 0 (-1), a7, c8, upd a9 0 0, a10, a11, a12, a13, a14, a15, a16, a17, a18, a19, a20, a21, a22, a23, a24, a25)) : wpX_series post (sc, sf, ae, ps, fc, fs, fl, fm, fg, bf, fh, lv, a1, a2, a3, a4, a5, a6, a7, a8, a9, a10, a11, a12, a13, a14, a15, a16, a17, a18, a19, a20, a21, a22, a23, a24, a25) 27 := by
  subst h
  refine br_f (by decide) (br_t (by decide) ⟨1, br_t (by decide) (br_t (by decide) (nm_r (e' := 1) (by decide) ⟨sm_i8, nm_r (sm_u (y := 27) (by decide)) ⟨sm_i8, nm_r (sm_u rfl) ⟨sm_i8, nm_r (sm_u rfl) ⟨sm_i8, nm_r (sm_u rfl) ⟨sm_i8, nm_r (sm_u rfl) ⟨4, ?_⟩⟩⟩⟩⟩⟩))⟩)
  refine br_f (by decide) ⟨vp_in_iff.mpr (by decide), vp_in_iff.mpr (by decide), nm_e (nm_r (e' := 1) (by decide) ?_)⟩
  refine br_f (by decide) ⟨vp_in_iff.mpr (by decide), vp_in_iff.mpr (by decide), nm_e (nm_r (e' := 2) (by decide) ?_)⟩
  refine br_f (by decide) ⟨vp_in_iff.mpr (by decide), vp_in_iff.mpr (by decide), nm_e (nm_r (e' := 3) (by decide) ?_)⟩
  exact br_t (by decide) (H _)
theorem sm_series2 {post : Int32 → St2 → Prop} {sc sf ae ps fc fs fl fm fg bf fh lv : Int32} {a1 a2 a3 a4 a5 a6 a7 a8 a9 a10 a11 a12 a13 a14 a15 a16 a17 a18 a19 a20 a21 a22 a23 a24 a25 : Nat → Int32} (h : sc = 1) (h1 : a1 0 = 27) (H : post (-10002) (sc, sf, ae, ps, fc, fs, fl, fm, fg, bf, fh, lv, a1, a2, a3, a4, a5, a6, a7, a8, a9, a10, a11, a12, a13, a14, a15, a16, a17, a18, a19, a20, a21, a22, a23, a24, a25)) : wpX_series post (sc, sf, ae, ps, fc, fs, fl, fm, fg, bf, fh, lv, a1, a2, a3, a4, a5, a6, a7, a8, a9, a10, a11, a12, a13, a14, a15, a16, a17, a18, a19, a20, a21, a22, a23, a24, a25) 27 := by
  refine br_f (by decide) (br_t (by decide) ⟨1, br_f (by rw [h]; decide) ⟨sm_i8, br_t (sm_at0 h1) H⟩⟩)
theorem sm_append1 {post : Int32 → St2 → Prop} {sc sf ae ps fc fs fl fm fg bf fh lv : Int32} {a1 a2 a3 a4 a5 a6 a7 a8 a9 a10 a11 a12 a13 a14 a15 a16 a17 a18 a19 a20 a21 a22 a23 a24 a25 : Nat → Int32} {t : Nat} {p x1 : Int32} (ht : t < 1000) (hp : sm_R p) (e1 : x1 = nI t) (h0 : sc = 1) (h2 : a2 0 = 0) (h3 : a3 0 = 0) (h6 : a6 0 = -1) (h9 : a9 0 = 0)
    (H : ∀ b, bq_at b 19200 10 t → bq_at b 19210 11 (bq_fo p.toInt) → post 1 (sc, sf, ae, ps, fc, fs, fl, fm, fg, bf, fh, lv, a1, a2, upd a3 0 1, a4, a5, upd a6 0 (nI t), a7, a8, upd a9 0 1, upd a10 0 (-1), upd a11 0 21, upd a12 0 1, upd a13 0 0, upd a14 0 (nI t), upd a15 0 (nI t), upd a16 0 p, upd a17 0 p, upd a18 0 p, upd a19 0 p, upd a20 0 p, upd a21 0 0, b, upd a23 0 0, a24, a25)) :
    wpX_append post (sc, sf, ae, ps, fc, fs, fl, fm, fg, bf, fh, lv, a1, a2, a3, a4, a5, a6, a7, a8, a9, a10, a11, a12, a13, a14, a15, a16, a17, a18, a19, a20, a21, a22, a23, a24, a25) 0 x1 p := by
  subst e1
  have et : (nI t).toInt = (t : Int) := nI_toInt (by omega)
  have p1 := hp.1
  have p2 := hp.2
  have c0 : (0 : Int32).toInt = 0 := by decide
  have c1 : (999 : Int32).toInt = 999 := by decide
  have c2 : (-1000 : Int32).toInt = -1000 := by decide
  have c3 : (1000 : Int32).toInt = 1000 := by decide
  have c4 : (-1 : Int32).toInt = -1 := by decide
  unfold wpX_append
  refine sm_isSeries h0 (br_f (by decide) (br_f (by rw [bq_ult]; omega) (br_f (by rw [bq_ult]; omega) (br_f (by rw [bq_ult]; omega) (br_t (by rw [bq_ule]; omega) ⟨sm_i8, br_t (by rw [sm_at0 h6, bq_ult]; omega) ⟨sm_i8, sm_i8, br_t (by rw [sm_at0 h2, sm_at0 h3]; decide) ?_⟩⟩)))))
  refine sm_pack1 ht hp rfl rfl h9 (fun b hb1 hb2 => ⟨sm_i8, nm_r (sm_u (bq_i16n (by omega))) ⟨sm_i8, sm_i8, nm_r (sm_u (y := 1) (by rw [sm_at0 h3]; decide)) ⟨sm_i8, sm_i8, ?_⟩⟩⟩)
  rw [bq_z, pk_us, h2, h3]
  exact H b hb1 hb2
theorem sm_append2 {post : Int32 → St2 → Prop} {sc sf ae ps fc fs fl fm fg bf fh lv : Int32} {a1 a2 a3 a4 a5 a6 a7 a8 a9 a10 a11 a12 a13 a14 a15 a16 a17 a18 a19 a20 a21 a22 a23 a24 a25 : Nat → Int32} {t u : Nat} {p q x1 : Int32} (htu : t < u) (hu : u < 1000) (hp : sm_R p) (hq : sm_R q) (e1 : x1 = nI u) (h0 : sc = 1) (h2 : a2 0 = 0) (h3 : a3 0 = 1) (h6 : a6 0 = nI t)
    (h9 : a9 0 = 1) (h10 : a10 0 = -1) (h11 : a11 0 = 21) (h12 : a12 0 = 1) (h15 : a15 0 = nI t) (h17 : a17 0 = p) (h18 : a18 0 = p) (h19 : a19 0 = p) (h20 : a20 0 = p) (h21 : a21 0 = 0) (h23 : a23 0 = 0)
    (b1 : bq_at a22 19200 10 t) (b2 : bq_at a22 19210 11 (bq_fo p.toInt))
    (H : ∀ c11 c19 c20 b c23, c19 0 = sm_lo p q → c20 0 = sm_hi p q → sm_bits b t u p q → post 2 (sc, sf, ae, ps, fc, fs, fl, fm, fg, bf, fh, lv, a1, a2, upd a3 0 2, a4, a5, upd a6 0 (nI u), a7, a8, a9, a10, c11, upd a12 0 2, a13, a14, upd a15 0 (nI u), a16, upd a17 0 q, upd a18 0 (p + q), c19, c20, upd a21 0 (sm_gr p q), b, c23, a24, a25)) :
    wpX_append post (sc, sf, ae, ps, fc, fs, fl, fm, fg, bf, fh, lv, a1, a2, a3, a4, a5, a6, a7, a8, a9, a10, a11, a12, a13, a14, a15, a16, a17, a18, a19, a20, a21, a22, a23, a24, a25) 0 x1 q := by
  subst e1
  have et : (nI t).toInt = (t : Int) := nI_toInt (by omega)
  have eu : (nI u).toInt = (u : Int) := nI_toInt (by omega)
  have q1 := hq.1
  have q2 := hq.2
  have c0 : (0 : Int32).toInt = 0 := by decide
  have c1 : (999 : Int32).toInt = 999 := by decide
  have c2 : (-1000 : Int32).toInt = -1000 := by decide
  have c3 : (1000 : Int32).toInt = 1000 := by decide
  unfold wpX_append
  refine sm_isSeries h0 (br_f (by decide) (br_f (by rw [bq_ult]; omega) (br_f (by rw [bq_ult]; omega) (br_f (by rw [bq_ult]; omega) (br_t (by rw [bq_ule]; omega) ⟨sm_i8, br_t (by rw [sm_at0 h6, bq_ult]; omega) ⟨sm_i8, sm_i8, br_t (by rw [sm_at0 h2, sm_at0 h3]; decide) ?_⟩⟩)))))
  refine sm_pack2 htu hu hp hq rfl h9 h10 h11 h12 h15 h17 h18 h19 h20 h21 h23 b1 b2 (fun c11 c19 c20 b c23 g1 g2 g3 => ⟨sm_i8, nm_r (sm_u (bq_i16n (by omega))) ⟨sm_i8, sm_i8, nm_r (sm_u (y := 2) (by rw [sm_at0 h3]; decide)) ⟨sm_i8, sm_i8, ?_⟩⟩⟩)
  rw [bq_z, pk_us, h2]
  exact H c11 c19 c20 b c23 g1 g2 g3
theorem sm_append3 {post : Int32 → St2 → Prop} {sc sf ae ps fc fs fl fm fg bf fh lv : Int32} {a1 a2 a3 a4 a5 a6 a7 a8 a9 a10 a11 a12 a13 a14 a15 a16 a17 a18 a19 a20 a21 a22 a23 a24 a25 : Nat → Int32} {t u : Nat} {q x1 : Int32} (htu : u ≤ t) (ht : t < 1000) (hq : sm_R q) (e1 : x1 = nI u) (h0 : sc = 1) (h6 : a6 0 = nI t) (H : post (-10004) (sc, sf, ae, ps, fc, fs, fl, fm, fg, bf, fh, lv, a1, a2, a3, a4, a5, a6, a7, a8, a9, a10, a11, a12, a13, a14, a15, a16, a17, a18, a19, a20, a21, a22, a23, a24, a25)) : wpX_append post (sc, sf, ae, ps, fc, fs, fl, fm, fg, bf, fh, lv, a1, a2, a3, a4, a5, a6, a7, a8, a9, a10, a11, a12, a13, a14, a15, a16, a17, a18, a19, a20, a21, a22, a23, a24, a25) 0 x1 q := by
  subst e1
  have et : (nI t).toInt = (t : Int) := nI_toInt (by omega)
  have eu : (nI u).toInt = (u : Int) := nI_toInt (by omega)
  have q1 := hq.1
  have q2 := hq.2
  have c0 : (0 : Int32).toInt = 0 := by decide
  have c1 : (999 : Int32).toInt = 999 := by decide
  have c2 : (-1000 : Int32).toInt = -1000 := by decide
  have c3 : (1000 : Int32).toInt = 1000 := by decide
  unfold wpX_append
  exact sm_isSeries h0 (br_f (by decide) (br_f (by rw [bq_ult]; omega) (br_f (by rw [bq_ult]; omega) (br_f (by rw [bq_ult]; omega) (br_t (by rw [bq_ule]; omega) ⟨sm_i8, br_f (by rw [sm_at0 h6, bq_ult]; omega) H⟩)))))
theorem sm_present {post : Int32 → Prop} {sc sf ae ps fc fs fl fm fg bf fh lv : Int32} {a1 a2 a3 a4 a5 a6 a7 a8 a9 a10 a11 a12 a13 a14 a15 a16 a17 a18 a19 a20 a21 a22 a23 a24 a25 : Nat → Int32} {n : Int32} (hn : 0 < n) (h2 : a2 0 = 0) (h12 : a12 0 = n) (h13 : a13 0 = 0) (H : post 1) : wpX_isPresent post (sc, sf, ae, ps, fc, fs, fl, fm, fg, bf, fh, lv, a1, a2, a3, a4, a5, a6, a7, a8, a9, a10, a11, a12, a13, a14, a15, a16, a17, a18, a19, a20, a21, a22, a23, a24, a25) 0 0 := by
  refine And.intro sm_i96 ⟨sm_i96, sm_i8, br_f ?_ H⟩
  rw [sm_at0 h2, sm_at0 h12, sm_at0 h13, Int32.zero_add]
  exact Int32.not_le.mpr hn
/-- the one block is kept, and lies where it lay -/
theorem sm_drop {post : St2 → Prop} {sc sf ae ps fc fs fl fm fg bf fh lv : Int32} {a1 a2 a3 a4 a5 a6 a7 a8 a9 a10 a11 a12 a13 a14 a15 a16 a17 a18 a19 a20 a21 a22 a23 a24 a25 : Nat → Int32} {n : Int32} (hn : 0 < n) (h2 : a2 0 = 0) (h9 : a9 0 = 1) (h12 : a12 0 = n) (h13 : a13 0 = 0) (hb : n.toInt8.toInt32 = n)
    (s11 : (a11 0).toInt16.toInt32 = a11 0) (s14 : (a14 0).toInt16.toInt32 = a14 0) (s15 : (a15 0).toInt16.toInt32 = a15 0) (s16 : (a16 0).toInt16.toInt32 = a16 0) (s17 : (a17 0).toInt16.toInt32 = a17 0) (s18 : (a18 0).toInt16.toInt32 = a18 0) (s19 : (a19 0).toInt16.toInt32 = a19 0) (s20 : (a20 0).toInt16.toInt32 = a20 0) (s21 : (a21 0).toInt16.toInt32 = a21 0)
    (H : post (sc, sf, ae, ps, fc, fs, fl, fm, fg, bf, fh, lv, a1, a2, a3, a4, a5, a6, a7, a8, a9, a10, a11, a12, a13, a14, a15, a16, a17, a18, a19, a20, a21, a22, a23, a24, a25)) : wpX_dropUseless post (sc, sf, ae, ps, fc, fs, fl, fm, fg, bf, fh, lv, a1, a2, a3, a4, a5, a6, a7, a8, a9, a10, a11, a12, a13, a14, a15, a16, a17, a18, a19, a20, a21, a22, a23, a24, a25) 0 := by
  have N : ∀ {f : Nat → Int32}, (f 0).toInt16.toInt32 = f 0 → vp_nar .short (f (0 : Int32).toNatClampNeg) = f 0 := by
    intro f hf
    rw [bq_z, vp_nar_short, hf]
  have B : vp_nar .byte (a12 (0 : Int32).toNatClampNeg) = a12 0 := by rw [bq_z, vp_nar_byte, h12, hb]
  unfold wpX_dropUseless
  refine nm_r (e' := 0) (by decide) (nm_r (e' := 0) (by decide) ⟨2, And.intro sm_i8 (br_f (by rw [sm_at0 h9]; decide) (sm_present hn h2 h12 h13 (br_f (by decide) ?_)))⟩)
  unfold wX_dropUseless_46 wpX_moveBlock
  refine ⟨sm_i96, sm_i96, nm_r (sm_id (sm_at0 rfl)) ⟨sm_i96, sm_i96, nm_r (sm_id (N s11)) ⟨sm_i96, sm_i96, nm_r (sm_id B) ⟨sm_i96, sm_i96, nm_r (sm_id (sm_at0 rfl)) ⟨sm_i96, sm_i96, nm_r (sm_id (N s14)) ⟨sm_i96, sm_i96, nm_r (sm_id (N s15)) ⟨sm_i96, sm_i96, nm_r (sm_id (N s16)) ⟨sm_i96, sm_i96, nm_r (sm_id (N s17)) ⟨sm_i96, sm_i96, nm_r (sm_id (N s18)) ⟨sm_i96, sm_i96, nm_r (sm_id (N s19)) ⟨sm_i96, sm_i96, nm_r (sm_id (N s20)) ⟨sm_i96, sm_i96, nm_r (sm_id (N s21)) ?_⟩⟩⟩⟩⟩⟩⟩⟩⟩⟩⟩⟩
  refine nm_r (e' := 1) (by decide) (nm_r (e' := 1) (by decide) (And.intro sm_i8 (br_t (by rw [sm_at0 h9]; decide) ⟨sm_i8, nm_r (sm_id (f := a9) (by rw [h9]; decide)) H⟩)))
theorem sm_sync {post : St2 → Prop} {sc sf ae ps fc fs fl fm fg bf fh lv : Int32} {a1 a2 a3 a4 a5 a6 a7 a8 a9 a10 a11 a12 a13 a14 a15 a16 a17 a18 a19 a20 a21 a22 a23 a24 a25 : Nat → Int32} {t : Nat} {n : Int32} (ht : t < 1000) (hn : 0 < n) (h0 : sc = 1) (h2 : a2 0 = 0) (h3 : a3 0 = 1) (h6 : a6 0 = nI t) (h9 : a9 0 = 1) (h12 : a12 0 = n) (h13 : a13 0 = 0) (hb : n.toInt8.toInt32 = n)
    (s11 : (a11 0).toInt16.toInt32 = a11 0) (s14 : (a14 0).toInt16.toInt32 = a14 0) (s15 : (a15 0).toInt16.toInt32 = a15 0) (s16 : (a16 0).toInt16.toInt32 = a16 0) (s17 : (a17 0).toInt16.toInt32 = a17 0) (s18 : (a18 0).toInt16.toInt32 = a18 0) (s19 : (a19 0).toInt16.toInt32 = a19 0) (s20 : (a20 0).toInt16.toInt32 = a20 0) (s21 : (a21 0).toInt16.toInt32 = a21 0)
    (H : post (sc, 1, ae, ps, fc, fs, fl, fm, fg, bf, fh, lv, a1, a2, a3, upd a4 0 0, upd a5 0 1, a6, upd a7 0 (nI t), a8, a9, a10, a11, a12, a13, a14, a15, a16, a17, a18, a19, a20, a21, a22, a23, a24, a25)) : wpX_sync post (sc, sf, ae, ps, fc, fs, fl, fm, fg, bf, fh, lv, a1, a2, a3, a4, a5, a6, a7, a8, a9, a10, a11, a12, a13, a14, a15, a16, a17, a18, a19, a20, a21, a22, a23, a24, a25) := by
  subst h0
  refine ⟨2, br_f (by decide) ⟨sm_i8, sm_i8, nm_r (sm_u (sm_at0 h2)) ⟨sm_i8, sm_i8, nm_r (sm_u (sm_at0 h3)) ⟨sm_i8, sm_i8, nm_r (sm_u (y := nI t) (by rw [sm_at0 h6, vp_nar_short]; exact bq_i16n (by omega))) ?_⟩⟩⟩⟩
  exact sm_drop hn h2 h9 h12 h13 hb s11 s14 s15 s16 s17 s18 s19 s20 s21 (nm_r (e' := 1) (by decide) (br_t (by decide) H))
end
section
/-- the one series and its one block, as a question sees them -/
def sm_B (n : Int32) (t u : Nat) (p q tot lo hi g sc lv : Int32) (a2 a9 a12 a13 a14 a15 a16 a17 a18 a19 a20 a21 : Nat → Int32) : Prop :=
  0 < n ∧ t < 1000 ∧ u < 1000 ∧ lo < 2000 ∧ -2000 < hi ∧ sc = 1 ∧ lv = 2 ∧ a2 0 = 0 ∧ a9 0 = 1 ∧ a12 0 = n ∧ a13 0 = 0 ∧ a14 0 = nI t ∧ a15 0 = nI u ∧ a16 0 = p ∧ a17 0 = q ∧ a18 0 = tot ∧ a19 0 = lo ∧ a20 0 = hi ∧ a21 0 = g
theorem sm_isMatcher {post : Int32 → Prop} {u : St2} (H : post 1) : wpX_isMatcher post u 364 := br_f (by decide) (br_f (by decide) H)
theorem sm_matching {post : Int32 → Prop} {sc sf ae ps fc fs fl fm fg bf fh lv : Int32} {a1 a2 a3 a4 a5 a6 a7 a8 a9 a10 a11 a12 a13 a14 a15 a16 a17 a18 a19 a20 a21 a22 a23 a24 a25 : Nat → Int32} (h : sc = 1) (H : post 1) : wpX_matching post (sc, sf, ae, ps, fc, fs, fl, fm, fg, bf, fh, lv, a1, a2, a3, a4, a5, a6, a7, a8, a9, a10, a11, a12, a13, a14, a15, a16, a17, a18, a19, a20, a21, a22, a23, a24, a25) 364 := by
  subst h
  unfold wpX_matching
  refine sm_isMatcher (br_f (by decide) (nm_r (e' := 1) (by decide) ⟨4, ?_⟩))
  refine br_f (by decide) ⟨by decide, nm_r (e' := 4) (by decide) ⟨by decide, nm_r (e' := 40) (by decide) (br_t (by decide) (br_t (by decide) (nm_r (e' := 1) (by decide) ?_)))⟩⟩
  refine br_f (by decide) ⟨by decide, nm_r (e' := 4) (by decide) ⟨by decide, nm_r (e' := 4) (by decide) (br_t (by decide) (br_t (by decide) (nm_r (e' := 2) (by decide) ?_)))⟩⟩
  refine br_f (by decide) ⟨by decide, nm_r (e' := 4) (by decide) ⟨by decide, nm_r (e' := 0) (by decide) (br_t (by decide) (br_t (by decide) (nm_r (e' := 3) (by decide) ?_)))⟩⟩
  refine br_t (by decide) ?_
  have e : (1 : Int32) &&& 1 = 1 := by decide
  rw [e]
  exact H
theorem sm_askBlock {post : St2 → Prop} {sc sf ae ps fc fs fl fm fg bf fh lv : Int32} {a1 a2 a3 a4 a5 a6 a7 a8 a9 a10 a11 a12 a13 a14 a15 a16 a17 a18 a19 a20 a21 a22 a23 a24 a25 : Nat → Int32} {n p q tot lo hi g : Int32} {t u : Nat} (h : sm_B n t u p q tot lo hi g sc lv a2 a9 a12 a13 a14 a15 a16 a17 a18 a19 a20 a21)
    (h4 : fc = 0) (h5 : fs = 0) (h6 : fl = 2000) (h7 : fm = -2000) (h8 : fg = 0) (h10 : fh = 0)
    (H : post (sc, sf, ae, ps, n, tot, lo, hi, g, q, 1, lv, a1, a2, a3, a4, a5, a6, a7, a8, a9, a10, a11, a12, a13, a14, a15, a16, a17, a18, a19, a20, a21, a22, a23, a24, a25)) : wpX_askBlock post (sc, sf, ae, ps, fc, fs, fl, fm, fg, bf, fh, lv, a1, a2, a3, a4, a5, a6, a7, a8, a9, a10, a11, a12, a13, a14, a15, a16, a17, a18, a19, a20, a21, a22, a23, a24, a25) 0 0 0 999 := by
  obtain ⟨hn, ht, hu, hlo, hhi, h0, hlv, g2, g9, g12, g13, g14, g15, g16, g17, g18, g19, g20, g21⟩ := h
  subst h4 h5 h6 h7 h8 h10 h0 hlv
  have et : (nI t).toInt = (t : Int) := nI_toInt (by omega)
  have eu : (nI u).toInt = (u : Int) := nI_toInt (by omega)
  have c0 : (0 : Int32).toInt = 0 := by decide
  have c1 : (999 : Int32).toInt = 999 := by decide
  unfold wpX_askBlock
  refine sm_present hn g2 g12 g13 (br_f (by decide) ⟨sm_i96, br_f (by rw [sm_at0 g14, bq_ult]; omega) ⟨sm_i96, br_t (by rw [sm_at0 g15, bq_ule]; omega) (br_f (by decide) ⟨sm_i96, br_f (by rw [sm_at0 g14, bq_ult]; omega) ⟨sm_i96, br_f (by rw [sm_at0 g15, bq_ult]; omega) ⟨sm_i96, sm_i8, br_f (by rw [sm_at0 g13, sm_at0 g2]; decide) ?_⟩⟩⟩)⟩⟩)
  refine br_f (by decide) ⟨sm_i96, nm_r (e' := n) (by rw [sm_at0 g12, Int32.zero_add]) ⟨sm_i96, nm_r (e' := tot) (by rw [sm_at0 g18, Int32.zero_add]) ⟨sm_i96, br_f (by rw [sm_at0 g19]; exact Int32.not_le.mpr hlo) ⟨sm_i96, nm_r (sm_at0 g19) ?_⟩⟩⟩⟩
  refine And.intro sm_i96 (br_f (by rw [sm_at0 g20]; exact Int32.not_le.mpr hhi) ⟨sm_i96, nm_r (sm_at0 g20) ?_⟩)
  refine And.intro sm_i96 (br_t rfl ⟨sm_i96, nm_r (e' := g) (by rw [sm_at0 g21, Int32.zero_add]) ⟨sm_i96, nm_r (sm_at0 g17) H⟩⟩)
theorem sm_ask {post : St2 → Prop} {sc sf ae ps fc fs fl fm fg bf fh lv : Int32} {a1 a2 a3 a4 a5 a6 a7 a8 a9 a10 a11 a12 a13 a14 a15 a16 a17 a18 a19 a20 a21 a22 a23 a24 a25 : Nat → Int32} {n p q tot lo hi g : Int32} {t u : Nat} (h : sm_B n t u p q tot lo hi g sc lv a2 a9 a12 a13 a14 a15 a16 a17 a18 a19 a20 a21)
    (H : post (sc, sf, ae, ps, n, tot, lo, hi, g, q, 1, lv, a1, a2, a3, a4, a5, a6, a7, a8, a9, a10, a11, a12, a13, a14, a15, a16, a17, a18, a19, a20, a21, a22, a23, a24, a25)) : wpX_ask post (sc, sf, ae, ps, fc, fs, fl, fm, fg, bf, fh, lv, a1, a2, a3, a4, a5, a6, a7, a8, a9, a10, a11, a12, a13, a14, a15, a16, a17, a18, a19, a20, a21, a22, a23, a24, a25) 364 0 999 := by
  have h' := h
  obtain ⟨hn, ht, hu, hlo, hhi, h0, hlv, g2, g9, g12, g13, g14, g15, g16, g17, g18, g19, g20, g21⟩ := h'
  unfold wpX_ask
  refine sm_matching h0 ⟨2, br_f (by rw [h0]; decide) (br_f (by decide) (nm_r (e' := 0) (by decide) ⟨2, And.intro sm_i8 (br_f (by rw [sm_at0 g9]; decide) ?_)⟩))⟩
  refine sm_askBlock h rfl rfl rfl rfl rfl rfl (nm_r (e' := 1) (by decide) (And.intro sm_i8 (br_t (by rw [sm_at0 g9]; decide) (nm_r (e' := 1) (by decide) ?_))))
  exact br_t (by rw [h0]; decide) H
theorem sm_growth {post : Int32 → St2 → Prop} {sc sf ae ps fc fs fl fm fg bf fh lv : Int32} {a1 a2 a3 a4 a5 a6 a7 a8 a9 a10 a11 a12 a13 a14 a15 a16 a17 a18 a19 a20 a21 a22 a23 a24 a25 : Nat → Int32} {n p q tot lo hi g : Int32} {t u : Nat} (h : sm_B n t u p q tot lo hi g sc lv a2 a9 a12 a13 a14 a15 a16 a17 a18 a19 a20 a21)
    (H : post g (sc, sf, ae, ps, n, tot, lo, hi, g, q, 1, lv, a1, a2, a3, a4, a5, a6, a7, a8, a9, a10, a11, a12, a13, a14, a15, a16, a17, a18, a19, a20, a21, a22, a23, a24, a25)) : wpX_growth post (sc, sf, ae, ps, fc, fs, fl, fm, fg, bf, fh, lv, a1, a2, a3, a4, a5, a6, a7, a8, a9, a10, a11, a12, a13, a14, a15, a16, a17, a18, a19, a20, a21, a22, a23, a24, a25) 364 0 999 := by
  unfold wpX_growth
  exact sm_isMatcher (br_f (by decide) (sm_ask h H))
theorem sm_sum {post : Int32 → St2 → Prop} {sc sf ae ps fc fs fl fm fg bf fh lv : Int32} {a1 a2 a3 a4 a5 a6 a7 a8 a9 a10 a11 a12 a13 a14 a15 a16 a17 a18 a19 a20 a21 a22 a23 a24 a25 : Nat → Int32} {n p q tot lo hi g : Int32} {t u : Nat} (h : sm_B n t u p q tot lo hi g sc lv a2 a9 a12 a13 a14 a15 a16 a17 a18 a19 a20 a21)
    (H : post tot (sc, sf, ae, ps, n, tot, lo, hi, g, q, 1, lv, a1, a2, a3, a4, a5, a6, a7, a8, a9, a10, a11, a12, a13, a14, a15, a16, a17, a18, a19, a20, a21, a22, a23, a24, a25)) : wpX_sum post (sc, sf, ae, ps, fc, fs, fl, fm, fg, bf, fh, lv, a1, a2, a3, a4, a5, a6, a7, a8, a9, a10, a11, a12, a13, a14, a15, a16, a17, a18, a19, a20, a21, a22, a23, a24, a25) 364 0 999 := by
  unfold wpX_sum
  exact sm_isMatcher (br_f (by decide) (sm_ask h H))
theorem sm_most {post : Int32 → St2 → Prop} {sc sf ae ps fc fs fl fm fg bf fh lv : Int32} {a1 a2 a3 a4 a5 a6 a7 a8 a9 a10 a11 a12 a13 a14 a15 a16 a17 a18 a19 a20 a21 a22 a23 a24 a25 : Nat → Int32} {n p q tot lo hi g : Int32} {t u : Nat} (h : sm_B n t u p q tot lo hi g sc lv a2 a9 a12 a13 a14 a15 a16 a17 a18 a19 a20 a21)
    (H : post hi (sc, sf, ae, ps, n, tot, lo, hi, g, q, 1, lv, a1, a2, a3, a4, a5, a6, a7, a8, a9, a10, a11, a12, a13, a14, a15, a16, a17, a18, a19, a20, a21, a22, a23, a24, a25)) : wpX_most post (sc, sf, ae, ps, fc, fs, fl, fm, fg, bf, fh, lv, a1, a2, a3, a4, a5, a6, a7, a8, a9, a10, a11, a12, a13, a14, a15, a16, a17, a18, a19, a20, a21, a22, a23, a24, a25) 364 0 999 := by
  unfold wpX_most
  exact sm_isMatcher (br_f (by decide) (sm_ask h (br_f (fun z => absurd h.1 (by rw [z]; decide)) H)))
/-- ranked where there is one sample: none -/
theorem sm_ranked1 {post : Int32 → St2 → Prop} {sc sf ae ps fc fs fl fm fg bf fh lv : Int32} {a1 a2 a3 a4 a5 a6 a7 a8 a9 a10 a11 a12 a13 a14 a15 a16 a17 a18 a19 a20 a21 a22 a23 a24 a25 : Nat → Int32} {p q tot lo hi g : Int32} {t u : Nat} (h : sm_B 1 t u p q tot lo hi g sc lv a2 a9 a12 a13 a14 a15 a16 a17 a18 a19 a20 a21)
    (H : post (-10003) (sc, sf, ae, ps, 1, tot, lo, hi, g, q, 1, lv, a1, a2, a3, a4, a5, a6, a7, a8, a9, a10, a11, a12, a13, a14, a15, a16, a17, a18, a19, a20, a21, a22, a23, a24, a25)) : wpX_ranked post (sc, sf, ae, ps, fc, fs, fl, fm, fg, bf, fh, lv, a1, a2, a3, a4, a5, a6, a7, a8, a9, a10, a11, a12, a13, a14, a15, a16, a17, a18, a19, a20, a21, a22, a23, a24, a25) 364 0 999 1 := by
  unfold wpX_ranked
  exact sm_isMatcher (br_f (by decide) (sm_ask h (br_f (by decide) (br_f (by decide) H))))
end
section
theorem sm_unpack {post : St2 → Prop} {sc sf ae ps fc fs fl fm fg bf fh lv : Int32} {a1 a2 a3 a4 a5 a6 a7 a8 a9 a10 a11 a12 a13 a14 a15 a16 a17 a18 a19 a20 a21 a22 a23 a24 a25 : Nat → Int32} {t u : Nat} {p q : Int32} (htu : t < u) (hu : u < 1000) (hp : sm_R p) (hq : sm_R q) (h10 : a10 0 = -1) (h12 : a12 0 = 2) (hb : sm_bits a22 t u p q)
    (H : ∀ x c24 c25, c24 0 = nI t → c24 1 = nI u → c25 0 = p → c25 1 = q → post (sc, sf, ae, x, fc, fs, fl, fm, fg, bf, fh, lv, a1, a2, a3, a4, a5, a6, a7, a8, a9, a10, a11, a12, a13, a14, a15, a16, a17, a18, a19, a20, a21, a22, a23, c24, c25)) : wpX_unpack post (sc, sf, ae, ps, fc, fs, fl, fm, fg, bf, fh, lv, a1, a2, a3, a4, a5, a6, a7, a8, a9, a10, a11, a12, a13, a14, a15, a16, a17, a18, a19, a20, a21, a22, a23, a24, a25) 0 := by
  obtain ⟨b1, b2, k1, k2, k1h, k2h, n1, n2⟩ := hb
  have p1 := hp.1
  have p2 := hp.2
  have q1 := hq.1
  have q2 := hq.2
  have hf : bq_fo p.toInt ≤ 2000 := bq_fo_lt (n := 1000) hp.1 hp.2
  have et : (nI (u - t)).toInt = ((u - t : Nat) : Int) := nI_toInt (by omega)
  have sd := bq_sub (x := q) (y := p) (by omega) (by omega)
  have e10 : (0 : Int32) / 12 = 0 := by decide
  have e5 : (0 : Int32) + nI (u - t) = nI (u - t) := Int32.zero_add _
  have e2 : nI t + nI (u - t) = nI u := by rw [nI_add, show t + (u - t) = u by omega]
  have e4 : p + (q - p) = q := by
    apply Int32.toInt_inj.mp
    rw [bq_add (by omega) (by omega), sd]
    omega
  have i1 : vp_in 1 8 := vp_in_iff.mpr (by decide)
  have z1 : (1 : Int32).toNatClampNeg = 1 := by decide
  have tn : (nI t).toInt16.toInt32 = nI t := bq_i16n (by omega)
  have un : (nI u).toInt16.toInt32 = nI u := bq_i16n (by omega)
  have pn := sm_R16 hp
  have qn := sm_R16 hq
  refine And.intro sm_i96 (br_t (sm_at0 h10) ⟨by decide, ?_⟩)
  rw [e10]
  refine sm_slot (sm_take 19200 10 t rfl rfl (by omega) (by omega) (by omega) b1 (sm_take 19210 11 _ rfl rfl (by omega) (by omega) (by omega) b2 ?_))
  refine sm_unfolded (by omega) (by omega) rfl (nm_r (e' := upd a24 0 (nI t)) (by rw [tn]) (nm_r (e' := upd a25 0 p) (by rw [pn]) ⟨2, And.intro sm_i96 (br_f (by rw [sm_at0 h12]; decide) ?_)⟩))
  refine sm_takeNumber 19221 5 11 k1 rfl rfl rfl (by omega) (by omega) (by omega) (by omega) (by omega) n1 (nm_r e5 (nm_r e2 ?_))
  refine sm_takeNumber (19221 + k1) 6 12 k2 rfl rfl rfl (by omega) (by omega) (by omega) (by omega) (by omega) n2 (nm_r e4 ⟨i1, nm_r (e' := upd (upd a24 0 (nI t)) 1 (nI u)) (by rw [z1, un]) ⟨i1, nm_r (e' := upd (upd a25 0 p) 1 q) (by rw [z1, qn]) (nm_r (e' := 2) (by decide) ?_)⟩⟩)
  exact And.intro sm_i96 (br_t (by rw [sm_at0 h12]; decide) (H _ _ _ rfl rfl rfl rfl))
/-- between the two values there is one -/
theorem sm_one {p q m : Int32} (h1 : sm_lo p q ≤ m) (h2 : m < sm_hi p q) : (p ≤ m ∧ m < q) ∨ (q ≤ m ∧ m < p) := by
  unfold sm_lo at h1
  unfold sm_hi at h2
  rw [bq_ult] at h2
  rw [bq_ule] at h1
  rw [bq_ule, bq_ult, bq_ule, bq_ult]
  by_cases z : p ≤ q
  · rw [if_pos z] at h1
    rw [bq_ule] at z
    by_cases y : q ≤ p
    · rw [if_pos y] at h2
      rw [bq_ule] at y
      omega
    · rw [if_neg y] at h2
      omega
  · rw [if_neg z] at h1
    rw [bq_ule] at z
    by_cases y : q ≤ p
    · rw [if_pos y] at h2
      omega
    · rw [bq_ule] at y
      omega
theorem sm_countIn {post : Int32 → St2 → Prop} {sc sf ae ps fc fs fl fm fg bf fh lv : Int32} {a1 a2 a3 a4 a5 a6 a7 a8 a9 a10 a11 a12 a13 a14 a15 a16 a17 a18 a19 a20 a21 a22 a23 a24 a25 : Nat → Int32} {g m p q tot : Int32} {t u : Nat} (h : sm_B 2 t u p q tot (sm_lo p q) (sm_hi p q) g sc lv a2 a9 a12 a13 a14 a15 a16 a17 a18 a19 a20 a21) (htu : t < u) (hp : sm_R p) (hq : sm_R q)
    (h10 : a10 0 = -1) (hb : sm_bits a22 t u p q) (h1 : sm_lo p q ≤ m) (h2 : m < sm_hi p q)
    (H : ∀ x c24 c25, post 1 (sc, sf, ae, x, fc, fs, fl, fm, fg, bf, fh, lv, a1, a2, a3, a4, a5, a6, a7, a8, a9, a10, a11, a12, a13, a14, a15, a16, a17, a18, a19, a20, a21, a22, a23, c24, c25)) : wpX_countInBlock post (sc, sf, ae, ps, fc, fs, fl, fm, fg, bf, fh, lv, a1, a2, a3, a4, a5, a6, a7, a8, a9, a10, a11, a12, a13, a14, a15, a16, a17, a18, a19, a20, a21, a22, a23, a24, a25) 0 0 0 999 m := by
  obtain ⟨hn, ht, hu, hlo, hhi, h0, hlv, g2, g9, g12, g13, g14, g15, g16, g17, g18, g19, g20, g21⟩ := h
  have et : (nI t).toInt = (t : Int) := nI_toInt (by omega)
  have eu : (nI u).toInt = (u : Int) := nI_toInt (by omega)
  have c0 : (0 : Int32).toInt = 0 := by decide
  have c1 : (999 : Int32).toInt = 999 := by decide
  have i0 : vp_in 0 8 := sm_i8
  have i1 : vp_in 1 8 := vp_in_iff.mpr (by decide)
  have z1 : (1 : Int32).toNatClampNeg = 1 := by decide
  refine br_t hlv ⟨sm_i96, br_f (by rw [sm_at0 g14, bq_ult]; omega) ⟨sm_i96, br_f (by rw [sm_at0 g15, bq_ult]; omega) ⟨sm_i96, sm_i8, br_f (by rw [sm_at0 g13, sm_at0 g2]; decide) ?_⟩⟩⟩
  refine br_f (by decide) ⟨sm_i96, br_t (by rw [sm_at0 g20]; exact h2) ?_⟩
  refine sm_unpack htu hu hp hq h10 g12 hb (fun x c24 c25 t0 t1 v0 v1 => ⟨3, And.intro sm_i96 (br_f (by rw [sm_at0 g12]; decide) ⟨i0, br_f (by rw [sm_at0 t0, bq_ult]; omega) ⟨i0, br_f (by rw [sm_at0 t0, bq_ult]; omega) ⟨sm_i96, sm_i8, br_f (by rw [sm_at0 g13, sm_at0 g2]; decide) ⟨i0, ?_⟩⟩⟩⟩)⟩)
  rw [sm_at0 v0]
  have k1 : ∀ y : Int32, m < q → y = 1 → wX_countInBlock_85 post 0 0 0 999 m sc sf ae x fc fs fl fm fg bf fh lv a1 a2 a3 a4 a5 a6 a7 a8 a9 a10 a11 a12 a13 a14 a15 a16 a17 a18 a19 a20 a21 a22 a23 c24 c25 2 y 1 := by
    intro y w ey
    refine And.intro sm_i96 (br_f (by rw [sm_at0 g12]; decide) ⟨i1, br_f (by rw [z1, t1, bq_ult]; omega) ⟨i1, br_f (by rw [z1, t1, bq_ult]; omega) ⟨sm_i96, sm_i8, br_f (by rw [sm_at0 g13, sm_at0 g2]; decide) ⟨i1, br_t (by rw [z1, v1]; exact w) (nm_r (e' := 2) (by decide) (And.intro sm_i96 (br_t (by rw [sm_at0 g12]; decide) ?_)))⟩⟩⟩⟩)
    rw [ey]
    exact H _ _ _
  have k2 : ∀ y : Int32, q ≤ m → y = 0 → wX_countInBlock_85 post 0 0 0 999 m sc sf ae x fc fs fl fm fg bf fh lv a1 a2 a3 a4 a5 a6 a7 a8 a9 a10 a11 a12 a13 a14 a15 a16 a17 a18 a19 a20 a21 a22 a23 c24 c25 2 y 1 := by
    intro y w ey
    refine And.intro sm_i96 (br_f (by rw [sm_at0 g12]; decide) ⟨i1, br_f (by rw [z1, t1, bq_ult]; omega) ⟨i1, br_f (by rw [z1, t1, bq_ult]; omega) ⟨sm_i96, sm_i8, br_f (by rw [sm_at0 g13, sm_at0 g2]; decide) ⟨i1, br_f (by rw [z1, v1]; exact Int32.not_lt.mpr w) (nm_r (e' := 1) (by rw [ey]; decide) (nm_r (e' := 2) (by decide) (And.intro sm_i96 (br_t (by rw [sm_at0 g12]; decide) ?_))))⟩⟩⟩⟩)
    exact H _ _ _
  rcases sm_one h1 h2 with ⟨w1, w2⟩ | ⟨w1, w2⟩
  · exact br_f (Int32.not_lt.mpr w1) (nm_r (e' := 1) (by decide) (nm_r (e' := 1) (by decide) (k1 1 w2 rfl)))
  · exact br_t w2 (nm_r (e' := 1) (by decide) (k2 0 w1 rfl))
theorem sm_countUpTo {post : Int32 → St2 → Prop} {sc sf ae ps fc fs fl fm fg bf fh lv : Int32} {a1 a2 a3 a4 a5 a6 a7 a8 a9 a10 a11 a12 a13 a14 a15 a16 a17 a18 a19 a20 a21 a22 a23 a24 a25 : Nat → Int32} {g m p q tot : Int32} {t u : Nat} (h : sm_B 2 t u p q tot (sm_lo p q) (sm_hi p q) g sc lv a2 a9 a12 a13 a14 a15 a16 a17 a18 a19 a20 a21) (htu : t < u) (hp : sm_R p) (hq : sm_R q)
    (h10 : a10 0 = -1) (hb : sm_bits a22 t u p q) (h1 : sm_lo p q ≤ m) (h2 : m < sm_hi p q)
    (H : ∀ x c24 c25, post 1 (sc, sf, ae, x, fc, fs, fl, fm, fg, bf, fh, lv, a1, a2, a3, a4, a5, a6, a7, a8, a9, a10, a11, a12, a13, a14, a15, a16, a17, a18, a19, a20, a21, a22, a23, c24, c25)) : wpX_countUpTo post (sc, sf, ae, ps, fc, fs, fl, fm, fg, bf, fh, lv, a1, a2, a3, a4, a5, a6, a7, a8, a9, a10, a11, a12, a13, a14, a15, a16, a17, a18, a19, a20, a21, a22, a23, a24, a25) 1 0 999 m := by
  have h' := h
  obtain ⟨hn, ht, hu, hlo, hhi, h0, hlv, g2, g9, g12, g13, g14, g15, g16, g17, g18, g19, g20, g21⟩ := h'
  have et : (nI t).toInt = (t : Int) := nI_toInt (by omega)
  have eu : (nI u).toInt = (u : Int) := nI_toInt (by omega)
  have c0 : (0 : Int32).toInt = 0 := by decide
  have c1 : (999 : Int32).toInt = 999 := by decide
  refine ⟨2, br_f (by rw [h0]; decide) (br_f (by decide) (nm_r (e' := 0) (by decide) ⟨2, And.intro sm_i8 (br_f (by rw [sm_at0 g9]; decide) ?_)⟩))⟩
  refine sm_present hn g2 g12 g13 (br_f (by decide) ⟨sm_i96, br_f (by rw [sm_at0 g14, bq_ult]; omega) ⟨sm_i96, br_f (by rw [sm_at0 g15, bq_ult]; omega) ⟨sm_i96, br_t (by rw [sm_at0 g19]; exact h1) ?_⟩⟩⟩)
  refine sm_countIn h htu hp hq h10 hb h1 h2 (fun x c24 c25 => nm_r (e' := 1) (by decide) (nm_r (e' := 1) (by decide) (And.intro sm_i8 (br_t (by rw [sm_at0 g9]; decide) (nm_r (e' := 1) (by decide) ?_)))))
  exact br_t (by rw [h0]; decide) (H x c24 c25)
theorem sm_loR {p q : Int32} (hp : sm_R p) (hq : sm_R q) : sm_R (sm_lo p q) := by
  unfold sm_lo
  split
  · exact hp
  · exact hq
theorem sm_hiR {p q : Int32} (hp : sm_R p) (hq : sm_R q) : sm_R (sm_hi p q) := by
  unfold sm_hi
  split
  · exact hp
  · exact hq
theorem sm_lohi (p q : Int32) : (sm_lo p q).toInt ≤ (sm_hi p q).toInt := by
  unfold sm_lo sm_hi
  by_cases z : p ≤ q
  · rw [if_pos z]
    rw [bq_ule] at z
    split <;> omega
  · rw [if_neg z]
    rw [bq_ule] at z
    split <;> omega
theorem sm_mid {x y : Int32} (hx : sm_R x) (hy : sm_R y) (h : x.toInt < y.toInt) : ∃ m : Int32, (x + y) >>> ((1 : Int32) &&& 31) = m ∧ x.toInt ≤ m.toInt ∧ m.toInt < y.toInt ∧ (m + 1).toInt = m.toInt + 1 := by
  obtain ⟨x1, x2⟩ := hx
  obtain ⟨y1, y2⟩ := hy
  have c1 : (1 : Int32).toInt = 1 := by decide
  have e : ((x + y) >>> ((1 : Int32) &&& 31)).toInt = (x.toInt + y.toInt) / 2 := by
    rw [pk_shr _ _ 1 (by decide), bq_add (by omega) (by omega), Int.shiftRight_eq_div_pow]
    rfl
  refine ⟨_, rfl, by omega, by omega, ?_⟩
  rw [bq_add (by omega) (by omega), c1]
theorem sm_ranked2 {post : Int32 → St2 → Prop} {sc sf ae ps fc fs fl fm fg bf fh lv : Int32} {a1 a2 a3 a4 a5 a6 a7 a8 a9 a10 a11 a12 a13 a14 a15 a16 a17 a18 a19 a20 a21 a22 a23 a24 a25 : Nat → Int32} {g p q tot : Int32} {t u : Nat} (h : sm_B 2 t u p q tot (sm_lo p q) (sm_hi p q) g sc lv a2 a9 a12 a13 a14 a15 a16 a17 a18 a19 a20 a21) (htu : t < u) (hp : sm_R p) (hq : sm_R q)
    (h10 : a10 0 = -1) (hb : sm_bits a22 t u p q)
    (H : ∀ x c24 c25, post (sm_hi p q) (sc, sf, ae, x, 2, tot, sm_lo p q, sm_hi p q, g, q, 1, lv, a1, a2, a3, a4, a5, a6, a7, a8, a9, a10, a11, a12, a13, a14, a15, a16, a17, a18, a19, a20, a21, a22, a23, c24, c25)) : wpX_ranked post (sc, sf, ae, ps, fc, fs, fl, fm, fg, bf, fh, lv, a1, a2, a3, a4, a5, a6, a7, a8, a9, a10, a11, a12, a13, a14, a15, a16, a17, a18, a19, a20, a21, a22, a23, a24, a25) 364 0 999 1 := by
  have lR := sm_loR hp hq
  have hR := sm_hiR hp hq
  unfold wpX_ranked
  refine sm_isMatcher (br_f (by decide) (sm_ask h (br_f (by decide) (br_t (by decide) (sm_matching h.2.2.2.2.2.1 ?_)))))
  refine lp4 (fun n x y c24 c25 => wX_ranked_56 post 0 999 1 1 n x (sm_hi p q) sc sf ae y 2 tot (sm_lo p q) (sm_hi p q) g q 1 lv a1 a2 a3 a4 a5 a6 a7 a8 a9 a10 a11 a12 a13 a14 a15 a16 a17 a18 a19 a20 a21 a22 a23 c24 c25) (fun x _ _ _ => (sm_lo p q).toInt ≤ x.toInt ∧ x.toInt ≤ (sm_hi p q).toInt) (fun x _ _ _ => ((sm_hi p q).toInt - x.toInt).toNat) ?_ (sm_lo p q) ps a24 a25 ⟨by omega, sm_lohi p q⟩
  intro n x y c24 c25 hI hk
  obtain ⟨i1, i2⟩ := hI
  refine br_c (fun z => ?_) (fun z => ?_)
  · rw [bq_ule] at z
    have e : x = sm_hi p q := Int32.toInt_inj.mp (by omega)
    rw [e]
    exact H y c24 c25
  · rw [bq_ule] at z
    obtain ⟨m, em, m1, m2, m3⟩ := sm_mid (x := x) (y := sm_hi p q) ⟨by have := lR.1; omega, by have := hR.2; omega⟩ hR (by omega)
    refine nm_r em (sm_countUpTo h htu hp hq h10 hb (by rw [bq_ule]; omega) (by rw [bq_ult]; omega) (fun x' d24 d25 => br_t (by decide) (nm_e (hk _ _ _ _ ⟨by omega, by omega⟩ (by omega)))))
end
section
/-- nothing was added since: nothing to cut -/
theorem sm_cut1 {post : St2 → Prop} {sc sf ae ps fc fs fl fm fg bf fh lv : Int32} {a1 a2 a3 a4 a5 a6 a7 a8 a9 a10 a11 a12 a13 a14 a15 a16 a17 a18 a19 a20 a21 a22 a23 a24 a25 : Nat → Int32} {x2 : Int32} (e2 : x2 = 1) (h9 : a9 0 = 1) (h12 : a12 0 = 1) (h13 : a13 0 = 0) (H : post (sc, sf, ae, ps, fc, fs, fl, fm, fg, bf, fh, lv, a1, a2, a3, a4, a5, a6, a7, a8, a9, a10, a11, a12, a13, a14, a15, a16, a17, a18, a19, a20, a21, a22, a23, a24, a25)) : wpX_cutBack post (sc, sf, ae, ps, fc, fs, fl, fm, fg, bf, fh, lv, a1, a2, a3, a4, a5, a6, a7, a8, a9, a10, a11, a12, a13, a14, a15, a16, a17, a18, a19, a20, a21, a22, a23, a24, a25) 0 x2 := by
  subst e2
  have e3 : 12 * 0 + a9 (0 : Int32).toNatClampNeg - 1 = 0 := by rw [sm_at0 h9]; decide
  refine ⟨1, And.intro sm_i8 (br_f (by rw [sm_at0 h9]; decide) ⟨sm_i8, ?_⟩)⟩
  rw [e3]
  refine ⟨sm_i96, br_t (by rw [sm_at0 h13]; decide) ?_⟩
  exact And.intro sm_i8 (br_f (by rw [sm_at0 h9]; decide) ⟨sm_i8, nm_r e3 ⟨sm_i96, nm_r (e' := 1) (by rw [sm_at0 h13]; decide) ⟨sm_i96, br_f (by rw [sm_at0 h12]; decide) H⟩⟩⟩)
/-- the second sample goes: the first is packed anew -/
theorem sm_cut2 {post : St2 → Prop} {sc sf ae ps fc fs fl fm fg bf fh lv : Int32} {a1 a2 a3 a4 a5 a6 a7 a8 a9 a10 a11 a12 a13 a14 a15 a16 a17 a18 a19 a20 a21 a22 a23 a24 a25 : Nat → Int32} {t u : Nat} {p q x2 : Int32} (htu : t < u) (hu : u < 1000) (hp : sm_R p) (hq : sm_R q) (e2 : x2 = 1) (h9 : a9 0 = 1) (h10 : a10 0 = -1) (h12 : a12 0 = 2) (h13 : a13 0 = 0) (hb : sm_bits a22 t u p q)
    (H : ∀ x b c24 c25, post (sc, sf, ae, x, fc, fs, fl, fm, fg, bf, fh, lv, a1, a2, upd (upd a3 0 0) 0 1, a4, a5, a6, a7, a8, upd (upd a9 0 0) 0 1, upd a10 0 (-1), upd a11 0 21, upd a12 0 1, upd a13 0 0, upd a14 0 (nI t), upd a15 0 (nI t), upd a16 0 p, upd a17 0 p, upd a18 0 p, upd a19 0 p, upd a20 0 p, upd a21 0 0, b, upd a23 0 0, c24, c25)) : wpX_cutBack post (sc, sf, ae, ps, fc, fs, fl, fm, fg, bf, fh, lv, a1, a2, a3, a4, a5, a6, a7, a8, a9, a10, a11, a12, a13, a14, a15, a16, a17, a18, a19, a20, a21, a22, a23, a24, a25) 0 x2 := by
  subst e2
  have e3 : 12 * 0 + a9 (0 : Int32).toNatClampNeg - 1 = 0 := by rw [sm_at0 h9]; decide
  refine ⟨1, And.intro sm_i8 (br_f (by rw [sm_at0 h9]; decide) ⟨sm_i8, ?_⟩)⟩
  rw [e3]
  refine ⟨sm_i96, br_t (by rw [sm_at0 h13]; decide) ?_⟩
  refine And.intro sm_i8 (br_f (by rw [sm_at0 h9]; decide) ⟨sm_i8, nm_r e3 ⟨sm_i96, nm_r (e' := 1) (by rw [sm_at0 h13]; decide) ⟨sm_i96, br_t (by rw [sm_at0 h12]; decide) ?_⟩⟩⟩)
  refine sm_unpack htu hu hp hq h10 h12 hb (fun x c24 c25 t0 t1 v0 v1 => ⟨sm_i8, sm_i8, nm_r (sm_u (y := 0) (by rw [sm_at0 h9]; decide)) ⟨sm_i96, sm_i8, nm_r (sm_u (sm_at0 h13)) ⟨2, br_f (by decide) ⟨sm_i8, sm_i8, ?_⟩⟩⟩⟩)
  refine sm_pack1 (t := t) (p := p) (by omega) hp (sm_at0 t0) (sm_at0 v0) rfl (fun b _ _ => ⟨sm_i8, sm_i8, nm_r (sm_u (y := 1) (by rw [bq_z, pk_us]; decide)) (nm_r (e' := 1) (by decide) (br_t (by decide) ?_))⟩)
  exact H x b c24 c25
theorem sm_crash1 {post : Int32 → St2 → Prop} {sc sf ae ps fc fs fl fm fg bf fh lv : Int32} {a1 a2 a3 a4 a5 a6 a7 a8 a9 a10 a11 a12 a13 a14 a15 a16 a17 a18 a19 a20 a21 a22 a23 a24 a25 : Nat → Int32} {t : Nat} (ht : t < 1000) (h0 : sc = 1) (hs : sf = 1) (h2 : a2 0 = 0) (h3 : a3 0 = 1) (h4 : a4 0 = 0) (h5 : a5 0 = 1) (h7 : a7 0 = nI t) (h9 : a9 0 = 1) (h12 : a12 0 = 1) (h13 : a13 0 = 0)
    (s11 : (a11 0).toInt16.toInt32 = a11 0) (s14 : (a14 0).toInt16.toInt32 = a14 0) (s15 : (a15 0).toInt16.toInt32 = a15 0) (s16 : (a16 0).toInt16.toInt32 = a16 0) (s17 : (a17 0).toInt16.toInt32 = a17 0) (s18 : (a18 0).toInt16.toInt32 = a18 0) (s19 : (a19 0).toInt16.toInt32 = a19 0) (s20 : (a20 0).toInt16.toInt32 = a20 0) (s21 : (a21 0).toInt16.toInt32 = a21 0)
    (H : post 0 (sc, sf, ae, ps, fc, fs, fl, fm, fg, bf, fh, lv, a1, upd a2 0 0, upd a3 0 1, a4, a5, upd a6 0 (nI t), a7, a8, a9, a10, a11, a12, a13, a14, a15, a16, a17, a18, a19, a20, a21, a22, a23, a24, a25)) : wpX_crash post (sc, sf, ae, ps, fc, fs, fl, fm, fg, bf, fh, lv, a1, a2, a3, a4, a5, a6, a7, a8, a9, a10, a11, a12, a13, a14, a15, a16, a17, a18, a19, a20, a21, a22, a23, a24, a25) := by
  subst h0 hs
  refine ⟨2, br_f (by decide) ⟨sm_i8, sm_i8, nm_r (e' := 1) (by rw [sm_at0 h2, sm_at0 h3]; decide) (nm_r (e' := 1) (by decide) (br_t (by decide) (nm_r (e' := 0) (by decide) ⟨1, br_t (by decide) ⟨2, br_f (by decide) ⟨sm_i8, ?_⟩⟩⟩)))⟩⟩
  refine sm_cut1 (sm_at0 h5) h9 h12 h13 ⟨sm_i8, sm_i8, nm_r (sm_u (sm_at0 h4)) ⟨sm_i8, sm_i8, nm_r (sm_u (sm_at0 h5)) ⟨sm_i8, sm_i8, nm_r (sm_u (y := nI t) (by rw [sm_at0 h7, vp_nar_short]; exact bq_i16n (by omega))) ⟨sm_i8, sm_i8, nm_r (e' := 0) (by rw [bq_z, pk_us, pk_us]; decide) ?_⟩⟩⟩⟩
  exact sm_drop (n := 1) (by decide) rfl h9 h12 h13 (by decide) s11 s14 s15 s16 s17 s18 s19 s20 s21 (nm_r (e' := 1) (by decide) (br_t (by decide) H))
theorem sm_crash2 {post : Int32 → St2 → Prop} {sc sf ae ps fc fs fl fm fg bf fh lv : Int32} {a1 a2 a3 a4 a5 a6 a7 a8 a9 a10 a11 a12 a13 a14 a15 a16 a17 a18 a19 a20 a21 a22 a23 a24 a25 : Nat → Int32} {t u : Nat} {p q : Int32} (htu : t < u) (hu : u < 1000) (hp : sm_R p) (hq : sm_R q) (h0 : sc = 1) (hs : sf = 1) (h2 : a2 0 = 0) (h3 : a3 0 = 2) (h4 : a4 0 = 0) (h5 : a5 0 = 1) (h7 : a7 0 = nI t) (h9 : a9 0 = 1) (h10 : a10 0 = -1) (h12 : a12 0 = 2) (h13 : a13 0 = 0) (hb : sm_bits a22 t u p q)
    (H : ∀ x b c24 c25, post 1 (sc, sf, ae, x, fc, fs, fl, fm, fg, bf, fh, lv, a1, upd a2 0 0, upd (upd (upd a3 0 0) 0 1) 0 1, a4, a5, upd a6 0 (nI t), a7, a8, upd (upd a9 0 0) 0 1, upd a10 0 (-1), upd a11 0 21, upd a12 0 1, upd a13 0 0, upd a14 0 (nI t), upd a15 0 (nI t), upd a16 0 p, upd a17 0 p, upd a18 0 p, upd a19 0 p, upd a20 0 p, upd a21 0 0, b, upd a23 0 0, c24, c25)) : wpX_crash post (sc, sf, ae, ps, fc, fs, fl, fm, fg, bf, fh, lv, a1, a2, a3, a4, a5, a6, a7, a8, a9, a10, a11, a12, a13, a14, a15, a16, a17, a18, a19, a20, a21, a22, a23, a24, a25) := by
  subst h0 hs
  have tn : (nI t).toInt16.toInt32 = nI t := bq_i16n (by omega)
  have pn := sm_R16 hp
  refine ⟨2, br_f (by decide) ⟨sm_i8, sm_i8, nm_r (e' := 2) (by rw [sm_at0 h2, sm_at0 h3]; decide) (nm_r (e' := 1) (by decide) (br_t (by decide) (nm_r (e' := 0) (by decide) ⟨1, br_t (by decide) ⟨2, br_f (by decide) ⟨sm_i8, ?_⟩⟩⟩)))⟩⟩
  refine sm_cut2 htu hu hp hq (sm_at0 h5) h9 h10 h12 h13 hb (fun x b c24 c25 => ⟨sm_i8, sm_i8, nm_r (sm_u (sm_at0 h4)) ⟨sm_i8, sm_i8, nm_r (sm_u (sm_at0 h5)) ⟨sm_i8, sm_i8, nm_r (sm_u (y := nI t) (by rw [sm_at0 h7, vp_nar_short]; exact tn)) ⟨sm_i8, sm_i8, nm_r (e' := 1) (by rw [bq_z, pk_us, pk_us]; decide) ?_⟩⟩⟩⟩)
  exact sm_drop (n := 1) (by decide) rfl rfl rfl rfl (by decide) (by rw [pk_us]; decide) (by rw [pk_us]; exact tn) (by rw [pk_us]; exact tn) (by rw [pk_us]; exact pn) (by rw [pk_us]; exact pn) (by rw [pk_us]; exact pn) (by rw [pk_us]; exact pn) (by rw [pk_us]; exact pn) (by rw [pk_us]; decide) (nm_r (e' := 1) (by decide) (br_t (by decide) (H x b c24 c25)))
end
section
theorem sm_R2 {p : Int32} (h : sm_R p) : p < 2000 ∧ -2000 < p := by
  have c0 : (2000 : Int32).toInt = 2000 := by decide
  have c1 : (-2000 : Int32).toInt = -2000 := by decide
  obtain ⟨h1, h2⟩ := h
  rw [bq_ult, bq_ult]
  omega
/-- from the end: sum -/
theorem sm_284 {post : Int32 → St0 → Prop} {mc ms kc ks : Nat} {sc sf ae ps fc fs fl fm fg bf fh lv : Int32} {a1 a2 a3 a4 a5 a6 a7 a8 a9 a10 a11 a12 a13 a14 a15 a16 a17 a18 a19 a20 a21 a22 a23 a24 a25 : Nat → Int32} {x6 z0 z1 : Int32} {t : Nat} (H : post 1 ()) (e : z1 = z0) (h : sm_B 1 t t x6 x6 x6 x6 x6 0 sc lv a2 a9 a12 a13 a14 a15 a16 a17 a18 a19 a20 a21) : wL_lawOf_284 post mc ms x6 z0 z1 kc ks sc sf ae ps fc fs fl fm fg bf fh lv a1 a2 a3 a4 a5 a6 a7 a8 a9 a10 a11 a12 a13 a14 a15 a16 a17 a18 a19 a20 a21 a22 a23 a24 a25 :=
  br_t e (sm_sum h (br_t rfl H))
theorem sm_85a {post : Int32 → St0 → Prop} {mc ms : Nat} {t u : Nat} {p q : Int32} (H : post 1 ()) (hmc : 754 ≤ mc) (hms : 12048 ≤ ms) (ht : t < 1000) (htu : u ≤ t) (hp : sm_R p) (hq : sm_R q) : wL_lawOf_85 post mc ms (nI t) (nI u) p q 0 0 0 0 := by
  have tn : (nI t).toInt16.toInt32 = nI t := bq_i16n (by omega)
  have pn := sm_R16 hp
  have p2 := sm_R2 hp
  refine ⟨by omega, by omega, 25, 1908, by omega, by omega, ?_⟩
  refine ⟨by omega, by omega, by omega, by omega, by omega, by omega, by omega, by omega, by omega, by omega, by omega, by omega, by omega, by omega, by omega, by omega, by omega, by omega, by omega, by omega, by omega, by omega, by omega, by omega, by omega, by omega, by omega, by omega, by omega, by omega, by omega, by omega, by omega, by omega, by omega, by omega, by omega, by omega, by omega, by omega, by omega, by omega, by omega, by omega, by omega, by omega, by omega, by omega, by omega, by omega, ?_⟩
  refine sm_series1 rfl (fun c8 => br_t rfl (sm_series2 rfl rfl (br_t rfl ?_)))
  refine sm_append1 ht hp rfl rfl rfl rfl rfl rfl (fun b b1 b2 => br_t rfl ?_)
  refine sm_sync (n := 1) (t := t) ht (by decide) rfl rfl rfl rfl rfl rfl rfl (by decide) (by decide) tn tn pn pn pn pn pn (by decide) ?_
  refine sm_append3 (t := t) (u := u) htu ht hq rfl rfl rfl (br_t rfl (br_t rfl ?_))
  have hB : sm_B 1 t t p p p p p 0 1 2 (upd (fun _ => 0) 0 0) (upd (upd (fun _ => 0) 0 0) 0 1) (upd (fun _ => 0) 0 1) (upd (fun _ => 0) 0 0) (upd (fun _ => 0) 0 (nI t)) (upd (fun _ => 0) 0 (nI t)) (upd (fun _ => 0) 0 p) (upd (fun _ => 0) 0 p) (upd (fun _ => 0) 0 p) (upd (fun _ => 0) 0 p) (upd (fun _ => 0) 0 p) (upd (fun _ => 0) 0 0) :=
    ⟨by decide, ht, ht, p2.1, p2.2, rfl, rfl, rfl, rfl, rfl, rfl, rfl, rfl, rfl, rfl, rfl, rfl, rfl, rfl⟩
  refine sm_growth hB (br_t rfl (sm_most hB (br_t rfl ?_)))
  refine br_t rfl (sm_ranked1 hB (br_t rfl (br_t rfl ?_)))
  refine sm_crash1 (t := t) ht rfl rfl rfl rfl rfl rfl rfl rfl rfl rfl (by decide) tn tn pn pn pn pn pn (by decide) (br_t rfl ?_)
  exact sm_284 (t := t) H rfl ⟨by decide, ht, ht, p2.1, p2.2, rfl, rfl, rfl, rfl, rfl, rfl, rfl, rfl, rfl, rfl, rfl, rfl, rfl, rfl⟩
theorem sm_85b {post : Int32 → St0 → Prop} {mc ms : Nat} {t u : Nat} {p q : Int32} (H : post 1 ()) (hmc : 754 ≤ mc) (hms : 12048 ≤ ms) (hu : u < 1000) (htu : t < u) (hp : sm_R p) (hq : sm_R q) : wL_lawOf_85 post mc ms (nI t) (nI u) p q 1 (sm_gr p q) 0 0 := by
  have ht : t < 1000 := by omega
  have tn : (nI t).toInt16.toInt32 = nI t := bq_i16n (by omega)
  have pn := sm_R16 hp
  have p2 := sm_R2 hp
  have l2 := sm_R2 (sm_loR hp hq)
  have g2 := sm_R2 (sm_hiR hp hq)
  refine ⟨by omega, by omega, 25, 1908, by omega, by omega, ?_⟩
  refine ⟨by omega, by omega, by omega, by omega, by omega, by omega, by omega, by omega, by omega, by omega, by omega, by omega, by omega, by omega, by omega, by omega, by omega, by omega, by omega, by omega, by omega, by omega, by omega, by omega, by omega, by omega, by omega, by omega, by omega, by omega, by omega, by omega, by omega, by omega, by omega, by omega, by omega, by omega, by omega, by omega, by omega, by omega, by omega, by omega, by omega, by omega, by omega, by omega, by omega, by omega, ?_⟩
  refine sm_series1 rfl (fun c8 => br_t rfl (sm_series2 rfl rfl (br_t rfl ?_)))
  refine sm_append1 ht hp rfl rfl rfl rfl rfl rfl (fun b b1 b2 => br_t rfl ?_)
  refine sm_sync (n := 1) (t := t) ht (by decide) rfl rfl rfl rfl rfl rfl rfl (by decide) (by decide) tn tn pn pn pn pn pn (by decide) ?_
  refine sm_append2 (t := t) (u := u) (p := p) htu hu hp hq rfl rfl rfl rfl rfl rfl rfl rfl rfl rfl rfl rfl rfl rfl rfl rfl b1 b2 (fun c11 c19 c20 c22 c23 k19 k20 k22 => br_f (by decide) (br_t rfl ?_))
  have hB : sm_B 2 t u p q (p + q) (sm_lo p q) (sm_hi p q) (sm_gr p q) 1 2 (upd (fun _ => 0) 0 0) (upd (upd (fun _ => 0) 0 0) 0 1) (upd (upd (fun _ => 0) 0 1) 0 2) (upd (fun _ => 0) 0 0) (upd (fun _ => 0) 0 (nI t)) (upd (upd (fun _ => 0) 0 (nI t)) 0 (nI u)) (upd (fun _ => 0) 0 p) (upd (upd (fun _ => 0) 0 p) 0 q) (upd (upd (fun _ => 0) 0 p) 0 (p + q)) c19 c20 (upd (upd (fun _ => 0) 0 0) 0 (sm_gr p q)) :=
    ⟨by decide, ht, hu, l2.1, g2.2, rfl, rfl, rfl, rfl, rfl, rfl, rfl, rfl, rfl, rfl, rfl, k19, k20, rfl⟩
  refine sm_growth hB (br_t rfl (sm_most hB (br_f (by decide) ?_)))
  have hh : (q ≤ p → sm_hi p q = p) ∧ (¬ q ≤ p → sm_hi p q = q) := by
    unfold sm_hi
    exact ⟨fun z => if_pos z, fun z => if_neg z⟩
  have rest : ∀ x : Int32, sm_hi p q = x → wL_lawOf_221 post mc ms p q 1 x (sm_hi p q) (0 + 1 + 25) (0 + 37 + 1908) 1 1 0 0 2 (p + q) (sm_lo p q) (sm_hi p q) (sm_gr p q) q 1 2 (upd (fun _ => 0) 0 27) (upd (fun _ => 0) 0 0) (upd (upd (upd (fun _ => 0) 0 0) 0 1) 0 2) (upd (fun _ => 0) 0 0) (upd (fun _ => 0) 0 1) (upd (upd (upd (fun _ => 0) 0 (-1)) 0 (nI t)) 0 (nI u)) (upd (fun _ => 0) 0 (nI t)) c8 (upd (upd (fun _ => 0) 0 0) 0 1) (upd (fun _ => 0) 0 (-1)) c11 (upd (upd (fun _ => 0) 0 1) 0 2) (upd (fun _ => 0) 0 0) (upd (fun _ => 0) 0 (nI t)) (upd (upd (fun _ => 0) 0 (nI t)) 0 (nI u)) (upd (fun _ => 0) 0 p) (upd (upd (fun _ => 0) 0 p) 0 q) (upd (upd (fun _ => 0) 0 p) 0 (p + q)) c19 c20 (upd (upd (fun _ => 0) 0 0) 0 (sm_gr p q)) c22 c23 (fun _ => 0) (fun _ => 0) := by
    intro x ex
    refine br_t ex (sm_ranked2 hB htu hp hq rfl k22 (fun y d24 d25 => br_f (by decide) ?_))
    have end_ : ∀ w : Int32, sm_hi p q = w → wL_lawOf_264 post mc ms p 1 w (sm_hi p q) (0 + 1 + 25) (0 + 37 + 1908) 1 1 0 y 2 (p + q) (sm_lo p q) (sm_hi p q) (sm_gr p q) q 1 2 (upd (fun _ => 0) 0 27) (upd (fun _ => 0) 0 0) (upd (upd (upd (fun _ => 0) 0 0) 0 1) 0 2) (upd (fun _ => 0) 0 0) (upd (fun _ => 0) 0 1) (upd (upd (upd (fun _ => 0) 0 (-1)) 0 (nI t)) 0 (nI u)) (upd (fun _ => 0) 0 (nI t)) c8 (upd (upd (fun _ => 0) 0 0) 0 1) (upd (fun _ => 0) 0 (-1)) c11 (upd (upd (fun _ => 0) 0 1) 0 2) (upd (fun _ => 0) 0 0) (upd (fun _ => 0) 0 (nI t)) (upd (upd (fun _ => 0) 0 (nI t)) 0 (nI u)) (upd (fun _ => 0) 0 p) (upd (upd (fun _ => 0) 0 p) 0 q) (upd (upd (fun _ => 0) 0 p) 0 (p + q)) c19 c20 (upd (upd (fun _ => 0) 0 0) 0 (sm_gr p q)) c22 c23 d24 d25 := by
      intro w ew
      refine br_t ew (sm_crash2 (t := t) (u := u) (p := p) (q := q) htu hu hp hq rfl rfl rfl rfl rfl rfl rfl rfl rfl rfl rfl k22 (fun y' b' e24 e25 => br_f (by decide) ?_))
      exact sm_284 (t := t) H rfl ⟨by decide, ht, ht, p2.1, p2.2, rfl, rfl, rfl, rfl, rfl, rfl, rfl, rfl, rfl, rfl, rfl, rfl, rfl, rfl⟩
    exact br_c (fun z => end_ p (hh.1 z)) (fun z => end_ q (hh.2 z))
  exact br_c (fun z => rest p (hh.1 z)) (fun z => rest q (hh.2 z))
theorem sm_mod (x : Int32) : sm_R (x - x / 1001 * 1001) := by
  have c : (1001 : Int32).toInt = 1001 := by decide
  have l1 := x.toInt_lt
  have l2 := x.le_toInt
  have m1 := Int.tmod_lt_of_pos x.toInt (show (0 : Int) < 1001 by decide)
  have m2 := Int.lt_tmod_of_pos x.toInt (show (0 : Int) < 1001 by decide)
  have m3 := Int.mul_tdiv_add_tmod x.toInt 1001
  have e : (x / 1001).toInt = x.toInt.tdiv 1001 := by
    rw [Int32.toInt_div, c]
    apply Int.bmod_eq_of_le <;> omega
  have e3 : (x - x / 1001 * 1001).toInt = x.toInt - x.toInt.tdiv 1001 * 1001 := by
    rw [Int32.toInt_sub, Int32.toInt_mul, e, c, Int.sub_bmod_bmod]
    apply Int.bmod_eq_of_le <;> omega
  unfold sm_R
  rw [e3]
  omega
theorem sm_time (x : Int32) : ∃ t : Nat, t < 1000 ∧ (x &&& 1023) - (x &&& 1023) / 1000 * 1000 = nI t := by
  obtain ⟨j, hj, e⟩ := pk_andE x (m := 1023) 10 (by decide)
  refine ⟨j % 1000, by omega, ?_⟩
  rw [e]
  exact pk_rem (a := j) (d := 1000) (by omega) (by omega) (by omega)
theorem sm_lawOf {post : Int32 → St0 → Prop} {mc ms : Nat} {u : St0} (H : post 1 ()) (hmc : 754 ≤ mc) (hms : 12048 ≤ ms) (x y v w : Int32) : wpL_lawOf post mc ms u x y v w := by
  obtain ⟨t, ht, et⟩ := sm_time x
  obtain ⟨s, hs, es⟩ := sm_time y
  have hp := sm_mod v
  have hq := sm_mod w
  refine ⟨by decide, nm_r et ⟨by decide, nm_r es ⟨by decide, nm_e ⟨by decide, nm_e ?_⟩⟩⟩⟩
  refine pk_le s t (fun z => ?_) (fun z => ?_)
  · exact br_t rfl (sm_85a H hmc hms ht z hp hq)
  · have b := sm_85b (t := t) (u := s) H hmc hms hs z hp hq
    unfold sm_gr at b
    refine br_f (by decide) (br_c (fun c => br_c (fun d => ?_) (fun d => ?_)) (fun c => ?_))
    · rw [if_pos c, if_pos d] at b
      exact b
    · rw [if_pos c, if_neg d] at b
      exact b
    · rw [if_neg c] at b
      exact b
theorem sm_cell {post : Int32 → Prop} {L : Nat} {xs : Nat → Int32} {u : St0} {i : Int32} (k : Nat) (hi : i = nI k) (hk : k < 4) (hL : L ≤ 4) (H : ∀ x, post x) : wpL_cellAt post L xs u i :=
  pk_le L k (fun _ => H 0) (fun z => ⟨pk_in k L z hi, H _⟩) rfl hi
theorem i_vc (xs : Nat → Int32) (L : Nat) (hL : L ≤ 4) : wpL_law (fun r => r = 1) L xs :=
  sm_cell 0 rfl (by omega) hL (fun a => sm_cell 1 rfl (by omega) hL (fun b => sm_cell 2 rfl (by omega) hL (fun c => sm_cell 3 rfl (by omega) hL (fun d => ⟨754, 12048, by omega, by omega, sm_lawOf rfl (by omega) (by omega) a b c d⟩))))
end
