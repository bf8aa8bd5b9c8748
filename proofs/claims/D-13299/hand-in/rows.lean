section
/-! bits of an Int32 (rows of kit/laws/BITS.to-paste, renamed, and more) -/
def bb_t (x : Int32) (i : Nat) : Bool := x.toBitVec.getLsbD i
theorem bb_ext {x y : Int32} (h : ∀ i, i < 32 → bb_t x i = bb_t y i) : x = y := Int32.toBitVec_inj.mp (BitVec.eq_of_getLsbD_eq (fun i hi => h i hi))
theorem bb_or (x y : Int32) (i : Nat) : bb_t (x ||| y) i = (bb_t x i || bb_t y i) := by unfold bb_t; rw [Int32.toBitVec_or, BitVec.getLsbD_or]
theorem bb_and (x y : Int32) (i : Nat) : bb_t (x &&& y) i = (bb_t x i && bb_t y i) := by unfold bb_t; rw [Int32.toBitVec_and, BitVec.getLsbD_and]
theorem bb_xor (x y : Int32) (i : Nat) : bb_t (x ^^^ y) i = (bb_t x i ^^ bb_t y i) := by unfold bb_t; rw [Int32.toBitVec_xor, BitVec.getLsbD_xor]
theorem bb_big {x : Int32} {i : Nat} (h : 32 ≤ i) : bb_t x i = false := BitVec.getLsbD_of_ge _ _ h
theorem bb_m1 : ∀ i, i < 32 → bb_t (-1) i = true := by decide +kernel
theorem bb_0 (i : Nat) : bb_t 0 i = false := BitVec.getLsbD_zero
theorem bb_sl : ∀ n, n < 32 → ((nI n &&& 31).toBitVec.smod 32).toNat = n := by decide +kernel
theorem bb_su : ∀ n, n < 32 → (((nI n).toUInt32 &&& Int32.toUInt32 31).toBitVec % 32).toNat = n := by decide +kernel
theorem bb_shl (n : Nat) (hn : n < 32) (x : Int32) {i : Nat} (hi : i < 32) : bb_t (x <<< (nI n &&& 31)) i = (decide (n ≤ i) && bb_t x (i - n)) := by
  unfold bb_t
  rw [Int32.toBitVec_shiftLeft]
  show (x.toBitVec <<< ((nI n &&& 31).toBitVec.smod 32).toNat).getLsbD i = _
  rw [bb_sl n hn, BitVec.getLsbD_shiftLeft]
  rcases Nat.lt_or_ge i n with h | h
  · simp [h, Nat.not_le.mpr h]
  · simp [hi, h, Nat.not_lt.mpr h]
theorem bb_ushr (n : Nat) (hn : n < 32) (x : Int32) (i : Nat) : bb_t ((x.toUInt32 >>> ((nI n).toUInt32 &&& Int32.toUInt32 31)).toInt32) i = bb_t x (n + i) := by
  show (x.toUInt32 >>> ((nI n).toUInt32 &&& Int32.toUInt32 31)).toBitVec.getLsbD i = x.toUInt32.toBitVec.getLsbD (n + i)
  rw [UInt32.toBitVec_shiftRight]
  show (x.toUInt32.toBitVec >>> (((nI n).toUInt32 &&& Int32.toUInt32 31).toBitVec % 32).toNat).getLsbD i = _
  rw [bb_su n hn, BitVec.getLsbD_ushiftRight]
theorem bb_sshr (n : Nat) (hn : n < 32) (x : Int32) {i : Nat} (hi : i < 32) : bb_t (x >>> (nI n &&& 31)) i = if n + i < 32 then bb_t x (n + i) else bb_t x 31 := by
  unfold bb_t
  rw [Int32.toBitVec_shiftRight]
  show (x.toBitVec.sshiftRight ((nI n &&& 31).toBitVec.smod 32).toNat).getLsbD i = _
  rw [bb_sl n hn, BitVec.getLsbD_sshiftRight, BitVec.msb_eq_getLsbD_last]
  simp [hi]
/-! own rows -/
theorem bb_one (i : Nat) : bb_t 1 i = decide (i = 0) := by
  rcases Nat.lt_or_ge i 32 with h | h
  · exact (by decide +kernel : ∀ i, i < 32 → bb_t 1 i = decide (i = 0)) i h
  · rw [bb_big h, decide_eq_false (by omega)]
theorem bb_not (x : Int32) {i : Nat} (hi : i < 32) : bb_t (x ^^^ (-1)) i = !bb_t x i := by rw [bb_xor, bb_m1 i hi, Bool.xor_true]
theorem bb_bit {v : Nat} (hv : v < 32) {i : Nat} (hi : i < 32) : bb_t ((1 : Int32) <<< (nI v &&& 31)) i = decide (i = v) := by
  rw [bb_shl v hv 1 hi, bb_one]
  rcases Nat.lt_or_ge i v with h | h
  · rw [decide_eq_false (Nat.not_le.mpr h), Bool.false_and, decide_eq_false (by omega)]
  · rw [decide_eq_true h, Bool.true_and]
    rcases Nat.lt_or_ge v i with g | g
    · rw [decide_eq_false (by omega), decide_eq_false (by omega)]
    · rw [decide_eq_true (by omega), decide_eq_true (by omega)]
theorem bb_and1 (y : Int32) : (y &&& 1) = 0 ↔ bb_t y 0 = false := by
  constructor
  · intro h
    have e : bb_t (y &&& 1) 0 = false := by rw [h, bb_0]
    rw [bb_and, bb_one] at e
    simpa using e
  · intro h
    apply bb_ext
    intro i hi
    rw [bb_and, bb_one, bb_0]
    rcases Nat.eq_zero_or_pos i with g | g
    · rw [g, h, Bool.false_and]
    · rw [decide_eq_false (by omega), Bool.and_false]
/-- the test (x >> v & 1) == 0 -/
theorem bb_test {x : Int32} {v : Nat} (hv : v < 32) : ((x >>> (nI v &&& 31)) &&& 1) = 0 ↔ bb_t x v = false := by
  rw [bb_and1, bb_sshr v hv x (by omega), if_pos (by omega), Nat.add_zero]
theorem bb_s16 (x : Int32) {i : Nat} (hi : i < 32) : bb_t x.toInt16.toInt32 i = if i < 16 then bb_t x i else bb_t x 15 := by
  unfold bb_t
  rw [Int16.toBitVec_toInt32, Int32.toBitVec_toInt16, BitVec.getLsbD_signExtend, BitVec.msb_eq_getLsbD_last, BitVec.getLsbD_signExtend, BitVec.getLsbD_signExtend]
  rw [decide_eq_true hi, Bool.true_and]
  by_cases h : i < 16
  · rw [if_pos h, if_pos h, decide_eq_true h, Bool.true_and, if_pos hi]
  · rw [if_neg h, if_neg h]
    rfl
/-- a set of the eleven values -/
def bb_sm (x : Int32) : Prop := ∀ i, 11 ≤ i → bb_t x i = false
theorem bb_sm16 {x : Int32} (h : bb_sm x) : x.toInt16.toInt32 = x := by
  apply bb_ext
  intro i hi
  rw [bb_s16 x hi]
  by_cases g : i < 16
  · rw [if_pos g]
  · rw [if_neg g, h 15 (by omega), h i (by omega)]
theorem bb_sm_or {x y : Int32} (h : bb_sm x) (g : bb_sm y) : bb_sm (x ||| y) := fun i hi => by rw [bb_or, h i hi, g i hi]; rfl
theorem bb_sm_and {x y : Int32} (h : bb_sm x) : bb_sm (x &&& y) := fun i hi => by rw [bb_and, h i hi, Bool.false_and]
theorem bb_sm0 : bb_sm 0 := fun i _ => bb_0 i
theorem bb_sm_bit {v : Nat} (hv : v < 11) : bb_sm ((1 : Int32) <<< (nI v &&& 31)) := by
  intro i hi
  rcases Nat.lt_or_ge i 32 with h | h
  · rw [bb_bit (by omega) h, decide_eq_false (by omega)]
  · exact bb_big h
/-- small ints in bytes -/
theorem bb_b8 : ∀ n, n < 128 → (nI n).toInt8.toInt32 = nI n := by decide +kernel
theorem bb_b8m : (-1 : Int32).toInt8.toInt32 = -1 := by decide +kernel
theorem bb_nar {x : Int32} (h : x = -1 ∨ ∃ n, n < 128 ∧ x = nI n) : vp_nar .byte x = x := by
  rw [vp_nar_byte]
  rcases h with h | ⟨n, hn, h⟩
  · rw [h]; exact bb_b8m
  · rw [h]; exact bb_b8 n hn
theorem bb_neg : ¬ (0 : Int32) ≤ -1 := by decide
theorem bb_neg' : (-1 : Int32) < 0 := by decide
end
section
/-! the list of operations, its meaning -/
/-- operation, made, first, second, number -/
abbrev zp_Op : Type := Int32 × Int32 × Int32 × Int32 × Int32
def zp_at (o m f s k : Nat → Int32) : Nat → zp_Op := fun i => (o i, m i, f i, s i, k i)
/-- what two values make -/
def sg_cb (o p q : Int32) : Int32 :=
  if o = 3 then p + q else if o = 4 then p - q else if o = 5 then p * q else if o = 6 then p &&& q else if o = 7 then p ||| q
  else if o = 8 then p ^^^ q else if o = 9 then p <<< ((q &&& 31) &&& 31)
  else if o = 10 then (p.toUInt32 >>> ((q &&& 31).toUInt32 &&& Int32.toUInt32 31)).toInt32
  else if o = 11 then (if q ≤ p then 0 else 1) else (if p = q then 1 else 0)
/-- values, steps, how many printed, the last printed, given -/
abbrev sg_St : Type := (Nat → Int32) × Nat × Nat × Int32 × Int32
/-- what an operation that makes a value makes -/
def sg_vl (o f s k : Int32) (e : Nat → Int32) : Int32 :=
  if o = 1 then k else if o = 2 then e f.toNatClampNeg else if o = 13 then e f.toNatClampNeg ^^^ (-1)
  else sg_cb o (e f.toNatClampNeg) (if s < 0 then k else e s.toNatClampNeg)
theorem sg_vl1 {o f s k : Int32} {e : Nat → Int32} (h : o = 1) : sg_vl o f s k e = k := by
  unfold sg_vl
  rw [if_pos h]
theorem sg_vl2 {o f s k : Int32} {e : Nat → Int32} (h : o = 2) : sg_vl o f s k e = e f.toNatClampNeg := by
  unfold sg_vl
  rw [if_neg (by rw [h]; decide), if_pos h]
theorem sg_vl13 {o f s k : Int32} {e : Nat → Int32} (h : o = 13) : sg_vl o f s k e = e f.toNatClampNeg ^^^ (-1) := by
  unfold sg_vl
  rw [if_neg (by rw [h]; decide), if_neg (by rw [h]; decide), if_pos h]
def sg_op (q : zp_Op) (x : sg_St) : sg_St :=
  if q.1 = 20 then (x.1, x.2.1 + q.2.2.2.2.toNatClampNeg, x.2.2)
  else if q.1 = 21 then (x.1, x.2.1, x.2.2.1 + 1, x.1 q.2.2.1.toNatClampNeg, x.2.2.2.2)
  else if q.1 = 22 then (x.1, x.2.1, x.2.2.1, x.2.2.2.1, x.1 q.2.2.1.toNatClampNeg)
  else if q.1 = 0 then x
  else (upd x.1 q.2.1.toNatClampNeg (sg_vl q.1 q.2.2.1 q.2.2.2.1 q.2.2.2.2 x.1), x.2)
def sg_run (P : Nat → zp_Op) : Nat → sg_St → sg_St
  | 0 => fun x => x
  | n + 1 => fun x => sg_op (P n) (sg_run P n x)
theorem sg_run_s (P : Nat → zp_Op) (n : Nat) (x : sg_St) : sg_run P (n + 1) x = sg_op (P n) (sg_run P n x) := rfl
theorem sg_run_c {P Q : Nat → zp_Op} {n : Nat} (h : ∀ i, i < n → P i = Q i) (x : sg_St) : sg_run P n x = sg_run Q n x := by
  induction n with
  | zero => rfl
  | succ n ih => rw [sg_run_s, sg_run_s, ih (fun i hi => h i (by omega)), h n (by omega)]
/-- one of the eleven values -/
def zp_V (x : Int32) : Prop := ∃ j : Nat, j < 11 ∧ x = nI j
def zp_small (x : Int32) : Prop := ¬ x < (-100000) ∧ ¬ 100000 < x
/-- an operation that makes a value -/
def zp_pl (q : zp_Op) : Prop := zp_V q.2.1 ∧
  ((q.1 = 1 ∧ q.2.2.1 = -1 ∧ q.2.2.2.1 = -1) ∨ (q.1 = 2 ∧ zp_V q.2.2.1 ∧ q.2.2.2.1 = -1) ∨ (q.1 = 13 ∧ zp_V q.2.2.1 ∧ q.2.2.2.1 = -1)
   ∨ ((∃ j : Nat, 3 ≤ j ∧ j ≤ 12 ∧ q.1 = nI j) ∧ zp_V q.2.2.1 ∧ (zp_V q.2.2.2.1 ∨ (q.2.2.2.1 = -1 ∧ zp_small q.2.2.2.2))))
def zp_tick (q : zp_Op) : Prop := q.1 = 20 ∧ q.2.1 = -1 ∧ q.2.2.1 = -1 ∧ q.2.2.2.1 = -1 ∧ ∃ j : Nat, j ≤ 40 ∧ q.2.2.2.2 = nI j
def zp_out (q : zp_Op) : Prop := q.1 = 21 ∧ q.2.1 = -1 ∧ zp_V q.2.2.1 ∧ q.2.2.2.1 = -1
def zp_give (q : zp_Op) : Prop := q.1 = 22 ∧ q.2.1 = -1 ∧ zp_V q.2.2.1 ∧ q.2.2.2.1 = -1
/-- shapes that may stand ahead of the end -/
def zp_in (q : zp_Op) : Prop := zp_pl q ∨ zp_tick q ∨ zp_out q
/-- a list of n operations: no gaps, its last one gives -/
def zp_wf (P : Nat → zp_Op) (n : Nat) : Prop := 1 ≤ n ∧ n ≤ 120 ∧ (∀ i, i < n - 1 → zp_in (P i)) ∧ zp_give (P (n - 1))
/-- the same with gaps -/
def zp_gf (P : Nat → zp_Op) (n : Nat) : Prop := 1 ≤ n ∧ n ≤ 120 ∧ (∀ i, i < n - 1 → zp_in (P i) ∨ (P i).1 = 0) ∧ zp_give (P (n - 1))
theorem zp_wg {P : Nat → zp_Op} {n : Nat} (h : zp_wf P n) : zp_gf P n := ⟨h.1, h.2.1, fun i hi => Or.inl (h.2.2.1 i hi), h.2.2.2⟩
/-- two lists say the same: steps, printed, the last printed, given -/
def sg_eq (P : Nat → zp_Op) (n : Nat) (Q : Nat → zp_Op) (m : Nat) : Prop := ∀ x : sg_St, (sg_run P n x).2 = (sg_run Q m x).2
theorem sg_eq_r (P : Nat → zp_Op) (n : Nat) : sg_eq P n P n := fun _ => rfl
theorem sg_eq_t {P Q R : Nat → zp_Op} {a b c : Nat} (h : sg_eq P a Q b) (g : sg_eq Q b R c) : sg_eq P a R c := fun x => (h x).trans (g x)
/-- the steps of a list -/
def sg_tk (P : Nat → zp_Op) (n : Nat) (T : Nat) : Prop := ∀ x : sg_St, (sg_run P n x).2.1 = x.2.1 + T
theorem sg_tk_eq {P Q : Nat → zp_Op} {a b T : Nat} (h : sg_eq P a Q b) (g : sg_tk Q b T) : sg_tk P a T := fun x => by rw [h x]; exact g x
theorem sg_op_mono (q : zp_Op) (x : sg_St) : x.2.1 ≤ (sg_op q x).2.1 := by
  unfold sg_op
  by_cases h : q.1 = 20
  · rw [if_pos h]; exact Nat.le_add_right _ _
  · rw [if_neg h]
    by_cases h1 : q.1 = 21
    · rw [if_pos h1]; exact Nat.le_refl _
    · rw [if_neg h1]
      by_cases h2 : q.1 = 22
      · rw [if_pos h2]; exact Nat.le_refl _
      · rw [if_neg h2]
        by_cases h3 : q.1 = 0
        · rw [if_pos h3]; exact Nat.le_refl _
        · rw [if_neg h3]; exact Nat.le_refl _
theorem sg_run_mono (P : Nat → zp_Op) {a b : Nat} (h : a ≤ b) (x : sg_St) : (sg_run P a x).2.1 ≤ (sg_run P b x).2.1 := by
  induction b with
  | zero => rw [show a = 0 by omega]; exact Nat.le_refl _
  | succ b ih =>
    rcases Nat.lt_or_ge b a with g | g
    · rw [show a = b + 1 by omega]; exact Nat.le_refl _
    · exact Nat.le_trans (ih g) (sg_op_mono (P b) (sg_run P b x))
/-- numerals of operations -/
theorem zp_n : (0 : Int32) = nI 0 ∧ (1 : Int32) = nI 1 ∧ (2 : Int32) = nI 2 ∧ (13 : Int32) = nI 13 ∧ (20 : Int32) = nI 20 ∧ (21 : Int32) = nI 21 ∧ (22 : Int32) = nI 22 := by decide
theorem zp_Vc {x : Int32} (h : zp_V x) : x.toNatClampNeg < 11 ∧ x = nI x.toNatClampNeg := by
  obtain ⟨j, hj, rfl⟩ := h
  rw [nI_clamp (by omega)]
  exact ⟨hj, rfl⟩
theorem zp_Vn {x : Int32} (h : zp_V x) : ¬ x < 0 := by
  obtain ⟨j, hj, rfl⟩ := h
  exact nI_pos (by omega)
theorem zp_Vp {x : Int32} (h : zp_V x) : 0 ≤ x := by
  obtain ⟨j, hj, rfl⟩ := h
  exact nI_pos' (by omega)
theorem zp_Vi {x : Int32} (h : zp_V x) : vp_in x 11 := by
  obtain ⟨j, hj, rfl⟩ := h
  exact vp_in_nI hj (by omega)
theorem zp_Vm {x : Int32} (h : zp_V x) : x ≠ -1 := by
  obtain ⟨j, hj, rfl⟩ := h
  exact (by decide +kernel : ∀ j, j < 11 → nI j ≠ -1) j hj
theorem zp_Vb {x : Int32} (h : zp_V x) : x.toInt8.toInt32 = x := by
  obtain ⟨j, hj, rfl⟩ := h
  exact bb_b8 j (by omega)
theorem zp_Vnar {x : Int32} (h : zp_V x) : vp_nar .byte x = x := by rw [vp_nar_byte, zp_Vb h]
/-- the operation number of a shape -/
theorem zp_plO {q : zp_Op} (h : zp_pl q) : ∃ j : Nat, 1 ≤ j ∧ j ≤ 13 ∧ q.1 = nI j := by
  rcases h.2 with h | h | h | h
  · exact ⟨1, by omega, by omega, h.1⟩
  · exact ⟨2, by omega, by omega, h.1⟩
  · exact ⟨13, by omega, by omega, h.1⟩
  · obtain ⟨j, h1, h2, h3⟩ := h.1
    exact ⟨j, by omega, by omega, h3⟩
theorem zp_plF {q : zp_Op} (h : zp_pl q) : zp_V q.2.2.1 ∨ q.2.2.1 = -1 := by
  rcases h.2 with h | h | h | h
  · exact Or.inr h.2.1
  · exact Or.inl h.2.1
  · exact Or.inl h.2.1
  · exact Or.inl h.2.1
theorem zp_plS {q : zp_Op} (h : zp_pl q) : zp_V q.2.2.2.1 ∨ q.2.2.2.1 = -1 := by
  rcases h.2 with h | h | h | h
  · exact Or.inr h.2.2
  · exact Or.inr h.2.2
  · exact Or.inr h.2.2
  · rcases h.2.2 with g | g
    · exact Or.inl g
    · exact Or.inr g.1
theorem zp_plM {q : zp_Op} (h : zp_pl q) : q.1 ≠ 20 ∧ q.1 ≠ 21 ∧ q.1 ≠ 22 ∧ q.1 ≠ 0 := by
  obtain ⟨j, h1, h2, e⟩ := zp_plO h
  rw [e]
  exact (by decide +kernel : ∀ j, j < 14 → 1 ≤ j → nI j ≠ 20 ∧ nI j ≠ 21 ∧ nI j ≠ 22 ∧ nI j ≠ 0) j (by omega) h1
theorem sg_pl {q : zp_Op} (h : zp_pl q) (x : sg_St) : sg_op q x = (upd x.1 q.2.1.toNatClampNeg (sg_vl q.1 q.2.2.1 q.2.2.2.1 q.2.2.2.2 x.1), x.2) := by
  obtain ⟨h1, h2, h3, h4⟩ := zp_plM h
  unfold sg_op
  rw [if_neg h1, if_neg h2, if_neg h3, if_neg h4]
theorem sg_20 {q : zp_Op} (h : q.1 = 20) (x : sg_St) : sg_op q x = (x.1, x.2.1 + q.2.2.2.2.toNatClampNeg, x.2.2) := by
  unfold sg_op
  rw [if_pos h]
theorem sg_21 {q : zp_Op} (h : q.1 = 21) (x : sg_St) : sg_op q x = (x.1, x.2.1, x.2.2.1 + 1, x.1 q.2.2.1.toNatClampNeg, x.2.2.2.2) := by
  unfold sg_op
  rw [if_neg (by rw [h]; decide), if_pos h]
theorem sg_22 {q : zp_Op} (h : q.1 = 22) (x : sg_St) : sg_op q x = (x.1, x.2.1, x.2.2.1, x.2.2.2.1, x.1 q.2.2.1.toNatClampNeg) := by
  unfold sg_op
  rw [if_neg (by rw [h]; decide), if_neg (by rw [h]; decide), if_pos h]
theorem sg_00 {q : zp_Op} (h : q.1 = 0) (x : sg_St) : sg_op q x = x := by
  unfold sg_op
  rw [if_neg (by rw [h]; decide), if_neg (by rw [h]; decide), if_neg (by rw [h]; decide), if_pos h]
/-- the operation's number, any shape -/
theorem zp_inO {q : zp_Op} (h : zp_in q) : ∃ j : Nat, j ≤ 21 ∧ q.1 = nI j ∧ ((1 ≤ j ∧ j ≤ 13) ∨ j = 20 ∨ j = 21) := by
  rcases h with h | h | h
  · obtain ⟨j, h1, h2, e⟩ := zp_plO h
    exact ⟨j, by omega, e, by omega⟩
  · exact ⟨20, by omega, h.1, by omega⟩
  · exact ⟨21, by omega, h.1, by omega⟩
theorem zp_inM {q : zp_Op} (h : zp_in q) : zp_V q.2.1 ∨ q.2.1 = -1 := by
  rcases h with h | h | h
  · exact Or.inl h.1
  · exact Or.inr h.2.1
  · exact Or.inr h.2.1
theorem zp_inF {q : zp_Op} (h : zp_in q) : zp_V q.2.2.1 ∨ q.2.2.1 = -1 := by
  rcases h with h | h | h
  · exact zp_plF h
  · exact Or.inr h.2.2.1
  · exact Or.inl h.2.2.1
theorem zp_inS {q : zp_Op} (h : zp_in q) : zp_V q.2.2.2.1 ∨ q.2.2.2.1 = -1 := by
  rcases h with h | h | h
  · exact zp_plS h
  · exact Or.inr h.2.2.2.1
  · exact Or.inr h.2.2.2
/-- any operation of a list -/
def zp_any (q : zp_Op) : Prop := zp_in q ∨ zp_give q
theorem zp_wfA {P : Nat → zp_Op} {n : Nat} (h : zp_wf P n) {i : Nat} (hi : i < n) : zp_any (P i) := by
  rcases Nat.lt_or_ge i (n - 1) with g | g
  · exact Or.inl (h.2.2.1 i g)
  · have e : i = n - 1 := by omega
    rw [e]
    exact Or.inr h.2.2.2
theorem zp_anyO {q : zp_Op} (h : zp_any q) : ∃ j : Nat, j ≤ 22 ∧ q.1 = nI j ∧ ((1 ≤ j ∧ j ≤ 13) ∨ j = 20 ∨ j = 21 ∨ j = 22) := by
  rcases h with h | h
  · obtain ⟨j, h1, h2, h3⟩ := zp_inO h
    exact ⟨j, by omega, h2, by omega⟩
  · exact ⟨22, by omega, h.1, by omega⟩
theorem zp_anyM {q : zp_Op} (h : zp_any q) : zp_V q.2.1 ∨ q.2.1 = -1 := by
  rcases h with h | h
  · exact zp_inM h
  · exact Or.inr h.2.1
theorem zp_anyF {q : zp_Op} (h : zp_any q) : zp_V q.2.2.1 ∨ q.2.2.1 = -1 := by
  rcases h with h | h
  · exact zp_inF h
  · exact Or.inl h.2.2.1
theorem zp_anyS {q : zp_Op} (h : zp_any q) : zp_V q.2.2.2.1 ∨ q.2.2.2.1 = -1 := by
  rcases h with h | h
  · exact zp_inS h
  · exact Or.inr h.2.2.2
/-- who makes a value is one that makes -/
theorem zp_anyP {q : zp_Op} (h : zp_any q) (g : ¬ q.2.1 = -1) : zp_pl q := by
  rcases h with (h | h | h) | h
  · exact h
  · exact absurd h.2.1 g
  · exact absurd h.2.1 g
  · exact absurd h.2.1 g
theorem zp_Vb' {x : Int32} (h : zp_V x ∨ x = -1) : x.toInt8.toInt32 = x := by
  rcases h with h | h
  · exact zp_Vb h
  · rw [h]; exact bb_b8m
theorem zp_nar' {x : Int32} (h : zp_V x ∨ x = -1) : vp_nar .byte x = x := by rw [vp_nar_byte, zp_Vb' h]
theorem zp_narO {x : Int32} {j : Nat} (h : x = nI j) (hj : j < 128) : vp_nar .byte x = x := by rw [vp_nar_byte, h, bb_b8 j hj]
end
section
/-! making the program: emit, retract, drop, level -/
section
variable {le ck iv dn sn ls wc tr tf en tk tc lv ce sc gv pc : Int32} {iw : Int64} {a1 a2 a3 a4 a5 a6 a7 a8 a9 a10 a11 a12 a13 a14 a15 a16 a17 a18 a19 a20 a21 a22 a23 a24 a25 a26 a27 a28 a29 a30 : Nat → Int32}
theorem tw_fits {post : Int32 → Prop} {o : Nat} {q : Int32} (ho : o ≤ 26) (h17 : o ≠ 17) (h12 : o = 1 ∨ o = 2 → ∃ j : Nat, j ≤ 3 ∧ q = nI j) (hp : post 1) : wpX_fits post (le, ck, iv, dn, sn, ls, wc, iw, tr, tf, en, tk, tc, lv, ce, sc, gv, pc, a1, a2, a3, a4, a5, a6, a7, a8, a9, a10, a11, a12, a13, a14, a15, a16, a17, a18, a19, a20, a21, a22, a23, a24, a25, a26, a27, a28, a29, a30) (nI o) q := by
  unfold wpX_fits
  have h22 : (o = 1 ∨ o = 2) → wX_fits_22 post q le ck iv dn sn ls wc iw tr tf en tk tc lv ce sc gv pc a1 a2 a3 a4 a5 a6 a7 a8 a9 a10 a11 a12 a13 a14 a15 a16 a17 a18 a19 a20 a21 a22 a23 a24 a25 a26 a27 a28 a29 a30 := by
    intro h
    obtain ⟨j, hj, rfl⟩ := h12 h
    unfold wX_fits_22
    exact br_f (nI_pos (by omega)) (pk_lt 3 j (fun z => absurd z (by omega)) (fun _ => hp))
  exact br_f (nI_pos (by omega)) (pk_le o 26 (fun _ => pk_eq o 1 (fun e => h22 (Or.inl e)) (fun _ => pk_eq o 2 (fun e => h22 (Or.inr e)) (fun _ => pk_eq o 17 (fun e => absurd e h17) (fun _ => hp)))) (fun z => absurd z (by omega)))
theorem tw_change {post : St1 → Prop} (hp : post (le, 0, iv, dn, sn, ls, wc, iw, 0, tf, en, tk, tc, lv, ce, sc, gv, pc, a1, a2, a3, a4, a5, a6, a7, a8, a9, a10, a11, a12, a13, a14, a15, a16, a17, a18, a19, a20, a21, a22, a23, a24, a25, a26, a27, a28, a29, a30)) : wpX_change post (le, ck, iv, dn, sn, ls, wc, iw, tr, tf, en, tk, tc, lv, ce, sc, gv, pc, a1, a2, a3, a4, a5, a6, a7, a8, a9, a10, a11, a12, a13, a14, a15, a16, a17, a18, a19, a20, a21, a22, a23, a24, a25, a26, a27, a28, a29, a30) := by
  unfold wpX_change
  exact hp
theorem tw_replace {post : Int32 → St1 → Prop} {n o : Nat} {q i : Int32} (hi : i = nI n) (hn : n < 40) (ho : o ≤ 26) (h17 : o ≠ 17) (h12 : o = 1 ∨ o = 2 → ∃ j : Nat, j ≤ 3 ∧ q = nI j)
    (hp : post (nI (n + 1)) (nI (n + 1), 0, iv, dn, sn, ls, wc, iw, 0, tf, en, tk, tc, lv, ce, sc, gv, pc, upd a1 n (nI o), upd a2 n q, a3, a4, a5, a6, a7, a8, a9, a10, a11, a12, a13, a14, a15, a16, a17, a18, a19, a20, a21, a22, a23, a24, a25, a26, a27, a28, a29, a30)) : wpX_replace post (nI (n + 1), ck, iv, dn, sn, ls, wc, iw, tr, tf, en, tk, tc, lv, ce, sc, gv, pc, a1, a2, a3, a4, a5, a6, a7, a8, a9, a10, a11, a12, a13, a14, a15, a16, a17, a18, a19, a20, a21, a22, a23, a24, a25, a26, a27, a28, a29, a30) i (nI o) q := by
  subst hi
  unfold wpX_replace
  exact br_f (nI_pos (by omega)) (pk_le (n + 1) n (fun z => absurd z (by omega)) (fun _ => tw_fits ho h17 h12 (br_f (by decide) ⟨pk_in n 40 hn, nm_r (by rw [nI_clamp (by omega), bb_b8 o (by omega)]) ⟨pk_in n 40 hn, nm_r (by rw [nI_clamp (by omega)]) (tw_change hp)⟩⟩)))
theorem tw_emit {post : Int32 → St1 → Prop} {n o : Nat} {q : Int32} (hn : n < 40) (ho : o ≤ 26) (h17 : o ≠ 17) (h12 : o = 1 ∨ o = 2 → ∃ j : Nat, j ≤ 3 ∧ q = nI j)
    (hp : post (nI (n + 1)) (nI (n + 1), 0, iv, dn, sn, ls, wc, iw, 0, tf, en, tk, tc, lv, ce, sc, gv, pc, upd a1 n (nI o), upd a2 n q, a3, a4, a5, a6, a7, a8, a9, a10, a11, a12, a13, a14, a15, a16, a17, a18, a19, a20, a21, a22, a23, a24, a25, a26, a27, a28, a29, a30)) : wpX_emit post (nI n, ck, iv, dn, sn, ls, wc, iw, tr, tf, en, tk, tc, lv, ce, sc, gv, pc, a1, a2, a3, a4, a5, a6, a7, a8, a9, a10, a11, a12, a13, a14, a15, a16, a17, a18, a19, a20, a21, a22, a23, a24, a25, a26, a27, a28, a29, a30) (nI o) q := by
  unfold wpX_emit
  exact pk_lt n 40 (fun _ => tw_fits ho h17 h12 (br_f (by decide) (nm_r (nI_1 n) (tw_replace (nI_pred n) hn ho h17 h12 hp)))) (fun z => absurd z (by omega))
theorem tw_retract {post : Int32 → St1 → Prop} {n : Nat} (hn : n < 40) (hp : post (nI n) (nI n, 0, iv, dn, sn, ls, wc, iw, 0, tf, en, tk, tc, lv, ce, sc, gv, pc, a1, a2, a3, a4, a5, a6, a7, a8, a9, a10, a11, a12, a13, a14, a15, a16, a17, a18, a19, a20, a21, a22, a23, a24, a25, a26, a27, a28, a29, a30)) : wpX_retract post (nI (n + 1), ck, iv, dn, sn, ls, wc, iw, tr, tf, en, tk, tc, lv, ce, sc, gv, pc, a1, a2, a3, a4, a5, a6, a7, a8, a9, a10, a11, a12, a13, a14, a15, a16, a17, a18, a19, a20, a21, a22, a23, a24, a25, a26, a27, a28, a29, a30) := by
  unfold wpX_retract
  exact br_f (nI_ne0 (by omega) (by omega)) (nm_r (nI_pred n) (tw_change hp))
theorem tw_drop {post : Int32 → St1 → Prop} (hp : post le (0, 0, iv, dn, sn, ls, wc, iw, 0, tf, en, tk, tc, lv, ce, sc, gv, pc, a1, a2, a3, a4, a5, a6, a7, a8, a9, a10, a11, a12, a13, a14, a15, a16, a17, a18, a19, a20, a21, a22, a23, a24, a25, a26, a27, a28, a29, a30)) : wpX_drop post (le, ck, iv, dn, sn, ls, wc, iw, tr, tf, en, tk, tc, lv, ce, sc, gv, pc, a1, a2, a3, a4, a5, a6, a7, a8, a9, a10, a11, a12, a13, a14, a15, a16, a17, a18, a19, a20, a21, a22, a23, a24, a25, a26, a27, a28, a29, a30) := by
  unfold wpX_drop
  exact tw_change hp
theorem tw_level {post : Int32 → St1 → Prop} {k : Nat} (hk : k ≤ 2) (hp : post 1 (le, ck, iv, dn, sn, ls, wc, iw, tr, tf, en, tk, tc, nI k, ce, sc, gv, pc, a1, a2, a3, a4, a5, a6, a7, a8, a9, a10, a11, a12, a13, a14, a15, a16, a17, a18, a19, a20, a21, a22, a23, a24, a25, a26, a27, a28, a29, a30)) : wpX_level post (le, ck, iv, dn, sn, ls, wc, iw, tr, tf, en, tk, tc, lv, ce, sc, gv, pc, a1, a2, a3, a4, a5, a6, a7, a8, a9, a10, a11, a12, a13, a14, a15, a16, a17, a18, a19, a20, a21, a22, a23, a24, a25, a26, a27, a28, a29, a30) (nI k) := by
  unfold wpX_level
  exact br_f (nI_pos (by omega)) (pk_le k 2 (fun _ => hp) (fun z => absurd z (by omega)))
end
end
section
/-! checking -/
theorem ch_0and (x : Int32) : (0 : Int32) &&& x = 0 := bb_ext (fun i _ => by rw [bb_and, bb_0, Bool.false_and])
/-- the locals' sorts: two bits each -/
def ch_enc (k : Nat) : Nat := k % 2 + 4 * (k / 2 % 2) + 16 * (k / 4 % 2) + 64 * (k / 8 % 2)
def ch_bit (k l : Nat) : Nat := k / 2 ^ l % 2
theorem ch_get : ∀ k, k < 16 → ∀ l, l < 4 → (nI (ch_enc k) >>> ((2 * nI l) &&& 31)) &&& 3 = nI (ch_bit k l) := by decide +kernel
theorem ch_put : ∀ k, k < 16 → ∀ l, l < 4 → (nI (ch_enc k) &&& (((3 : Int32) <<< ((2 * nI l) &&& 31)) ^^^ (-1))) ||| ((1 : Int32) <<< ((2 * nI l) &&& 31)) = nI (ch_enc (k ||| 2 ^ l)) := by decide +kernel
theorem ch_kn : ∀ k, k < 16 → ∀ l, l < 4 → (nI k >>> (nI l &&& 31)) &&& 1 = nI (ch_bit k l) := by decide +kernel
theorem ch_kp : ∀ k, k < 16 → ∀ l, l < 4 → nI k ||| ((1 : Int32) <<< (nI l &&& 31)) = nI (k ||| 2 ^ l) ∧ k ||| 2 ^ l < 16 := by decide +kernel
theorem ch_16 : ∀ k, k < 16 → (nI (ch_enc k)).toInt16.toInt32 = nI (ch_enc k) := by decide +kernel
theorem ch_bit2 (k l : Nat) : ch_bit k l = 0 ∨ ch_bit k l = 1 := by unfold ch_bit; omega
theorem ch_bits : ∀ k, k < 16 → ∀ l, l < 4 → ∀ j, j < 4 → ch_bit (k ||| 2 ^ l) j = if j = l then 1 else ch_bit k j := by decide +kernel
theorem ch_w0 : ∀ t, t < 40 → (((((0 : Int64).toUInt64 >>> ((nI t).toInt64.toUInt64 &&& Int64.toUInt64 63)).toInt64) &&& 1) = 0) := by decide +kernel
theorem ch_w1 : ∀ t, t < 40 → ((0 : Int64) ||| ((1 : Int64) <<< ((nI t).toInt64 &&& 63))) &&& (((1 : Int64) <<< ((nI t).toInt64 &&& 63)) ^^^ (-1)) = 0 := by decide +kernel
theorem ch_nb0 : narrow .boolean (.int (0 : Int32)) = .int 0 := by rfl
theorem ch_nb1 : narrow .boolean (.int (1 : Int32)) = .int 1 := by rfl
/-- an instruction may stand at this depth, with these locals known -/
def im_ok (o q : Int32) (d k : Nat) : Prop := d ≤ 4 ∧ k < 16 ∧
  ((o = nI 0 ∧ d < 4) ∨ (o = nI 1 ∧ d < 4 ∧ ∃ j : Nat, j < 4 ∧ q = nI j ∧ ch_bit k j = 1) ∨ (o = nI 2 ∧ 1 ≤ d ∧ ∃ j : Nat, j < 4 ∧ q = nI j)
   ∨ ((∃ j : Nat, 3 ≤ j ∧ j ≤ 12 ∧ o = nI j) ∧ 2 ≤ d) ∨ (o = nI 13 ∧ 1 ≤ d) ∨ (o = nI 14 ∧ 1 ≤ d ∧ d < 4) ∨ (o = nI 15 ∧ 1 ≤ d) ∨ (o = nI 16 ∧ 2 ≤ d) ∨ (o = nI 24 ∧ 1 ≤ d))
/-- depth and known locals behind it -/
def im_dk (o q : Int32) (x : Nat × Nat) : Nat × Nat :=
  (if o = nI 0 ∨ o = nI 1 ∨ o = nI 14 then x.1 + 1 else if o = nI 13 ∨ o = nI 16 then x.1 else x.1 - 1, if o = nI 2 then x.2 ||| 2 ^ q.toNatClampNeg else x.2)
/-- depth and known locals ahead of instruction j -/
def im_run (o q : Nat → Int32) : Nat → Nat × Nat
  | 0 => (0, 3)
  | n + 1 => im_dk (o n) (q n) (im_run o q n)
/-- a program of n instructions -/
def im_va (o q : Nat → Int32) (n : Nat) : Prop := ∀ j, j < n → im_ok (o j) (q j) (im_run o q j).1 (im_run o q j).2
theorem im_run_c {o q o' q' : Nat → Int32} {n : Nat} (h : ∀ j, j < n → o j = o' j ∧ q j = q' j) : im_run o q n = im_run o' q' n := by
  induction n with
  | zero => rfl
  | succ n ih =>
    show im_dk (o n) (q n) (im_run o q n) = im_dk (o' n) (q' n) (im_run o' q' n)
    rw [ih (fun j hj => h j (by omega)), (h n (by omega)).1, (h n (by omega)).2]
theorem im_va_c {o q o' q' : Nat → Int32} {n : Nat} (h : ∀ j, j < n → o j = o' j ∧ q j = q' j) (v : im_va o q n) : im_va o' q' n := by
  intro j hj
  have e := im_run_c (n := j) (fun i hi => h i (by omega))
  rw [← e, ← (h j hj).1, ← (h j hj).2]
  exact v j hj
theorem im_bd {o q : Nat → Int32} {n : Nat} (v : im_va o q n) : (im_run o q n).1 ≤ 4 ∧ (im_run o q n).2 < 16 := by
  cases n with
  | zero => exact ⟨by show (0 : Nat) ≤ 4; omega, by show (3 : Nat) < 16; omega⟩
  | succ n =>
    have h := v n (by omega)
    show (im_dk (o n) (q n) (im_run o q n)).1 ≤ 4 ∧ (im_dk (o n) (q n) (im_run o q n)).2 < 16
    revert h
    generalize im_run o q n = x
    obtain ⟨d, k⟩ := x
    intro h
    obtain ⟨h1, h2, h⟩ := h
    unfold im_dk
    dsimp only
    dsimp only at h1 h2 h
    constructor
    · by_cases e : o n = nI 0 ∨ o n = nI 1 ∨ o n = nI 14
      · rw [if_pos e]
        rcases h with h | h | h | h | h | h | h | h | h
        · omega
        · omega
        · exact absurd e (by rw [h.1]; decide)
        · obtain ⟨⟨j, j1, j2, ej⟩, _⟩ := h
          refine absurd e ?_
          rw [ej]
          exact (by decide +kernel : ∀ j, j < 13 → 3 ≤ j → ¬ (nI j = nI 0 ∨ nI j = nI 1 ∨ nI j = nI 14)) j (by omega) j1
        · exact absurd e (by rw [h.1]; decide)
        · omega
        · exact absurd e (by rw [h.1]; decide)
        · exact absurd e (by rw [h.1]; decide)
        · exact absurd e (by rw [h.1]; decide)
      · rw [if_neg e]
        split
        · omega
        · omega
    · by_cases e : o n = nI 2
      · rw [if_pos e]
        rcases h with h | h | h | h | h | h | h | h | h
        · exact absurd e (by rw [h.1]; decide)
        · exact absurd e (by rw [h.1]; decide)
        · obtain ⟨_, _, j, hj, ej⟩ := h
          rw [ej, nI_clamp (by omega)]
          exact (ch_kp k h2 j hj).2
        · obtain ⟨⟨j, j1, j2, ej⟩, _⟩ := h
          refine absurd e ?_
          rw [ej]
          exact (by decide +kernel : ∀ j, j < 13 → 3 ≤ j → ¬ (nI j = nI 2)) j (by omega) j1
        · exact absurd e (by rw [h.1]; decide)
        · exact absurd e (by rw [h.1]; decide)
        · exact absurd e (by rw [h.1]; decide)
        · exact absurd e (by rw [h.1]; decide)
        · exact absurd e (by rw [h.1]; decide)
      · rw [if_neg e]
        exact h2
section
variable {le ck iv dn sn ls wc tr tf en tk tc lv ce sc gv pc : Int32} {iw : Int64} {a1 a2 a3 a4 a5 a6 a7 a8 a9 a10 a11 a12 a13 a14 a15 a16 a17 a18 a19 a20 a21 a22 a23 a24 a25 a26 a27 a28 a29 a30 : Nat → Int32}
theorem ch_push {post : Int32 → St1 → Prop} {d : Nat} (hd : d < 6) (hp : post 1 (le, ck, iv, nI (d + 1), 0, ls, wc, iw, tr, tf, en, tk, tc, lv, ce, sc, gv, pc, a1, a2, a3, a4, a5, a6, a7, a8, a9, a10, a11, a12, a13, a14, a15, a16, a17, a18, a19, a20, a21, a22, a23, a24, a25, a26, a27, a28, a29, a30)) : wpX_push post (le, ck, iv, nI d, 0, ls, wc, iw, tr, tf, en, tk, tc, lv, ce, sc, gv, pc, a1, a2, a3, a4, a5, a6, a7, a8, a9, a10, a11, a12, a13, a14, a15, a16, a17, a18, a19, a20, a21, a22, a23, a24, a25, a26, a27, a28, a29, a30) 1 := by
  unfold wpX_push
  refine pk_lt d 6 (fun _ => br_f (by decide) (nm_r (ch_0and _) ?_)) (fun z => absurd z (by omega))
  unfold wX_push_51
  exact nm_r (nI_1 d) hp
theorem ch_pop {post : Int32 → St1 → Prop} {d : Nat} (hd : d < 30) (hp : post 1 (le, ck, iv, nI d, 0, ls, wc, iw, tr, tf, en, tk, tc, lv, ce, sc, gv, pc, a1, a2, a3, a4, a5, a6, a7, a8, a9, a10, a11, a12, a13, a14, a15, a16, a17, a18, a19, a20, a21, a22, a23, a24, a25, a26, a27, a28, a29, a30)) : wpX_pop post (le, ck, iv, nI (d + 1), 0, ls, wc, iw, tr, tf, en, tk, tc, lv, ce, sc, gv, pc, a1, a2, a3, a4, a5, a6, a7, a8, a9, a10, a11, a12, a13, a14, a15, a16, a17, a18, a19, a20, a21, a22, a23, a24, a25, a26, a27, a28, a29, a30) := by
  unfold wpX_pop
  refine br_f (nI_ne0 (by omega) (by omega)) (nm_r (nI_pred d) (br_t ((bb_test (by omega)).mpr (bb_0 _)) ?_))
  unfold wX_pop_38
  exact nm_r (ch_0and _) hp
theorem ch_popOne {post : Int32 → St1 → Prop} {d : Nat} (hd : d < 30) (hp : post 1 (le, ck, iv, nI d, 0, ls, wc, iw, tr, tf, en, tk, tc, lv, ce, sc, gv, pc, a1, a2, a3, a4, a5, a6, a7, a8, a9, a10, a11, a12, a13, a14, a15, a16, a17, a18, a19, a20, a21, a22, a23, a24, a25, a26, a27, a28, a29, a30)) : wpX_popOne post (le, ck, iv, nI (d + 1), 0, ls, wc, iw, tr, tf, en, tk, tc, lv, ce, sc, gv, pc, a1, a2, a3, a4, a5, a6, a7, a8, a9, a10, a11, a12, a13, a14, a15, a16, a17, a18, a19, a20, a21, a22, a23, a24, a25, a26, a27, a28, a29, a30) 1 := by
  unfold wpX_popOne
  exact ch_pop hd (br_t rfl hp)
theorem ch_popTwo {post : Int32 → St1 → Prop} {d : Nat} (hd : d < 20) (hp : post 1 (le, ck, iv, nI d, 0, ls, wc, iw, tr, tf, en, tk, tc, lv, ce, sc, gv, pc, a1, a2, a3, a4, a5, a6, a7, a8, a9, a10, a11, a12, a13, a14, a15, a16, a17, a18, a19, a20, a21, a22, a23, a24, a25, a26, a27, a28, a29, a30)) : wpX_popTwo post (le, ck, iv, nI (d + 2), 0, ls, wc, iw, tr, tf, en, tk, tc, lv, ce, sc, gv, pc, a1, a2, a3, a4, a5, a6, a7, a8, a9, a10, a11, a12, a13, a14, a15, a16, a17, a18, a19, a20, a21, a22, a23, a24, a25, a26, a27, a28, a29, a30) 1 1 := by
  unfold wpX_popTwo
  exact ch_popOne (d := d + 1) (by omega) (br_f (by decide) (ch_popOne (by omega) (br_f (by decide) hp)))
theorem ch_load {post : Int32 → St1 → Prop} {d : Nat} {p : Int32} (e : p = 1) (hd : d < 6) (hp : post 1 (le, ck, iv, nI (d + 1), 0, ls, wc, iw, tr, tf, en, tk, tc, lv, ce, sc, gv, pc, a1, a2, a3, a4, a5, a6, a7, a8, a9, a10, a11, a12, a13, a14, a15, a16, a17, a18, a19, a20, a21, a22, a23, a24, a25, a26, a27, a28, a29, a30)) : wpX_loadEffect post (le, ck, iv, nI d, 0, ls, wc, iw, tr, tf, en, tk, tc, lv, ce, sc, gv, pc, a1, a2, a3, a4, a5, a6, a7, a8, a9, a10, a11, a12, a13, a14, a15, a16, a17, a18, a19, a20, a21, a22, a23, a24, a25, a26, a27, a28, a29, a30) p := by
  subst e
  unfold wpX_loadEffect
  exact br_f (by decide) (ch_push hd (br_f (by decide) hp))
theorem ch_store {post : Int32 → St1 → Prop} {d k l : Nat} (hd : d < 30) (hk : k < 16) (hl : l < 4) (hp : post 1 (le, ck, iv, nI d, 0, nI (ch_enc (k ||| 2 ^ l)), wc, iw, tr, tf, en, tk, tc, lv, ce, sc, gv, pc, a1, a2, a3, a4, a5, a6, a7, a8, a9, a10, a11, a12, a13, a14, a15, a16, a17, a18, a19, a20, a21, a22, a23, a24, a25, a26, a27, a28, a29, a30)) : wpX_storeEffect post (le, ck, iv, nI (d + 1), 0, nI (ch_enc k), wc, iw, tr, tf, en, tk, tc, lv, ce, sc, gv, pc, a1, a2, a3, a4, a5, a6, a7, a8, a9, a10, a11, a12, a13, a14, a15, a16, a17, a18, a19, a20, a21, a22, a23, a24, a25, a26, a27, a28, a29, a30) (nI l) := by
  unfold wpX_storeEffect
  exact ch_pop hd (nm_r (ch_put k hk l hl) (br_f (by decide) hp))
theorem ch_copy15 {post : Int32 → St1 → Prop} {d : Nat} (hd : d < 30) (hp : post 1 (le, ck, iv, nI d, 0, ls, wc, iw, tr, tf, en, tk, tc, lv, ce, sc, gv, pc, a1, a2, a3, a4, a5, a6, a7, a8, a9, a10, a11, a12, a13, a14, a15, a16, a17, a18, a19, a20, a21, a22, a23, a24, a25, a26, a27, a28, a29, a30)) : wpX_copyEffect post (le, ck, iv, nI (d + 1), 0, ls, wc, iw, tr, tf, en, tk, tc, lv, ce, sc, gv, pc, a1, a2, a3, a4, a5, a6, a7, a8, a9, a10, a11, a12, a13, a14, a15, a16, a17, a18, a19, a20, a21, a22, a23, a24, a25, a26, a27, a28, a29, a30) 15 := by
  unfold wpX_copyEffect
  exact ch_pop hd (br_f (by decide) (br_t rfl hp))
theorem ch_copy14 {post : Int32 → St1 → Prop} {d : Nat} (hd : d < 5) (hp : post 1 (le, ck, iv, nI (d + 2), 0, ls, wc, iw, tr, tf, en, tk, tc, lv, ce, sc, gv, pc, a1, a2, a3, a4, a5, a6, a7, a8, a9, a10, a11, a12, a13, a14, a15, a16, a17, a18, a19, a20, a21, a22, a23, a24, a25, a26, a27, a28, a29, a30)) : wpX_copyEffect post (le, ck, iv, nI (d + 1), 0, ls, wc, iw, tr, tf, en, tk, tc, lv, ce, sc, gv, pc, a1, a2, a3, a4, a5, a6, a7, a8, a9, a10, a11, a12, a13, a14, a15, a16, a17, a18, a19, a20, a21, a22, a23, a24, a25, a26, a27, a28, a29, a30) 14 := by
  unfold wpX_copyEffect
  exact ch_pop (by omega) (br_f (by decide) (br_f (by decide) (ch_push (by omega) (br_f (by decide) (ch_push (d := d + 1) (by omega) (br_f (by decide) hp))))))
theorem ch_swap {post : Int32 → St1 → Prop} {d : Nat} (hd : d < 4) (hp : post 1 (le, ck, iv, nI (d + 2), 0, ls, wc, iw, tr, tf, en, tk, tc, lv, ce, sc, gv, pc, a1, a2, a3, a4, a5, a6, a7, a8, a9, a10, a11, a12, a13, a14, a15, a16, a17, a18, a19, a20, a21, a22, a23, a24, a25, a26, a27, a28, a29, a30)) : wpX_swapEffect post (le, ck, iv, nI (d + 2), 0, ls, wc, iw, tr, tf, en, tk, tc, lv, ce, sc, gv, pc, a1, a2, a3, a4, a5, a6, a7, a8, a9, a10, a11, a12, a13, a14, a15, a16, a17, a18, a19, a20, a21, a22, a23, a24, a25, a26, a27, a28, a29, a30) := by
  unfold wpX_swapEffect
  exact ch_pop (d := d + 1) (by omega) (ch_pop (by omega) (br_f (by decide) (ch_push (by omega) (br_f (by decide) (ch_push (d := d + 1) (by omega) (br_f (by decide) hp))))))
end
end
section
/-! checking: the effect of an instruction, what follows it, the whole check -/
theorem im_dk0 (q : Int32) (d k : Nat) : im_dk (nI 0) q (d, k) = (d + 1, k) := by unfold im_dk; rw [if_pos (by decide), if_neg (by decide)]
theorem im_dk1 (q : Int32) (d k : Nat) : im_dk (nI 1) q (d, k) = (d + 1, k) := by unfold im_dk; rw [if_pos (by decide), if_neg (by decide)]
theorem im_dk2 (q : Int32) (d k : Nat) : im_dk (nI 2) q (d, k) = (d - 1, k ||| 2 ^ q.toNatClampNeg) := by unfold im_dk; rw [if_neg (by decide), if_neg (by decide), if_pos (by decide)]
theorem im_dkb {j : Nat} (h1 : 3 ≤ j) (h2 : j ≤ 12) (q : Int32) (d k : Nat) : im_dk (nI j) q (d, k) = (d - 1, k) := by
  have h := (by decide +kernel : ∀ j, j < 13 → 3 ≤ j → (¬ (nI j = nI 0 ∨ nI j = nI 1 ∨ nI j = nI 14)) ∧ (¬ (nI j = nI 13 ∨ nI j = nI 16)) ∧ ¬ nI j = nI 2) j (by omega) h1
  unfold im_dk
  rw [if_neg h.1, if_neg h.2.1, if_neg h.2.2]
theorem im_dk13 (q : Int32) (d k : Nat) : im_dk (nI 13) q (d, k) = (d, k) := by unfold im_dk; rw [if_neg (by decide), if_pos (by decide), if_neg (by decide)]
theorem im_dk14 (q : Int32) (d k : Nat) : im_dk (nI 14) q (d, k) = (d + 1, k) := by unfold im_dk; rw [if_pos (by decide), if_neg (by decide)]
theorem im_dk15 (q : Int32) (d k : Nat) : im_dk (nI 15) q (d, k) = (d - 1, k) := by unfold im_dk; rw [if_neg (by decide), if_neg (by decide), if_neg (by decide)]
theorem im_dk16 (q : Int32) (d k : Nat) : im_dk (nI 16) q (d, k) = (d, k) := by unfold im_dk; rw [if_neg (by decide), if_pos (by decide), if_neg (by decide)]
theorem im_dk24 (q : Int32) (d k : Nat) : im_dk (nI 24) q (d, k) = (d - 1, k) := by unfold im_dk; rw [if_neg (by decide), if_neg (by decide), if_neg (by decide)]
theorem im_okO {o q : Int32} {d k : Nat} (h : im_ok o q d k) : ∃ j : Nat, o = nI j ∧ (j ≤ 16 ∨ j = 24) := by
  rcases h.2.2 with h | h | h | h | h | h | h | h | h
  · exact ⟨0, h.1, by omega⟩
  · exact ⟨1, h.1, by omega⟩
  · exact ⟨2, h.1, by omega⟩
  · obtain ⟨⟨j, h1, h2, e⟩, _⟩ := h
    exact ⟨j, e, by omega⟩
  · exact ⟨13, h.1, by omega⟩
  · exact ⟨14, h.1, by omega⟩
  · exact ⟨15, h.1, by omega⟩
  · exact ⟨16, h.1, by omega⟩
  · exact ⟨24, h.1, by omega⟩
section
variable {le ck iv dn sn ls wc tr tf en tk tc lv ce sc gv pc : Int32} {iw : Int64} {a1 a2 a3 a4 a5 a6 a7 a8 a9 a10 a11 a12 a13 a14 a15 a16 a17 a18 a19 a20 a21 a22 a23 a24 a25 a26 a27 a28 a29 a30 : Nat → Int32}
theorem ch_eff75 {post : Int32 → St1 → Prop} {j : Nat} {q : Int32} (h1 : 13 ≤ j) (h2 : j < 40) (h : wX_effect_75 post (nI j) le ck iv dn sn ls wc iw tr tf en tk tc lv ce sc gv pc a1 a2 a3 a4 a5 a6 a7 a8 a9 a10 a11 a12 a13 a14 a15 a16 a17 a18 a19 a20 a21 a22 a23 a24 a25 a26 a27 a28 a29 a30) : wpX_effect post (le, ck, iv, dn, sn, ls, wc, iw, tr, tf, en, tk, tc, lv, ce, sc, gv, pc, a1, a2, a3, a4, a5, a6, a7, a8, a9, a10, a11, a12, a13, a14, a15, a16, a17, a18, a19, a20, a21, a22, a23, a24, a25, a26, a27, a28, a29, a30) (nI j) q := by
  unfold wpX_effect
  exact pk_eq j 0 (fun z => absurd z (by omega)) (fun _ => pk_eq j 1 (fun z => absurd z (by omega)) (fun _ => pk_eq j 2 (fun z => absurd z (by omega)) (fun _ => pk_lt j 3 (fun z => absurd z (by omega)) (fun _ => pk_lt 12 j (fun _ => h) (fun z => absurd z (by omega))))))
theorem ch_effect {post : Int32 → St1 → Prop} {o q : Int32} {d k d' k' : Nat} (ok : im_ok o q d k) (hx : im_dk o q (d, k) = (d', k')) (hp : post 1 (le, ck, iv, nI d', 0, nI (ch_enc k'), wc, iw, tr, tf, en, tk, tc, lv, ce, sc, gv, pc, a1, a2, a3, a4, a5, a6, a7, a8, a9, a10, a11, a12, a13, a14, a15, a16, a17, a18, a19, a20, a21, a22, a23, a24, a25, a26, a27, a28, a29, a30)) : wpX_effect post (le, ck, iv, nI d, 0, nI (ch_enc k), wc, iw, tr, tf, en, tk, tc, lv, ce, sc, gv, pc, a1, a2, a3, a4, a5, a6, a7, a8, a9, a10, a11, a12, a13, a14, a15, a16, a17, a18, a19, a20, a21, a22, a23, a24, a25, a26, a27, a28, a29, a30) o q := by
  obtain ⟨h1, h2, ok⟩ := ok
  rcases ok with h | h | h | h | h | h | h | h | h
  · obtain ⟨rfl, hd⟩ := h
    rw [im_dk0] at hx
    obtain ⟨rfl, rfl⟩ := Prod.mk.inj hx
    unfold wpX_effect
    exact br_t rfl (ch_push (by omega) ⟨ch_nb1, hp⟩)
  · obtain ⟨rfl, hd, j, hj, rfl, hb⟩ := h
    rw [im_dk1] at hx
    obtain ⟨rfl, rfl⟩ := Prod.mk.inj hx
    unfold wpX_effect
    exact br_f (by decide) (br_t rfl (ch_load (by rw [ch_get k h2 j hj, hb]; rfl) (by omega) ⟨ch_nb1, hp⟩))
  · obtain ⟨rfl, hd, j, hj, rfl⟩ := h
    rw [im_dk2, nI_clamp (by omega)] at hx
    obtain ⟨e, rfl⟩ : ∃ e, d = e + 1 := ⟨d - 1, by omega⟩
    obtain ⟨rfl, rfl⟩ := Prod.mk.inj hx
    unfold wpX_effect
    exact br_f (by decide) (br_f (by decide) (br_t rfl (ch_store (d := e) (by omega) h2 hj ⟨ch_nb1, hp⟩)))
  · obtain ⟨⟨j, j1, j2, rfl⟩, hd⟩ := h
    rw [im_dkb j1 j2] at hx
    obtain ⟨e, rfl⟩ : ∃ e, d = e + 2 := ⟨d - 2, by omega⟩
    obtain ⟨rfl, rfl⟩ := Prod.mk.inj hx
    unfold wpX_effect
    exact pk_eq j 0 (fun z => absurd z (by omega)) (fun _ => pk_eq j 1 (fun z => absurd z (by omega)) (fun _ => pk_eq j 2 (fun z => absurd z (by omega)) (fun _ => pk_lt j 3 (fun z => absurd z (by omega)) (fun _ => pk_lt 12 j (fun z => absurd z (by omega)) (fun _ => ch_popTwo (by omega) (br_f (by decide) (ch_push (by omega) (br_f (by decide) hp))))))))
  · obtain ⟨rfl, hd⟩ := h
    rw [im_dk13] at hx
    obtain ⟨e, rfl⟩ : ∃ e, d = e + 1 := ⟨d - 1, by omega⟩
    obtain ⟨rfl, rfl⟩ := Prod.mk.inj hx
    refine ch_eff75 (by omega) (by omega) ?_
    unfold wX_effect_75
    exact br_t rfl (ch_popOne (by omega) (br_f (by decide) (ch_push (by omega) (br_f (by decide) hp))))
  · obtain ⟨rfl, hd, hd2⟩ := h
    rw [im_dk14] at hx
    obtain ⟨e, rfl⟩ : ∃ e, d = e + 1 := ⟨d - 1, by omega⟩
    obtain ⟨rfl, rfl⟩ := Prod.mk.inj hx
    refine ch_eff75 (by omega) (by omega) ?_
    unfold wX_effect_75
    refine br_f (by decide) (br_t rfl ?_)
    unfold wX_effect_115
    exact ch_copy14 (by omega) ⟨ch_nb1, hp⟩
  · obtain ⟨rfl, hd⟩ := h
    rw [im_dk15] at hx
    obtain ⟨e, rfl⟩ : ∃ e, d = e + 1 := ⟨d - 1, by omega⟩
    obtain ⟨rfl, rfl⟩ := Prod.mk.inj hx
    refine ch_eff75 (by omega) (by omega) ?_
    unfold wX_effect_75
    refine br_f (by decide) (br_f (by decide) (br_t rfl ?_))
    unfold wX_effect_115
    exact ch_copy15 (d := e) (by omega) ⟨ch_nb1, hp⟩
  · obtain ⟨rfl, hd⟩ := h
    rw [im_dk16] at hx
    obtain ⟨e, rfl⟩ : ∃ e, d = e + 2 := ⟨d - 2, by omega⟩
    obtain ⟨rfl, rfl⟩ := Prod.mk.inj hx
    refine ch_eff75 (by omega) (by omega) ?_
    unfold wX_effect_75
    exact br_f (by decide) (br_f (by decide) (br_f (by decide) (br_t rfl (ch_swap (by omega) ⟨ch_nb1, hp⟩))))
  · obtain ⟨rfl, hd⟩ := h
    rw [im_dk24] at hx
    obtain ⟨e, rfl⟩ : ∃ e, d = e + 1 := ⟨d - 1, by omega⟩
    obtain ⟨rfl, rfl⟩ := Prod.mk.inj hx
    refine ch_eff75 (by omega) (by omega) ?_
    unfold wX_effect_75
    exact br_f (by decide) (br_f (by decide) (br_f (by decide) (br_f (by decide) (br_f (by decide) (br_f (by decide) (br_f (by decide) (br_f (by decide) (br_f (by decide) (br_f (by decide) (ch_popOne (d := e) (by omega) (br_f (by decide) hp)))))))))))
theorem ch_effE {post : Int32 → St1 → Prop} {o q : Int32} {d : Nat} (hd : d ≤ 4) (h : (o = nI 25 ∧ 1 ≤ d) ∨ o = nI 26) (hp : ∀ x, post 1 (le, ck, iv, x, 0, ls, wc, iw, tr, tf, en, tk, tc, lv, ce, sc, gv, pc, a1, a2, a3, a4, a5, a6, a7, a8, a9, a10, a11, a12, a13, a14, a15, a16, a17, a18, a19, a20, a21, a22, a23, a24, a25, a26, a27, a28, a29, a30)) : wpX_effect post (le, ck, iv, nI d, 0, ls, wc, iw, tr, tf, en, tk, tc, lv, ce, sc, gv, pc, a1, a2, a3, a4, a5, a6, a7, a8, a9, a10, a11, a12, a13, a14, a15, a16, a17, a18, a19, a20, a21, a22, a23, a24, a25, a26, a27, a28, a29, a30) o q := by
  rcases h with ⟨rfl, h⟩ | rfl
  · obtain ⟨e, rfl⟩ : ∃ e, d = e + 1 := ⟨d - 1, by omega⟩
    refine ch_eff75 (by omega) (by omega) ?_
    unfold wX_effect_75
    exact br_f (by decide) (br_f (by decide) (br_f (by decide) (br_f (by decide) (br_f (by decide) (br_f (by decide) (br_f (by decide) (br_f (by decide) (br_f (by decide) (br_f (by decide) (ch_popOne (d := e) (by omega) (br_f (by decide) (hp _))))))))))))
  · refine ch_eff75 (by omega) (by omega) ?_
    unfold wX_effect_75
    exact br_f (by decide) (br_f (by decide) (br_f (by decide) (br_f (by decide) (br_f (by decide) (br_f (by decide) (br_f (by decide) (br_f (by decide) (br_f (by decide) (br_t rfl (hp _))))))))))
theorem ch_look {post : St1 → Prop} {t : Nat} (ht : t < 40) (hp : post (le, ck, iv, dn, sn, ls, 1, 0 ||| ((1 : Int64) <<< ((nI t).toInt64 &&& 63)), tr, tf, en, tk, tc, lv, ce, sc, gv, pc, a1, a2, a3, a4, a5, upd a6 0 (nI t), a7, a8, a9, a10, a11, a12, a13, a14, a15, a16, a17, a18, a19, a20, a21, a22, a23, a24, a25, a26, a27, a28, a29, a30)) : wpX_lookAgain post (le, ck, iv, dn, sn, ls, 0, 0, tr, tf, en, tk, tc, lv, ce, sc, gv, pc, a1, a2, a3, a4, a5, a6, a7, a8, a9, a10, a11, a12, a13, a14, a15, a16, a17, a18, a19, a20, a21, a22, a23, a24, a25, a26, a27, a28, a29, a30) (nI t) := by
  unfold wpX_lookAgain
  exact br_t (ch_w0 t ht) (nm_e ⟨pk_in 0 40 (by omega), nm_r (by rw [sb_cl0, bb_b8 t (by omega)]) (nm_r (by decide) hp)⟩)
theorem ch_pass {post : Int32 → St1 → Prop} {n t d k : Nat} {p : Int32} (e : p = nI t) (ht : t ≤ n) (hn : n < 40) (hd : d ≤ 4) (hk : k < 16) (h3 : a3 t = -1)
    (hp : post 1 (nI (n + 1), ck, iv, nI d, 0, nI (ch_enc k), 1, 0 ||| ((1 : Int64) <<< ((nI t).toInt64 &&& 63)), tr, tf, en, tk, tc, lv, ce, sc, gv, pc, a1, a2, upd a3 t (nI d), upd a4 t 0, upd a5 t (nI (ch_enc k)), upd a6 0 (nI t), a7, a8, a9, a10, a11, a12, a13, a14, a15, a16, a17, a18, a19, a20, a21, a22, a23, a24, a25, a26, a27, a28, a29, a30)) :
    wpX_pass post (nI (n + 1), ck, iv, nI d, 0, nI (ch_enc k), 0, 0, tr, tf, en, tk, tc, lv, ce, sc, gv, pc, a1, a2, a3, a4, a5, a6, a7, a8, a9, a10, a11, a12, a13, a14, a15, a16, a17, a18, a19, a20, a21, a22, a23, a24, a25, a26, a27, a28, a29, a30) p := by
  subst e
  unfold wpX_pass
  exact br_f (nI_pos (by omega)) (pk_lt t (n + 1) (fun _ => ⟨pk_in t 40 (by omega), br_f (by rw [nI_clamp (by omega), h3]; exact bb_neg) ⟨pk_in t 40 (by omega), nm_r (by rw [nI_clamp (by omega), bb_b8 d (by omega)]) ⟨pk_in t 40 (by omega), nm_r (by rw [nI_clamp (by omega)]; rfl) ⟨pk_in t 40 (by omega), nm_r (by rw [nI_clamp (by omega), ch_16 k hk]) (ch_look (by omega) hp)⟩⟩⟩⟩) (fun z => absurd z (by omega)))
theorem ch_follow {post : Int32 → St1 → Prop} {n i d k d' k' : Nat} (hi : i < n) (hn : n < 40) (ok : im_ok (a1 i) (a2 i) d k) (hx : im_dk (a1 i) (a2 i) (d, k) = (d', k')) (hd : d' ≤ 4) (hk : k' < 16) (h3 : a3 (i + 1) = -1)
    (hp : post 1 (nI (n + 1), ck, iv, nI d', 0, nI (ch_enc k'), 1, 0 ||| ((1 : Int64) <<< ((nI (i + 1)).toInt64 &&& 63)), tr, tf, en, tk, tc, lv, ce, sc, gv, pc, a1, a2, upd a3 (i + 1) (nI d'), upd a4 (i + 1) 0, upd a5 (i + 1) (nI (ch_enc k')), upd a6 0 (nI (i + 1)), a7, a8, a9, a10, a11, a12, a13, a14, a15, a16, a17, a18, a19, a20, a21, a22, a23, a24, a25, a26, a27, a28, a29, a30)) :
    wpX_follow post (nI (n + 1), ck, iv, nI d, 0, nI (ch_enc k), 0, 0, tr, tf, en, tk, tc, lv, ce, sc, gv, pc, a1, a2, a3, a4, a5, a6, a7, a8, a9, a10, a11, a12, a13, a14, a15, a16, a17, a18, a19, a20, a21, a22, a23, a24, a25, a26, a27, a28, a29, a30) (nI i) := by
  obtain ⟨j, ej, hj⟩ := im_okO ok
  unfold wpX_follow
  refine ⟨pk_in i 40 (by omega), nm_r (show a1 (nI i).toNatClampNeg = nI j by rw [nI_clamp (by omega), ej]) ⟨pk_in i 40 (by omega), ?_⟩⟩
  rw [nI_clamp (show i < 2 ^ 31 by omega)]
  rw [ej] at ok hx
  refine ch_effect ok hx (br_f (by decide) (pk_eq j 21 (fun z => absurd z (by omega)) (fun _ => pk_eq j 22 (fun z => absurd z (by omega)) (fun _ => pk_eq j 23 (fun z => absurd z (by omega)) (fun _ => ?_)))))
  unfold wX_follow_46
  refine br_t rfl ?_
  unfold wX_follow_66
  exact pk_eq j 21 (fun z => absurd z (by omega)) (fun _ => pk_eq j 25 (fun z => absurd z (by omega)) (fun _ => pk_eq j 26 (fun z => absurd z (by omega)) (fun _ => ch_pass (nI_1 i) (by omega) hn hd hk h3 (br_f (by decide) hp))))
theorem ch_followE {post : Int32 → St1 → Prop} {n d : Nat} (hn : n < 40) (hd : d ≤ 4) (h : (a1 n = nI 25 ∧ 1 ≤ d) ∨ a1 n = nI 26) (hp : ∀ x, post 1 (le, ck, iv, x, 0, ls, wc, iw, tr, tf, en, tk, tc, lv, ce, sc, gv, pc, a1, a2, a3, a4, a5, a6, a7, a8, a9, a10, a11, a12, a13, a14, a15, a16, a17, a18, a19, a20, a21, a22, a23, a24, a25, a26, a27, a28, a29, a30)) : wpX_follow post (le, ck, iv, nI d, 0, ls, wc, iw, tr, tf, en, tk, tc, lv, ce, sc, gv, pc, a1, a2, a3, a4, a5, a6, a7, a8, a9, a10, a11, a12, a13, a14, a15, a16, a17, a18, a19, a20, a21, a22, a23, a24, a25, a26, a27, a28, a29, a30) (nI n) := by
  unfold wpX_follow
  refine ⟨pk_in n 40 hn, nm_e ⟨pk_in n 40 hn, ?_⟩⟩
  rw [nI_clamp (show n < 2 ^ 31 by omega)]
  refine ch_effE hd h (fun x => br_f (by decide) ?_)
  obtain ⟨j, ej, hj⟩ : ∃ j : Nat, a1 n = nI j ∧ (j = 25 ∨ j = 26) := by
    rcases h with h | h
    · exact ⟨25, h.1, Or.inl rfl⟩
    · exact ⟨26, h, Or.inr rfl⟩
  rw [ej]
  refine pk_eq j 21 (fun z => absurd z (by omega)) (fun _ => pk_eq j 22 (fun z => absurd z (by omega)) (fun _ => pk_eq j 23 (fun z => absurd z (by omega)) (fun _ => ?_)))
  unfold wX_follow_46
  refine br_t rfl ?_
  unfold wX_follow_66
  exact pk_eq j 21 (fun z => absurd z (by omega)) (fun _ => pk_eq j 25 (fun z => hp x) (fun _ => pk_eq j 26 (fun z => hp x) (fun z => absurd z (by omega))))
end
end
section
/-! checking: the loops -/
section
variable {le ck iv dn sn ls wc tr tf en tk tc lv ce sc gv pc : Int32} {iw : Int64} {a1 a2 a3 a4 a5 a6 a7 a8 a9 a10 a11 a12 a13 a14 a15 a16 a17 a18 a19 a20 a21 a22 a23 a24 a25 a26 a27 a28 a29 a30 : Nat → Int32}
/-- the states are written down -/
def ch_at (o q b3 b5 : Nat → Int32) (n : Nat) : Prop := ∀ j, j < n → b3 j = nI (im_run o q j).1 ∧ b5 j = nI (ch_enc (im_run o q j).2)
theorem ch_at_s {o q b3 b5 : Nat → Int32} {i d k : Nat} (h : ch_at o q b3 b5 (i + 1)) (e : im_run o q (i + 1) = (d, k)) : ch_at o q (upd b3 (i + 1) (nI d)) (upd b5 (i + 1) (nI (ch_enc k))) (i + 2) := by
  intro j hj
  by_cases g : j = i + 1
  · subst g
    rw [pk_us, pk_us, e]
    exact ⟨rfl, rfl⟩
  · rw [pk_un g, pk_un g]
    exact h j (by omega)
/-- the loop's picture ahead of its turn i -/
def ch_I (o q : Nat → Int32) (n i : Nat) (s : Int32 × Int32 × Int32 × Int32 × Int64 × (Nat → Int32) × (Nat → Int32) × (Nat → Int32) × (Nat → Int32)) : Prop :=
  (i ≤ n → s.2.2.2.1 = 1 ∧ s.2.2.2.2.1 = 0 ||| ((1 : Int64) <<< ((nI i).toInt64 &&& 63)) ∧ s.2.2.2.2.2.2.2.2 0 = nI i ∧ s.2.2.2.2.2.2.1 i = 0 ∧ ch_at o q s.2.2.2.2.2.1 s.2.2.2.2.2.2.2.1 (i + 1) ∧ ∀ j, i < j → j ≤ n → s.2.2.2.2.2.1 j = -1)
  ∧ (i = n + 1 → s.2.2.2.1 = 0 ∧ ch_at o q s.2.2.2.2.2.1 s.2.2.2.2.2.2.2.1 (n + 1))
theorem ch_loop {post : Int32 → St1 → Prop} {n : Nat} (hn : n < 40) (va : im_va a1 a2 n) (he : (a1 n = nI 25 ∧ 1 ≤ (im_run a1 a2 n).1) ∨ a1 n = nI 26)
    (hp : ∀ x1 x2 x3 x4 x5 b3 b4 b5 b6, ch_at a1 a2 b3 b5 (n + 1) → post 1 (nI (n + 1), ck, iv, x1, x2, x3, x4, x5, tr, tf, en, tk, tc, lv, ce, sc, gv, pc, a1, a2, b3, b4, b5, b6, a7, a8, a9, a10, a11, a12, a13, a14, a15, a16, a17, a18, a19, a20, a21, a22, a23, a24, a25, a26, a27, a28, a29, a30))
    (s : Int32 × Int32 × Int32 × Int32 × Int64 × (Nat → Int32) × (Nat → Int32) × (Nat → Int32) × (Nat → Int32)) (hs : ch_I a1 a2 n 0 s) :
    ∃ m, wX_check_54 post m 1 (nI (n + 1)) ck iv s.1 s.2.1 s.2.2.1 s.2.2.2.1 s.2.2.2.2.1 tr tf en tk tc lv ce sc gv pc a1 a2 s.2.2.2.2.2.1 s.2.2.2.2.2.2.1 s.2.2.2.2.2.2.2.1 s.2.2.2.2.2.2.2.2 a7 a8 a9 a10 a11 a12 a13 a14 a15 a16 a17 a18 a19 a20 a21 a22 a23 a24 a25 a26 a27 a28 a29 a30 := by
  refine pk_loop (fun m _ s => wX_check_54 post m 1 (nI (n + 1)) ck iv s.1 s.2.1 s.2.2.1 s.2.2.2.1 s.2.2.2.2.1 tr tf en tk tc lv ce sc gv pc a1 a2 s.2.2.2.2.2.1 s.2.2.2.2.2.2.1 s.2.2.2.2.2.2.2.1 s.2.2.2.2.2.2.2.2 a7 a8 a9 a10 a11 a12 a13 a14 a15 a16 a17 a18 a19 a20 a21 a22 a23 a24 a25 a26 a27 a28 a29 a30) (fun i s => ch_I a1 a2 n i s) (n + 1) 0 s (by omega) hs ?_ ?_
  · intro m s h
    obtain ⟨y1, y2, y3, y4, y5, b3, b4, b5, b6⟩ := s
    obtain ⟨_, h⟩ := h
    obtain ⟨h1, h2⟩ := h rfl
    dsimp only at h1 h2
    subst h1
    show wX_check_54 post (m + 1) 1 (nI (n + 1)) ck iv y1 y2 y3 0 y5 tr tf en tk tc lv ce sc gv pc a1 a2 b3 b4 b5 b6 a7 a8 a9 a10 a11 a12 a13 a14 a15 a16 a17 a18 a19 a20 a21 a22 a23 a24 a25 a26 a27 a28 a29 a30
    exact br_f (by decide) (br_t (by decide) ⟨ch_nb1, hp _ _ _ _ _ _ _ _ _ h2⟩)
  · intro m i s hi h hw
    obtain ⟨y1, y2, y3, y4, y5, b3, b4, b5, b6⟩ := s
    obtain ⟨h, _⟩ := h
    obtain ⟨h1, h2, h3, h4, h5, h6⟩ := h (by omega)
    dsimp only at h1 h2 h3 h4 h5 h6
    subst h1 h2
    have w : ∀ x1 x2 x3 x4 x5 c3 c4 c5 c6, ch_I a1 a2 n (i + 1) (x1, x2, x3, x4, x5, c3, c4, c5, c6) → wX_check_54 post m 1 (nI (n + 1)) ck iv x1 x2 x3 x4 x5 tr tf en tk tc lv ce sc gv pc a1 a2 c3 c4 c5 c6 a7 a8 a9 a10 a11 a12 a13 a14 a15 a16 a17 a18 a19 a20 a21 a22 a23 a24 a25 a26 a27 a28 a29 a30 := fun x1 x2 x3 x4 x5 c3 c4 c5 c6 h => hw (x1, x2, x3, x4, x5, c3, c4, c5, c6) h
    clear hw
    show wX_check_54 post (m + 1) 1 (nI (n + 1)) ck iv y1 y2 y3 1 (0 ||| ((1 : Int64) <<< ((nI i).toInt64 &&& 63))) tr tf en tk tc lv ce sc gv pc a1 a2 b3 b4 b5 b6 a7 a8 a9 a10 a11 a12 a13 a14 a15 a16 a17 a18 a19 a20 a21 a22 a23 a24 a25 a26 a27 a28 a29 a30
    have e0 : (1 : Int32) - 1 = 0 := by decide
    refine br_f (by decide) (br_f (by decide) (nm_r e0 ⟨pk_in 0 40 (by omega), nm_r (show b6 (0 : Int32).toNatClampNeg = nI i by rw [sb_cl0, h3]) (nm_r (ch_w1 i (by omega)) ⟨pk_in i 40 (by omega), nm_r (show b3 (nI i).toNatClampNeg = nI (im_run a1 a2 i).1 by rw [nI_clamp (by omega)]; exact (h5 i (by omega)).1) ⟨pk_in i 40 (by omega), nm_r (show b4 (nI i).toNatClampNeg = 0 by rw [nI_clamp (by omega), h4]) ⟨pk_in i 40 (by omega), nm_r (show b5 (nI i).toNatClampNeg = nI (ch_enc (im_run a1 a2 i).2) by rw [nI_clamp (by omega)]; exact (h5 i (by omega)).2) ?_⟩⟩⟩)⟩))
    rcases Nat.lt_or_ge i n with g | g
    · have hb := im_bd (o := a1) (q := a2) (n := i + 1) (fun j hj => va j (by omega))
      refine ch_follow (d' := (im_run a1 a2 (i + 1)).1) (k' := (im_run a1 a2 (i + 1)).2) g hn (va i g) rfl hb.1 hb.2 (h6 (i + 1) (by omega) (by omega)) ?_
      refine w _ _ _ _ _ _ _ _ _ ⟨fun _ => ⟨rfl, rfl, by dsimp only; rw [pk_us], by dsimp only; rw [pk_us], ch_at_s h5 rfl, fun j j1 j2 => ?_⟩, fun z => absurd z (by omega)⟩
      show upd b3 (i + 1) (nI (im_run a1 a2 (i + 1)).1) j = -1
      rw [pk_un (by omega)]
      exact h6 j (by omega) j2
    · have e : i = n := by omega
      subst e
      have hb := im_bd (o := a1) (q := a2) (n := i) va
      exact ch_followE hn hb.1 he (fun x => w _ _ _ _ _ _ _ _ _ ⟨fun z => absurd z (by omega), fun _ => ⟨rfl, h5⟩⟩)
theorem ch_check {post : Int32 → St1 → Prop} {n : Nat} (hn : n < 40) (va : im_va a1 a2 n) (he : (a1 n = nI 25 ∧ 1 ≤ (im_run a1 a2 n).1) ∨ a1 n = nI 26)
    (hp : ∀ x1 x2 x3 x4 x5 b3 b4 b5 b6, ch_at a1 a2 b3 b5 (n + 1) → post 1 (nI (n + 1), ck, iv, x1, x2, x3, x4, x5, tr, tf, en, tk, tc, lv, ce, sc, gv, pc, a1, a2, b3, b4, b5, b6, a7, a8, a9, a10, a11, a12, a13, a14, a15, a16, a17, a18, a19, a20, a21, a22, a23, a24, a25, a26, a27, a28, a29, a30)) : wpX_check post (nI (n + 1), ck, iv, dn, sn, ls, wc, iw, tr, tf, en, tk, tc, lv, ce, sc, gv, pc, a1, a2, a3, a4, a5, a6, a7, a8, a9, a10, a11, a12, a13, a14, a15, a16, a17, a18, a19, a20, a21, a22, a23, a24, a25, a26, a27, a28, a29, a30) := by
  unfold wpX_check
  refine pk_loop (fun m i s => wX_check_2 post (nI (n + 1)) ck iv dn sn ls wc iw tr tf en tk tc lv ce sc gv pc m (nI i) a1 a2 s a4 a5 a6 a7 a8 a9 a10 a11 a12 a13 a14 a15 a16 a17 a18 a19 a20 a21 a22 a23 a24 a25 a26 a27 a28 a29 a30) (fun i s => ∀ j, j < i → s j = -1) (n + 1) 0 a3 (by omega) (fun j hj => absurd hj (by omega)) ?_ ?_
  · intro m b3 h
    refine pk_le (n + 1) (n + 1) (fun _ => ?_) (fun z => absurd z (by omega))
    refine ch_pass (t := 0) (d := 0) (k := 3) rfl (by omega) hn (by omega) (by omega) (h 0 (by omega)) ?_
    refine ch_loop hn va he hp (nI 0, 0, nI (ch_enc 3), 1, 0 ||| ((1 : Int64) <<< ((nI 0).toInt64 &&& 63)), upd b3 0 (nI 0), upd a4 0 0, upd a5 0 (nI (ch_enc 3)), upd a6 0 (nI 0)) ⟨fun _ => ⟨rfl, rfl, ?_, ?_, ?_, fun j j1 j2 => ?_⟩, fun z => absurd z (by omega)⟩
    · show upd a6 0 (nI 0) 0 = nI 0
      rw [pk_us]
    · show upd a4 0 0 0 = 0
      rw [pk_us]
    · intro j hj
      have e : j = 0 := by omega
      subst e
      show upd b3 0 (nI 0) 0 = nI 0 ∧ upd a5 0 (nI (ch_enc 3)) 0 = nI (ch_enc 3)
      rw [pk_us, pk_us]
      exact ⟨rfl, rfl⟩
    · show upd b3 0 (nI 0) j = -1
      rw [pk_un (by omega)]
      exact h j (by omega)
  · intro m i b3 hi h hw
    refine pk_le (n + 1) i (fun z => absurd z (by omega)) (fun _ => ⟨pk_in i 40 (by omega), nm_r (show upd b3 (nI i).toNatClampNeg (-1) = upd b3 i (-1) by rw [nI_clamp (by omega)]) (nm_r (nI_1 i) (hw _ ?_))⟩)
    intro j hj
    by_cases g : j = i
    · rw [g, pk_us]
    · rw [pk_un g]
      exact h j (by omega)
theorem ch_valid {post : Int32 → St1 → Prop} {n : Nat} (hn : n < 40) (va : im_va a1 a2 n) (he : (a1 n = nI 25 ∧ 1 ≤ (im_run a1 a2 n).1) ∨ a1 n = nI 26)
    (hp : ∀ x1 x2 x3 x4 x5 b3 b4 b5 b6, ch_at a1 a2 b3 b5 (n + 1) → post 1 (nI (n + 1), 1, 1, x1, x2, x3, x4, x5, tr, tf, en, tk, tc, lv, ce, sc, gv, pc, a1, a2, b3, b4, b5, b6, a7, a8, a9, a10, a11, a12, a13, a14, a15, a16, a17, a18, a19, a20, a21, a22, a23, a24, a25, a26, a27, a28, a29, a30)) : wpX_valid post (nI (n + 1), 0, iv, dn, sn, ls, wc, iw, tr, tf, en, tk, tc, lv, ce, sc, gv, pc, a1, a2, a3, a4, a5, a6, a7, a8, a9, a10, a11, a12, a13, a14, a15, a16, a17, a18, a19, a20, a21, a22, a23, a24, a25, a26, a27, a28, a29, a30) := by
  unfold wpX_valid
  exact br_t rfl (br_f (nI_nle (by omega) (by omega)) (ch_check hn va he (fun x1 x2 x3 x4 x5 b3 b4 b5 b6 h => br_f (by decide) (hp x1 x2 x3 x4 x5 b3 b4 b5 b6 h))))
theorem ch_valid1 {post : Int32 → St1 → Prop} (hp : post 1 (le, 1, 1, dn, sn, ls, wc, iw, tr, tf, en, tk, tc, lv, ce, sc, gv, pc, a1, a2, a3, a4, a5, a6, a7, a8, a9, a10, a11, a12, a13, a14, a15, a16, a17, a18, a19, a20, a21, a22, a23, a24, a25, a26, a27, a28, a29, a30)) : wpX_valid post (le, 1, 1, dn, sn, ls, wc, iw, tr, tf, en, tk, tc, lv, ce, sc, gv, pc, a1, a2, a3, a4, a5, a6, a7, a8, a9, a10, a11, a12, a13, a14, a15, a16, a17, a18, a19, a20, a21, a22, a23, a24, a25, a26, a27, a28, a29, a30) := by
  unfold wpX_valid
  exact br_f (by decide) ⟨ch_nb1, hp⟩
end
end
section
/-! from instructions to operations -/
/-- what an instruction does to the values (locals 0..3, stack places from 4, 10 spare) -/
def im_fx (o q : Int32) (d : Nat) (x : sg_St) : sg_St :=
  if o = nI 0 then (upd x.1 (4 + d) q, x.2)
  else if o = nI 1 then (upd x.1 (4 + d) (x.1 q.toNatClampNeg), x.2)
  else if o = nI 2 then (upd x.1 q.toNatClampNeg (x.1 (3 + d)), x.2)
  else if o = nI 13 then (upd x.1 (3 + d) (x.1 (3 + d) ^^^ (-1)), x.2)
  else if o = nI 14 then (upd x.1 (4 + d) (x.1 (3 + d)), x.2)
  else if o = nI 15 then x
  else if o = nI 16 then (upd (upd (upd x.1 10 (x.1 (3 + d))) (3 + d) (x.1 (2 + d))) (2 + d) (x.1 (3 + d)), x.2)
  else if o = nI 24 then (x.1, x.2.1, x.2.2.1 + 1, x.1 (3 + d), x.2.2.2.2)
  else (upd x.1 (2 + d) (sg_cb o (x.1 (2 + d)) (x.1 (3 + d))), x.2)
def im_ex (o q : Nat → Int32) : Nat → sg_St → sg_St
  | 0 => fun x => x
  | n + 1 => fun x => im_fx (o n) (q n) (im_run o q n).1 (im_ex o q n x)
theorem im_ex_c {o q o' q' : Nat → Int32} {n : Nat} (h : ∀ j, j < n → o j = o' j ∧ q j = q' j) (x : sg_St) : im_ex o q n x = im_ex o' q' n x := by
  induction n with
  | zero => rfl
  | succ n ih =>
    show im_fx (o n) (q n) (im_run o q n).1 (im_ex o q n x) = im_fx (o' n) (q' n) (im_run o' q' n).1 (im_ex o' q' n x)
    rw [ih (fun j hj => h j (by omega)), (h n (by omega)).1, (h n (by omega)).2, im_run_c (n := n) (fun j hj => h j (by omega))]
theorem im_fx0 (q : Int32) (d : Nat) (x : sg_St) : im_fx (nI 0) q d x = (upd x.1 (4 + d) q, x.2) := by unfold im_fx; rw [if_pos rfl]
theorem im_fx1 (q : Int32) (d : Nat) (x : sg_St) : im_fx (nI 1) q d x = (upd x.1 (4 + d) (x.1 q.toNatClampNeg), x.2) := by unfold im_fx; rw [if_neg (by decide), if_pos rfl]
theorem im_fx2 (q : Int32) (d : Nat) (x : sg_St) : im_fx (nI 2) q d x = (upd x.1 q.toNatClampNeg (x.1 (3 + d)), x.2) := by unfold im_fx; rw [if_neg (by decide), if_neg (by decide), if_pos rfl]
theorem im_fx13 (q : Int32) (d : Nat) (x : sg_St) : im_fx (nI 13) q d x = (upd x.1 (3 + d) (x.1 (3 + d) ^^^ (-1)), x.2) := by unfold im_fx; rw [if_neg (by decide), if_neg (by decide), if_neg (by decide), if_pos rfl]
theorem im_fx14 (q : Int32) (d : Nat) (x : sg_St) : im_fx (nI 14) q d x = (upd x.1 (4 + d) (x.1 (3 + d)), x.2) := by unfold im_fx; rw [if_neg (by decide), if_neg (by decide), if_neg (by decide), if_neg (by decide), if_pos rfl]
theorem im_fx15 (q : Int32) (d : Nat) (x : sg_St) : im_fx (nI 15) q d x = x := by unfold im_fx; rw [if_neg (by decide), if_neg (by decide), if_neg (by decide), if_neg (by decide), if_neg (by decide), if_pos rfl]
theorem im_fx16 (q : Int32) (d : Nat) (x : sg_St) : im_fx (nI 16) q d x = (upd (upd (upd x.1 10 (x.1 (3 + d))) (3 + d) (x.1 (2 + d))) (2 + d) (x.1 (3 + d)), x.2) := by unfold im_fx; rw [if_neg (by decide), if_neg (by decide), if_neg (by decide), if_neg (by decide), if_neg (by decide), if_neg (by decide), if_pos rfl]
theorem im_fx24 (q : Int32) (d : Nat) (x : sg_St) : im_fx (nI 24) q d x = (x.1, x.2.1, x.2.2.1 + 1, x.1 (3 + d), x.2.2.2.2) := by unfold im_fx; rw [if_neg (by decide), if_neg (by decide), if_neg (by decide), if_neg (by decide), if_neg (by decide), if_neg (by decide), if_neg (by decide), if_pos rfl]
theorem im_fxb {j : Nat} (h1 : 3 ≤ j) (h2 : j ≤ 12) (q : Int32) (d : Nat) (x : sg_St) : im_fx (nI j) q d x = (upd x.1 (2 + d) (sg_cb (nI j) (x.1 (2 + d)) (x.1 (3 + d))), x.2) := by
  have h := (by decide +kernel : ∀ j, j < 13 → 3 ≤ j → ¬ nI j = nI 0 ∧ ¬ nI j = nI 1 ∧ ¬ nI j = nI 2 ∧ ¬ nI j = nI 13 ∧ ¬ nI j = nI 14 ∧ ¬ nI j = nI 15 ∧ ¬ nI j = nI 16 ∧ ¬ nI j = nI 24) j (by omega) h1
  unfold im_fx
  rw [if_neg h.1, if_neg h.2.1, if_neg h.2.2.1, if_neg h.2.2.2.1, if_neg h.2.2.2.2.1, if_neg h.2.2.2.2.2.1, if_neg h.2.2.2.2.2.2.1, if_neg h.2.2.2.2.2.2.2]
/-! operations written at the end of the list -/
section
variable {a7 a8 a9 a10 a11 : Nat → Int32}
theorem zp_ws {c : Nat} {o m f s k : Int32} : zp_at (upd a7 c o) (upd a8 c m) (upd a9 c f) (upd a10 c s) (upd a11 c k) c = (o, m, f, s, k) := by
  unfold zp_at
  rw [pk_us, pk_us, pk_us, pk_us, pk_us]
theorem zp_wo {c j : Nat} {o m f s k : Int32} (h : j ≠ c) : zp_at (upd a7 c o) (upd a8 c m) (upd a9 c f) (upd a10 c s) (upd a11 c k) j = zp_at a7 a8 a9 a10 a11 j := by
  unfold zp_at
  rw [pk_un h, pk_un h, pk_un h, pk_un h, pk_un h]
theorem zp_w {c : Nat} {o m f s k : Int32} (x : sg_St) : sg_run (zp_at (upd a7 c o) (upd a8 c m) (upd a9 c f) (upd a10 c s) (upd a11 c k)) (c + 1) x = sg_op (o, m, f, s, k) (sg_run (zp_at a7 a8 a9 a10 a11) c x) := by
  rw [sg_run_s, zp_ws, sg_run_c (fun i hi => zp_wo (by omega))]
end
/-- operations were added: B is A and those from c to c', which do F -/
def lo_ok (A B : Nat → zp_Op) (c c' : Nat) (F : sg_St → sg_St) : Prop := c ≤ c' ∧ c' ≤ c + 3 ∧ (∀ j, j < c → B j = A j) ∧ (∀ j, c ≤ j → j < c' → zp_in (B j)) ∧ (∀ x, sg_run B c' x = F (sg_run A c x))
theorem lo_ok1 {a7 a8 a9 a10 a11 : Nat → Int32} {c : Nat} {o m f s k : Int32} {F : sg_St → sg_St} (hi : zp_in (o, m, f, s, k)) (h : ∀ y, sg_op (o, m, f, s, k) y = F y) :
    lo_ok (zp_at a7 a8 a9 a10 a11) (zp_at (upd a7 c o) (upd a8 c m) (upd a9 c f) (upd a10 c s) (upd a11 c k)) c (c + 1) F := by
  refine ⟨by omega, by omega, fun j hj => zp_wo (by omega), fun j h1 h2 => ?_, fun x => by rw [zp_w, h]⟩
  have e : j = c := by omega
  rw [e, zp_ws]
  exact hi
theorem lo_okt {A B C : Nat → zp_Op} {c c1 c2 : Nat} {F G : sg_St → sg_St} (h : lo_ok A B c c1 F) (g : lo_ok B C c1 c2 G) (hc : c2 ≤ c + 3) : lo_ok A C c c2 (fun x => G (F x)) := by
  obtain ⟨h1, _, h3, h4, h5⟩ := h
  obtain ⟨g1, _, g3, g4, g5⟩ := g
  refine ⟨by omega, hc, fun j hj => by rw [g3 j (by omega), h3 j hj], fun j j1 j2 => ?_, fun x => by rw [g5, h5]⟩
  rcases Nat.lt_or_ge j c1 with e | e
  · rw [g3 j e]
    exact h4 j j1 e
  · exact g4 j e j2
theorem zp_Vd {d : Nat} (h : d < 11) : zp_V (nI d) := ⟨d, h, rfl⟩
theorem lo_mv {m f : Nat} (hm : m < 11) (hf : f < 11) (k : Int32) : zp_in (2, nI m, nI f, -1, k) ∧ ∀ y, sg_op (2, nI m, nI f, -1, k) y = (upd y.1 m (y.1 f), y.2) := by
  have h : zp_pl (2, nI m, nI f, -1, k) := ⟨zp_Vd hm, Or.inr (Or.inl ⟨rfl, zp_Vd hf, rfl⟩)⟩
  refine ⟨Or.inl h, fun y => ?_⟩
  rw [sg_pl h]
  dsimp only
  rw [nI_clamp (by omega)]
  unfold sg_vl
  rw [if_neg (by decide), if_pos rfl, nI_clamp (by omega)]
theorem lo_nu {m : Nat} (hm : m < 11) (k : Int32) : zp_in (1, nI m, -1, -1, k) ∧ ∀ y, sg_op (1, nI m, -1, -1, k) y = (upd y.1 m k, y.2) := by
  have h : zp_pl (1, nI m, -1, -1, k) := ⟨zp_Vd hm, Or.inl ⟨rfl, rfl, rfl⟩⟩
  refine ⟨Or.inl h, fun y => ?_⟩
  rw [sg_pl h]
  dsimp only
  rw [nI_clamp (by omega)]
  unfold sg_vl
  rw [if_pos rfl]
theorem lo_no {m f : Nat} (hm : m < 11) (hf : f < 11) (k : Int32) : zp_in (13, nI m, nI f, -1, k) ∧ ∀ y, sg_op (13, nI m, nI f, -1, k) y = (upd y.1 m (y.1 f ^^^ (-1)), y.2) := by
  have h : zp_pl (13, nI m, nI f, -1, k) := ⟨zp_Vd hm, Or.inr (Or.inr (Or.inl ⟨rfl, zp_Vd hf, rfl⟩))⟩
  refine ⟨Or.inl h, fun y => ?_⟩
  rw [sg_pl h]
  dsimp only
  rw [nI_clamp (by omega)]
  unfold sg_vl
  rw [if_neg (by decide), if_neg (by decide), if_pos rfl, nI_clamp (by omega)]
theorem sg_vlb {j : Nat} (h1 : 3 ≤ j) (h2 : j ≤ 12) (f s k : Int32) (e : Nat → Int32) : sg_vl (nI j) f s k e = sg_cb (nI j) (e f.toNatClampNeg) (if s < 0 then k else e s.toNatClampNeg) := by
  have h := (by decide +kernel : ∀ j, j < 13 → 3 ≤ j → ¬ nI j = 1 ∧ ¬ nI j = 2 ∧ ¬ nI j = 13) j (by omega) h1
  unfold sg_vl
  rw [if_neg h.1, if_neg h.2.1, if_neg h.2.2]
theorem lo_bi {j m f s : Nat} (h1 : 3 ≤ j) (h2 : j ≤ 12) (hm : m < 11) (hf : f < 11) (hs : s < 11) (k : Int32) : zp_in (nI j, nI m, nI f, nI s, k) ∧ ∀ y, sg_op (nI j, nI m, nI f, nI s, k) y = (upd y.1 m (sg_cb (nI j) (y.1 f) (y.1 s)), y.2) := by
  have h : zp_pl (nI j, nI m, nI f, nI s, k) := ⟨zp_Vd hm, Or.inr (Or.inr (Or.inr ⟨⟨j, h1, h2, rfl⟩, zp_Vd hf, Or.inl (zp_Vd hs)⟩))⟩
  refine ⟨Or.inl h, fun y => ?_⟩
  rw [sg_pl h]
  dsimp only
  rw [sg_vlb h1 h2, if_neg (nI_pos (by omega)), nI_clamp (by omega), nI_clamp (by omega), nI_clamp (by omega)]
section
variable {le ck iv dn sn ls wc tr tf en tk tc lv ce sc gv pc : Int32} {iw : Int64} {a1 a2 a3 a4 a5 a6 a7 a8 a9 a10 a11 a12 a13 a14 a15 a16 a17 a18 a19 a20 a21 a22 a23 a24 a25 a26 a27 a28 a29 a30 : Nat → Int32}
theorem tw_write {post : St1 → Prop} {c : Nat} {p0 p1 p2 p3 p4 q0 q1 q2 q3 : Int32} (hc : c < 240) (e0 : p0.toInt8.toInt32 = q0) (e1 : p1.toInt8.toInt32 = q1) (e2 : p2.toInt8.toInt32 = q2) (e3 : p3.toInt8.toInt32 = q3)
    (hp : post (le, ck, iv, dn, sn, ls, wc, iw, tr, tf, nI (c + 1), tk, tc, lv, ce, sc, gv, pc, a1, a2, a3, a4, a5, a6, upd a7 c q0, upd a8 c q1, upd a9 c q2, upd a10 c q3, upd a11 c p4, a12, a13, a14, a15, a16, a17, a18, a19, a20, a21, a22, a23, a24, a25, a26, a27, a28, a29, a30)) : wpX_write post (le, ck, iv, dn, sn, ls, wc, iw, tr, tf, nI c, tk, tc, lv, ce, sc, gv, pc, a1, a2, a3, a4, a5, a6, a7, a8, a9, a10, a11, a12, a13, a14, a15, a16, a17, a18, a19, a20, a21, a22, a23, a24, a25, a26, a27, a28, a29, a30) p0 p1 p2 p3 p4 := by
  subst e0 e1 e2 e3
  unfold wpX_write
  show _ ∧ _
  rw [nI_clamp (show c < 2 ^ 31 by omega)]
  exact ⟨pk_in c 240 hc, nm_e ⟨pk_in c 240 hc, nm_e ⟨pk_in c 240 hc, nm_e ⟨pk_in c 240 hc, nm_e ⟨pk_in c 240 hc, nm_e (nm_r (nI_1 c) hp)⟩⟩⟩⟩⟩
theorem lo_pay {post : St1 → Prop} {c w : Nat} (hc : c < 240) (hw : w < 100) (hp : post (le, ck, iv, dn, sn, ls, wc, iw, tr, tf, nI (c + 1), 0, tc, lv, ce, sc, gv, pc, a1, a2, a3, a4, a5, a6, upd a7 c 20, upd a8 c (-1), upd a9 c (-1), upd a10 c (-1), upd a11 c (nI (w + 1)), a12, a13, a14, a15, a16, a17, a18, a19, a20, a21, a22, a23, a24, a25, a26, a27, a28, a29, a30)) : wpX_payTicks post (le, ck, iv, dn, sn, ls, wc, iw, tr, tf, nI c, nI (w + 1), tc, lv, ce, sc, gv, pc, a1, a2, a3, a4, a5, a6, a7, a8, a9, a10, a11, a12, a13, a14, a15, a16, a17, a18, a19, a20, a21, a22, a23, a24, a25, a26, a27, a28, a29, a30) := by
  unfold wpX_payTicks
  exact br_f (nI_nle (by omega) (by omega)) (tw_write hc (by decide) (by decide) (by decide) (by decide) hp)
theorem lo_target {post : Int32 → Prop} {n : Nat} {p : Int32} (hn : n ≤ 40) (h : ∀ j, j < n → ∃ k : Nat, a1 j = nI k ∧ (k < 21 ∨ (23 < k ∧ k < 30))) (hp : post 0) : wpX_isTarget post (nI n, ck, iv, dn, sn, ls, wc, iw, tr, tf, en, tk, tc, lv, ce, sc, gv, pc, a1, a2, a3, a4, a5, a6, a7, a8, a9, a10, a11, a12, a13, a14, a15, a16, a17, a18, a19, a20, a21, a22, a23, a24, a25, a26, a27, a28, a29, a30) p := by
  unfold wpX_isTarget
  refine pk_loop (σ := Unit) (fun m i _ => wX_isTarget_2 post p (nI n) ck iv dn sn ls wc iw tr tf en tk tc lv ce sc gv pc a1 a2 a3 a4 a5 a6 a7 a8 a9 a10 a11 a12 a13 a14 a15 a16 a17 a18 a19 a20 a21 a22 a23 a24 a25 a26 a27 a28 a29 a30 m (nI i)) (fun _ _ => True) n 0 () (by omega) trivial ?_ ?_
  · intro m _ _
    exact pk_le n n (fun _ => hp) (fun z => absurd z (by omega))
  · intro m i _ hi _ hw
    obtain ⟨k, ek, hk⟩ := h i hi
    have e : a1 (nI i).toNatClampNeg = nI k := by rw [nI_clamp (by omega), ek]
    refine pk_le n i (fun z => absurd z (by omega)) (fun _ => ⟨pk_in i 40 (by omega), pk_eq k 21 (fun z => absurd z (by omega)) (fun _ => ⟨pk_in i 40 (by omega), pk_eq k 22 (fun z => absurd z (by omega)) (fun _ => ⟨pk_in i 40 (by omega), pk_eq k 23 (fun z => absurd z (by omega)) (fun _ => ?_) e⟩) e⟩) e⟩)
    unfold wX_isTarget_48
    exact br_t rfl (nm_r (nI_1 i) (hw () trivial))
theorem lo_plain {post : St1 → Prop} {o q : Int32} {d k c : Nat} (ok : im_ok o q d k) (h24 : o ≠ nI 24) (hc : c ≤ 200)
    (hp : ∀ c' b7 b8 b9 b10 b11, lo_ok (zp_at a7 a8 a9 a10 a11) (zp_at b7 b8 b9 b10 b11) c c' (im_fx o q d) → post (le, ck, iv, dn, sn, ls, wc, iw, tr, tf, nI c', tk, tc, lv, ce, sc, gv, pc, a1, a2, a3, a4, a5, a6, b7, b8, b9, b10, b11, a12, a13, a14, a15, a16, a17, a18, a19, a20, a21, a22, a23, a24, a25, a26, a27, a28, a29, a30)) : wpX_lowerPlain post (le, ck, iv, dn, sn, ls, wc, iw, tr, tf, nI c, tk, tc, lv, ce, sc, gv, pc, a1, a2, a3, a4, a5, a6, a7, a8, a9, a10, a11, a12, a13, a14, a15, a16, a17, a18, a19, a20, a21, a22, a23, a24, a25, a26, a27, a28, a29, a30) o (nI (3 + d)) q := by
  obtain ⟨h1, h2, ok⟩ := ok
  have e1 : nI (3 + d) + 1 = nI (4 + d) := by rw [nI_1]; exact congrArg nI (by omega)
  have e2 : nI (3 + d) - 1 = nI (2 + d) := by rw [show 3 + d = (2 + d) + 1 by omega]; exact nI_pred _
  rcases ok with h | h | h | h | h | h | h | h | h
  · obtain ⟨rfl, hd⟩ := h
    unfold wpX_lowerPlain
    refine br_t rfl ?_
    unfold wX_lowerPlain_10
    refine tw_write (by omega) (q0 := 1) (q1 := nI (4 + d)) (q2 := -1) (q3 := -1) (by decide) (by rw [e1]; exact bb_b8 _ (by omega)) (by decide) (by decide) (hp _ _ _ _ _ _ ?_)
    exact lo_ok1 (lo_nu (by omega) q).1 (fun y => by rw [(lo_nu (by omega) q).2, im_fx0])
  · obtain ⟨rfl, hd, j, hj, rfl, hb⟩ := h
    unfold wpX_lowerPlain
    refine br_f (by decide) (br_f (by decide) (br_t rfl ?_))
    refine tw_write (by omega) (q0 := 2) (q1 := nI (4 + d)) (q3 := -1) (by decide) (by rw [e1]; exact bb_b8 _ (by omega)) (bb_b8 j (by omega)) (by decide) (hp _ _ _ _ _ _ ?_)
    exact lo_ok1 (lo_mv (by omega) (by omega) 0).1 (fun y => by rw [(lo_mv (by omega) (by omega) 0).2, im_fx1, nI_clamp (by omega)])
  · obtain ⟨rfl, hd, j, hj, rfl⟩ := h
    unfold wpX_lowerPlain
    refine br_f (by decide) (br_f (by decide) (br_f (by decide) (br_t rfl ?_)))
    refine tw_write (by omega) (q0 := 2) (q3 := -1) (by decide) (bb_b8 j (by omega)) (bb_b8 (3 + d) (by omega)) (by decide) (hp _ _ _ _ _ _ ?_)
    exact lo_ok1 (lo_mv (by omega) (by omega) 0).1 (fun y => by rw [(lo_mv (by omega) (by omega) 0).2, im_fx2, nI_clamp (by omega)])
  · obtain ⟨⟨j, j1, j2, rfl⟩, hd⟩ := h
    unfold wpX_lowerPlain
    refine pk_eq j 0 (fun z => absurd z (by omega)) (fun _ => pk_eq j 17 (fun z => absurd z (by omega)) (fun _ => pk_eq j 1 (fun z => absurd z (by omega)) (fun _ => pk_eq j 2 (fun z => absurd z (by omega)) (fun _ => pk_lt j 3 (fun z => absurd z (by omega)) (fun _ => pk_lt 12 j (fun z => absurd z (by omega)) (fun _ => ?_))))))
    refine tw_write (by omega) (bb_b8 j (by omega)) (q1 := nI (2 + d)) (q2 := nI (2 + d)) (by rw [e2]; exact bb_b8 _ (by omega)) (by rw [e2]; exact bb_b8 _ (by omega)) (bb_b8 (3 + d) (by omega)) (hp _ _ _ _ _ _ ?_)
    exact lo_ok1 (lo_bi j1 j2 (by omega) (by omega) (by omega) 0).1 (fun y => by rw [(lo_bi j1 j2 (by omega) (by omega) (by omega) 0).2, im_fxb j1 j2])
  · obtain ⟨rfl, hd⟩ := h
    unfold wpX_lowerPlain
    refine br_f (by decide) (br_f (by decide) (br_f (by decide) (br_f (by decide) (br_f (by decide) (br_t (by decide) ?_)))))
    unfold wX_lowerPlain_87
    refine br_f (by decide) (br_t rfl ?_)
    refine tw_write (by omega) (q0 := 13) (q3 := -1) (by decide) (bb_b8 (3 + d) (by omega)) (bb_b8 (3 + d) (by omega)) (by decide) (hp _ _ _ _ _ _ ?_)
    exact lo_ok1 (lo_no (by omega) (by omega) 0).1 (fun y => by rw [(lo_no (by omega) (by omega) 0).2, im_fx13])
  · obtain ⟨rfl, hd, hd2⟩ := h
    unfold wpX_lowerPlain
    refine br_f (by decide) (br_f (by decide) (br_f (by decide) (br_f (by decide) (br_f (by decide) (br_t (by decide) ?_)))))
    unfold wX_lowerPlain_87
    refine br_f (by decide) (br_f (by decide) (br_t rfl ?_))
    refine tw_write (by omega) (q0 := 2) (q1 := nI (4 + d)) (q3 := -1) (by decide) (by rw [e1]; exact bb_b8 _ (by omega)) (bb_b8 (3 + d) (by omega)) (by decide) (hp _ _ _ _ _ _ ?_)
    exact lo_ok1 (lo_mv (by omega) (by omega) 0).1 (fun y => by rw [(lo_mv (by omega) (by omega) 0).2, im_fx14])
  · obtain ⟨rfl, hd⟩ := h
    unfold wpX_lowerPlain
    refine br_f (by decide) (br_f (by decide) (br_f (by decide) (br_f (by decide) (br_f (by decide) (br_t (by decide) ?_)))))
    unfold wX_lowerPlain_87
    refine br_f (by decide) (br_f (by decide) (br_f (by decide) (br_f (by decide) (br_f (by decide) (br_f (by decide) (hp c a7 a8 a9 a10 a11 ?_))))))
    exact ⟨by omega, by omega, fun _ _ => rfl, fun j g1 g2 => absurd g2 (by omega), fun x => by rw [im_fx15]⟩
  · obtain ⟨rfl, hd⟩ := h
    unfold wpX_lowerPlain
    refine br_f (by decide) (br_f (by decide) (br_f (by decide) (br_f (by decide) (br_f (by decide) (br_t (by decide) ?_)))))
    unfold wX_lowerPlain_87
    refine br_f (by decide) (br_f (by decide) (br_f (by decide) (br_f (by decide) (br_f (by decide) (br_t rfl ?_)))))
    refine tw_write (by omega) (q0 := 2) (q1 := nI 10) (by decide) (by decide) (bb_b8 (3 + d) (by omega)) (q3 := -1) (by decide) ?_
    refine tw_write (by omega) (q0 := 2) (by decide) (bb_b8 (3 + d) (by omega)) (q2 := nI (2 + d)) (by rw [e2]; exact bb_b8 _ (by omega)) (q3 := -1) (by decide) ?_
    refine tw_write (by omega) (q0 := 2) (q1 := nI (2 + d)) (by decide) (by rw [e2]; exact bb_b8 _ (by omega)) (q2 := nI 10) (by decide) (q3 := -1) (by decide) (hp _ _ _ _ _ _ ?_)
    have k1 := lo_ok1 (a7 := a7) (a8 := a8) (a9 := a9) (a10 := a10) (a11 := a11) (c := c) (lo_mv (m := 10) (f := 3 + d) (by omega) (by omega) 0).1 (lo_mv (m := 10) (f := 3 + d) (by omega) (by omega) 0).2
    have k2 := lo_okt k1 (lo_ok1 (lo_mv (m := 3 + d) (f := 2 + d) (by omega) (by omega) 0).1 (lo_mv (m := 3 + d) (f := 2 + d) (by omega) (by omega) 0).2) (by omega)
    have k3 := lo_okt k2 (lo_ok1 (lo_mv (m := 2 + d) (f := 10) (by omega) (by omega) 0).1 (lo_mv (m := 2 + d) (f := 10) (by omega) (by omega) 0).2) (by omega)
    obtain ⟨g1, g2, g3, g4, g5⟩ := k3
    refine ⟨g1, g2, g3, g4, fun x => ?_⟩
    rw [g5, im_fx16]
    dsimp only
    rw [pk_un (show 2 + d ≠ 10 by omega), pk_un (show 10 ≠ 3 + d by omega), pk_us]
  · exact absurd h.1 h24
end
end
section
/-! lowering: one instruction, the loop -/
def sg_ad (m : Nat) (x : sg_St) : sg_St := (x.1, x.2.1 + m, x.2.2)
theorem sg_ad0 (x : sg_St) : sg_ad 0 x = x := rfl
theorem im_fx_ad (o q : Int32) (d m : Nat) (x : sg_St) : im_fx o q d (sg_ad m x) = sg_ad m (im_fx o q d x) := by
  unfold im_fx
  by_cases h0 : o = nI 0
  · rw [if_pos h0, if_pos h0]; rfl
  rw [if_neg h0, if_neg h0]
  by_cases h1 : o = nI 1
  · rw [if_pos h1, if_pos h1]; rfl
  rw [if_neg h1, if_neg h1]
  by_cases h2 : o = nI 2
  · rw [if_pos h2, if_pos h2]; rfl
  rw [if_neg h2, if_neg h2]
  by_cases h3 : o = nI 13
  · rw [if_pos h3, if_pos h3]; rfl
  rw [if_neg h3, if_neg h3]
  by_cases h4 : o = nI 14
  · rw [if_pos h4, if_pos h4]; rfl
  rw [if_neg h4, if_neg h4]
  by_cases h5 : o = nI 15
  · rw [if_pos h5, if_pos h5]
  rw [if_neg h5, if_neg h5]
  by_cases h6 : o = nI 16
  · rw [if_pos h6, if_pos h6]; rfl
  rw [if_neg h6, if_neg h6]
  by_cases h7 : o = nI 24
  · rw [if_pos h7, if_pos h7]; rfl
  rw [if_neg h7, if_neg h7]
  rfl
/-- the list so far: c operations, w steps owed, i instructions lowered -/
def lo_in (o q : Nat → Int32) (P : Nat → zp_Op) (i c w : Nat) : Prop := c ≤ 3 * i ∧ w ≤ i ∧ (∀ j, j < c → zp_in (P j)) ∧ ∀ x, sg_run P c x = sg_ad (i - w) (im_ex o q i x)
/-- what the whole list says: the stack machine's word -/
def lo_fin (o q : Nat → Int32) (n : Nat) (P : Nat → zp_Op) (N : Nat) : Prop := zp_wf P N ∧ ∀ x : sg_St, (sg_run P N x).2 = (x.2.1 + (n + 1), (im_ex o q n x).2.2.1, (im_ex o q n x).2.2.2.1, if o n = nI 26 then 0 else (im_ex o q n x).1 (3 + (im_run o q n).1))
theorem im_ex_t (o q : Nat → Int32) (n : Nat) (x : sg_St) : (im_ex o q n x).2.1 = x.2.1 := by
  induction n with
  | zero => rfl
  | succ n ih =>
    rw [← ih]
    show (im_fx (o n) (q n) (im_run o q n).1 (im_ex o q n x)).2.1 = (im_ex o q n x).2.1
    generalize im_ex o q n x = y
    unfold im_fx
    repeat (first | rfl | split)
theorem lo_in_s {o q : Nat → Int32} {A B : Nat → zp_Op} {i c w c' : Nat} (h : lo_in o q A i c w) (g : lo_ok A B c c' (im_fx (o i) (q i) (im_run o q i).1)) : lo_in o q B (i + 1) c' (w + 1) := by
  obtain ⟨h1, h2, h3, h4⟩ := h
  obtain ⟨g1, g2, g3, g4, g5⟩ := g
  refine ⟨by omega, by omega, fun j hj => ?_, fun x => ?_⟩
  · rcases Nat.lt_or_ge j c with e | e
    · rw [g3 j e]
      exact h3 j e
    · exact g4 j e hj
  · rw [g5, h4, im_fx_ad, show i + 1 - (w + 1) = i - w by omega]
    rfl
theorem lo_tk {w : Nat} (hw : w ≤ 40) : zp_tick (20, -1, -1, -1, nI w) ∧ ∀ y, sg_op (20, -1, -1, -1, nI w) y = sg_ad w y := by
  refine ⟨⟨rfl, rfl, rfl, rfl, w, hw, rfl⟩, fun y => ?_⟩
  rw [sg_20 rfl]
  dsimp only
  rw [nI_clamp (by omega)]
  rfl
theorem lo_ou {f : Nat} (hf : f < 11) (k : Int32) : zp_in (21, -1, nI f, -1, k) ∧ ∀ y, sg_op (21, -1, nI f, -1, k) y = (y.1, y.2.1, y.2.2.1 + 1, y.1 f, y.2.2.2.2) := by
  refine ⟨Or.inr (Or.inr ⟨rfl, rfl, zp_Vd hf, rfl⟩), fun y => ?_⟩
  rw [sg_21 rfl]
  dsimp only
  rw [nI_clamp (by omega)]
theorem lo_gi {f : Nat} (hf : f < 11) (k : Int32) : zp_give (22, -1, nI f, -1, k) ∧ ∀ y, sg_op (22, -1, nI f, -1, k) y = (y.1, y.2.1, y.2.2.1, y.2.2.2.1, y.1 f) := by
  refine ⟨⟨rfl, rfl, zp_Vd hf, rfl⟩, fun y => ?_⟩
  rw [sg_22 rfl]
  dsimp only
  rw [nI_clamp (by omega)]
/-- the steps owed are written -/
theorem lo_in_t {o q a7 a8 a9 a10 a11 : Nat → Int32} {i c w : Nat} (h : lo_in o q (zp_at a7 a8 a9 a10 a11) i c w) (hi : i < 40) :
    (∀ j, j < c + 1 → zp_in (zp_at (upd a7 c 20) (upd a8 c (-1)) (upd a9 c (-1)) (upd a10 c (-1)) (upd a11 c (nI (w + 1))) j)) ∧ ∀ x, sg_run (zp_at (upd a7 c 20) (upd a8 c (-1)) (upd a9 c (-1)) (upd a10 c (-1)) (upd a11 c (nI (w + 1)))) (c + 1) x = sg_ad (i + 1) (im_ex o q i x) := by
  obtain ⟨h1, h2, h3, h4⟩ := h
  refine ⟨fun j hj => ?_, fun x => ?_⟩
  · rcases Nat.lt_or_ge j c with e | e
    · rw [zp_wo (by omega)]
      exact h3 j e
    · rw [show j = c by omega, zp_ws]
      exact Or.inr (Or.inl (lo_tk (by omega)).1)
  · rw [zp_w, h4, (lo_tk (w := w + 1) (by omega)).2]
    show ((im_ex o q i x).1, (im_ex o q i x).2.1 + (i - w) + (w + 1), (im_ex o q i x).2.2) = ((im_ex o q i x).1, (im_ex o q i x).2.1 + (i + 1), (im_ex o q i x).2.2)
    rw [show (im_ex o q i x).2.1 + (i - w) + (w + 1) = (im_ex o q i x).2.1 + (i + 1) by omega]
section
variable {le ck iv dn sn ls wc tr tf en tk tc lv ce sc gv pc : Int32} {iw : Int64} {a1 a2 a3 a4 a5 a6 a7 a8 a9 a10 a11 a12 a13 a14 a15 a16 a17 a18 a19 a20 a21 a22 a23 a24 a25 a26 a27 a28 a29 a30 : Nat → Int32}
theorem lo_top {d : Nat} : (4 + nI d) - 1 = nI (3 + d) := by
  show nI 4 + nI d - 1 = nI (3 + d)
  rw [nI_add, show 4 + d = (3 + d) + 1 by omega]
  exact nI_pred _
theorem lo_top' {d : Nat} {x : Int32} (h : x = nI d) : (4 + x) - 1 = nI (3 + d) := by
  rw [h]
  exact lo_top
/-- an instruction that isn't 24 -/
theorem lo_st {post : St1 → Prop} {m n i c w : Nat} (hn : n ≤ 40) (hi : i < n) (ok : im_ok (a1 i) (a2 i) (im_run a1 a2 i).1 (im_run a1 a2 i).2) (h24 : a1 i ≠ nI 24) (h3 : a3 i = nI (im_run a1 a2 i).1)
    (h : lo_in a1 a2 (zp_at a7 a8 a9 a10 a11) i c w)
    (hp : ∀ c' b7 b8 b9 b10 b11, lo_in a1 a2 (zp_at b7 b8 b9 b10 b11) (i + 1) c' (w + 1) → wX_lower_12 post m (nI (i + 1)) le ck iv dn sn ls wc iw tr tf (nI c') (nI (w + 1)) tc lv ce sc gv pc a1 a2 a3 a4 a5 a6 b7 b8 b9 b10 b11 a12 a13 a14 a15 a16 a17 a18 a19 a20 a21 a22 a23 a24 a25 a26 a27 a28 a29 a30) :
    wX_lower_54 post (wX_lower_12 post m) (nI i) le ck iv dn sn ls wc iw tr tf (nI c) (nI w) tc lv ce sc gv pc a1 a2 a3 a4 a5 a6 a7 a8 a9 a10 a11 a12 a13 a14 a15 a16 a17 a18 a19 a20 a21 a22 a23 a24 a25 a26 a27 a28 a29 a30 := by
  obtain ⟨j, ej, hj⟩ := im_okO ok
  have hj' : j ≤ 16 := by
    rcases hj with hj | hj
    · exact hj
    · exact absurd (by rw [ej, hj]) h24
  have hc := h.1
  unfold wX_lower_54
  rw [nI_clamp (show i < 2 ^ 31 by omega)]
  refine nm_r (nI_1 w) ⟨pk_in i 40 (by omega), nm_r ej (pk_le 21 j (fun z => absurd z (by omega)) (fun _ => pk_eq j 19 (fun z => absurd z (by omega)) (fun _ => ?_)))⟩
  unfold wX_lower_87
  rw [nI_clamp (show i < 2 ^ 31 by omega)]
  refine ⟨pk_in i 40 (by omega), nm_r (lo_top' h3) (pk_lt j 21 (fun _ => ⟨pk_in i 40 (by omega), ?_⟩) (fun z => absurd z (by omega)))⟩
  rw [ej] at ok h24
  refine lo_plain ok h24 (by omega) (fun c' b7 b8 b9 b10 b11 g => nm_r (nI_1 i) (hp c' b7 b8 b9 b10 b11 (lo_in_s h (by rw [ej]; exact g))))
/-- instruction 24 -/
theorem lo_st24 {post : St1 → Prop} {m n i c w : Nat} (hn : n ≤ 40) (hi : i < n) (ok : im_ok (a1 i) (a2 i) (im_run a1 a2 i).1 (im_run a1 a2 i).2) (h24 : a1 i = nI 24) (h3 : a3 i = nI (im_run a1 a2 i).1)
    (h : lo_in a1 a2 (zp_at a7 a8 a9 a10 a11) i c w)
    (hp : ∀ c' b7 b8 b9 b10 b11, lo_in a1 a2 (zp_at b7 b8 b9 b10 b11) (i + 1) c' 0 → wX_lower_12 post m (nI (i + 1)) le ck iv dn sn ls wc iw tr tf (nI c') 0 tc lv ce sc gv pc a1 a2 a3 a4 a5 a6 b7 b8 b9 b10 b11 a12 a13 a14 a15 a16 a17 a18 a19 a20 a21 a22 a23 a24 a25 a26 a27 a28 a29 a30) :
    wX_lower_54 post (wX_lower_12 post m) (nI i) le ck iv dn sn ls wc iw tr tf (nI c) (nI w) tc lv ce sc gv pc a1 a2 a3 a4 a5 a6 a7 a8 a9 a10 a11 a12 a13 a14 a15 a16 a17 a18 a19 a20 a21 a22 a23 a24 a25 a26 a27 a28 a29 a30 := by
  have hd : (im_run a1 a2 i).1 ≤ 4 := ok.1
  have hc := h.1
  have hw := h.2.1
  unfold wX_lower_54
  rw [nI_clamp (show i < 2 ^ 31 by omega)]
  refine nm_r (nI_1 w) ⟨pk_in i 40 (by omega), nm_r h24 (br_t (by decide) ?_)⟩
  unfold wX_lower_83
  refine lo_pay (by omega) (by omega) ?_
  unfold wX_lower_87
  rw [nI_clamp (show i < 2 ^ 31 by omega)]
  refine ⟨pk_in i 40 (by omega), nm_r (lo_top' h3) (br_f (by decide) ⟨pk_in i 40 (by omega), ?_⟩)⟩
  unfold wpX_lowerLeaving
  refine br_f (by decide) (br_f (by decide) (br_f (by decide) (br_t rfl ?_)))
  refine tw_write (q0 := 21) (q1 := -1) (q3 := -1) (by omega) (by decide) (by decide) (bb_b8 (3 + (im_run a1 a2 i).1) (by omega)) (by decide) (nm_r (nI_1 i) (hp _ _ _ _ _ _ ?_))
  obtain ⟨g1, g2⟩ := lo_in_t h (by omega)
  refine ⟨by omega, by omega, fun j hj => ?_, fun x => ?_⟩
  · rcases Nat.lt_or_ge j (c + 1) with e | e
    · rw [zp_wo (by omega)]
      exact g1 j e
    · rw [show j = c + 1 by omega, zp_ws]
      exact (lo_ou (by omega) 0).1
  · rw [zp_w, g2, (lo_ou (by omega) 0).2]
    show _ = sg_ad (i + 1) (im_fx (a1 i) (a2 i) (im_run a1 a2 i).1 (im_ex a1 a2 i x))
    rw [h24, im_fx24]
    rfl
/-- the end -/
theorem lo_stE {post : St1 → Prop} {m n c w : Nat} (hn : n < 40) (va : im_va a1 a2 n) (he : (a1 n = nI 25 ∧ 1 ≤ (im_run a1 a2 n).1) ∨ a1 n = nI 26) (h3 : a3 n = nI (im_run a1 a2 n).1)
    (h : lo_in a1 a2 (zp_at a7 a8 a9 a10 a11) n c w)
    (hp : ∀ c' b7 b8 b9 b10 b11, lo_fin a1 a2 n (zp_at b7 b8 b9 b10 b11) c' → wX_lower_12 post m (nI (n + 1)) le ck iv dn sn ls wc iw tr tf (nI c') 0 tc lv ce sc gv pc a1 a2 a3 a4 a5 a6 b7 b8 b9 b10 b11 a12 a13 a14 a15 a16 a17 a18 a19 a20 a21 a22 a23 a24 a25 a26 a27 a28 a29 a30) :
    wX_lower_54 post (wX_lower_12 post m) (nI n) le ck iv dn sn ls wc iw tr tf (nI c) (nI w) tc lv ce sc gv pc a1 a2 a3 a4 a5 a6 a7 a8 a9 a10 a11 a12 a13 a14 a15 a16 a17 a18 a19 a20 a21 a22 a23 a24 a25 a26 a27 a28 a29 a30 := by
  have hd : (im_run a1 a2 n).1 ≤ 4 := (im_bd va).1
  have hc := h.1
  have hw := h.2.1
  obtain ⟨g1, g2⟩ := lo_in_t h (by omega)
  rcases he with ⟨e, hd1⟩ | e
  · unfold wX_lower_54
    rw [nI_clamp (show n < 2 ^ 31 by omega)]
    refine nm_r (nI_1 w) ⟨pk_in n 40 (by omega), nm_r e (br_t (by decide) ?_)⟩
    unfold wX_lower_83
    refine lo_pay (by omega) (by omega) ?_
    unfold wX_lower_87
    rw [nI_clamp (show n < 2 ^ 31 by omega)]
    refine ⟨pk_in n 40 (by omega), nm_r (lo_top' h3) (br_f (by decide) ⟨pk_in n 40 (by omega), ?_⟩)⟩
    unfold wpX_lowerLeaving
    refine br_f (by decide) (br_f (by decide) (br_f (by decide) (br_f (by decide) (br_t rfl ?_))))
    refine tw_write (q0 := 22) (q1 := -1) (q3 := -1) (by omega) (by decide) (by decide) (bb_b8 (3 + (im_run a1 a2 n).1) (by omega)) (by decide) (nm_r (nI_1 n) (hp _ _ _ _ _ _ ?_))
    refine ⟨⟨by omega, by omega, fun j hj => ?_, ?_⟩, fun x => ?_⟩
    · rw [zp_wo (by omega)]
      exact g1 j (by omega)
    · rw [show c + 1 + 1 - 1 = c + 1 by omega, zp_ws]
      exact (lo_gi (by omega) 0).1
    · rw [zp_w, g2, (lo_gi (by omega) 0).2, if_neg (by rw [e]; decide)]
      show ((im_ex a1 a2 n x).2.1 + (n + 1), _) = _
      rw [im_ex_t]
      rfl
  · unfold wX_lower_54
    rw [nI_clamp (show n < 2 ^ 31 by omega)]
    refine nm_r (nI_1 w) ⟨pk_in n 40 (by omega), nm_r e (br_t (by decide) ?_)⟩
    unfold wX_lower_83
    refine lo_pay (by omega) (by omega) ?_
    unfold wX_lower_87
    rw [nI_clamp (show n < 2 ^ 31 by omega)]
    refine ⟨pk_in n 40 (by omega), nm_r (lo_top' h3) (br_f (by decide) ⟨pk_in n 40 (by omega), ?_⟩)⟩
    unfold wpX_lowerLeaving
    refine br_f (by decide) (br_f (by decide) (br_f (by decide) (br_f (by decide) (br_f (by decide) ?_))))
    refine tw_write (q0 := 1) (q1 := nI 10) (by omega) (by decide) (by decide) (q2 := -1) (by decide) (q3 := -1) (by decide) ?_
    refine tw_write (q0 := 22) (q1 := -1) (by omega) (by decide) (by decide) (q2 := nI 10) (by decide) (q3 := -1) (by decide) (nm_r (nI_1 n) (hp _ _ _ _ _ _ ?_))
    refine ⟨⟨by omega, by omega, fun j hj => ?_, ?_⟩, fun x => ?_⟩
    · rw [zp_wo (by omega)]
      rcases Nat.lt_or_ge j (c + 1) with z | z
      · rw [zp_wo (by omega)]
        exact g1 j z
      · rw [show j = c + 1 by omega, zp_ws]
        exact (lo_nu (by omega) 0).1
    · rw [show c + 1 + 1 + 1 - 1 = c + 1 + 1 by omega, zp_ws]
      exact (lo_gi (by omega) 0).1
    · rw [zp_w, zp_w, g2, (lo_nu (by omega) 0).2, (lo_gi (by omega) 0).2, if_pos e]
      show ((im_ex a1 a2 n x).2.1 + (n + 1), (im_ex a1 a2 n x).2.2.1, (im_ex a1 a2 n x).2.2.2.1, upd (im_ex a1 a2 n x).1 10 0 10) = _
      rw [im_ex_t, pk_us]
def lo_I (o q : Nat → Int32) (n i : Nat) (s : Int32 × Int32 × (Nat → Int32) × (Nat → Int32) × (Nat → Int32) × (Nat → Int32) × (Nat → Int32)) : Prop :=
  (i ≤ n → ∃ c w : Nat, s.1 = nI c ∧ s.2.1 = nI w ∧ lo_in o q (zp_at s.2.2.1 s.2.2.2.1 s.2.2.2.2.1 s.2.2.2.2.2.1 s.2.2.2.2.2.2) i c w)
  ∧ (i = n + 1 → ∃ c : Nat, s.1 = nI c ∧ lo_fin o q n (zp_at s.2.2.1 s.2.2.2.1 s.2.2.2.2.1 s.2.2.2.2.2.1 s.2.2.2.2.2.2) c)
theorem lo_lower {post : St1 → Prop} {n : Nat} (hn : n < 40) (va : im_va a1 a2 n) (he : (a1 n = nI 25 ∧ 1 ≤ (im_run a1 a2 n).1) ∨ a1 n = nI 26) (h3 : ∀ j, j ≤ n → a3 j = nI (im_run a1 a2 j).1)
    (hp : ∀ N w b7 b8 b9 b10 b11, lo_fin a1 a2 n (zp_at b7 b8 b9 b10 b11) N → post (nI (n + 1), ck, iv, dn, sn, ls, wc, iw, tr, tf, nI N, w, tc, lv, ce, sc, gv, pc, a1, a2, a3, a4, a5, a6, b7, b8, b9, b10, b11, a12, a13, a14, a15, a16, a17, a18, a19, a20, a21, a22, a23, a24, a25, a26, a27, a28, a29, a30)) : wpX_lower post (nI (n + 1), ck, iv, dn, sn, ls, wc, iw, tr, tf, en, tk, tc, lv, ce, sc, gv, pc, a1, a2, a3, a4, a5, a6, a7, a8, a9, a10, a11, a12, a13, a14, a15, a16, a17, a18, a19, a20, a21, a22, a23, a24, a25, a26, a27, a28, a29, a30) := by
  have ht : ∀ j, j < n + 1 → ∃ k : Nat, a1 j = nI k ∧ (k < 21 ∨ (23 < k ∧ k < 30)) := by
    intro j hj
    rcases Nat.lt_or_ge j n with g | g
    · obtain ⟨k, e, hk⟩ := im_okO (va j g)
      exact ⟨k, e, by omega⟩
    · rw [show j = n by omega]
      rcases he with he | he
      · exact ⟨25, he.1, by omega⟩
      · exact ⟨26, he, by omega⟩
  unfold wpX_lower
  refine pk_loop (fun m i s => wX_lower_12 post m (nI i) (nI (n + 1)) ck iv dn sn ls wc iw tr tf s.1 s.2.1 tc lv ce sc gv pc a1 a2 a3 a4 a5 a6 s.2.2.1 s.2.2.2.1 s.2.2.2.2.1 s.2.2.2.2.2.1 s.2.2.2.2.2.2 a12 a13 a14 a15 a16 a17 a18 a19 a20 a21 a22 a23 a24 a25 a26 a27 a28 a29 a30) (fun i s => lo_I a1 a2 n i s) (n + 1) 0 (0, 0, a7, a8, a9, a10, a11) (by omega) ⟨fun _ => ⟨0, 0, rfl, rfl, by omega, by omega, fun j hj => absurd hj (by omega), fun x => rfl⟩, fun z => absurd z (by omega)⟩ ?_ ?_
  · intro m s h
    obtain ⟨y1, y2, b7, b8, b9, b10, b11⟩ := s
    obtain ⟨c, e, hh⟩ := h.2 rfl
    dsimp only at e hh
    subst e
    exact pk_le (n + 1) (n + 1) (fun _ => hp c y2 b7 b8 b9 b10 b11 hh) (fun z => absurd z (by omega))
  · intro m i s hi h hw
    obtain ⟨y1, y2, b7, b8, b9, b10, b11⟩ := s
    obtain ⟨c, w, e1, e2, hh⟩ := h.1 (by omega)
    dsimp only at e1 e2 hh
    clear h
    subst e1 e2
    have W : ∀ x1 x2 c7 c8 c9 c10 c11, lo_I a1 a2 n (i + 1) (x1, x2, c7, c8, c9, c10, c11) → wX_lower_12 post m (nI (i + 1)) (nI (n + 1)) ck iv dn sn ls wc iw tr tf x1 x2 tc lv ce sc gv pc a1 a2 a3 a4 a5 a6 c7 c8 c9 c10 c11 a12 a13 a14 a15 a16 a17 a18 a19 a20 a21 a22 a23 a24 a25 a26 a27 a28 a29 a30 := fun x1 x2 c7 c8 c9 c10 c11 h => hw (x1, x2, c7, c8, c9, c10, c11) h
    clear hw
    show wX_lower_12 post (m + 1) (nI i) (nI (n + 1)) ck iv dn sn ls wc iw tr tf (nI c) (nI w) tc lv ce sc gv pc a1 a2 a3 a4 a5 a6 b7 b8 b9 b10 b11 a12 a13 a14 a15 a16 a17 a18 a19 a20 a21 a22 a23 a24 a25 a26 a27 a28 a29 a30
    have hb := im_bd (o := a1) (q := a2) (n := i) (fun j hj => va j (by omega))
    refine pk_le (n + 1) i (fun z => absurd z (by omega)) (fun _ => ⟨pk_in i 40 (by omega), br_t (by rw [nI_clamp (show i < 2 ^ 31 by omega), h3 i (by omega)]; exact nI_pos' (by omega)) (lo_target (by omega) ht (br_t rfl ?_))⟩)
    rcases Nat.lt_or_ge i n with g | g
    · by_cases h24 : a1 i = nI 24
      · exact lo_st24 (n := n) (by omega) g (va i g) h24 (h3 i (by omega)) hh (fun c' d7 d8 d9 d10 d11 k => W _ _ _ _ _ _ _ ⟨fun _ => ⟨c', 0, rfl, rfl, k⟩, fun z => absurd z (by omega)⟩)
      · exact lo_st (n := n) (by omega) g (va i g) h24 (h3 i (by omega)) hh (fun c' d7 d8 d9 d10 d11 k => W _ _ _ _ _ _ _ ⟨fun _ => ⟨c', w + 1, rfl, rfl, k⟩, fun z => absurd z (by omega)⟩)
    · have e : i = n := by omega
      subst e
      exact lo_stE hn va he (h3 i (by omega)) hh (fun c' d7 d8 d9 d10 d11 k => W _ _ _ _ _ _ _ ⟨fun z => absurd z (by omega), fun _ => ⟨c', rfl, k⟩⟩)
end
end
section
/-! passes that only drop: dropUnreached, packList, joinTicks -/
theorem sg_op_ad (q : zp_Op) (m : Nat) (x : sg_St) : sg_op q (sg_ad m x) = sg_ad m (sg_op q x) := by
  unfold sg_op
  by_cases h0 : q.1 = 20
  · rw [if_pos h0, if_pos h0]
    show (x.1, x.2.1 + m + q.2.2.2.2.toNatClampNeg, x.2.2) = (x.1, x.2.1 + q.2.2.2.2.toNatClampNeg + m, x.2.2)
    rw [show x.2.1 + m + q.2.2.2.2.toNatClampNeg = x.2.1 + q.2.2.2.2.toNatClampNeg + m by omega]
  rw [if_neg h0, if_neg h0]
  by_cases h1 : q.1 = 21
  · rw [if_pos h1, if_pos h1]; rfl
  rw [if_neg h1, if_neg h1]
  by_cases h2 : q.1 = 22
  · rw [if_pos h2, if_pos h2]; rfl
  rw [if_neg h2, if_neg h2]
  by_cases h3 : q.1 = 0
  · rw [if_pos h3, if_pos h3]
  rw [if_neg h3, if_neg h3]
  rfl
/-- a step count taken out of the list -/
theorem jt_out {B C : Nat → zp_Op} {l a : Nat} (hB : (B l).1 = 20) (ha : (B l).2.2.2.2.toNatClampNeg = a) (hC : (C l).1 = 0) (ho : ∀ j, j ≠ l → C j = B j) {n : Nat} (hn : l < n) (x : sg_St) : sg_run B n x = sg_ad a (sg_run C n x) := by
  induction n with
  | zero => exact absurd hn (by omega)
  | succ n ih =>
    rcases Nat.lt_or_ge l n with g | g
    · rw [sg_run_s, sg_run_s, ih g, sg_op_ad, ho n (by omega)]
    · have e : n = l := by omega
      subst e
      rw [sg_run_s, sg_run_s, sg_20 hB, sg_00 hC, ha, sg_run_c (P := C) (Q := B) (fun i hi => ho i (by omega))]
      rfl
section
variable {le ck iv dn sn ls wc tr tf en tk tc lv ce sc gv pc : Int32} {iw : Int64} {a1 a2 a3 a4 a5 a6 a7 a8 a9 a10 a11 a12 a13 a14 a15 a16 a17 a18 a19 a20 a21 a22 a23 a24 a25 a26 a27 a28 a29 a30 : Nat → Int32}
theorem du_ok {post : St1 → Prop} {N : Nat} (wf : zp_wf (zp_at a7 a8 a9 a10 a11) N) (hp : post (le, ck, iv, dn, sn, ls, wc, iw, tr, tf, nI N, tk, tc, lv, ce, sc, gv, pc, a1, a2, a3, a4, a5, a6, a7, a8, a9, a10, a11, a12, a13, a14, a15, a16, a17, a18, a19, a20, a21, a22, a23, a24, a25, a26, a27, a28, a29, a30)) : wpX_dropUnreached post (le, ck, iv, dn, sn, ls, wc, iw, tr, tf, nI N, tk, tc, lv, ce, sc, gv, pc, a1, a2, a3, a4, a5, a6, a7, a8, a9, a10, a11, a12, a13, a14, a15, a16, a17, a18, a19, a20, a21, a22, a23, a24, a25, a26, a27, a28, a29, a30) := by
  have hN := wf.2.1
  unfold wpX_dropUnreached
  refine pk_loop (fun m i s => wX_dropUnreached_4 post le ck iv dn sn ls wc iw tr tf (nI N) tk tc lv ce sc gv pc m s (nI i) a1 a2 a3 a4 a5 a6 a7 a8 a9 a10 a11 a12 a13 a14 a15 a16 a17 a18 a19 a20 a21 a22 a23 a24 a25 a26 a27 a28 a29 a30) (fun i s => i < N → s = 1) N 0 (1 : Int32) (by omega) (fun _ => rfl) ?_ ?_
  · intro m s _
    exact pk_le N N (fun _ => hp) (fun z => absurd z (by omega))
  · intro m i s hi hs hw
    have e := hs hi
    subst e
    obtain ⟨j, hj, ej, hj2⟩ := zp_anyO (zp_wfA wf hi)
    have ej' : a7 (nI i).toNatClampNeg = nI j := by rw [nI_clamp (by omega)]; exact ej
    refine pk_le N i (fun z => absurd z (by omega)) (fun _ => ⟨pk_in i 240 (by omega), nm_r ej' (pk_eq j 19 (fun z => absurd z (by omega)) (fun _ => ?_))⟩)
    unfold wX_dropUnreached_64
    refine br_f (by decide) ?_
    unfold wX_dropUnreached_75
    refine pk_eq j 18 (fun z => absurd z (by omega)) (fun _ => pk_eq j 22 (fun e22 => ?_) (fun n22 => ?_))
    · unfold wX_dropUnreached_87
      unfold wX_dropUnreached_89
      refine pk_eq j 18 (fun z => absurd z (by omega)) (fun _ => nm_r (nI_1 i) (hw _ (fun hi2 => ?_)))
      have q := wf.2.2.1 i (by omega)
      obtain ⟨j', _, ej2, hj3⟩ := zp_inO q
      have : nI j = nI j' := ej.symm.trans ej2
      rw [nI_eq (by omega) (by omega)] at this
      omega
    · unfold wX_dropUnreached_89
      exact pk_eq j 18 (fun z => absurd z (by omega)) (fun _ => nm_r (nI_1 i) (hw _ (fun _ => rfl)))
/-- the list packed so far -/
def pa_I (A : Nat → zp_Op) (N i : Nat) (s : Int32 × (Nat → Int32) × (Nat → Int32) × (Nat → Int32) × (Nat → Int32) × (Nat → Int32)) : Prop :=
  ∃ c : Nat, s.1 = nI c ∧ c ≤ i ∧ (∀ j, i ≤ j → zp_at s.2.1 s.2.2.1 s.2.2.2.1 s.2.2.2.2.1 s.2.2.2.2.2 j = A j) ∧ (∀ x, sg_run (zp_at s.2.1 s.2.2.1 s.2.2.2.1 s.2.2.2.2.1 s.2.2.2.2.2) c x = sg_run A i x)
    ∧ (i < N → ∀ j, j < c → zp_in (zp_at s.2.1 s.2.2.1 s.2.2.2.1 s.2.2.2.2.1 s.2.2.2.2.2 j)) ∧ (i = N → zp_wf (zp_at s.2.1 s.2.2.1 s.2.2.2.1 s.2.2.2.2.1 s.2.2.2.2.2) c)
theorem pa_ok {post : St1 → Prop} {N : Nat} (gf : zp_gf (zp_at a7 a8 a9 a10 a11) N)
    (hp : ∀ c b7 b8 b9 b10 b11, zp_wf (zp_at b7 b8 b9 b10 b11) c → (∀ x, sg_run (zp_at b7 b8 b9 b10 b11) c x = sg_run (zp_at a7 a8 a9 a10 a11) N x) → post (le, ck, iv, dn, sn, ls, wc, iw, tr, tf, nI c, tk, tc, lv, ce, sc, gv, pc, a1, a2, a3, a4, a5, a6, b7, b8, b9, b10, b11, a12, a13, a14, a15, a16, a17, a18, a19, a20, a21, a22, a23, a24, a25, a26, a27, a28, a29, a30)) : wpX_packList post (le, ck, iv, dn, sn, ls, wc, iw, tr, tf, nI N, tk, tc, lv, ce, sc, gv, pc, a1, a2, a3, a4, a5, a6, a7, a8, a9, a10, a11, a12, a13, a14, a15, a16, a17, a18, a19, a20, a21, a22, a23, a24, a25, a26, a27, a28, a29, a30) := by
  have hN := gf.2.1
  have hN1 := gf.1
  unfold wpX_packList
  refine pk_loop (fun m i s => wX_packList_4 post le ck iv dn sn ls wc iw tr tf (nI N) tk tc lv ce sc gv pc m s.1 (nI i) a1 a2 a3 a4 a5 a6 s.2.1 s.2.2.1 s.2.2.2.1 s.2.2.2.2.1 s.2.2.2.2.2 a12 a13 a14 a15 a16 a17 a18 a19 a20 a21 a22 a23 a24 a25 a26 a27 a28 a29 a30) (fun i s => pa_I (zp_at a7 a8 a9 a10 a11) N i s) N 0 (0, a7, a8, a9, a10, a11) (by omega) ⟨0, rfl, by omega, fun _ _ => rfl, fun _ => rfl, fun _ j hj => absurd hj (by omega), fun z => absurd z (by omega)⟩ ?_ ?_
  · intro m s h
    obtain ⟨y, b7, b8, b9, b10, b11⟩ := s
    obtain ⟨c, e, h1, h2, h3, h4, h5⟩ := h
    dsimp only at e h1 h2 h3 h4 h5
    subst e
    exact pk_le N N (fun _ => hp c _ _ _ _ _ (h5 rfl) h3) (fun z => absurd z (by omega))
  · intro m i s hi h hw
    obtain ⟨y, b7, b8, b9, b10, b11⟩ := s
    obtain ⟨c, e, h1, h2, h3, h4, h5⟩ := h
    dsimp only at e h1 h2 h3 h4 h5
    subst e
    have W : ∀ y c7 c8 c9 c10 c11, pa_I (zp_at a7 a8 a9 a10 a11) N (i + 1) (y, c7, c8, c9, c10, c11) → wX_packList_4 post le ck iv dn sn ls wc iw tr tf (nI N) tk tc lv ce sc gv pc m y (nI (i + 1)) a1 a2 a3 a4 a5 a6 c7 c8 c9 c10 c11 a12 a13 a14 a15 a16 a17 a18 a19 a20 a21 a22 a23 a24 a25 a26 a27 a28 a29 a30 := fun y c7 c8 c9 c10 c11 h => hw (y, c7, c8, c9, c10, c11) h
    clear hw
    show wX_packList_4 post le ck iv dn sn ls wc iw tr tf (nI N) tk tc lv ce sc gv pc (m + 1) (nI c) (nI i) a1 a2 a3 a4 a5 a6 b7 b8 b9 b10 b11 a12 a13 a14 a15 a16 a17 a18 a19 a20 a21 a22 a23 a24 a25 a26 a27 a28 a29 a30
    have ei : zp_at b7 b8 b9 b10 b11 i = zp_at a7 a8 a9 a10 a11 i := h2 i (by omega)
    refine pk_le N i (fun z => absurd z (by omega)) (fun _ => ⟨pk_in i 240 (by omega), ?_⟩)
    rw [nI_clamp (show i < 2 ^ 31 by omega), nI_clamp (show c < 2 ^ 31 by omega)]
    refine br_c (fun z => ?_) (fun z => ?_)
    · refine nm_r (nI_1 i) (W _ _ _ _ _ _ ⟨c, rfl, by omega, fun j hj => h2 j (by omega), fun x => ?_, fun _ => h4 (by omega), fun g => ?_⟩)
      · show sg_run (zp_at b7 b8 b9 b10 b11) c x = sg_op (zp_at a7 a8 a9 a10 a11 i) (sg_run (zp_at a7 a8 a9 a10 a11) i x)
        rw [h3, ← ei, sg_00 z]
      · have q := gf.2.2.2
        rw [show N - 1 = i by omega, ← ei] at q
        exact absurd (z.symm.trans q.1) (by decide)
    · have an : zp_any (zp_at b7 b8 b9 b10 b11 i) := by
        rw [ei]
        rcases Nat.lt_or_ge i (N - 1) with g | g
        · rcases gf.2.2.1 i g with q | q
          · exact Or.inl q
          · rw [← ei] at q
            exact absurd q z
        · rw [show i = N - 1 by omega]
          exact Or.inr gf.2.2.2
      obtain ⟨j, hj, ej, _⟩ := zp_anyO an
      refine ⟨pk_in i 240 (by omega), pk_in c 240 (by omega), nm_r (congrArg (upd b7 c) (zp_narO ej (by omega))) ⟨pk_in i 240 (by omega), pk_in c 240 (by omega), nm_r (congrArg (upd b8 c) (zp_nar' (zp_anyM an))) ⟨pk_in i 240 (by omega), pk_in c 240 (by omega), nm_r (congrArg (upd b9 c) (zp_nar' (zp_anyF an))) ⟨pk_in i 240 (by omega), pk_in c 240 (by omega), nm_r (congrArg (upd b10 c) (zp_nar' (zp_anyS an))) ⟨pk_in i 240 (by omega), pk_in c 240 (by omega), nm_e (nm_r (nI_1 c) (nm_r (nI_1 i) (W _ _ _ _ _ _ ?_)))⟩⟩⟩⟩⟩
      refine ⟨c + 1, rfl, by omega, fun j hj => ?_, fun x => ?_, fun g j hj => ?_, fun g => ?_⟩
      · dsimp only
        rw [zp_wo (by omega)]
        exact h2 j (by omega)
      · dsimp only
        rw [zp_w, h3, sg_run_s, ← ei]
        rfl
      · dsimp only
        rcases Nat.lt_or_ge j c with t | t
        · rw [zp_wo (by omega)]
          exact h4 (by omega) j t
        · rw [show j = c by omega, zp_ws]
          rcases an with an | an
          · exact an
          · have q := gf.2.2.1 i (by omega)
            rw [← ei] at q
            rcases q with q | q
            · exact q
            · exact absurd q z
      · dsimp only
        have q := gf.2.2.2
        rw [show N - 1 = i by omega, ← ei] at q
        refine ⟨by omega, by omega, fun j hj => ?_, ?_⟩
        · rw [zp_wo (by omega)]
          exact h4 (by omega) j (by omega)
        · rw [show c + 1 - 1 = c by omega, zp_ws]
          exact q
/-- isPlain -/
theorem pl_yes {post : Int32 → Prop} {j : Nat} (h1 : 1 ≤ j) (h2 : j ≤ 13) (hp : post 1) : wpX_isPlain post (le, ck, iv, dn, sn, ls, wc, iw, tr, tf, en, tk, tc, lv, ce, sc, gv, pc, a1, a2, a3, a4, a5, a6, a7, a8, a9, a10, a11, a12, a13, a14, a15, a16, a17, a18, a19, a20, a21, a22, a23, a24, a25, a26, a27, a28, a29, a30) (nI j) := by
  unfold wpX_isPlain
  exact pk_eq j 1 (fun _ => hp) (fun _ => pk_eq j 2 (fun _ => hp) (fun _ => pk_lt j 3 (fun z => absurd z (by omega)) (fun _ => pk_lt 14 j (fun z => absurd z (by omega)) (fun _ => hp))))
theorem pl_no {post : Int32 → Prop} {j : Nat} (h : j = 0 ∨ (14 < j ∧ j < 100)) (hp : post 0) : wpX_isPlain post (le, ck, iv, dn, sn, ls, wc, iw, tr, tf, en, tk, tc, lv, ce, sc, gv, pc, a1, a2, a3, a4, a5, a6, a7, a8, a9, a10, a11, a12, a13, a14, a15, a16, a17, a18, a19, a20, a21, a22, a23, a24, a25, a26, a27, a28, a29, a30) (nI j) := by
  unfold wpX_isPlain
  exact pk_eq j 1 (fun z => absurd z (by omega)) (fun _ => pk_eq j 2 (fun z => absurd z (by omega)) (fun _ => pk_lt j 3 (fun _ => hp) (fun _ => pk_lt 14 j (fun _ => hp) (fun z => absurd z (by omega)))))
/-- the steps joined so far -/
def jt_I (A : Nat → zp_Op) (a8 a9 a10 : Nat → Int32) (N i : Nat) (s : Int32 × (Nat → Int32) × (Nat → Int32)) : Prop :=
  (s.1 = -1 ∨ ∃ l : Nat, l < i ∧ s.1 = nI l ∧ zp_tick (zp_at s.2.1 a8 a9 a10 s.2.2 l)) ∧ (∀ j, i ≤ j → zp_at s.2.1 a8 a9 a10 s.2.2 j = A j) ∧ (∀ x, sg_run (zp_at s.2.1 a8 a9 a10 s.2.2) i x = sg_run A i x)
    ∧ (∀ j, j < i → j < N - 1 → zp_in (zp_at s.2.1 a8 a9 a10 s.2.2 j) ∨ (zp_at s.2.1 a8 a9 a10 s.2.2 j).1 = 0) ∧ (N - 1 < i → zp_give (zp_at s.2.1 a8 a9 a10 s.2.2 (N - 1)))
/-- an operation kept as it is -/
theorem jt_keep {A : Nat → zp_Op} {a8 a9 a10 b7 b11 : Nat → Int32} {N i : Nat} {y y' : Int32} (wf : zp_wf A N) (hi : i < N) (h : jt_I A a8 a9 a10 N i (y, b7, b11)) (hy : y' = -1 ∨ ∃ l : Nat, l < i + 1 ∧ y' = nI l ∧ zp_tick (zp_at b7 a8 a9 a10 b11 l)) : jt_I A a8 a9 a10 N (i + 1) (y', b7, b11) := by
  obtain ⟨h1, h2, h3, h4, h5⟩ := h
  dsimp only at h1 h2 h3 h4 h5
  have ei := h2 i (by omega)
  refine ⟨hy, fun j hj => h2 j (by omega), fun x => ?_, fun j j1 j2 => ?_, fun g => ?_⟩
  · dsimp only
    rw [sg_run_s, sg_run_s, h3, ei]
  · dsimp only
    rcases Nat.lt_or_ge j i with t | t
    · exact h4 j t j2
    · rw [show j = i by omega, ei]
      exact Or.inl (wf.2.2.1 i (by omega))
  · dsimp only
    rw [h2 (N - 1) (by omega)]
    exact wf.2.2.2
/-- two step counts joined -/
theorem jt_join {A : Nat → zp_Op} {a8 a9 a10 b7 b11 : Nat → Int32} {N T i l a b : Nat} {y : Int32} (hT : T ≤ 40) (ht : sg_tk A N T) (hi : i < N - 1) (h : jt_I A a8 a9 a10 N i (y, b7, b11))
    (hl : l < i) (tl : zp_tick (zp_at b7 a8 a9 a10 b11 l)) (ea : b11 l = nI a) (ha : a ≤ 40) (ti : zp_tick (zp_at b7 a8 a9 a10 b11 i)) (eb : b11 i = nI b) (hb : b ≤ 40) :
    jt_I A a8 a9 a10 N (i + 1) (nI i, upd b7 l 0, upd b11 i (nI (b + a))) := by
  obtain ⟨h1, h2, h3, h4, h5⟩ := h
  dsimp only at h1 h2 h3 h4 h5
  have ei := h2 i (by omega)
  have o1 : ∀ x, sg_run (zp_at b7 a8 a9 a10 b11) i x = sg_ad a (sg_run (zp_at (upd b7 l 0) a8 a9 a10 b11) i x) := fun x =>
    jt_out (l := l) tl.1 (by show (b11 l).toNatClampNeg = a; rw [ea, nI_clamp (by omega)]) (by show upd b7 l 0 l = 0; rw [pk_us]) (fun j hj => by unfold zp_at; rw [pk_un hj]) hl x
  have o2 : ∀ x, sg_run (zp_at (upd b7 l 0) a8 a9 a10 (upd b11 i (nI (b + a)))) i x = sg_run (zp_at (upd b7 l 0) a8 a9 a10 b11) i x := fun x =>
    sg_run_c (fun j hj => by unfold zp_at; rw [pk_un (show j ≠ i by omega)]) x
  have e20 : b7 i = 20 := ti.1
  have s1 : ∀ x, sg_run A (i + 1) x = sg_ad b (sg_ad a (sg_run (zp_at (upd b7 l 0) a8 a9 a10 b11) i x)) := by
    intro x
    rw [sg_run_s, ← ei, ← h3, o1, sg_20 ti.1]
    show (_, _ + (b11 i).toNatClampNeg, _) = _
    rw [eb, nI_clamp (by omega)]
    rfl
  have bd : a + b ≤ 40 := by
    have m1 := sg_run_mono A (show i + 1 ≤ N by omega) (fun _ => 0, 0, 0, 0, 0)
    rw [ht, s1] at m1
    have m2 : (sg_run (zp_at (upd b7 l 0) a8 a9 a10 b11) i (fun _ => 0, 0, 0, 0, 0)).2.1 + a + b ≤ 0 + T := m1
    omega
  have es : zp_at (upd b7 l 0) a8 a9 a10 (upd b11 i (nI (b + a))) i = (20, a8 i, a9 i, a10 i, nI (b + a)) := by
    unfold zp_at
    rw [pk_us, pk_un (show i ≠ l by omega), e20]
  have ts : zp_tick (zp_at (upd b7 l 0) a8 a9 a10 (upd b11 i (nI (b + a))) i) := by
    rw [es]
    exact ⟨rfl, ti.2.1, ti.2.2.1, ti.2.2.2.1, b + a, by omega, rfl⟩
  refine ⟨Or.inr ⟨i, by omega, rfl, ts⟩, fun j hj => ?_, fun x => ?_, fun j j1 j2 => ?_, fun g => absurd g (by omega)⟩
  · dsimp only
    rw [← h2 j (by omega)]
    unfold zp_at
    rw [pk_un (show j ≠ l by omega), pk_un (show j ≠ i by omega)]
  · dsimp only
    rw [s1, sg_run_s, es, sg_20 rfl, o2]
    show (_, _ + (nI (b + a)).toNatClampNeg, _) = (_, _ + a + b, _)
    rw [nI_clamp (by omega), Nat.add_comm b a, Nat.add_assoc]
    rfl
  · dsimp only
    by_cases g : j = i
    · rw [g]
      exact Or.inl (Or.inr (Or.inl ts))
    · by_cases g2 : j = l
      · right
        rw [g2]
        show upd b7 l 0 l = 0
        rw [pk_us]
      · have e : zp_at (upd b7 l 0) a8 a9 a10 (upd b11 i (nI (b + a))) j = zp_at b7 a8 a9 a10 b11 j := by
          unfold zp_at
          rw [pk_un g, pk_un g2]
        rw [e]
        exact h4 j (by omega) j2
theorem jt_ok {post : St1 → Prop} {N T : Nat} (wf : zp_wf (zp_at a7 a8 a9 a10 a11) N) (hT : T ≤ 40) (ht : sg_tk (zp_at a7 a8 a9 a10 a11) N T)
    (hp : ∀ b7 b11, zp_gf (zp_at b7 a8 a9 a10 b11) N → (∀ x, sg_run (zp_at b7 a8 a9 a10 b11) N x = sg_run (zp_at a7 a8 a9 a10 a11) N x) → post (le, ck, iv, dn, sn, ls, wc, iw, tr, tf, nI N, tk, tc, lv, ce, sc, gv, pc, a1, a2, a3, a4, a5, a6, b7, a8, a9, a10, b11, a12, a13, a14, a15, a16, a17, a18, a19, a20, a21, a22, a23, a24, a25, a26, a27, a28, a29, a30)) : wpX_joinTicks post (le, ck, iv, dn, sn, ls, wc, iw, tr, tf, nI N, tk, tc, lv, ce, sc, gv, pc, a1, a2, a3, a4, a5, a6, a7, a8, a9, a10, a11, a12, a13, a14, a15, a16, a17, a18, a19, a20, a21, a22, a23, a24, a25, a26, a27, a28, a29, a30) := by
  have hN := wf.2.1
  have hN1 := wf.1
  unfold wpX_joinTicks
  refine pk_loop (fun m i s => wX_joinTicks_4 post le ck iv dn sn ls wc iw tr tf (nI N) tk tc lv ce sc gv pc m s.1 (nI i) a1 a2 a3 a4 a5 a6 s.2.1 a8 a9 a10 s.2.2 a12 a13 a14 a15 a16 a17 a18 a19 a20 a21 a22 a23 a24 a25 a26 a27 a28 a29 a30) (fun i s => jt_I (zp_at a7 a8 a9 a10 a11) a8 a9 a10 N i s) N 0 (-1, a7, a11) (by omega) ⟨Or.inl rfl, fun _ _ => rfl, fun _ => rfl, fun j hj => absurd hj (by omega), fun z => absurd z (by omega)⟩ ?_ ?_
  · intro m s h
    obtain ⟨y, b7, b11⟩ := s
    obtain ⟨h1, h2, h3, h4, h5⟩ := h
    dsimp only at h1 h2 h3 h4 h5
    exact pk_le N N (fun _ => hp b7 b11 ⟨hN1, hN, fun j hj => h4 j (by omega) hj, h5 (by omega)⟩ h3) (fun z => absurd z (by omega))
  · intro m i s hi h hw
    obtain ⟨y, b7, b11⟩ := s
    have W : ∀ y c7 c11, jt_I (zp_at a7 a8 a9 a10 a11) a8 a9 a10 N (i + 1) (y, c7, c11) → wX_joinTicks_4 post le ck iv dn sn ls wc iw tr tf (nI N) tk tc lv ce sc gv pc m y (nI (i + 1)) a1 a2 a3 a4 a5 a6 c7 a8 a9 a10 c11 a12 a13 a14 a15 a16 a17 a18 a19 a20 a21 a22 a23 a24 a25 a26 a27 a28 a29 a30 := fun y c7 c11 h => hw (y, c7, c11) h
    clear hw
    show wX_joinTicks_4 post le ck iv dn sn ls wc iw tr tf (nI N) tk tc lv ce sc gv pc (m + 1) y (nI i) a1 a2 a3 a4 a5 a6 b7 a8 a9 a10 b11 a12 a13 a14 a15 a16 a17 a18 a19 a20 a21 a22 a23 a24 a25 a26 a27 a28 a29 a30
    have ei : zp_at b7 a8 a9 a10 b11 i = zp_at a7 a8 a9 a10 a11 i := h.2.1 i (by omega)
    have an := zp_wfA wf hi
    rw [← ei] at an
    obtain ⟨j, hj, ej, hj2⟩ := zp_anyO an
    have ej' : b7 (nI i).toNatClampNeg = nI j := by rw [nI_clamp (by omega)]; exact ej
    have h1 := h.1
    dsimp only at h1
    refine pk_le N i (fun z => absurd z (by omega)) (fun _ => ⟨pk_in i 240 (by omega), nm_r ej' (pk_eq j 20 (fun e20 => ?_) (fun n20 => ?_))⟩)
    · have tki : zp_tick (zp_at b7 a8 a9 a10 b11 i) := by
        have q20 : (zp_at b7 a8 a9 a10 b11 i).1 = 20 := by rw [ej, e20]; rfl
        rcases an with (q | q | q) | q
        · exact absurd q20 (zp_plM q).1
        · exact q
        · exact absurd (q20.symm.trans q.1) (by decide)
        · exact absurd (q20.symm.trans q.1) (by decide)
      have hiN : i < N - 1 := by
        rcases Nat.lt_or_ge i (N - 1) with g | g
        · exact g
        · have q := wf.2.2.2
          rw [show N - 1 = i by omega, ← ei] at q
          exact absurd (tki.1.symm.trans q.1) (by decide)
      rcases h1 with h1 | ⟨l, hl, h1, tl⟩
      · subst h1
        exact br_t bb_neg' (nm_r (nI_1 i) (W _ _ _ (jt_keep wf hi h (Or.inr ⟨i, by omega, rfl, tki⟩))))
      · subst h1
        obtain ⟨a, ha, ea⟩ := tl.2.2.2.2
        obtain ⟨b, hb, eb⟩ := tki.2.2.2.2
        have ea' : b11 l = nI a := ea
        have eb' : b11 i = nI b := eb
        refine br_f (nI_pos (by omega)) ⟨pk_in i 240 (by omega), pk_in l 240 (by omega), pk_in i 240 (by omega), nm_r (show upd b11 (nI i).toNatClampNeg (b11 (nI i).toNatClampNeg + b11 (nI l).toNatClampNeg) = upd b11 i (nI (b + a)) by rw [nI_clamp (show i < 2 ^ 31 by omega), nI_clamp (show l < 2 ^ 31 by omega), ea', eb', nI_add]) ⟨pk_in l 240 (by omega), nm_r (show upd b7 (nI l).toNatClampNeg 0 = upd b7 l 0 by rw [nI_clamp (show l < 2 ^ 31 by omega)]) (nm_r (nI_1 i) (W _ _ _ (jt_join hT ht hiN h hl tl ea' ha tki eb' hb)))⟩⟩
    · rcases Nat.lt_or_ge j 14 with g | g
      · refine pl_yes (by omega) (by omega) (br_f (by decide) (nm_r (nI_1 i) (W _ _ _ (jt_keep wf hi h ?_))))
        rcases h1 with h1 | ⟨l, hl, h1, tl⟩
        · exact Or.inl h1
        · exact Or.inr ⟨l, by omega, h1, tl⟩
      · exact pl_no (Or.inr ⟨by omega, by omega⟩) (br_t rfl (pk_eq j 0 (fun z => absurd z (by omega)) (fun _ => nm_r (nI_1 i) (W _ _ _ (jt_keep wf hi h (Or.inl rfl))))))
end
end
section
/-! what is alive -/
def al_bit (v : Int32) : Int32 := if 0 ≤ v then (1 : Int32) <<< (v &&& 31) else 0
def al_af (q : zp_Op) (nx : Int32) : Int32 := if q.1 = 22 then 0 else nx
def al_tr (q : zp_Op) (nx : Int32) : Int32 := (al_af q nx &&& (al_bit q.2.1 ^^^ (-1))) ||| (al_bit q.2.2.1 ||| al_bit q.2.2.2.1)
def al_eq (P : Nat → zp_Op) (N : Nat) (al : Nat → Int32) : Prop := al N = 0 ∧ ∀ i, i < N → al i = al_tr (P i) (al (i + 1))
theorem al_bitV {j : Nat} (hj : j < 11) : al_bit (nI j) = (1 : Int32) <<< (nI j &&& 31) := by unfold al_bit; rw [if_pos (nI_pos' (by omega))]
theorem al_bitM : al_bit (-1) = 0 := by unfold al_bit; rw [if_neg bb_neg]
theorem al_bit_sm {v : Int32} (h : zp_V v ∨ v = -1) : bb_sm (al_bit v) := by
  rcases h with ⟨j, hj, rfl⟩ | rfl
  · rw [al_bitV hj]
    exact bb_sm_bit hj
  · rw [al_bitM]
    exact bb_sm0
/-- its members -/
theorem al_bit_t {v : Int32} (h : zp_V v ∨ v = -1) {i : Nat} (hi : i < 11) : bb_t (al_bit v) i = true ↔ v = nI i := by
  rcases h with ⟨j, hj, rfl⟩ | rfl
  · rw [al_bitV hj, bb_bit (by omega) (by omega), decide_eq_true_iff, nI_eq (by omega) (by omega)]
    exact ⟨fun e => e.symm, fun e => e.symm⟩
  · rw [al_bitM, bb_0]
    exact ⟨fun z => absurd z (by decide), fun z => absurd z.symm ((by decide +kernel : ∀ i, i < 11 → nI i ≠ -1) i hi)⟩
theorem al_tr_t {q : zp_Op} (h : zp_any q) {nx : Int32} {i : Nat} (hi : i < 11) : bb_t (al_tr q nx) i = true ↔ ((bb_t (al_af q nx) i = true ∧ q.2.1 ≠ nI i) ∨ q.2.2.1 = nI i ∨ q.2.2.2.1 = nI i) := by
  have m : (!bb_t (al_bit q.2.1) i) = true ↔ q.2.1 ≠ nI i := by
    rw [Bool.not_eq_true', ← Bool.not_eq_true, al_bit_t (zp_anyM h) hi]
  unfold al_tr
  rw [bb_or, bb_or, bb_and, bb_not _ (by omega), Bool.or_eq_true, Bool.or_eq_true, Bool.and_eq_true, al_bit_t (zp_anyF h) hi, al_bit_t (zp_anyS h) hi, m]
theorem al_tr_sm {q : zp_Op} (h : zp_any q) {nx : Int32} (hn : bb_sm nx) : bb_sm (al_tr q nx) := by
  unfold al_tr
  refine bb_sm_or (bb_sm_and ?_) (bb_sm_or (al_bit_sm (zp_anyF h)) (al_bit_sm (zp_anyS h)))
  unfold al_af
  split
  · exact bb_sm0
  · exact hn
section
variable {le ck iv dn sn ls wc tr tf en tk tc lv ce sc gv pc : Int32} {iw : Int64} {a1 a2 a3 a4 a5 a6 a7 a8 a9 a10 a11 a12 a13 a14 a15 a16 a17 a18 a19 a20 a21 a22 a23 a24 a25 a26 a27 a28 a29 a30 : Nat → Int32}
theorem al_bitOf {post : Int32 → Prop} {p : Int32} (hp : post (al_bit p)) : wpX_bitOf post (le, ck, iv, dn, sn, ls, wc, iw, tr, tf, en, tk, tc, lv, ce, sc, gv, pc, a1, a2, a3, a4, a5, a6, a7, a8, a9, a10, a11, a12, a13, a14, a15, a16, a17, a18, a19, a20, a21, a22, a23, a24, a25, a26, a27, a28, a29, a30) p := by
  unfold wpX_bitOf
  unfold al_bit at hp
  refine br_c (fun z => ?_) (fun z => ?_)
  · rw [if_pos z] at hp
    exact hp
  · rw [if_neg z] at hp
    exact hp
theorem al_leaves {post : Int32 → Prop} {j : Nat} (h : j < 16 ∨ (18 < j ∧ j < 100)) (hp : post 0) : wpX_leaves post (le, ck, iv, dn, sn, ls, wc, iw, tr, tf, en, tk, tc, lv, ce, sc, gv, pc, a1, a2, a3, a4, a5, a6, a7, a8, a9, a10, a11, a12, a13, a14, a15, a16, a17, a18, a19, a20, a21, a22, a23, a24, a25, a26, a27, a28, a29, a30) (nI j) := by
  unfold wpX_leaves
  exact pk_eq j 16 (fun z => absurd z (by omega)) (fun _ => pk_eq j 17 (fun z => absurd z (by omega)) (fun _ => pk_eq j 18 (fun z => absurd z (by omega)) (fun _ => hp)))
theorem al_after {post : Int32 → Prop} {i : Nat} (an : zp_any (zp_at a7 a8 a9 a10 a11 i)) (hi : i < 240) (hp : post (al_af (zp_at a7 a8 a9 a10 a11 i) (a21 (i + 1)))) : wpX_aliveAfter post (le, ck, iv, dn, sn, ls, wc, iw, tr, tf, en, tk, tc, lv, ce, sc, gv, pc, a1, a2, a3, a4, a5, a6, a7, a8, a9, a10, a11, a12, a13, a14, a15, a16, a17, a18, a19, a20, a21, a22, a23, a24, a25, a26, a27, a28, a29, a30) (nI i) := by
  obtain ⟨j, hj, ej, hj2⟩ := zp_anyO an
  have ej' : a7 i = nI j := ej
  unfold wpX_aliveAfter
  show _ ∧ _
  rw [nI_clamp (show i < 2 ^ 31 by omega)]
  refine ⟨pk_in i 240 hi, nm_r ej' (pk_eq j 18 (fun z => absurd z (by omega)) (fun _ => pk_eq j 22 (fun e => ?_) (fun ne => ⟨pk_in (i + 1) 241 (by omega) (nI_1 i), ?_⟩)))⟩
  · unfold wX_aliveAfter_19
    unfold wX_aliveAfter_31
    refine al_leaves (by omega) (br_t rfl ?_)
    unfold al_af at hp
    rw [if_pos (by rw [ej, e]; rfl)] at hp
    exact hp
  · unfold wX_aliveAfter_31
    rw [nI_1, nI_clamp (show i + 1 < 2 ^ 31 by omega)]
    refine al_leaves (by omega) (br_t rfl ?_)
    unfold al_af at hp
    rw [if_neg (by rw [ej]; show ¬ nI j = nI 22; rw [nI_eq (by omega) (by omega)]; exact ne)] at hp
    exact hp
/-- one place of the backward pass -/
theorem al_one {post : St1 → Prop} {m m' N i : Nat} {g : Int32} (an : zp_any (zp_at a7 a8 a9 a10 a11 i)) (hi : i < 240) (hs : bb_sm (a21 (i + 1)))
    (hq : a21 i = al_tr (zp_at a7 a8 a9 a10 a11 i) (a21 (i + 1)) → wX_findAlive_78 post (wX_findAlive_65 post le ck iv dn sn ls wc iw tr tf (nI N) tk tc lv ce sc gv pc m') le ck iv dn sn ls wc iw tr tf (nI N) tk tc lv ce sc gv pc m g (nI i + (-1)) a1 a2 a3 a4 a5 a6 a7 a8 a9 a10 a11 a12 a13 a14 a15 a16 a17 a18 a19 a20 a21 a22 a23 a24 a25 a26 a27 a28 a29 a30)
    (hp : ¬ a21 i = al_tr (zp_at a7 a8 a9 a10 a11 i) (a21 (i + 1)) → wX_findAlive_78 post (wX_findAlive_65 post le ck iv dn sn ls wc iw tr tf (nI N) tk tc lv ce sc gv pc m') le ck iv dn sn ls wc iw tr tf (nI N) tk tc lv ce sc gv pc m 1 (nI i + (-1)) a1 a2 a3 a4 a5 a6 a7 a8 a9 a10 a11 a12 a13 a14 a15 a16 a17 a18 a19 a20 (upd a21 i (al_tr (zp_at a7 a8 a9 a10 a11 i) (a21 (i + 1)))) a22 a23 a24 a25 a26 a27 a28 a29 a30) :
    wX_findAlive_78 post (wX_findAlive_65 post le ck iv dn sn ls wc iw tr tf (nI N) tk tc lv ce sc gv pc m') le ck iv dn sn ls wc iw tr tf (nI N) tk tc lv ce sc gv pc (m + 1) g (nI i) a1 a2 a3 a4 a5 a6 a7 a8 a9 a10 a11 a12 a13 a14 a15 a16 a17 a18 a19 a20 a21 a22 a23 a24 a25 a26 a27 a28 a29 a30 := by
  obtain ⟨j, hj, ej, hj2⟩ := zp_anyO an
  have ej' : a7 i = nI j := ej
  have hsm : (al_tr (zp_at a7 a8 a9 a10 a11 i) (a21 (i + 1))).toInt16.toInt32 = al_tr (zp_at a7 a8 a9 a10 a11 i) (a21 (i + 1)) := bb_sm16 (al_tr_sm an hs)
  refine br_f (nI_pos (by omega)) (al_after an hi ⟨pk_in i 240 hi, ?_⟩)
  rw [nI_clamp (show i < 2 ^ 31 by omega)]
  refine br_f (by rw [ej']; show ¬ nI j = nI 15; rw [nI_eq (by omega) (by omega)]; omega) ⟨pk_in i 240 hi, al_bitOf (nm_e ?_)⟩
  unfold wX_findAlive_130
  rw [nI_clamp (show i < 2 ^ 31 by omega)]
  refine ⟨pk_in i 240 hi, al_bitOf ⟨pk_in i 240 hi, al_bitOf (nm_r (show _ = al_tr (zp_at a7 a8 a9 a10 a11 i) (a21 (i + 1)) from rfl) ⟨pk_in i 241 (by omega), br_c (fun z => nm_e (hq z.symm)) (fun z => ⟨pk_in i 241 (by omega), nm_r (congrArg (upd a21 i) hsm) (nm_e (hp (fun y => z y.symm)))⟩)⟩)⟩⟩
/-- the first pass: afterwards every place is right -/
theorem al_pass1 {post : St1 → Prop} {m' N : Nat} (hN : N ≤ 240) (an : ∀ i, i < N → zp_any (zp_at a7 a8 a9 a10 a11 i))
    (hp : ∀ g al, al_eq (zp_at a7 a8 a9 a10 a11) N al → (∀ j, j ≤ N → bb_sm (al j)) → wX_findAlive_65 post le ck iv dn sn ls wc iw tr tf (nI N) tk tc lv ce sc gv pc m' g a1 a2 a3 a4 a5 a6 a7 a8 a9 a10 a11 a12 a13 a14 a15 a16 a17 a18 a19 a20 al a22 a23 a24 a25 a26 a27 a28 a29 a30) (h0 : a21 N = 0) (hs : ∀ j, j ≤ N → bb_sm (a21 j)) (g : Int32) :
    ∃ m, wX_findAlive_78 post (wX_findAlive_65 post le ck iv dn sn ls wc iw tr tf (nI N) tk tc lv ce sc gv pc m') le ck iv dn sn ls wc iw tr tf (nI N) tk tc lv ce sc gv pc m g (nI N + (-1)) a1 a2 a3 a4 a5 a6 a7 a8 a9 a10 a11 a12 a13 a14 a15 a16 a17 a18 a19 a20 a21 a22 a23 a24 a25 a26 a27 a28 a29 a30 := by
  refine ⟨N + 1, pk_loopD (fun m i s => wX_findAlive_78 post (wX_findAlive_65 post le ck iv dn sn ls wc iw tr tf (nI N) tk tc lv ce sc gv pc m') le ck iv dn sn ls wc iw tr tf (nI N) tk tc lv ce sc gv pc m s.1 (nI i + (-1)) a1 a2 a3 a4 a5 a6 a7 a8 a9 a10 a11 a12 a13 a14 a15 a16 a17 a18 a19 a20 s.2 a22 a23 a24 a25 a26 a27 a28 a29 a30) (fun i s => i ≤ N ∧ s.2 N = 0 ∧ (∀ j, j ≤ N → bb_sm (s.2 j)) ∧ ∀ j, i ≤ j → j < N → s.2 j = al_tr (zp_at a7 a8 a9 a10 a11 j) (s.2 (j + 1))) ?_ ?_ N (g, a21) ⟨by omega, h0, hs, fun j h1 h2 => absurd h2 (by omega)⟩⟩
  · intro m s h
    obtain ⟨g, al⟩ := s
    obtain ⟨_, h1, h2, h3⟩ := h
    dsimp only at h1 h2 h3
    exact br_t (by decide) (hp g al ⟨h1, fun i hi => h3 i (by omega) hi⟩ h2)
  · intro m i s h hw
    obtain ⟨g, al⟩ := s
    obtain ⟨hi, h1, h2, h3⟩ := h
    dsimp only at h1 h2 h3
    show wX_findAlive_78 post (wX_findAlive_65 post le ck iv dn sn ls wc iw tr tf (nI N) tk tc lv ce sc gv pc m') le ck iv dn sn ls wc iw tr tf (nI N) tk tc lv ce sc gv pc (m + 1) g (nI (i + 1) + (-1)) a1 a2 a3 a4 a5 a6 a7 a8 a9 a10 a11 a12 a13 a14 a15 a16 a17 a18 a19 a20 al a22 a23 a24 a25 a26 a27 a28 a29 a30
    rw [pk_m1]
    refine al_one (an i (by omega)) (by omega) (h2 _ (by omega)) (fun z => hw (g, al) ⟨by omega, h1, h2, fun j j1 j2 => ?_⟩) (fun z => hw (1, upd al i _) ⟨by omega, ?_, fun j hj => ?_, fun j j1 j2 => ?_⟩)
    · dsimp only
      rcases Nat.lt_or_ge i j with t | t
      · exact h3 j (by omega) j2
      · rw [show j = i by omega]
        exact z
    · dsimp only
      rw [pk_un (by omega), h1]
    · dsimp only
      by_cases t : j = i
      · rw [t, pk_us]
        exact al_tr_sm (an i (by omega)) (h2 _ (by omega))
      · rw [pk_un t]
        exact h2 j hj
    · dsimp only
      rw [pk_un (show j + 1 ≠ i by omega)]
      by_cases t : j = i
      · rw [t, pk_us]
      · rw [pk_un t]
        exact h3 j (by omega) j2
/-- a further pass changes nothing -/
theorem al_pass2 {post : St1 → Prop} {m' N : Nat} (hN : N ≤ 240) (an : ∀ i, i < N → zp_any (zp_at a7 a8 a9 a10 a11 i)) (ha : al_eq (zp_at a7 a8 a9 a10 a11) N a21) (hs : ∀ j, j ≤ N → bb_sm (a21 j))
    (hp : wX_findAlive_65 post le ck iv dn sn ls wc iw tr tf (nI N) tk tc lv ce sc gv pc m' 0 a1 a2 a3 a4 a5 a6 a7 a8 a9 a10 a11 a12 a13 a14 a15 a16 a17 a18 a19 a20 a21 a22 a23 a24 a25 a26 a27 a28 a29 a30) :
    ∃ m, wX_findAlive_78 post (wX_findAlive_65 post le ck iv dn sn ls wc iw tr tf (nI N) tk tc lv ce sc gv pc m') le ck iv dn sn ls wc iw tr tf (nI N) tk tc lv ce sc gv pc m 0 (nI N + (-1)) a1 a2 a3 a4 a5 a6 a7 a8 a9 a10 a11 a12 a13 a14 a15 a16 a17 a18 a19 a20 a21 a22 a23 a24 a25 a26 a27 a28 a29 a30 := by
  refine ⟨N + 1, pk_loopD (σ := Unit) (fun m i _ => wX_findAlive_78 post (wX_findAlive_65 post le ck iv dn sn ls wc iw tr tf (nI N) tk tc lv ce sc gv pc m') le ck iv dn sn ls wc iw tr tf (nI N) tk tc lv ce sc gv pc m 0 (nI i + (-1)) a1 a2 a3 a4 a5 a6 a7 a8 a9 a10 a11 a12 a13 a14 a15 a16 a17 a18 a19 a20 a21 a22 a23 a24 a25 a26 a27 a28 a29 a30) (fun i _ => i ≤ N) ?_ ?_ N () (by omega)⟩
  · intro m _ _
    exact br_t (by decide) hp
  · intro m i _ hi hw
    show wX_findAlive_78 post (wX_findAlive_65 post le ck iv dn sn ls wc iw tr tf (nI N) tk tc lv ce sc gv pc m') le ck iv dn sn ls wc iw tr tf (nI N) tk tc lv ce sc gv pc (m + 1) 0 (nI (i + 1) + (-1)) a1 a2 a3 a4 a5 a6 a7 a8 a9 a10 a11 a12 a13 a14 a15 a16 a17 a18 a19 a20 a21 a22 a23 a24 a25 a26 a27 a28 a29 a30
    rw [pk_m1]
    exact al_one (an i (by omega)) (by omega) (hs _ (by omega)) (fun _ => hw () (by omega)) (fun z => absurd (ha.2 i (by omega)) z)
theorem al_m1 (N : Nat) : nI N - 1 = nI N + (-1) := by
  rw [Int32.sub_eq_add_neg]
theorem al_65 {post : St1 → Prop} {N : Nat} (hN : N ≤ 240) (an : ∀ i, i < N → zp_any (zp_at a7 a8 a9 a10 a11 i)) (h0 : a21 N = 0) (hs : ∀ j, j ≤ N → bb_sm (a21 j))
    (hp : ∀ al, al_eq (zp_at a7 a8 a9 a10 a11) N al → (∀ j, j ≤ N → bb_sm (al j)) → post (le, ck, iv, dn, sn, ls, wc, iw, tr, tf, nI N, tk, tc, lv, ce, sc, gv, pc, a1, a2, a3, a4, a5, a6, a7, a8, a9, a10, a11, a12, a13, a14, a15, a16, a17, a18, a19, a20, al, a22, a23, a24, a25, a26, a27, a28, a29, a30)) : ∃ m, wX_findAlive_65 post le ck iv dn sn ls wc iw tr tf (nI N) tk tc lv ce sc gv pc m 1 a1 a2 a3 a4 a5 a6 a7 a8 a9 a10 a11 a12 a13 a14 a15 a16 a17 a18 a19 a20 a21 a22 a23 a24 a25 a26 a27 a28 a29 a30 := by
  refine ⟨3, br_f (by decide) (nm_r (al_m1 N) (al_pass1 hN an (fun g al h1 h2 => ?_) h0 hs 0))⟩
  refine br_c (fun _ => hp al h1 h2) (fun _ => nm_r (al_m1 N) (al_pass2 hN an h1 h2 ?_))
  exact br_t rfl (hp al h1 h2)
theorem al_find {post : St1 → Prop} {N : Nat} (wf : zp_wf (zp_at a7 a8 a9 a10 a11) N) (hp : ∀ al, al_eq (zp_at a7 a8 a9 a10 a11) N al → (∀ j, j ≤ N → bb_sm (al j)) → post (le, ck, iv, dn, sn, ls, wc, iw, tr, tf, nI N, tk, tc, lv, ce, sc, gv, pc, a1, a2, a3, a4, a5, a6, a7, a8, a9, a10, a11, a12, a13, a14, a15, a16, a17, a18, a19, a20, al, a22, a23, a24, a25, a26, a27, a28, a29, a30)) : wpX_findAlive post (le, ck, iv, dn, sn, ls, wc, iw, tr, tf, nI N, tk, tc, lv, ce, sc, gv, pc, a1, a2, a3, a4, a5, a6, a7, a8, a9, a10, a11, a12, a13, a14, a15, a16, a17, a18, a19, a20, a21, a22, a23, a24, a25, a26, a27, a28, a29, a30) := by
  have hN := wf.2.1
  unfold wpX_findAlive
  refine pk_loop (σ := Unit) (fun m i _ => wX_findAlive_2 post le ck iv dn sn ls wc iw tr tf (nI N) tk tc lv ce sc gv pc m (nI i) a1 a2 a3 a4 a5 a6 a7 a8 a9 a10 a11 a12 a13 a14 a15 a16 a17 a18 a19 a20 a21 a22 a23 a24 a25 a26 a27 a28 a29 a30) (fun _ _ => True) N 0 () (by omega) trivial ?_ ?_
  · intro m _ _
    refine pk_le N N (fun _ => ?_) (fun z => absurd z (by omega))
    refine pk_loop (fun m i s => wX_findAlive_42 post le ck iv dn sn ls wc iw tr tf (nI N) tk tc lv ce sc gv pc m (nI i) a1 a2 a3 a4 a5 a6 a7 a8 a9 a10 a11 a12 a13 a14 a15 a16 a17 a18 a19 a20 s a22 a23 a24 a25 a26 a27 a28 a29 a30) (fun i s => ∀ j, j < i → s j = 0) (N + 1) 0 a21 (by omega) (fun j hj => absurd hj (by omega)) ?_ ?_
    · intro m al h
      exact pk_lt N (N + 1) (fun _ => al_65 (by omega) (fun i hi => zp_wfA wf hi) (h N (by omega)) (fun j hj => by rw [h j (by omega)]; exact bb_sm0) hp) (fun z => absurd z (by omega))
    · intro m i al hi h hw
      refine pk_lt N i (fun z => absurd z (by omega)) (fun _ => ⟨pk_in i 241 (by omega), nm_r (show upd al (nI i).toNatClampNeg 0 = upd al i 0 by rw [nI_clamp (by omega)]) (nm_r (nI_1 i) (hw _ (fun j hj => ?_)))⟩)
      by_cases t : j = i
      · rw [t, pk_us]
      · rw [pk_un t]
        exact h j (by omega)
  · intro m i _ hi _ hw
    obtain ⟨j, hj, ej, hj2⟩ := zp_anyO (zp_wfA wf hi)
    have ej' : a7 (nI i).toNatClampNeg = nI j := by rw [nI_clamp (by omega)]; exact ej
    exact pk_le N i (fun z => absurd z (by omega)) (fun _ => ⟨pk_in i 240 (by omega), pk_eq j 19 (fun z => absurd z (by omega)) (fun _ => nm_r (nI_1 i) (hw () trivial)) ej'⟩)
/-- an operation that may go: nobody needs what it makes, or it copies to itself -/
def al_gone (q : zp_Op) (nx : Int32) : Prop := zp_pl q ∧ ((∃ v : Nat, v < 11 ∧ q.2.1 = nI v ∧ bb_t (al_af q nx) v = false) ∨ (q.1 = 2 ∧ q.2.1 = q.2.2.1))
theorem dd_ok {post : St1 → Prop} {N : Nat} (wf : zp_wf (zp_at a7 a8 a9 a10 a11) N)
    (hp : ∀ b7, (∀ j, j < N → b7 j = a7 j ∨ (b7 j = 0 ∧ al_gone (zp_at a7 a8 a9 a10 a11 j) (a21 (j + 1)))) → post (le, ck, iv, dn, sn, ls, wc, iw, tr, tf, nI N, tk, tc, lv, ce, sc, gv, pc, a1, a2, a3, a4, a5, a6, b7, a8, a9, a10, a11, a12, a13, a14, a15, a16, a17, a18, a19, a20, a21, a22, a23, a24, a25, a26, a27, a28, a29, a30)) : wpX_dropDead post (le, ck, iv, dn, sn, ls, wc, iw, tr, tf, nI N, tk, tc, lv, ce, sc, gv, pc, a1, a2, a3, a4, a5, a6, a7, a8, a9, a10, a11, a12, a13, a14, a15, a16, a17, a18, a19, a20, a21, a22, a23, a24, a25, a26, a27, a28, a29, a30) := by
  have hN := wf.2.1
  unfold wpX_dropDead
  refine pk_loop (fun m i s => wX_dropDead_2 post le ck iv dn sn ls wc iw tr tf (nI N) tk tc lv ce sc gv pc m (nI i) a1 a2 a3 a4 a5 a6 s a8 a9 a10 a11 a12 a13 a14 a15 a16 a17 a18 a19 a20 a21 a22 a23 a24 a25 a26 a27 a28 a29 a30) (fun i s => (∀ j, i ≤ j → s j = a7 j) ∧ ∀ j, j < i → s j = a7 j ∨ (s j = 0 ∧ al_gone (zp_at a7 a8 a9 a10 a11 j) (a21 (j + 1)))) N 0 a7 (by omega) ⟨fun _ _ => rfl, fun j hj => absurd hj (by omega)⟩ ?_ ?_
  · intro m b7 h
    exact pk_le N N (fun _ => hp b7 h.2) (fun z => absurd z (by omega))
  · intro m i b7 hi h hw
    have e7 : b7 i = a7 i := h.1 i (by omega)
    have ei : zp_at b7 a8 a9 a10 a11 i = zp_at a7 a8 a9 a10 a11 i := by unfold zp_at; rw [e7]
    have an := zp_wfA wf hi
    obtain ⟨j, hj, ej, hj2⟩ := zp_anyO an
    have ej' : b7 (nI i).toNatClampNeg = nI j := by rw [nI_clamp (by omega), e7]; exact ej
    have keep : wX_dropDead_2 post le ck iv dn sn ls wc iw tr tf (nI N) tk tc lv ce sc gv pc m (nI (i + 1)) a1 a2 a3 a4 a5 a6 b7 a8 a9 a10 a11 a12 a13 a14 a15 a16 a17 a18 a19 a20 a21 a22 a23 a24 a25 a26 a27 a28 a29 a30 := by
      refine hw b7 ⟨fun j hj => h.1 j (by omega), fun j hj => ?_⟩
      rcases Nat.lt_or_ge j i with t | t
      · exact h.2 j t
      · rw [show j = i by omega]
        exact Or.inl e7
    have gone : al_gone (zp_at a7 a8 a9 a10 a11 i) (a21 (i + 1)) → wX_dropDead_2 post le ck iv dn sn ls wc iw tr tf (nI N) tk tc lv ce sc gv pc m (nI (i + 1)) a1 a2 a3 a4 a5 a6 (upd b7 i 0) a8 a9 a10 a11 a12 a13 a14 a15 a16 a17 a18 a19 a20 a21 a22 a23 a24 a25 a26 a27 a28 a29 a30 := by
      intro g
      refine hw _ ⟨fun j hj => ?_, fun j hj => ?_⟩
      · rw [pk_un (by omega)]
        exact h.1 j (by omega)
      · by_cases t : j = i
        · rw [t, pk_us]
          exact Or.inr ⟨rfl, g⟩
        · rw [pk_un t]
          exact h.2 j (by omega)
    refine pk_le N i (fun z => absurd z (by omega)) (fun _ => ⟨pk_in i 240 (by omega), ?_⟩)
    rw [ej']
    rcases Nat.lt_or_ge j 14 with g | g
    · have p : zp_pl (zp_at a7 a8 a9 a10 a11 i) := by
        have nj : ∀ k : Nat, 14 ≤ k → k < 100 → (zp_at a7 a8 a9 a10 a11 i).1 ≠ nI k := by
          intro k k1 k2
          rw [ej]
          show ¬ nI j = nI k
          rw [nI_eq (by omega) (by omega)]
          omega
        rcases an with (q | q | q) | q
        · exact q
        · exact absurd q.1 (nj 20 (by omega) (by omega))
        · exact absurd q.1 (nj 21 (by omega) (by omega))
        · exact absurd q.1 (nj 22 (by omega) (by omega))
      obtain ⟨v, hv, ev⟩ := p.1
      have ev' : a8 i = nI v := ev
      have an' := an
      rw [← ei] at an'
      refine pl_yes (by omega) (by omega) (br_f (by decide) (al_after an' (by omega) ⟨pk_in i 240 (by omega), ?_⟩))
      rw [ei, nI_clamp (show i < 2 ^ 31 by omega), ev']
      refine br_c (fun z => ?_) (fun z => ?_)
      · unfold wX_dropDead_48
        refine br_t rfl ⟨pk_in i 240 (by omega), nm_r (show upd b7 (nI i).toNatClampNeg 0 = upd b7 i 0 by rw [nI_clamp (by omega)]) (nm_r (nI_1 i) (gone ⟨p, Or.inl ⟨v, hv, ev, ?_⟩⟩))⟩
        exact (bb_test (by omega)).mp z
      · unfold wX_dropDead_48
        rw [nI_clamp (show i < 2 ^ 31 by omega)]
        refine br_f (by decide) ⟨pk_in i 240 (by omega), br_c (fun z2 => ⟨pk_in i 240 (by omega), pk_in i 240 (by omega), br_c (fun z3 => ⟨pk_in i 240 (by omega), nm_e (nm_r (nI_1 i) (gone ⟨p, Or.inr ⟨e7.symm.trans z2, z3⟩⟩))⟩) (fun _ => nm_r (nI_1 i) keep)⟩) (fun _ => nm_r (nI_1 i) keep)⟩
    · exact pl_no (Or.inr ⟨by omega, by omega⟩) (br_t rfl (nm_r (nI_1 i) keep))
end
/-! dropping what nobody needs keeps the word of the list -/
/-- what an operation makes depends on what it uses -/
theorem sg_vl_c {q : zp_Op} (h : zp_pl q) {e e' : Nat → Int32} (hf : ∀ v, v < 11 → q.2.2.1 = nI v → e v = e' v) (hs : ∀ v, v < 11 → q.2.2.2.1 = nI v → e v = e' v) : sg_vl q.1 q.2.2.1 q.2.2.2.1 q.2.2.2.2 e = sg_vl q.1 q.2.2.1 q.2.2.2.1 q.2.2.2.2 e' := by
  have f' : zp_V q.2.2.1 → e q.2.2.1.toNatClampNeg = e' q.2.2.1.toNatClampNeg := fun z => hf _ (zp_Vc z).1 (zp_Vc z).2
  have s' : zp_V q.2.2.2.1 → e q.2.2.2.1.toNatClampNeg = e' q.2.2.2.1.toNatClampNeg := fun z => hs _ (zp_Vc z).1 (zp_Vc z).2
  rcases h.2 with h | h | h | h
  · rw [sg_vl1 h.1, sg_vl1 h.1]
  · rw [sg_vl2 h.1, sg_vl2 h.1, f' h.2.1]
  · rw [sg_vl13 h.1, sg_vl13 h.1, f' h.2.1]
  · obtain ⟨⟨j, j1, j2, ej⟩, h1, h2⟩ := h
    rw [ej, sg_vlb j1 j2, sg_vlb j1 j2, f' h1]
    rcases h2 with h2 | h2
    · rw [if_neg (zp_Vn h2), if_neg (zp_Vn h2), s' h2]
    · rw [h2.1, if_pos bb_neg', if_pos bb_neg']
/-- one operation on two states that agree on what is alive -/
theorem al_step {q : zp_Op} (an : zp_in q) {nx : Int32} {x y : sg_St} (h2 : x.2 = y.2) (h1 : ∀ v, v < 11 → bb_t (al_tr q nx) v = true → x.1 v = y.1 v) : (sg_op q x).2 = (sg_op q y).2 ∧ ∀ v, v < 11 → bb_t nx v = true → (sg_op q x).1 v = (sg_op q y).1 v := by
  have n22 : q.1 ≠ 22 := by
    obtain ⟨j, hj, ej, hj2⟩ := zp_inO an
    rw [ej]
    show ¬ nI j = nI 22
    rw [nI_eq (by omega) (by omega)]
    omega
  have af : al_af q nx = nx := by unfold al_af; rw [if_neg n22]
  have tt := fun v hv => @al_tr_t q (Or.inl an) nx v hv
  rw [af] at tt
  have uF : ∀ v, v < 11 → q.2.2.1 = nI v → x.1 v = y.1 v := fun v hv e => h1 v hv ((tt v hv).mpr (Or.inr (Or.inl e)))
  have uS : ∀ v, v < 11 → q.2.2.2.1 = nI v → x.1 v = y.1 v := fun v hv e => h1 v hv ((tt v hv).mpr (Or.inr (Or.inr e)))
  rcases an with an | an | an
  · rw [sg_pl an, sg_pl an]
    refine ⟨h2, fun v hv hb => ?_⟩
    obtain ⟨m, hm, em⟩ := an.1
    dsimp only
    rw [em, nI_clamp (by omega), sg_vl_c an uF uS]
    by_cases t : v = m
    · rw [t, pk_us, pk_us]
    · rw [pk_un t, pk_un t]
      exact h1 v hv ((tt v hv).mpr (Or.inl ⟨hb, by rw [em]; intro z; rw [nI_eq (by omega) (by omega)] at z; exact t z.symm⟩))
  · rw [sg_20 an.1, sg_20 an.1]
    refine ⟨by rw [h2], fun v hv hb => h1 v hv ((tt v hv).mpr (Or.inl ⟨hb, by rw [an.2.1]; exact fun z => (by decide +kernel : ∀ i, i < 11 → nI i ≠ -1) v hv z.symm⟩))⟩
  · rw [sg_21 an.1, sg_21 an.1]
    refine ⟨by dsimp only; rw [h2, uF _ (zp_Vc an.2.2.1).1 (zp_Vc an.2.2.1).2], fun v hv hb => h1 v hv ((tt v hv).mpr (Or.inl ⟨hb, by rw [an.2.1]; exact fun z => (by decide +kernel : ∀ i, i < 11 → nI i ≠ -1) v hv z.symm⟩))⟩
theorem al_gone_step {q : zp_Op} {nx : Int32} {x y : sg_St} (g : al_gone q nx) (h2 : x.2 = y.2) (h1 : ∀ v, v < 11 → bb_t (al_tr q nx) v = true → x.1 v = y.1 v) : (sg_op q x).2 = y.2 ∧ ∀ v, v < 11 → bb_t nx v = true → (sg_op q x).1 v = y.1 v := by
  have n22 : q.1 ≠ 22 := (zp_plM g.1).2.2.1
  have af : al_af q nx = nx := by unfold al_af; rw [if_neg n22]
  have tt := fun v hv => @al_tr_t q (Or.inl (Or.inl g.1)) nx v hv
  rw [af] at tt
  rw [sg_pl g.1]
  refine ⟨h2, fun v hv hb => ?_⟩
  obtain ⟨m, hm, em⟩ := g.1.1
  dsimp only
  rw [em, nI_clamp (by omega)]
  have other : v ≠ m → upd x.1 m (sg_vl q.1 q.2.2.1 q.2.2.2.1 q.2.2.2.2 x.1) v = y.1 v := by
    intro t
    rw [pk_un t]
    exact h1 v hv ((tt v hv).mpr (Or.inl ⟨hb, by rw [em]; intro z; rw [nI_eq (by omega) (by omega)] at z; exact t z.symm⟩))
  rcases g.2 with ⟨w, hw, ew, hd⟩ | ⟨e2, es⟩
  · refine other (fun t => ?_)
    rw [em, nI_eq (by omega) (by omega)] at ew
    rw [af] at hd
    rw [t, ew, hd] at hb
    exact absurd hb (by decide)
  · by_cases t : v = m
    · rw [t, pk_us]
      unfold sg_vl
      rw [if_neg (by rw [e2]; decide), if_pos e2, ← es, em, nI_clamp (by omega)]
      exact h1 m hm ((tt m hm).mpr (Or.inr (Or.inl (es.symm.trans em))))
    · exact other t
theorem dd_run {P Q : Nat → zp_Op} {N : Nat} {al : Nat → Int32} (wf : zp_wf P N) (ha : al_eq P N al) (h : ∀ j, j < N → Q j = P j ∨ ((Q j).1 = 0 ∧ al_gone (P j) (al (j + 1)))) (x : sg_St) {i : Nat} (hi : i ≤ N - 1) :
    (sg_run P i x).2 = (sg_run Q i x).2 ∧ ∀ v, v < 11 → bb_t (al i) v = true → (sg_run P i x).1 v = (sg_run Q i x).1 v := by
  induction i with
  | zero => exact ⟨rfl, fun _ _ _ => rfl⟩
  | succ i ih =>
    obtain ⟨i1, i2⟩ := ih (by omega)
    rw [ha.2 i (by omega)] at i2
    rw [sg_run_s, sg_run_s]
    rcases h i (by omega) with e | ⟨e, g⟩
    · rw [e]
      exact al_step (wf.2.2.1 i (by omega)) i1 i2
    · rw [sg_00 e]
      exact al_gone_step g i1 i2
theorem dd_eq {P Q : Nat → zp_Op} {N : Nat} {al : Nat → Int32} (wf : zp_wf P N) (ha : al_eq P N al) (h : ∀ j, j < N → Q j = P j ∨ ((Q j).1 = 0 ∧ al_gone (P j) (al (j + 1)))) : zp_gf Q N ∧ sg_eq Q N P N := by
  have hN := wf.1
  have gv := wf.2.2.2
  have eL : Q (N - 1) = P (N - 1) := by
    rcases h (N - 1) (by omega) with e | ⟨e, g⟩
    · exact e
    · exact absurd gv.1 (zp_plM g.1).2.2.1
  refine ⟨⟨wf.1, wf.2.1, fun i hi => ?_, ?_⟩, fun x => ?_⟩
  · rcases h i (by omega) with e | e
    · rw [e]
      exact Or.inl (wf.2.2.1 i hi)
    · exact Or.inr e.1
  · rw [eL]
    exact gv
  · obtain ⟨i1, i2⟩ := dd_run wf ha h x (i := N - 1) (by omega)
    rw [show N = (N - 1) + 1 by omega, sg_run_s, sg_run_s, eL, sg_22 gv.1, sg_22 gv.1]
    rw [ha.2 (N - 1) (by omega)] at i2
    have e := i2 _ (zp_Vc gv.2.2.1).1 ((al_tr_t (Or.inr gv) (zp_Vc gv.2.2.1).1).mpr (Or.inr (Or.inl (zp_Vc gv.2.2.1).2)))
    dsimp only
    rw [e, i1]
end
section
/-! what two values make: the rows that the improver uses -/
theorem cb_3 (p q : Int32) : sg_cb (nI 3) p q = p + q := by unfold sg_cb; rw [if_pos (by decide)]
theorem cb_4 (p q : Int32) : sg_cb (nI 4) p q = p - q := by unfold sg_cb; rw [if_neg (by decide), if_pos (by decide)]
theorem cb_5 (p q : Int32) : sg_cb (nI 5) p q = p * q := by unfold sg_cb; rw [if_neg (by decide), if_neg (by decide), if_pos (by decide)]
theorem cb_6 (p q : Int32) : sg_cb (nI 6) p q = p &&& q := by unfold sg_cb; rw [if_neg (by decide), if_neg (by decide), if_neg (by decide), if_pos (by decide)]
theorem cb_7 (p q : Int32) : sg_cb (nI 7) p q = p ||| q := by unfold sg_cb; rw [if_neg (by decide), if_neg (by decide), if_neg (by decide), if_neg (by decide), if_pos (by decide)]
theorem cb_8 (p q : Int32) : sg_cb (nI 8) p q = p ^^^ q := by unfold sg_cb; rw [if_neg (by decide), if_neg (by decide), if_neg (by decide), if_neg (by decide), if_neg (by decide), if_pos (by decide)]
theorem cb_9 (p q : Int32) : sg_cb (nI 9) p q = p <<< ((q &&& 31) &&& 31) := by unfold sg_cb; rw [if_neg (by decide), if_neg (by decide), if_neg (by decide), if_neg (by decide), if_neg (by decide), if_neg (by decide), if_pos (by decide)]
theorem cb_10 (p q : Int32) : sg_cb (nI 10) p q = (p.toUInt32 >>> ((q &&& 31).toUInt32 &&& Int32.toUInt32 31)).toInt32 := by unfold sg_cb; rw [if_neg (by decide), if_neg (by decide), if_neg (by decide), if_neg (by decide), if_neg (by decide), if_neg (by decide), if_neg (by decide), if_pos (by decide)]
theorem cb_11 (p q : Int32) : sg_cb (nI 11) p q = (if q ≤ p then 0 else 1) := by unfold sg_cb; rw [if_neg (by decide), if_neg (by decide), if_neg (by decide), if_neg (by decide), if_neg (by decide), if_neg (by decide), if_neg (by decide), if_neg (by decide), if_pos (by decide)]
theorem cb_12 (p q : Int32) : sg_cb (nI 12) p q = (if p = q then 1 else 0) := by unfold sg_cb; rw [if_neg (by decide), if_neg (by decide), if_neg (by decide), if_neg (by decide), if_neg (by decide), if_neg (by decide), if_neg (by decide), if_neg (by decide), if_neg (by decide)]
theorem cb_z (p : Int32) : p <<< ((0 : Int32) &&& 31) = p := sb_shl0 p
theorem cb_u (p : Int32) : (p.toUInt32 >>> ((0 : Int32).toUInt32 &&& Int32.toUInt32 31)).toInt32 = p := by
  apply bb_ext
  intro i hi
  have h := bb_ushr 0 (by omega) p i
  rw [Nat.zero_add] at h
  exact h
theorem cb_comm {j : Nat} (h : j = 3 ∨ j = 5 ∨ j = 6 ∨ j = 7 ∨ j = 8 ∨ j = 12) (p q : Int32) : sg_cb (nI j) p q = sg_cb (nI j) q p := by
  rcases h with rfl | rfl | rfl | rfl | rfl | rfl
  · rw [cb_3, cb_3, Int32.add_comm]
  · rw [cb_5, cb_5, Int32.mul_comm]
  · rw [cb_6, cb_6, Int32.and_comm]
  · rw [cb_7, cb_7, Int32.or_comm]
  · rw [cb_8, cb_8, Int32.xor_comm]
  · rw [cb_12, cb_12]
    by_cases e : p = q
    · rw [if_pos e, if_pos e.symm]
    · rw [if_neg e, if_neg (fun z => e z.symm)]
theorem cb_k3 (p : Int32) : sg_cb (nI 3) p 0 = p := by rw [cb_3, Int32.add_zero]
theorem cb_k4 (p : Int32) : sg_cb (nI 4) p 0 = p := by rw [cb_4, Int32.sub_zero]
theorem cb_k7 (p : Int32) : sg_cb (nI 7) p 0 = p := by rw [cb_7, Int32.or_zero]
theorem cb_k8 (p : Int32) : sg_cb (nI 8) p 0 = p := by rw [cb_8, Int32.xor_zero]
theorem cb_k9 {q : Int32} (h : q &&& 31 = 0) (p : Int32) : sg_cb (nI 9) p q = p := by rw [cb_9, h, cb_z]
theorem cb_k10 {q : Int32} (h : q &&& 31 = 0) (p : Int32) : sg_cb (nI 10) p q = p := by rw [cb_10, h, cb_u]
theorem cb_k5 (p : Int32) : sg_cb (nI 5) p 1 = p := by rw [cb_5, Int32.mul_one]
theorem cb_k6 (p : Int32) : sg_cb (nI 6) p (-1) = p := by
  rw [cb_6]
  apply bb_ext
  intro i hi
  rw [bb_and, bb_m1 i hi, Bool.and_true]
theorem cb_n5 (p : Int32) : sg_cb (nI 5) p 0 = 0 := by rw [cb_5, Int32.mul_zero]
theorem cb_n6 (p : Int32) : sg_cb (nI 6) p 0 = 0 := by rw [cb_6, Int32.and_zero]
theorem cb_e4 (p : Int32) : sg_cb (nI 4) p p = 0 := by rw [cb_4, Int32.sub_self]
theorem cb_e8 (p : Int32) : sg_cb (nI 8) p p = 0 := by rw [cb_8, Int32.xor_self]
theorem cb_e11 (p : Int32) : sg_cb (nI 11) p p = 0 := by rw [cb_11, if_pos (Int32.le_refl p)]
theorem cb_e12 (p : Int32) : sg_cb (nI 12) p p = 1 := by rw [cb_12, if_pos rfl]
theorem cb_e6 (p : Int32) : sg_cb (nI 6) p p = p := by rw [cb_6, Int32.and_self]
theorem cb_e7 (p : Int32) : sg_cb (nI 7) p p = p := by rw [cb_7, Int32.or_self]
section
variable {le ck iv dn sn ls wc tr tf en tk tc lv ce sc gv pc : Int32} {iw : Int64} {a1 a2 a3 a4 a5 a6 a7 a8 a9 a10 a11 a12 a13 a14 a15 a16 a17 a18 a19 a20 a21 a22 a23 a24 a25 a26 a27 a28 a29 a30 : Nat → Int32}
theorem cb_ok {post : Int32 → Prop} {j : Nat} {x p q : Int32} (h1 : 3 ≤ j) (h2 : j ≤ 12) (hp : post (sg_cb (nI j) p q)) (ex : x = nI j := by rfl) : wpX_combined post (le, ck, iv, dn, sn, ls, wc, iw, tr, tf, en, tk, tc, lv, ce, sc, gv, pc, a1, a2, a3, a4, a5, a6, a7, a8, a9, a10, a11, a12, a13, a14, a15, a16, a17, a18, a19, a20, a21, a22, a23, a24, a25, a26, a27, a28, a29, a30) x p q := by
  subst ex
  unfold wpX_combined
  refine pk_eq j 3 (fun e => ?_) (fun n3 => pk_eq j 4 (fun e => ?_) (fun n4 => pk_eq j 5 (fun e => ?_) (fun n5 => pk_eq j 6 (fun e => ?_) (fun n6 => pk_eq j 7 (fun e => ?_) (fun n7 => pk_eq j 8 (fun e => ?_) (fun n8 => pk_eq j 9 (fun e => ?_) (fun n9 => pk_eq j 10 (fun e => ?_) (fun n10 => pk_eq j 11 (fun e => ?_) (fun n11 => ?_)))))))))
  · subst e; rw [cb_3] at hp; exact hp
  · subst e; rw [cb_4] at hp; exact hp
  · subst e; rw [cb_5] at hp; exact hp
  · subst e; rw [cb_6] at hp; exact hp
  · subst e; rw [cb_7] at hp; exact hp
  · subst e; rw [cb_8] at hp; exact hp
  · subst e; rw [cb_9] at hp; exact hp
  · subst e; rw [cb_10] at hp; exact hp
  · subst e
    rw [cb_11] at hp
    exact br_c (fun z => by rw [if_pos z] at hp; exact hp) (fun z => by rw [if_neg z] at hp; exact hp)
  · have e : j = 12 := by omega
    subst e
    rw [cb_12] at hp
    exact br_c (fun z => by rw [if_pos z] at hp; exact hp) (fun z => by rw [if_neg z] at hp; exact hp)
end
theorem cb_joined {post : Int32 → Prop} {j : Nat} {p q : Int32} (h1 : 3 ≤ j) (h2 : j ≤ 12) (hp : post (sg_cb (nI j) p q)) : wpL_joined post () (nI j) p q := by
  unfold wpL_joined
  refine pk_le 9 j (fun _ => pk_eq j 9 (fun e => ?_) (fun n9 => pk_eq j 10 (fun e => ?_) (fun n10 => pk_eq j 11 (fun e => ?_) (fun n11 => ?_)))) (fun _ => pk_eq j 3 (fun e => ?_) (fun n3 => pk_eq j 4 (fun e => ?_) (fun n4 => pk_eq j 5 (fun e => ?_) (fun n5 => pk_eq j 6 (fun e => ?_) (fun n6 => pk_eq j 7 (fun e => ?_) (fun n7 => ?_))))))
  · subst e; rw [cb_9] at hp; exact hp
  · subst e; rw [cb_10] at hp; exact hp
  · subst e
    rw [cb_11] at hp
    exact br_c (fun z => by rw [if_pos z] at hp; exact hp) (fun z => by rw [if_neg z] at hp; exact hp)
  · have e : j = 12 := by omega
    subst e
    rw [cb_12] at hp
    exact br_c (fun z => by rw [if_pos z] at hp; exact hp) (fun z => by rw [if_neg z] at hp; exact hp)
  · subst e; rw [cb_3] at hp; exact hp
  · subst e; rw [cb_4] at hp; exact hp
  · subst e; rw [cb_5] at hp; exact hp
  · subst e; rw [cb_6] at hp; exact hp
  · subst e; rw [cb_7] at hp; exact hp
  · have e : j = 8 := by omega
    subst e
    rw [cb_8] at hp
    exact hp
end
section
/-! what is known while the list is improved -/
/-- a row 'has been worked out': operation, its values, number, where it stands -/
def kn_sh (o a b v : Int32) : Prop := zp_V v ∧ ((o = 13 ∧ zp_V a ∧ b = -1) ∨ ((∃ j : Nat, 3 ≤ j ∧ j ≤ 12 ∧ o = nI j) ∧ zp_V a ∧ (zp_V b ∨ b = -1)))
theorem kn_shO {o a b v : Int32} (h : kn_sh o a b v) : ∃ j : Nat, 3 ≤ j ∧ j ≤ 13 ∧ o = nI j := by
  rcases h.2 with h | h
  · exact ⟨13, by omega, by omega, h.1⟩
  · obtain ⟨j, j1, j2, e⟩ := h.1
    exact ⟨j, j1, by omega, e⟩
theorem kn_shA {o a b v : Int32} (h : kn_sh o a b v) : zp_V a := by
  rcases h.2 with h | h
  · exact h.2.1
  · exact h.2.1
theorem kn_shB {o a b v : Int32} (h : kn_sh o a b v) : zp_V b ∨ b = -1 := by
  rcases h.2 with h | h
  · exact Or.inr h.2.2
  · exact h.2.2
/-- rows are (operation, first, second, number, value) -/
def kn_wf (cp : Nat → Int32) (T : Nat → zp_Op) (c : Nat) : Prop := c ≤ 24 ∧ (∀ v, v < 11 → zp_V (cp v)) ∧ ∀ k, k < c → kn_sh (T k).1 (T k).2.1 (T k).2.2.1 (T k).2.2.2.2
def kn_row (r : zp_Op) (e : Nat → Int32) : Prop := e r.2.2.2.2.toNatClampNeg = sg_vl r.1 r.2.1 r.2.2.1 r.2.2.2.1 e
def kn_s (kk nn cp : Nat → Int32) (T : Nat → zp_Op) (c : Nat) (e : Nat → Int32) : Prop :=
  (∀ v, v < 11 → kk v ≠ 0 → e v = nn v) ∧ (∀ v, v < 11 → e v = e (cp v).toNatClampNeg) ∧ ∀ k, k < c → kn_row (T k) e
/-- what a row says doesn't change with a value that it doesn't name -/
theorem kn_vl {o a b n v : Int32} (h : kn_sh o a b v) {e : Nat → Int32} {m : Nat} {x : Int32} (ha : a ≠ nI m) (hb : b ≠ nI m) : sg_vl o a b n (upd e m x) = sg_vl o a b n e := by
  have A : upd e m x a.toNatClampNeg = e a.toNatClampNeg := pk_un (fun z => ha (by rw [← z]; exact (zp_Vc (kn_shA h)).2))
  rcases h.2 with h | h
  · rw [sg_vl13 h.1, sg_vl13 h.1, A]
  · obtain ⟨⟨j, j1, j2, rfl⟩, _, h2⟩ := h
    rw [sg_vlb j1 j2, sg_vlb j1 j2, A]
    rcases h2 with h2 | h2
    · have B : upd e m x b.toNatClampNeg = e b.toNatClampNeg := pk_un (fun z => hb (by rw [← z]; exact (zp_Vc h2).2))
      rw [if_neg (zp_Vn h2), if_neg (zp_Vn h2), B]
    · rw [h2, if_pos bb_neg', if_pos bb_neg']
theorem kn_rowU {r : zp_Op} (h : kn_sh r.1 r.2.1 r.2.2.1 r.2.2.2.2) {e : Nat → Int32} {m : Nat} {x : Int32} (hr : kn_row r e) (ha : r.2.1 ≠ nI m) (hb : r.2.2.1 ≠ nI m) (hv : r.2.2.2.2 ≠ nI m) : kn_row r (upd e m x) := by
  unfold kn_row
  rw [kn_vl h ha hb, pk_un (fun z => hv (by rw [← z]; exact (zp_Vc h.1).2))]
  exact hr
section
variable {le ck iv dn sn ls wc tr tf en tk tc lv ce sc gv pc : Int32} {iw : Int64} {a1 a2 a3 a4 a5 a6 a7 a8 a9 a10 a11 a12 a13 a14 a15 a16 a17 a18 a19 a20 a21 a22 a23 a24 a25 a26 a27 a28 a29 a30 : Nat → Int32}
theorem kn_all {post : St1 → Prop} (hp : ∀ b13 b15, kn_wf b15 (zp_at a16 a17 a18 a19 a20) 0 → (∀ e, kn_s b13 a14 b15 (zp_at a16 a17 a18 a19 a20) 0 e) → post (le, ck, iv, dn, sn, ls, wc, iw, tr, tf, en, tk, nI 0, lv, ce, sc, gv, pc, a1, a2, a3, a4, a5, a6, a7, a8, a9, a10, a11, a12, b13, a14, b15, a16, a17, a18, a19, a20, a21, a22, a23, a24, a25, a26, a27, a28, a29, a30)) : wpX_forgetAll post (le, ck, iv, dn, sn, ls, wc, iw, tr, tf, en, tk, tc, lv, ce, sc, gv, pc, a1, a2, a3, a4, a5, a6, a7, a8, a9, a10, a11, a12, a13, a14, a15, a16, a17, a18, a19, a20, a21, a22, a23, a24, a25, a26, a27, a28, a29, a30) := by
  unfold wpX_forgetAll
  refine pk_loop (fun m i s => wX_forgetAll_2 post le ck iv dn sn ls wc iw tr tf en tk tc lv ce sc gv pc m (nI i) a1 a2 a3 a4 a5 a6 a7 a8 a9 a10 a11 a12 s.1 a14 s.2 a16 a17 a18 a19 a20 a21 a22 a23 a24 a25 a26 a27 a28 a29 a30) (fun i s => ∀ j, j < i → s.1 j = 0 ∧ s.2 j = nI j) 11 0 (a13, a15) (by omega) (fun j hj => absurd hj (by omega)) ?_ ?_
  · intro m s h
    obtain ⟨b13, b15⟩ := s
    refine pk_le 11 11 (fun _ => hp b13 b15 ⟨by omega, fun v hv => ⟨v, hv, (h v hv).2⟩, fun k hk => absurd hk (by omega)⟩ (fun e => ⟨fun v hv z => absurd (h v hv).1 z, fun v hv => ?_, fun k hk => absurd hk (by omega)⟩)) (fun z => absurd z (by omega))
    have e2 : b15 v = nI v := (h v hv).2
    rw [e2, nI_clamp (by omega)]
  · intro m i s hi h hw
    obtain ⟨b13, b15⟩ := s
    refine pk_le 11 i (fun z => absurd z (by omega)) (fun _ => ⟨pk_in i 11 hi, nm_r (show upd b13 (nI i).toNatClampNeg 0 = upd b13 i 0 by rw [nI_clamp (by omega)]) ⟨pk_in i 11 hi, nm_r (show upd b15 (nI i).toNatClampNeg (nI i).toInt8.toInt32 = upd b15 i (nI i) by rw [nI_clamp (by omega), bb_b8 i (by omega)]) (nm_r (nI_1 i) (hw (upd b13 i 0, upd b15 i (nI i)) (fun j hj => ?_)))⟩⟩)
    dsimp only
    by_cases t : j = i
    · rw [t, pk_us, pk_us]
      exact ⟨rfl, rfl⟩
    · rw [pk_un t, pk_un t]
      exact h j (by omega)
theorem kn_move {post : St1 → Prop} {d k : Nat} (hd : d < 24) (hk : k < 24) (h : kn_sh (a16 k) (a17 k) (a18 k) (a20 k))
    (hp : post (le, ck, iv, dn, sn, ls, wc, iw, tr, tf, en, tk, tc, lv, ce, sc, gv, pc, a1, a2, a3, a4, a5, a6, a7, a8, a9, a10, a11, a12, a13, a14, a15, upd a16 d (a16 k), upd a17 d (a17 k), upd a18 d (a18 k), upd a19 d (a19 k), upd a20 d (a20 k), a21, a22, a23, a24, a25, a26, a27, a28, a29, a30)) : wpX_moveThere post (le, ck, iv, dn, sn, ls, wc, iw, tr, tf, en, tk, tc, lv, ce, sc, gv, pc, a1, a2, a3, a4, a5, a6, a7, a8, a9, a10, a11, a12, a13, a14, a15, a16, a17, a18, a19, a20, a21, a22, a23, a24, a25, a26, a27, a28, a29, a30) (nI d) (nI k) := by
  obtain ⟨j, j1, j2, ej⟩ := kn_shO h
  unfold wpX_moveThere
  show _ ∧ _
  rw [nI_clamp (show d < 2 ^ 31 by omega), nI_clamp (show k < 2 ^ 31 by omega)]
  exact ⟨pk_in k 24 hk, pk_in d 24 hd, nm_r (congrArg (upd a16 d) (zp_narO ej (by omega))) ⟨pk_in k 24 hk, pk_in d 24 hd, nm_r (congrArg (upd a17 d) (zp_Vnar (kn_shA h))) ⟨pk_in k 24 hk, pk_in d 24 hd, nm_r (congrArg (upd a18 d) (zp_nar' (kn_shB h))) ⟨pk_in k 24 hk, pk_in d 24 hd, nm_e ⟨pk_in k 24 hk, pk_in d 24 hd, nm_r (congrArg (upd a20 d) (zp_Vnar h.1)) hp⟩⟩⟩⟩⟩
/-- the rows kept so far -/
def kn_I (T : Nat → zp_Op) (x : Int32) (i : Nat) (s : Int32 × (Nat → Int32) × (Nat → Int32) × (Nat → Int32) × (Nat → Int32) × (Nat → Int32)) : Prop :=
  ∃ d : Nat, s.1 = nI d ∧ d ≤ i ∧ (∀ j, i ≤ j → zp_at s.2.1 s.2.2.1 s.2.2.2.1 s.2.2.2.2.1 s.2.2.2.2.2 j = T j) ∧ ∀ j, j < d → ∃ k, k < i ∧ zp_at s.2.1 s.2.2.1 s.2.2.2.1 s.2.2.2.2.1 s.2.2.2.2.2 j = T k ∧ (T k).2.1 ≠ x ∧ (T k).2.2.1 ≠ x ∧ (T k).2.2.2.2 ≠ x
theorem kn_f51 {post : St1 → Prop} {c : Nat} {x : Int32} (hc : c ≤ 24) (hs : ∀ k, k < c → kn_sh (a16 k) (a17 k) (a18 k) (a20 k))
    (hp : ∀ d b16 b17 b18 b19 b20, d ≤ c → (∀ j, j < d → ∃ k, k < c ∧ zp_at b16 b17 b18 b19 b20 j = zp_at a16 a17 a18 a19 a20 k ∧ a17 k ≠ x ∧ a18 k ≠ x ∧ a20 k ≠ x) → post (le, ck, iv, dn, sn, ls, wc, iw, tr, tf, en, tk, nI d, lv, ce, sc, gv, pc, a1, a2, a3, a4, a5, a6, a7, a8, a9, a10, a11, a12, a13, a14, a15, b16, b17, b18, b19, b20, a21, a22, a23, a24, a25, a26, a27, a28, a29, a30)) :
    ∃ m, wX_forget_51 post x m 0 0 le ck iv dn sn ls wc iw tr tf en tk (nI c) lv ce sc gv pc a1 a2 a3 a4 a5 a6 a7 a8 a9 a10 a11 a12 a13 a14 a15 a16 a17 a18 a19 a20 a21 a22 a23 a24 a25 a26 a27 a28 a29 a30 := by
  refine pk_loop (fun m i s => wX_forget_51 post x m s.1 (nI i) le ck iv dn sn ls wc iw tr tf en tk (nI c) lv ce sc gv pc a1 a2 a3 a4 a5 a6 a7 a8 a9 a10 a11 a12 a13 a14 a15 s.2.1 s.2.2.1 s.2.2.2.1 s.2.2.2.2.1 s.2.2.2.2.2 a21 a22 a23 a24 a25 a26 a27 a28 a29 a30) (fun i s => kn_I (zp_at a16 a17 a18 a19 a20) x i s) c 0 (0, a16, a17, a18, a19, a20) (by omega) ⟨0, rfl, by omega, fun _ _ => rfl, fun j hj => absurd hj (by omega)⟩ ?_ ?_
  · intro m s h
    obtain ⟨y, b16, b17, b18, b19, b20⟩ := s
    obtain ⟨d, e, h1, h2, h3⟩ := h
    dsimp only at e h1 h2 h3
    subst e
    exact pk_le c c (fun _ => hp d _ _ _ _ _ h1 h3) (fun z => absurd z (by omega))
  · intro m i s hi h hw
    obtain ⟨y, b16, b17, b18, b19, b20⟩ := s
    obtain ⟨d, e, h1, h2, h3⟩ := h
    dsimp only at e h1 h2 h3
    subst e
    have W : ∀ y c16 c17 c18 c19 c20, kn_I (zp_at a16 a17 a18 a19 a20) x (i + 1) (y, c16, c17, c18, c19, c20) → wX_forget_51 post x m y (nI (i + 1)) le ck iv dn sn ls wc iw tr tf en tk (nI c) lv ce sc gv pc a1 a2 a3 a4 a5 a6 a7 a8 a9 a10 a11 a12 a13 a14 a15 c16 c17 c18 c19 c20 a21 a22 a23 a24 a25 a26 a27 a28 a29 a30 := fun y c16 c17 c18 c19 c20 h => hw (y, c16, c17, c18, c19, c20) h
    clear hw
    show wX_forget_51 post x (m + 1) (nI d) (nI i) le ck iv dn sn ls wc iw tr tf en tk (nI c) lv ce sc gv pc a1 a2 a3 a4 a5 a6 a7 a8 a9 a10 a11 a12 a13 a14 a15 b16 b17 b18 b19 b20 a21 a22 a23 a24 a25 a26 a27 a28 a29 a30
    have ei := h2 i (by omega)
    have hsi : kn_sh (b16 i) (b17 i) (b18 i) (b20 i) := by
      have q := hs i hi
      have q1 : b16 i = a16 i := congrArg (fun r : zp_Op => r.1) ei
      have q2 : b17 i = a17 i := congrArg (fun r : zp_Op => r.2.1) ei
      have q3 : b18 i = a18 i := congrArg (fun r : zp_Op => r.2.2.1) ei
      have q5 : b20 i = a20 i := congrArg (fun r : zp_Op => r.2.2.2.2) ei
      rw [q1, q2, q3, q5]
      exact q
    have skip : wX_forget_51 post x m (nI d) (nI (i + 1)) le ck iv dn sn ls wc iw tr tf en tk (nI c) lv ce sc gv pc a1 a2 a3 a4 a5 a6 a7 a8 a9 a10 a11 a12 a13 a14 a15 b16 b17 b18 b19 b20 a21 a22 a23 a24 a25 a26 a27 a28 a29 a30 := by
      refine W _ _ _ _ _ _ ⟨d, rfl, by omega, fun j hj => h2 j (by omega), fun j hj => ?_⟩
      obtain ⟨k, k1, k2⟩ := h3 j hj
      exact ⟨k, by omega, k2⟩
    refine pk_le c i (fun z => absurd z (by omega)) (fun _ => ⟨pk_in i 24 (by omega), ?_⟩)
    rw [nI_clamp (show i < 2 ^ 31 by omega)]
    refine br_c (fun _ => nm_r (nI_1 i) skip) (fun z1 => ⟨pk_in i 24 (by omega), br_c (fun _ => nm_r (nI_1 i) skip) (fun z2 => ⟨pk_in i 24 (by omega), br_c (fun _ => nm_r (nI_1 i) skip) (fun z3 => ?_)⟩)⟩)
    refine kn_move (by omega) (by omega) hsi (nm_r (nI_1 d) (nm_r (nI_1 i) (W _ _ _ _ _ _ ⟨d + 1, rfl, by omega, fun j hj => ?_, fun j hj => ?_⟩)))
    · dsimp only
      rw [zp_wo (by omega)]
      exact h2 j (by omega)
    · dsimp only
      rcases Nat.lt_or_ge j d with t | t
      · rw [zp_wo (by omega)]
        obtain ⟨k, k1, k2⟩ := h3 j t
        exact ⟨k, by omega, k2⟩
      · rw [show j = d by omega, zp_ws]
        refine ⟨i, by omega, ei, ?_, ?_, ?_⟩
        · rw [← ei]
          exact z2
        · rw [← ei]
          exact z3
        · rw [← ei]
          exact z1
theorem kn_forget {post : St1 → Prop} {c v : Nat} (hv : v < 11) (kw : kn_wf a15 (zp_at a16 a17 a18 a19 a20) c)
    (hp : ∀ d b15 b16 b17 b18 b19 b20, kn_wf b15 (zp_at b16 b17 b18 b19 b20) d → (∀ e, kn_s a13 a14 a15 (zp_at a16 a17 a18 a19 a20) c e → ∀ x, kn_s (upd a13 v 0) a14 b15 (zp_at b16 b17 b18 b19 b20) d (upd e v x)) →
      post (le, ck, iv, dn, sn, ls, wc, iw, tr, tf, en, tk, nI d, lv, ce, sc, gv, pc, a1, a2, a3, a4, a5, a6, a7, a8, a9, a10, a11, a12, upd a13 v 0, a14, b15, b16, b17, b18, b19, b20, a21, a22, a23, a24, a25, a26, a27, a28, a29, a30)) : wpX_forget post (le, ck, iv, dn, sn, ls, wc, iw, tr, tf, en, tk, nI c, lv, ce, sc, gv, pc, a1, a2, a3, a4, a5, a6, a7, a8, a9, a10, a11, a12, a13, a14, a15, a16, a17, a18, a19, a20, a21, a22, a23, a24, a25, a26, a27, a28, a29, a30) (nI v) := by
  obtain ⟨kc, kv, kt⟩ := kw
  unfold wpX_forget
  show _ ∧ _
  rw [nI_clamp (show v < 2 ^ 31 by omega)]
  refine ⟨pk_in v 11 hv, nm_e ⟨pk_in v 11 hv, nm_r (congrArg (upd a15 v) (bb_b8 v (by omega))) ?_⟩⟩
  refine pk_loop (fun m i s => wX_forget_17 post (nI v) le ck iv dn sn ls wc iw tr tf en tk (nI c) lv ce sc gv pc m (nI i) a1 a2 a3 a4 a5 a6 a7 a8 a9 a10 a11 a12 (upd a13 v 0) a14 s a16 a17 a18 a19 a20 a21 a22 a23 a24 a25 a26 a27 a28 a29 a30) (fun i s => ∀ w, w < 11 → (w < i → s w = nI w ∨ (s w = a15 w ∧ a15 w ≠ nI v ∧ w ≠ v)) ∧ (i ≤ w → s w = upd a15 v (nI v) w)) 11 0 (upd a15 v (nI v)) (by omega) (fun w hw => ⟨fun z => absurd z (by omega), fun _ => rfl⟩) ?_ ?_
  · intro m b15 h
    refine pk_le 11 11 (fun _ => kn_f51 kc kt (fun d b16 b17 b18 b19 b20 hd hk => hp d b15 b16 b17 b18 b19 b20 ⟨by omega, fun w hw => ?_, fun j hj => ?_⟩ (fun e he x => ⟨fun w hw hz => ?_, fun w hw => ?_, fun j hj => ?_⟩))) (fun z => absurd z (by omega))
    · rcases (h w hw).1 hw with q | q
      · exact ⟨w, hw, q⟩
      · rw [q.1]
        exact kv w hw
    · obtain ⟨k, k1, k2, _⟩ := hk j hj
      rw [k2]
      exact kt k k1
    · by_cases t : w = v
      · rw [t, pk_us] at hz
        exact absurd rfl hz
      · rw [pk_un t] at hz
        rw [pk_un t]
        exact he.1 w hw hz
    · rcases (h w hw).1 hw with q | ⟨q1, q2, q3⟩
      · rw [q, nI_clamp (by omega)]
      · rw [q1, pk_un q3, pk_un (fun z => q2 (by rw [← z]; exact (zp_Vc (kv w hw)).2))]
        exact he.2.1 w hw
    · obtain ⟨k, k1, k2, k3, k4, k5⟩ := hk j hj
      rw [k2]
      exact kn_rowU (kt k k1) (he.2.2 k k1) k3 k4 k5
  · intro m i b15 hi h hw
    refine pk_le 11 i (fun z => absurd z (by omega)) (fun _ => ⟨pk_in i 11 hi, ?_⟩)
    rw [nI_clamp (show i < 2 ^ 31 by omega)]
    have hb := (h i hi).2 (by omega)
    refine br_c (fun z => ⟨pk_in i 11 hi, nm_r (congrArg (upd b15 i) (bb_b8 i (by omega))) (nm_r (nI_1 i) (hw _ (fun w h11 => ⟨fun g => ?_, fun g => ?_⟩)))⟩) (fun z => nm_r (nI_1 i) (hw _ (fun w h11 => ⟨fun g => ?_, fun g => (h w h11).2 (by omega)⟩)))
    · by_cases t : w = i
      · rw [t, pk_us]
        exact Or.inl rfl
      · rw [pk_un t]
        exact (h w h11).1 (by omega)
    · rw [pk_un (by omega)]
      exact (h w h11).2 (by omega)
    · by_cases t : w = i
      · subst t
        by_cases t2 : w = v
        · rw [t2, pk_us] at hb
          exact absurd (by rw [t2]; exact hb) z
        · rw [pk_un t2] at hb
          exact Or.inr ⟨hb, fun q => z (hb.trans q), t2⟩
      · exact (h w h11).1 (by omega)
theorem kn_find {post : Int32 → Prop} {c i : Nat} (hc : c ≤ 24) (hi : i < 240) (hn : post (-1))
    (hp : ∀ k, k < c → a16 k = a7 i → a17 k = a9 i → a18 k = a10 i → (0 ≤ a10 i ∨ a19 k = a11 i) → post (a20 k)) : wpX_findThere post (le, ck, iv, dn, sn, ls, wc, iw, tr, tf, en, tk, nI c, lv, ce, sc, gv, pc, a1, a2, a3, a4, a5, a6, a7, a8, a9, a10, a11, a12, a13, a14, a15, a16, a17, a18, a19, a20, a21, a22, a23, a24, a25, a26, a27, a28, a29, a30) (nI i) := by
  unfold wpX_findThere
  refine pk_loop (σ := Unit) (fun m k _ => wX_findThere_2 post (nI i) le ck iv dn sn ls wc iw tr tf en tk (nI c) lv ce sc gv pc a1 a2 a3 a4 a5 a6 a7 a8 a9 a10 a11 a12 a13 a14 a15 a16 a17 a18 a19 a20 a21 a22 a23 a24 a25 a26 a27 a28 a29 a30 m (nI k)) (fun _ _ => True) c 0 () (by omega) trivial ?_ ?_
  · intro m _ _
    exact pk_le c c (fun _ => hn) (fun z => absurd z (by omega))
  · intro m k _ hk _ hw
    have nx := nm_r (P := fun y => wX_findThere_2 post (nI i) le ck iv dn sn ls wc iw tr tf en tk (nI c) lv ce sc gv pc a1 a2 a3 a4 a5 a6 a7 a8 a9 a10 a11 a12 a13 a14 a15 a16 a17 a18 a19 a20 a21 a22 a23 a24 a25 a26 a27 a28 a29 a30 m y) (nI_1 k) (hw () trivial)
    refine pk_le c k (fun z => absurd z (by omega)) (fun _ => ⟨pk_in k 24 (by omega), pk_in i 240 hi, ?_⟩)
    rw [nI_clamp (show i < 2 ^ 31 by omega), nI_clamp (show k < 2 ^ 31 by omega)]
    refine br_c (fun z1 => ⟨pk_in k 24 (by omega), pk_in i 240 hi, br_c (fun z2 => ⟨pk_in k 24 (by omega), pk_in i 240 hi, br_c (fun z3 => ⟨pk_in i 240 hi, br_c (fun z4 => ⟨pk_in k 24 (by omega), hp k hk z1 z2 z3 (Or.inl z4)⟩) (fun z4 => ⟨pk_in k 24 (by omega), pk_in i 240 hi, br_c (fun z5 => ⟨pk_in k 24 (by omega), hp k hk z1 z2 z3 (Or.inr z5)⟩) (fun _ => nx)⟩)⟩) (fun _ => nx)⟩) (fun _ => nx)⟩) (fun _ => nx)
theorem kn_rem {post : St1 → Prop} {c i : Nat} (hc : c ≤ 24) (hi : i < 240) (h : kn_sh (a7 i) (a9 i) (a10 i) (a8 i)) (hn : post (le, ck, iv, dn, sn, ls, wc, iw, tr, tf, en, tk, nI c, lv, ce, sc, gv, pc, a1, a2, a3, a4, a5, a6, a7, a8, a9, a10, a11, a12, a13, a14, a15, a16, a17, a18, a19, a20, a21, a22, a23, a24, a25, a26, a27, a28, a29, a30))
    (hp : c < 24 → post (le, ck, iv, dn, sn, ls, wc, iw, tr, tf, en, tk, nI (c + 1), lv, ce, sc, gv, pc, a1, a2, a3, a4, a5, a6, a7, a8, a9, a10, a11, a12, a13, a14, a15, upd a16 c (a7 i), upd a17 c (a9 i), upd a18 c (a10 i), upd a19 c (a11 i), upd a20 c (a8 i), a21, a22, a23, a24, a25, a26, a27, a28, a29, a30)) : wpX_remember post (le, ck, iv, dn, sn, ls, wc, iw, tr, tf, en, tk, nI c, lv, ce, sc, gv, pc, a1, a2, a3, a4, a5, a6, a7, a8, a9, a10, a11, a12, a13, a14, a15, a16, a17, a18, a19, a20, a21, a22, a23, a24, a25, a26, a27, a28, a29, a30) (nI i) := by
  obtain ⟨j, j1, j2, ej⟩ := kn_shO h
  unfold wpX_remember
  show _ ∧ _
  rw [nI_clamp (show i < 2 ^ 31 by omega), nI_clamp (show c < 2 ^ 31 by omega)]
  exact pk_lt c 24 (fun g => ⟨pk_in i 240 hi, pk_in c 24 g, nm_r (congrArg (upd a16 c) (zp_narO ej (by omega))) ⟨pk_in i 240 hi, pk_in c 24 g, nm_r (congrArg (upd a17 c) (zp_Vnar (kn_shA h))) ⟨pk_in i 240 hi, pk_in c 24 g, nm_r (congrArg (upd a18 c) (zp_nar' (kn_shB h))) ⟨pk_in i 240 hi, pk_in c 24 g, nm_e ⟨pk_in i 240 hi, pk_in c 24 g, nm_r (congrArg (upd a20 c) (zp_Vnar h.1)) (nm_r (nI_1 c) (hp g))⟩⟩⟩⟩⟩) (fun _ => hn)
theorem bc_ok {post : St1 → Prop} {i : Nat} {o f k o' f' : Int32} (hi : i < 240) (eo : o.toInt8.toInt32 = o') (ef : f.toInt8.toInt32 = f')
    (hp : post (le, ck, iv, dn, sn, ls, wc, iw, tr, tf, en, tk, tc, lv, ce, sc, gv, pc, a1, a2, a3, a4, a5, a6, upd a7 i o', a8, upd a9 i f', upd a10 i (-1), upd a11 i k, a12, a13, a14, a15, a16, a17, a18, a19, a20, a21, a22, a23, a24, a25, a26, a27, a28, a29, a30)) : wpX_become post (le, ck, iv, dn, sn, ls, wc, iw, tr, tf, en, tk, tc, lv, ce, sc, gv, pc, a1, a2, a3, a4, a5, a6, a7, a8, a9, a10, a11, a12, a13, a14, a15, a16, a17, a18, a19, a20, a21, a22, a23, a24, a25, a26, a27, a28, a29, a30) (nI i) o f k := by
  subst eo ef
  unfold wpX_become
  show _ ∧ _
  rw [nI_clamp (show i < 2 ^ 31 by omega)]
  exact ⟨pk_in i 240 hi, nm_e ⟨pk_in i 240 hi, nm_e ⟨pk_in i 240 hi, nm_e ⟨pk_in i 240 hi, nm_e hp⟩⟩⟩⟩
end
end
section
/-! simplify -/
def sg_vq (q : zp_Op) (e : Nat → Int32) : Int32 := sg_vl q.1 q.2.2.1 q.2.2.2.1 q.2.2.2.2 e
/-- B is A but for place i, where q stands -/
def sv_ch (A B : Nat → zp_Op) (i : Nat) (q : zp_Op) : Prop := B i = q ∧ ∀ j, j ≠ i → B j = A j
theorem sv_r (A : Nat → zp_Op) (i : Nat) : sv_ch A A i (A i) := ⟨rfl, fun _ _ => rfl⟩
theorem sv_t {A B C : Nat → zp_Op} {i : Nat} {q r : zp_Op} (h : sv_ch A B i q) (g : sv_ch B C i r) : sv_ch A C i r := ⟨g.1, fun j hj => (g.2 j hj).trans (h.2 j hj)⟩
theorem sv_bc {a7 a8 a9 a10 a11 : Nat → Int32} {i : Nat} {o f s k : Int32} : sv_ch (zp_at a7 a8 a9 a10 a11) (zp_at (upd a7 i o) a8 (upd a9 i f) (upd a10 i s) (upd a11 i k)) i (o, a8 i, f, s, k) := by
  refine ⟨?_, fun j hj => ?_⟩
  · unfold zp_at
    rw [pk_us, pk_us, pk_us, pk_us]
  · unfold zp_at
    rw [pk_un hj, pk_un hj, pk_un hj, pk_un hj]
theorem sv_fs {a7 a8 a9 a10 a11 : Nat → Int32} {i : Nat} {f s : Int32} : sv_ch (zp_at a7 a8 a9 a10 a11) (zp_at a7 a8 (upd a9 i f) (upd a10 i s) a11) i (a7 i, a8 i, f, s, a11 i) := by
  refine ⟨?_, fun j hj => ?_⟩
  · unfold zp_at
    rw [pk_us, pk_us]
  · unfold zp_at
    rw [pk_un hj, pk_un hj]
theorem vq_1 (m k : Int32) (e : Nat → Int32) : sg_vq (1, m, -1, -1, k) e = k := by unfold sg_vq sg_vl; rw [if_pos rfl]
theorem vq_2 {f : Nat} (hf : f < 11) (m k : Int32) (e : Nat → Int32) : sg_vq (2, m, nI f, -1, k) e = e f := by
  unfold sg_vq sg_vl
  rw [if_neg (by show ¬ (2 : Int32) = 1; decide), if_pos rfl]
  show e (nI f).toNatClampNeg = e f
  rw [nI_clamp (by omega)]
theorem vq_b {j f : Nat} (j1 : 3 ≤ j) (j2 : j ≤ 12) (hf : f < 11) (m s k : Int32) (e : Nat → Int32) : sg_vq (nI j, m, nI f, s, k) e = sg_cb (nI j) (e f) (if s < 0 then k else e s.toNatClampNeg) := by
  unfold sg_vq
  rw [sg_vlb j1 j2]
  show sg_cb (nI j) (e (nI f).toNatClampNeg) _ = _
  rw [nI_clamp (by omega)]
theorem zp_p1 {m k : Int32} (hm : zp_V m) : zp_pl (1, m, -1, -1, k) := ⟨hm, Or.inl ⟨rfl, rfl, rfl⟩⟩
theorem zp_p2 {m k : Int32} {f : Nat} (hm : zp_V m) (hf : f < 11) : zp_pl (2, m, nI f, -1, k) := ⟨hm, Or.inr (Or.inl ⟨rfl, zp_Vd hf, rfl⟩)⟩
theorem zp_pb {m k s : Int32} {j f : Nat} (hm : zp_V m) (j1 : 3 ≤ j) (j2 : j ≤ 12) (hf : f < 11) (hs : zp_V s ∨ (s = -1 ∧ zp_small k)) : zp_pl (nI j, m, nI f, s, k) := ⟨hm, Or.inr (Or.inr (Or.inr ⟨⟨j, j1, j2, rfl⟩, zp_Vd hf, hs⟩))⟩
section
variable {le ck iv dn sn ls wc tr tf en tk tc lv ce sc gv pc : Int32} {iw : Int64} {a1 a2 a3 a4 a5 a6 a7 a8 a9 a10 a11 a12 a13 a14 a15 a16 a17 a18 a19 a20 a21 a22 a23 a24 a25 a26 a27 a28 a29 a30 : Nat → Int32}
theorem sk_ok {post : St1 → Prop} {i j fa : Nat} {z : Int32} (hi : i < 240) (j1 : 3 ≤ j) (j2 : j ≤ 12) (hf : fa < 11)
    (hM : (∀ p, sg_cb (nI j) p z = p) → post (le, ck, iv, dn, sn, ls, wc, iw, tr, tf, en, tk, tc, lv, ce, sc, gv, pc, a1, a2, a3, a4, a5, a6, upd a7 i 2, a8, upd a9 i (nI fa), upd a10 i (-1), upd a11 i 0, a12, a13, a14, a15, a16, a17, a18, a19, a20, a21, a22, a23, a24, a25, a26, a27, a28, a29, a30))
    (hN : (∀ p, sg_cb (nI j) p z = 0) → post (le, ck, iv, dn, sn, ls, wc, iw, tr, tf, en, tk, tc, lv, ce, sc, gv, pc, a1, a2, a3, a4, a5, a6, upd a7 i 1, a8, upd a9 i (-1), upd a10 i (-1), upd a11 i 0, a12, a13, a14, a15, a16, a17, a18, a19, a20, a21, a22, a23, a24, a25, a26, a27, a28, a29, a30))
    (hU : post (le, ck, iv, dn, sn, ls, wc, iw, tr, tf, en, tk, tc, lv, ce, sc, gv, pc, a1, a2, a3, a4, a5, a6, a7, a8, a9, a10, a11, a12, a13, a14, a15, a16, a17, a18, a19, a20, a21, a22, a23, a24, a25, a26, a27, a28, a29, a30)) : wpX_simplifyKnown post (le, ck, iv, dn, sn, ls, wc, iw, tr, tf, en, tk, tc, lv, ce, sc, gv, pc, a1, a2, a3, a4, a5, a6, a7, a8, a9, a10, a11, a12, a13, a14, a15, a16, a17, a18, a19, a20, a21, a22, a23, a24, a25, a26, a27, a28, a29, a30) (nI i) (nI j) (nI fa) z := by
  have s94 : (∀ p, sg_cb (nI j) p z = p) → wX_simplifyKnown_94 post (nI i) (nI fa) le ck iv dn sn ls wc iw tr tf en tk tc lv ce sc gv pc a1 a2 a3 a4 a5 a6 a7 a8 a9 a10 a11 a12 a13 a14 a15 a16 a17 a18 a19 a20 a21 a22 a23 a24 a25 a26 a27 a28 a29 a30 := by
    intro h
    unfold wX_simplifyKnown_94
    exact bc_ok hi (by decide) (bb_b8 fa (by omega)) (hM h)
  have s121 : (∀ p, sg_cb (nI j) p z = 0) → wX_simplifyKnown_121 post (nI i) le ck iv dn sn ls wc iw tr tf en tk tc lv ce sc gv pc a1 a2 a3 a4 a5 a6 a7 a8 a9 a10 a11 a12 a13 a14 a15 a16 a17 a18 a19 a20 a21 a22 a23 a24 a25 a26 a27 a28 a29 a30 := by
    intro h
    unfold wX_simplifyKnown_121
    exact bc_ok hi (by decide) (by decide) (hN h)
  have s105 : wX_simplifyKnown_105 post (nI i) (nI j) z le ck iv dn sn ls wc iw tr tf en tk tc lv ce sc gv pc a1 a2 a3 a4 a5 a6 a7 a8 a9 a10 a11 a12 a13 a14 a15 a16 a17 a18 a19 a20 a21 a22 a23 a24 a25 a26 a27 a28 a29 a30 := by
    unfold wX_simplifyKnown_105
    exact br_c (fun hz => pk_eq j 5 (fun e => s121 (by rw [e, hz]; exact cb_n5)) (fun _ => pk_eq j 6 (fun e => s121 (by rw [e, hz]; exact cb_n6)) (fun _ => hU))) (fun _ => hU)
  have s82 : wX_simplifyKnown_82 post (nI i) (nI j) (nI fa) z le ck iv dn sn ls wc iw tr tf en tk tc lv ce sc gv pc a1 a2 a3 a4 a5 a6 a7 a8 a9 a10 a11 a12 a13 a14 a15 a16 a17 a18 a19 a20 a21 a22 a23 a24 a25 a26 a27 a28 a29 a30 := by
    unfold wX_simplifyKnown_82
    exact pk_eq j 6 (fun e => br_c (fun hz => s94 (by rw [e, hz]; exact cb_k6)) (fun _ => s105)) (fun _ => s105)
  have s71 : wX_simplifyKnown_71 post (nI i) (nI j) (nI fa) z le ck iv dn sn ls wc iw tr tf en tk tc lv ce sc gv pc a1 a2 a3 a4 a5 a6 a7 a8 a9 a10 a11 a12 a13 a14 a15 a16 a17 a18 a19 a20 a21 a22 a23 a24 a25 a26 a27 a28 a29 a30 := by
    unfold wX_simplifyKnown_71
    exact pk_eq j 5 (fun e => br_c (fun hz => s94 (by rw [e, hz]; exact cb_k5)) (fun _ => s82)) (fun _ => s82)
  have s58 : ∀ x6 : Int32, (¬ x6 = 0 → j = 9 ∨ j = 10) → wX_simplifyKnown_58 post (nI i) (nI j) (nI fa) z x6 le ck iv dn sn ls wc iw tr tf en tk tc lv ce sc gv pc a1 a2 a3 a4 a5 a6 a7 a8 a9 a10 a11 a12 a13 a14 a15 a16 a17 a18 a19 a20 a21 a22 a23 a24 a25 a26 a27 a28 a29 a30 := by
    intro x6 h6
    unfold wX_simplifyKnown_58
    refine br_c (fun _ => s71) (fun h => br_c (fun hz => s94 ?_) (fun _ => s71))
    rcases h6 h with e | e
    · rw [e]
      exact cb_k9 hz
    · rw [e]
      exact cb_k10 hz
  have s46 : ∀ x5 x6 : Int32, (¬ x5 = 0 → j = 3 ∨ j = 4 ∨ j = 7 ∨ j = 8) → (¬ x6 = 0 → j = 9 ∨ j = 10) → wX_simplifyKnown_46 post (nI i) (nI j) (nI fa) z x5 x6 le ck iv dn sn ls wc iw tr tf en tk tc lv ce sc gv pc a1 a2 a3 a4 a5 a6 a7 a8 a9 a10 a11 a12 a13 a14 a15 a16 a17 a18 a19 a20 a21 a22 a23 a24 a25 a26 a27 a28 a29 a30 := by
    intro x5 x6 h5 h6
    unfold wX_simplifyKnown_46
    refine br_c (fun hz => br_c (fun _ => s58 x6 h6) (fun h => s94 ?_)) (fun _ => s58 x6 h6)
    rw [hz]
    rcases h5 h with e | e | e | e
    · rw [e]
      exact cb_k3
    · rw [e]
      exact cb_k4
    · rw [e]
      exact cb_k7
    · rw [e]
      exact cb_k8
  have s27 : ∀ x5 : Int32, (¬ x5 = 0 → j = 3 ∨ j = 4 ∨ j = 7 ∨ j = 8) → wX_simplifyKnown_27 post (nI i) (nI j) (nI fa) z x5 le ck iv dn sn ls wc iw tr tf en tk tc lv ce sc gv pc a1 a2 a3 a4 a5 a6 a7 a8 a9 a10 a11 a12 a13 a14 a15 a16 a17 a18 a19 a20 a21 a22 a23 a24 a25 a26 a27 a28 a29 a30 := by
    intro x5 h5
    unfold wX_simplifyKnown_27
    refine pk_eq j 9 (fun e => ?_) (fun _ => pk_eq j 10 (fun e => ?_) (fun _ => s46 x5 0 h5 (fun z => absurd rfl z)))
    · unfold wX_simplifyKnown_41
      exact s46 x5 1 h5 (fun _ => Or.inl e)
    · unfold wX_simplifyKnown_41
      exact s46 x5 1 h5 (fun _ => Or.inr e)
  have s22 : (j = 3 ∨ j = 4 ∨ j = 7 ∨ j = 8) → wX_simplifyKnown_22 post (nI i) (nI j) (nI fa) z le ck iv dn sn ls wc iw tr tf en tk tc lv ce sc gv pc a1 a2 a3 a4 a5 a6 a7 a8 a9 a10 a11 a12 a13 a14 a15 a16 a17 a18 a19 a20 a21 a22 a23 a24 a25 a26 a27 a28 a29 a30 := by
    intro h
    unfold wX_simplifyKnown_22
    exact s27 1 (fun _ => h)
  unfold wpX_simplifyKnown
  exact pk_eq j 3 (fun e => s22 (by omega)) (fun _ => pk_eq j 4 (fun e => s22 (by omega)) (fun _ => pk_eq j 7 (fun e => s22 (by omega)) (fun _ => pk_eq j 8 (fun e => s22 (by omega)) (fun _ => s27 0 (fun z => absurd rfl z)))))
theorem se_ok {post : St1 → Prop} {i j fa : Nat} (hi : i < 240) (j1 : 3 ≤ j) (j2 : j ≤ 12) (hf : fa < 11)
    (hM : (∀ p, sg_cb (nI j) p p = p) → post (le, ck, iv, dn, sn, ls, wc, iw, tr, tf, en, tk, tc, lv, ce, sc, gv, pc, a1, a2, a3, a4, a5, a6, upd a7 i 2, a8, upd a9 i (nI fa), upd a10 i (-1), upd a11 i 0, a12, a13, a14, a15, a16, a17, a18, a19, a20, a21, a22, a23, a24, a25, a26, a27, a28, a29, a30))
    (hN : ∀ k : Int32, (∀ p, sg_cb (nI j) p p = k) → post (le, ck, iv, dn, sn, ls, wc, iw, tr, tf, en, tk, tc, lv, ce, sc, gv, pc, a1, a2, a3, a4, a5, a6, upd a7 i 1, a8, upd a9 i (-1), upd a10 i (-1), upd a11 i k, a12, a13, a14, a15, a16, a17, a18, a19, a20, a21, a22, a23, a24, a25, a26, a27, a28, a29, a30))
    (hU : post (le, ck, iv, dn, sn, ls, wc, iw, tr, tf, en, tk, tc, lv, ce, sc, gv, pc, a1, a2, a3, a4, a5, a6, a7, a8, a9, a10, a11, a12, a13, a14, a15, a16, a17, a18, a19, a20, a21, a22, a23, a24, a25, a26, a27, a28, a29, a30)) : wpX_simplifyEqual post (le, ck, iv, dn, sn, ls, wc, iw, tr, tf, en, tk, tc, lv, ce, sc, gv, pc, a1, a2, a3, a4, a5, a6, a7, a8, a9, a10, a11, a12, a13, a14, a15, a16, a17, a18, a19, a20, a21, a22, a23, a24, a25, a26, a27, a28, a29, a30) (nI i) (nI j) (nI fa) := by
  have s17 : (∀ p, sg_cb (nI j) p p = 0) → wX_simplifyEqual_17 post (nI i) le ck iv dn sn ls wc iw tr tf en tk tc lv ce sc gv pc a1 a2 a3 a4 a5 a6 a7 a8 a9 a10 a11 a12 a13 a14 a15 a16 a17 a18 a19 a20 a21 a22 a23 a24 a25 a26 a27 a28 a29 a30 := by
    intro h
    unfold wX_simplifyEqual_17
    exact bc_ok hi (by decide) (by decide) (hN 0 h)
  have s57 : (∀ p, sg_cb (nI j) p p = p) → wX_simplifyEqual_57 post (nI i) (nI fa) le ck iv dn sn ls wc iw tr tf en tk tc lv ce sc gv pc a1 a2 a3 a4 a5 a6 a7 a8 a9 a10 a11 a12 a13 a14 a15 a16 a17 a18 a19 a20 a21 a22 a23 a24 a25 a26 a27 a28 a29 a30 := by
    intro h
    unfold wX_simplifyEqual_57
    exact bc_ok hi (by decide) (bb_b8 fa (by omega)) (hM h)
  unfold wpX_simplifyEqual
  exact pk_eq j 4 (fun e => s17 (by rw [e]; exact cb_e4)) (fun _ => pk_eq j 8 (fun e => s17 (by rw [e]; exact cb_e8)) (fun _ => pk_eq j 11 (fun e => s17 (by rw [e]; exact cb_e11)) (fun _ => pk_eq j 12 (fun e => bc_ok hi (by decide) (by decide) (hN 1 (by rw [e]; exact cb_e12))) (fun _ => pk_eq j 6 (fun e => s57 (by rw [e]; exact cb_e6)) (fun _ => pk_eq j 7 (fun e => s57 (by rw [e]; exact cb_e7)) (fun _ => hU))))))
theorem is_ok {post : Int32 → Prop} {z : Int32} (h1 : zp_small z → post 1) (h0 : ¬ zp_small z → post 0) : wpX_isSmall post (le, ck, iv, dn, sn, ls, wc, iw, tr, tf, en, tk, tc, lv, ce, sc, gv, pc, a1, a2, a3, a4, a5, a6, a7, a8, a9, a10, a11, a12, a13, a14, a15, a16, a17, a18, a19, a20, a21, a22, a23, a24, a25, a26, a27, a28, a29, a30) z := by
  unfold wpX_isSmall
  exact br_c (fun h => h0 (fun q => q.1 h)) (fun h => br_c (fun g => h0 (fun q => q.2 g)) (fun g => h1 ⟨h, g⟩))
theorem cp_ok {post : Int32 → Prop} {j : Nat} (hj : j < 40) (h1 : (j = 3 ∨ j = 5 ∨ j = 6 ∨ j = 7 ∨ j = 8 ∨ j = 12) → post 1) (h0 : post 0) : wpX_changesPlaces post (le, ck, iv, dn, sn, ls, wc, iw, tr, tf, en, tk, tc, lv, ce, sc, gv, pc, a1, a2, a3, a4, a5, a6, a7, a8, a9, a10, a11, a12, a13, a14, a15, a16, a17, a18, a19, a20, a21, a22, a23, a24, a25, a26, a27, a28, a29, a30) (nI j) := by
  have s22 : wX_changesPlaces_22 post (nI j) le ck iv dn sn ls wc iw tr tf en tk tc lv ce sc gv pc a1 a2 a3 a4 a5 a6 a7 a8 a9 a10 a11 a12 a13 a14 a15 a16 a17 a18 a19 a20 a21 a22 a23 a24 a25 a26 a27 a28 a29 a30 := by
    unfold wX_changesPlaces_22
    exact pk_eq j 12 (fun e => h1 (by omega)) (fun _ => h0)
  unfold wpX_changesPlaces
  exact pk_eq j 3 (fun e => h1 (by omega)) (fun _ => pk_eq j 5 (fun e => h1 (by omega)) (fun _ => pk_lt j 6 (fun _ => s22) (fun _ => pk_le j 8 (fun _ => h1 (by omega)) (fun _ => s22))))
/-- an operation with a known second value -/
theorem sm_218 {post : St1 → Prop} {i j fa : Nat} {z : Int32} {K : (Nat → Int32) → Prop} {V : (Nat → Int32) → Int32} (hi : i < 240) (j1 : 3 ≤ j) (j2 : j ≤ 12) (hf : fa < 11)
    (hpl : zp_pl (zp_at a7 a8 a9 a10 a11 i)) (hv : ∀ e, K e → sg_vq (zp_at a7 a8 a9 a10 a11 i) e = V e) (hz : ∀ e, K e → V e = sg_cb (nI j) (e fa) z)
    (hp : ∀ b7 b9 b10 b11 q, sv_ch (zp_at a7 a8 a9 a10 a11) (zp_at b7 a8 b9 b10 b11) i q → zp_pl q → q.2.1 = a8 i → (∀ e, K e → sg_vq q e = V e) → post (le, ck, iv, dn, sn, ls, wc, iw, tr, tf, en, tk, tc, lv, ce, sc, gv, pc, a1, a2, a3, a4, a5, a6, b7, a8, b9, b10, b11, a12, a13, a14, a15, a16, a17, a18, a19, a20, a21, a22, a23, a24, a25, a26, a27, a28, a29, a30)) :
    wX_simplify_218 post (nI i) (nI j) (nI fa) z le ck iv dn sn ls wc iw tr tf en tk tc lv ce sc gv pc a1 a2 a3 a4 a5 a6 a7 a8 a9 a10 a11 a12 a13 a14 a15 a16 a17 a18 a19 a20 a21 a22 a23 a24 a25 a26 a27 a28 a29 a30 := by
  unfold wX_simplify_218
  refine sk_ok hi j1 j2 hf (fun h => hp _ _ _ _ _ sv_bc (zp_p2 hpl.1 hf) rfl (fun e he => ?_)) (fun h => hp _ _ _ _ _ sv_bc (zp_p1 hpl.1) rfl (fun e he => ?_)) (hp a7 a9 a10 a11 _ (sv_r _ i) hpl rfl hv)
  · rw [vq_2 hf, hz e he, h]
  · rw [vq_1, hz e he, h]
theorem sm_198 {post : St1 → Prop} {i j fa : Nat} {z : Int32} {K : (Nat → Int32) → Prop} {V : (Nat → Int32) → Int32} (hi : i < 240) (j1 : 3 ≤ j) (j2 : j ≤ 12) (hf : fa < 11)
    (hpl : zp_pl (zp_at a7 a8 a9 a10 a11 i)) (hv : ∀ e, K e → sg_vq (zp_at a7 a8 a9 a10 a11 i) e = V e) (hz : ∀ e, K e → V e = sg_cb (nI j) (e fa) z)
    (hp : ∀ b7 b9 b10 b11 q, sv_ch (zp_at a7 a8 a9 a10 a11) (zp_at b7 a8 b9 b10 b11) i q → zp_pl q → q.2.1 = a8 i → (∀ e, K e → sg_vq q e = V e) → post (le, ck, iv, dn, sn, ls, wc, iw, tr, tf, en, tk, tc, lv, ce, sc, gv, pc, a1, a2, a3, a4, a5, a6, b7, a8, b9, b10, b11, a12, a13, a14, a15, a16, a17, a18, a19, a20, a21, a22, a23, a24, a25, a26, a27, a28, a29, a30)) :
    wX_simplify_198 post (nI i) (nI j) (nI fa) z le ck iv dn sn ls wc iw tr tf en tk tc lv ce sc gv pc a1 a2 a3 a4 a5 a6 a7 a8 a9 a10 a11 a12 a13 a14 a15 a16 a17 a18 a19 a20 a21 a22 a23 a24 a25 a26 a27 a28 a29 a30 := by
  unfold wX_simplify_198
  refine is_ok (fun sm => br_f (by decide) (bc_ok hi (bb_b8 j (by omega)) (bb_b8 fa (by omega)) ?_)) (fun _ => br_t rfl (sm_218 hi j1 j2 hf hpl hv hz hp))
  have ch : sv_ch (zp_at a7 a8 a9 a10 a11) (zp_at (upd a7 i (nI j)) a8 (upd a9 i (nI fa)) (upd a10 i (-1)) (upd a11 i z)) i (nI j, a8 i, nI fa, -1, z) := sv_bc
  refine sm_218 (K := K) (V := V) hi j1 j2 hf ?_ (fun e he => ?_) hz (fun b7 b9 b10 b11 q c1 c2 c3 c4 => hp b7 b9 b10 b11 q (sv_t ch c1) c2 c3 c4)
  · rw [ch.1]
    exact zp_pb hpl.1 j1 j2 hf (Or.inr ⟨rfl, sm⟩)
  · rw [ch.1, vq_b j1 j2 hf, if_pos bb_neg', hz e he]
/-- the second value unknown: x5 = 0; known: x5 = 1 -/
theorem sm_158 {post : St1 → Prop} {i j fa : Nat} {s x5 : Int32} {K : (Nat → Int32) → Prop} {V : (Nat → Int32) → Int32} (hi : i < 240) (j1 : 3 ≤ j) (j2 : j ≤ 12) (hf : fa < 11)
    (ea : zp_at a7 a8 a9 a10 a11 i = (nI j, a8 i, nI fa, s, a11 i)) (hpl : zp_pl (zp_at a7 a8 a9 a10 a11 i)) (hv : ∀ e, K e → sg_vq (zp_at a7 a8 a9 a10 a11 i) e = V e)
    (hk : ∀ e, K e → ∀ v, v < 11 → a13 v ≠ 0 → e v = a14 v) (h5 : ¬ x5 = 0 → s = -1 ∨ ∃ sb : Nat, sb < 11 ∧ s = nI sb ∧ a13 sb ≠ 0)
    (hp : ∀ b7 b9 b10 b11 q, sv_ch (zp_at a7 a8 a9 a10 a11) (zp_at b7 a8 b9 b10 b11) i q → zp_pl q → q.2.1 = a8 i → (∀ e, K e → sg_vq q e = V e) → post (le, ck, iv, dn, sn, ls, wc, iw, tr, tf, en, tk, tc, lv, ce, sc, gv, pc, a1, a2, a3, a4, a5, a6, b7, a8, b9, b10, b11, a12, a13, a14, a15, a16, a17, a18, a19, a20, a21, a22, a23, a24, a25, a26, a27, a28, a29, a30)) :
    wX_simplify_158 post (nI i) (nI j) (nI fa) s x5 le ck iv dn sn ls wc iw tr tf en tk tc lv ce sc gv pc a1 a2 a3 a4 a5 a6 a7 a8 a9 a10 a11 a12 a13 a14 a15 a16 a17 a18 a19 a20 a21 a22 a23 a24 a25 a26 a27 a28 a29 a30 := by
  have hv2 : ∀ e, K e → V e = sg_cb (nI j) (e fa) (if s < 0 then a11 i else e s.toNatClampNeg) := by
    intro e he
    rw [← hv e he, ea, vq_b j1 j2 hf]
  unfold wX_simplify_158
  refine br_c (fun _ => br_c (fun es => ?_) (fun _ => hp a7 a9 a10 a11 _ (sv_r _ i) hpl rfl hv)) (fun h => ?_)
  · subst es
    have hv3 : ∀ e, K e → V e = sg_cb (nI j) (e fa) (e fa) := by
      intro e he
      rw [hv2 e he, if_neg (nI_pos (by omega)), nI_clamp (by omega)]
    refine se_ok hi j1 j2 hf (fun h => hp _ _ _ _ _ sv_bc (zp_p2 hpl.1 hf) rfl (fun e he => ?_)) (fun k h => hp _ _ _ _ _ sv_bc (zp_p1 hpl.1) rfl (fun e he => ?_)) (hp a7 a9 a10 a11 _ (sv_r _ i) hpl rfl hv)
    · rw [vq_2 hf, hv3 e he, h]
    · rw [vq_1, hv3 e he, h]
  · rcases h5 h with es | ⟨sb, hsb, es, hkb⟩
    · subst es
      rw [nI_clamp (show i < 2 ^ 31 by omega)]
      exact br_f bb_neg ⟨pk_in i 240 hi, sm_198 hi j1 j2 hf hpl hv (fun e he => by rw [hv2 e he, if_pos bb_neg']) hp⟩
    · subst es
      rw [nI_clamp (show sb < 2 ^ 31 by omega)]
      exact br_t (nI_pos' (by omega)) ⟨pk_in sb 11 hsb, sm_198 hi j1 j2 hf hpl hv (fun e he => by rw [hv2 e he, if_neg (nI_pos (by omega)), nI_clamp (by omega), hk e he sb hsb hkb]) hp⟩
theorem sm_106 {post : St1 → Prop} {i j fa : Nat} {s x5 : Int32} {K : (Nat → Int32) → Prop} {V : (Nat → Int32) → Int32} (hi : i < 240) (j1 : 3 ≤ j) (j2 : j ≤ 12) (hf : fa < 11)
    (ea : zp_at a7 a8 a9 a10 a11 i = (nI j, a8 i, nI fa, s, a11 i)) (hpl : zp_pl (zp_at a7 a8 a9 a10 a11 i)) (hv : ∀ e, K e → sg_vq (zp_at a7 a8 a9 a10 a11 i) e = V e)
    (hk : ∀ e, K e → ∀ v, v < 11 → a13 v ≠ 0 → e v = a14 v) (h5 : ¬ x5 = 0 → s = -1 ∨ ∃ sb : Nat, sb < 11 ∧ s = nI sb ∧ a13 sb ≠ 0) (hb : a13 fa ≠ 0 → ∃ sb : Nat, sb < 11 ∧ s = nI sb)
    (hp : ∀ b7 b9 b10 b11 q, sv_ch (zp_at a7 a8 a9 a10 a11) (zp_at b7 a8 b9 b10 b11) i q → zp_pl q → q.2.1 = a8 i → (∀ e, K e → sg_vq q e = V e) → post (le, ck, iv, dn, sn, ls, wc, iw, tr, tf, en, tk, tc, lv, ce, sc, gv, pc, a1, a2, a3, a4, a5, a6, b7, a8, b9, b10, b11, a12, a13, a14, a15, a16, a17, a18, a19, a20, a21, a22, a23, a24, a25, a26, a27, a28, a29, a30)) :
    wX_simplify_106 post (nI i) (nI j) (nI fa) s x5 le ck iv dn sn ls wc iw tr tf en tk tc lv ce sc gv pc a1 a2 a3 a4 a5 a6 a7 a8 a9 a10 a11 a12 a13 a14 a15 a16 a17 a18 a19 a20 a21 a22 a23 a24 a25 a26 a27 a28 a29 a30 := by
  have base := sm_158 hi j1 j2 hf ea hpl hv hk h5 hp
  unfold wX_simplify_106
  rw [nI_clamp (show fa < 2 ^ 31 by omega)]
  refine ⟨pk_in fa 11 hf, br_c (fun _ => base) (fun hka => cp_ok (by omega) (fun hc => br_f (by decide) ?_) (br_t rfl base))⟩
  obtain ⟨sb, hsb, es⟩ := hb hka
  subst es
  rw [nI_clamp (show i < 2 ^ 31 by omega)]
  refine ⟨pk_in i 240 hi, nm_r (congrArg (upd a9 i) (bb_b8 sb (by omega))) ⟨pk_in i 240 hi, nm_r (congrArg (upd a10 i) (bb_b8 fa (by omega))) ⟨pk_in i 240 hi, nm_r (pk_us (x := nI sb)) ⟨pk_in i 240 hi, nm_r (pk_us (x := nI fa)) ?_⟩⟩⟩⟩
  have ch : sv_ch (zp_at a7 a8 a9 a10 a11) (zp_at a7 a8 (upd a9 i (nI sb)) (upd a10 i (nI fa)) a11) i (a7 i, a8 i, nI sb, nI fa, a11 i) := sv_fs
  have e7 : a7 i = nI j := congrArg (fun r : zp_Op => r.1) ea
  rw [e7] at ch
  refine sm_158 (K := K) (V := V) hi j1 j2 hsb ch.1 ?_ (fun e he => ?_) hk (fun _ => Or.inr ⟨fa, hf, rfl, hka⟩) (fun b7 b9 b10 b11 q c1 c2 c3 c4 => hp b7 b9 b10 b11 q (sv_t ch c1) c2 c3 c4)
  · rw [ch.1]
    exact zp_pb hpl.1 j1 j2 hsb (Or.inl (zp_Vd hf))
  · rw [ch.1, vq_b j1 j2 hsb, if_neg (nI_pos (by omega)), nI_clamp (by omega), ← hv e he, ea, vq_b j1 j2 hf, if_neg (nI_pos (by omega)), nI_clamp (by omega)]
    exact cb_comm hc _ _
theorem sm_ok {post : St1 → Prop} {i : Nat} {K : (Nat → Int32) → Prop} {V : (Nat → Int32) → Int32} (hi : i < 240)
    (hpl : zp_pl (zp_at a7 a8 a9 a10 a11 i)) (hj : ∃ j : Nat, 3 ≤ j ∧ j ≤ 12 ∧ a7 i = nI j) (hv : ∀ e, K e → sg_vq (zp_at a7 a8 a9 a10 a11 i) e = V e)
    (hk : ∀ e, K e → ∀ v, v < 11 → a13 v ≠ 0 → e v = a14 v)
    (hp : ∀ b7 b9 b10 b11 q, sv_ch (zp_at a7 a8 a9 a10 a11) (zp_at b7 a8 b9 b10 b11) i q → zp_pl q → q.2.1 = a8 i → (∀ e, K e → sg_vq q e = V e) → post (le, ck, iv, dn, sn, ls, wc, iw, tr, tf, en, tk, tc, lv, ce, sc, gv, pc, a1, a2, a3, a4, a5, a6, b7, a8, b9, b10, b11, a12, a13, a14, a15, a16, a17, a18, a19, a20, a21, a22, a23, a24, a25, a26, a27, a28, a29, a30)) :
    wpX_simplify post (le, ck, iv, dn, sn, ls, wc, iw, tr, tf, en, tk, tc, lv, ce, sc, gv, pc, a1, a2, a3, a4, a5, a6, a7, a8, a9, a10, a11, a12, a13, a14, a15, a16, a17, a18, a19, a20, a21, a22, a23, a24, a25, a26, a27, a28, a29, a30) (nI i) := by
  obtain ⟨j, j1, j2, ej⟩ := hj
  obtain ⟨fa, hf, ef⟩ : zp_V (a9 i) := by
    rcases hpl.2 with h | h | h | h
    · exact absurd (ej.symm.trans h.1) ((by decide +kernel : ∀ j, j < 13 → 3 ≤ j → ¬ nI j = 1) j (by omega) j1)
    · exact h.2.1
    · exact h.2.1
    · exact h.2.1
  have es : zp_V (a10 i) ∨ a10 i = -1 := zp_plS hpl
  have ea : zp_at a7 a8 a9 a10 a11 i = (nI j, a8 i, nI fa, a10 i, a11 i) := by unfold zp_at; rw [ej, ef]
  have s79 : ∀ z, (∀ e, K e → V e = sg_cb (nI j) (a14 fa) z) → wX_simplify_79 post (nI i) (nI j) (nI fa) z le ck iv dn sn ls wc iw tr tf en tk tc lv ce sc gv pc a1 a2 a3 a4 a5 a6 a7 a8 a9 a10 a11 a12 a13 a14 a15 a16 a17 a18 a19 a20 a21 a22 a23 a24 a25 a26 a27 a28 a29 a30 := by
    intro z hz
    unfold wX_simplify_79
    rw [nI_clamp (show fa < 2 ^ 31 by omega)]
    refine ⟨pk_in fa 11 hf, cb_ok j1 j2 (bc_ok hi (by decide) (by decide) (hp _ _ _ _ _ sv_bc (zp_p1 hpl.1) rfl (fun e he => ?_)))⟩
    rw [vq_1, hz e he]
  have s42 : ∀ x5 : Int32, (¬ x5 = 0 → a10 i = -1 ∨ ∃ sb : Nat, sb < 11 ∧ a10 i = nI sb ∧ a13 sb ≠ 0) → (x5 = 0 → ∃ sb : Nat, sb < 11 ∧ a10 i = nI sb) → wX_simplify_42 post (nI i) (nI j) (nI fa) (a10 i) x5 le ck iv dn sn ls wc iw tr tf en tk tc lv ce sc gv pc a1 a2 a3 a4 a5 a6 a7 a8 a9 a10 a11 a12 a13 a14 a15 a16 a17 a18 a19 a20 a21 a22 a23 a24 a25 a26 a27 a28 a29 a30 := by
    intro x5 h5 h50
    unfold wX_simplify_42
    rw [nI_clamp (show fa < 2 ^ 31 by omega)]
    refine ⟨pk_in fa 11 hf, br_c (fun hk0 => sm_106 hi j1 j2 hf ea hpl hv hk h5 (fun z => absurd hk0 z) hp) (fun hka => br_c (fun hx => sm_106 hi j1 j2 hf ea hpl hv hk h5 (fun _ => h50 hx) hp) (fun hx => ?_))⟩
    rcases h5 hx with e | ⟨sb, hsb, e, hkb⟩
    · rw [e, nI_clamp (show i < 2 ^ 31 by omega)]
      refine br_f bb_neg ⟨pk_in i 240 hi, s79 _ (fun x hx => ?_)⟩
      rw [← hv x hx, ea, vq_b j1 j2 hf, e, if_pos bb_neg', hk x hx fa hf hka]
    · rw [e, nI_clamp (show sb < 2 ^ 31 by omega)]
      refine br_t (nI_pos' (by omega)) ⟨pk_in sb 11 hsb, s79 _ (fun x hx => ?_)⟩
      rw [← hv x hx, ea, vq_b j1 j2 hf, e, if_neg (nI_pos (by omega)), nI_clamp (by omega), hk x hx fa hf hka, hk x hx sb hsb hkb]
  unfold wpX_simplify
  show _ ∧ _
  rw [nI_clamp (show i < 2 ^ 31 by omega)]
  refine ⟨pk_in i 240 hi, nm_r ej ⟨pk_in i 240 hi, nm_r ef ⟨pk_in i 240 hi, nm_e ?_⟩⟩⟩
  rcases es with ⟨sb, hsb, e⟩ | e
  · refine br_f (by rw [e]; exact nI_pos (by omega)) ⟨by rw [e]; exact pk_in sb 11 hsb, ?_⟩
    refine br_c (fun h0 => s42 0 (fun z => absurd rfl z) (fun _ => ⟨sb, hsb, e⟩)) (fun h1 => ?_)
    unfold wX_simplify_37
    rw [e, nI_clamp (show sb < 2 ^ 31 by omega)] at h1
    exact s42 1 (fun _ => Or.inr ⟨sb, hsb, e, h1⟩) (fun z => absurd z (by decide))
  · refine br_t (by rw [e]; exact bb_neg') ?_
    unfold wX_simplify_37
    exact s42 1 (fun _ => Or.inl e) (fun z => absurd z (by decide))
end
end
section
/-! shareOne -/
theorem zp_kn {q : zp_Op} (h : zp_pl q) {j : Nat} (j1 : 3 ≤ j) (ej : q.1 = nI j) (j2 : j ≤ 13) : kn_sh q.1 q.2.2.1 q.2.2.2.1 q.2.1 := by
  have ne : ∀ k : Nat, k < 3 → q.1 ≠ nI k := by
    intro k hk z
    rw [ej, nI_eq (by omega) (by omega)] at z
    omega
  refine ⟨h.1, ?_⟩
  rcases h.2 with h | h | h | h
  · exact absurd h.1 (ne 1 (by omega))
  · exact absurd h.1 (ne 2 (by omega))
  · exact Or.inl h
  · refine Or.inr ⟨h.1, h.2.1, ?_⟩
    rcases h.2.2 with g | g
    · exact Or.inl g
    · exact Or.inr g.1
section
variable {le ck iv dn sn ls wc tr tf en tk tc lv ce sc gv pc : Int32} {iw : Int64} {a1 a2 a3 a4 a5 a6 a7 a8 a9 a10 a11 a12 a13 a14 a15 a16 a17 a18 a19 a20 a21 a22 a23 a24 a25 a26 a27 a28 a29 a30 : Nat → Int32}
theorem so_186 {post : St1 → Prop} {i c v : Nat} {x4 x5 : Int32} {K : (Nat → Int32) → Prop} {V : (Nat → Int32) → Int32} (hi : i < 240) (hv : v < 11) (em : a8 i = nI v)
    (hx : ¬ x4 = 0 → ¬ 0 ≤ x5 → kn_sh (a7 i) (a9 i) (a10 i) (a8 i)) (kw : kn_wf a15 (zp_at a16 a17 a18 a19 a20) c) (hval : ∀ e, K e → sg_vl (a7 i) (a9 i) (a10 i) (a11 i) e = V e)
    (hk : ∀ e, K e → kn_s a13 a14 a15 (zp_at a16 a17 a18 a19 a20) c (upd e v (V e)))
    (hp : ∀ d b16 b17 b18 b19 b20, kn_wf a15 (zp_at b16 b17 b18 b19 b20) d → (∀ e, K e → kn_s a13 a14 a15 (zp_at b16 b17 b18 b19 b20) d (upd e v (V e))) → post (le, ck, iv, dn, sn, ls, wc, iw, tr, tf, en, tk, nI d, lv, ce, sc, gv, pc, a1, a2, a3, a4, a5, a6, a7, a8, a9, a10, a11, a12, a13, a14, a15, b16, b17, b18, b19, b20, a21, a22, a23, a24, a25, a26, a27, a28, a29, a30)) :
    wX_shareOne_186 post (nI i) (nI v) x4 x5 le ck iv dn sn ls wc iw tr tf en tk (nI c) lv ce sc gv pc a1 a2 a3 a4 a5 a6 a7 a8 a9 a10 a11 a12 a13 a14 a15 a16 a17 a18 a19 a20 a21 a22 a23 a24 a25 a26 a27 a28 a29 a30 := by
  have base : post (le, ck, iv, dn, sn, ls, wc, iw, tr, tf, en, tk, nI c, lv, ce, sc, gv, pc, a1, a2, a3, a4, a5, a6, a7, a8, a9, a10, a11, a12, a13, a14, a15, a16, a17, a18, a19, a20, a21, a22, a23, a24, a25, a26, a27, a28, a29, a30) := hp c a16 a17 a18 a19 a20 kw hk
  unfold wX_shareOne_186
  rw [nI_clamp (show i < 2 ^ 31 by omega)]
  refine br_c (fun _ => base) (fun h4 => br_c (fun _ => base) (fun h5 => ⟨pk_in i 240 hi, br_c (fun _ => base) (fun hf => ⟨pk_in i 240 hi, br_c (fun _ => base) (fun hs => ?_)⟩)⟩))
  have sh := hx h4 h5
  refine kn_rem kw.1 hi sh base (fun hc => hp _ _ _ _ _ _ ⟨by omega, kw.2.1, fun k hk1 => ?_⟩ (fun e he => ⟨(hk e he).1, (hk e he).2.1, fun k hk1 => ?_⟩))
  · by_cases t : k = c
    · rw [t, zp_ws]
      exact sh
    · rw [zp_wo t]
      exact kw.2.2 k (by omega)
  · by_cases t : k = c
    · rw [t, zp_ws]
      unfold kn_row
      dsimp only
      rw [kn_vl sh hf hs, hval e he, em, nI_clamp (by omega), pk_us]
    · rw [zp_wo t]
      exact (hk e he).2.2 k (by omega)
theorem so_172 {post : St1 → Prop} {i c v : Nat} {x4 x5 x6 : Int32} {K : (Nat → Int32) → Prop} {V : (Nat → Int32) → Int32} (hi : i < 240) (hv : v < 11) (em : a8 i = nI v)
    (hx : ¬ x4 = 0 → ¬ 0 ≤ x5 → kn_sh (a7 i) (a9 i) (a10 i) (a8 i)) (h6 : x6 = -1 ∨ ∃ w : Nat, w < 11 ∧ w ≠ v ∧ x6 = nI w ∧ ∀ e, K e → V e = e w)
    (kw : kn_wf a15 (zp_at a16 a17 a18 a19 a20) c) (hval : ∀ e, K e → sg_vl (a7 i) (a9 i) (a10 i) (a11 i) e = V e)
    (hk : ∀ e, K e → kn_s a13 a14 a15 (zp_at a16 a17 a18 a19 a20) c (upd e v (V e)))
    (hp : ∀ d b15 b16 b17 b18 b19 b20, kn_wf b15 (zp_at b16 b17 b18 b19 b20) d → (∀ e, K e → kn_s a13 a14 b15 (zp_at b16 b17 b18 b19 b20) d (upd e v (V e))) → post (le, ck, iv, dn, sn, ls, wc, iw, tr, tf, en, tk, nI d, lv, ce, sc, gv, pc, a1, a2, a3, a4, a5, a6, a7, a8, a9, a10, a11, a12, a13, a14, b15, b16, b17, b18, b19, b20, a21, a22, a23, a24, a25, a26, a27, a28, a29, a30)) :
    wX_shareOne_172 post (nI i) (nI v) x4 x5 x6 le ck iv dn sn ls wc iw tr tf en tk (nI c) lv ce sc gv pc a1 a2 a3 a4 a5 a6 a7 a8 a9 a10 a11 a12 a13 a14 a15 a16 a17 a18 a19 a20 a21 a22 a23 a24 a25 a26 a27 a28 a29 a30 := by
  unfold wX_shareOne_172
  rcases h6 with e6 | ⟨w, hw, hwv, e6, h6⟩
  · subst e6
    exact br_t bb_neg' (so_186 hi hv em hx kw hval hk (fun d b16 b17 b18 b19 b20 k1 k2 => hp d a15 b16 b17 b18 b19 b20 k1 k2))
  · subst e6
    rw [nI_clamp (show v < 2 ^ 31 by omega)]
    refine br_f (nI_pos (by omega)) ⟨pk_in v 11 hv, nm_r (congrArg (upd a15 v) (bb_b8 w (by omega))) ?_⟩
    refine so_186 hi hv em hx ⟨kw.1, fun u hu => ?_, kw.2.2⟩ hval (fun e he => ⟨(hk e he).1, fun u hu => ?_, (hk e he).2.2⟩) (fun d b16 b17 b18 b19 b20 k1 k2 => hp d _ b16 b17 b18 b19 b20 k1 k2)
    · by_cases t : u = v
      · rw [t, pk_us]
        exact zp_Vd hw
      · rw [pk_un t]
        exact kw.2.1 u hu
    · by_cases t : u = v
      · rw [t, pk_us, pk_us, nI_clamp (by omega), pk_un hwv]
        exact h6 e he
      · rw [pk_un (f := a15) t]
        exact (hk e he).2.1 u hu
theorem so_145 {post : St1 → Prop} {i c v : Nat} {x4 x5 x6 x7 z : Int32} {K : (Nat → Int32) → Prop} {V : (Nat → Int32) → Int32} (hi : i < 240) (hv : v < 11) (em : a8 i = nI v)
    (hx : ¬ x4 = 0 → ¬ 0 ≤ x5 → kn_sh (a7 i) (a9 i) (a10 i) (a8 i)) (h6 : x6 = -1 ∨ ∃ w : Nat, w < 11 ∧ w ≠ v ∧ x6 = nI w ∧ ∀ e, K e → V e = e w) (h7 : ¬ x7 = 0 → ∀ e, K e → V e = z)
    (kw : kn_wf a15 (zp_at a16 a17 a18 a19 a20) c) (hval : ∀ e, K e → sg_vl (a7 i) (a9 i) (a10 i) (a11 i) e = V e)
    (hk : ∀ e, K e → kn_s a13 a14 a15 (zp_at a16 a17 a18 a19 a20) c e)
    (hp : ∀ d b13 b14 b15 b16 b17 b18 b19 b20, kn_wf b15 (zp_at b16 b17 b18 b19 b20) d → (∀ e, K e → kn_s b13 b14 b15 (zp_at b16 b17 b18 b19 b20) d (upd e v (V e))) → post (le, ck, iv, dn, sn, ls, wc, iw, tr, tf, en, tk, nI d, lv, ce, sc, gv, pc, a1, a2, a3, a4, a5, a6, a7, a8, a9, a10, a11, a12, b13, b14, b15, b16, b17, b18, b19, b20, a21, a22, a23, a24, a25, a26, a27, a28, a29, a30)) :
    wX_shareOne_145 post (nI i) (nI v) x4 x5 x6 x7 z le ck iv dn sn ls wc iw tr tf en tk (nI c) lv ce sc gv pc a1 a2 a3 a4 a5 a6 a7 a8 a9 a10 a11 a12 a13 a14 a15 a16 a17 a18 a19 a20 a21 a22 a23 a24 a25 a26 a27 a28 a29 a30 := by
  unfold wX_shareOne_145
  refine kn_forget hv kw (fun d b15 b16 b17 b18 b19 b20 k1 k2 => ?_)
  refine br_c (fun _ => so_172 hi hv em hx h6 k1 hval (fun e he => k2 e (hk e he) (V e)) (fun d b15 b16 b17 b18 b19 b20 k3 k4 => hp d _ a14 b15 b16 b17 b18 b19 b20 k3 k4)) (fun hn => ?_)
  rw [nI_clamp (show v < 2 ^ 31 by omega)]
  refine ⟨pk_in v 11 hv, nm_e ⟨pk_in v 11 hv, nm_e ?_⟩⟩
  refine so_172 hi hv em hx h6 k1 hval (fun e he => ?_) (fun d b15 b16 b17 b18 b19 b20 k3 k4 => hp d _ _ b15 b16 b17 b18 b19 b20 k3 k4)
  have q := k2 e (hk e he) (V e)
  refine ⟨fun u hu hz => ?_, q.2.1, q.2.2⟩
  by_cases t : u = v
  · rw [t, pk_us, pk_us]
    exact h7 hn e he
  · rw [pk_un (f := upd a13 v 0) t] at hz
    rw [pk_un (f := a14) t]
    exact q.1 u hu hz
/-- the value comes from x6 (a copy) or is new -/
theorem so_79 {post : St1 → Prop} {i c v : Nat} {x2 x4 x5 x6 : Int32} {K : (Nat → Int32) → Prop} {V : (Nat → Int32) → Int32} (hi : i < 240) (hv : v < 11) (em : a8 i = nI v)
    (hx : ¬ x4 = 0 → ¬ 0 ≤ x5 → kn_sh (a7 i) (a9 i) (a10 i) (a8 i)) (h6 : x6 = -1 ∨ ∃ w : Nat, w < 11 ∧ x6 = nI w ∧ ∀ e, K e → V e = e w) (h1 : x2 = 1 → ∀ e, K e → V e = a11 i)
    (kw : kn_wf a15 (zp_at a16 a17 a18 a19 a20) c) (hval : ∀ e, K e → sg_vl (a7 i) (a9 i) (a10 i) (a11 i) e = V e)
    (hk : ∀ e, K e → kn_s a13 a14 a15 (zp_at a16 a17 a18 a19 a20) c e)
    (hp : ∀ d b13 b14 b15 b16 b17 b18 b19 b20, kn_wf b15 (zp_at b16 b17 b18 b19 b20) d → (∀ e, K e → kn_s b13 b14 b15 (zp_at b16 b17 b18 b19 b20) d (upd e v (V e))) → post (le, ck, iv, dn, sn, ls, wc, iw, tr, tf, en, tk, nI d, lv, ce, sc, gv, pc, a1, a2, a3, a4, a5, a6, a7, a8, a9, a10, a11, a12, b13, b14, b15, b16, b17, b18, b19, b20, a21, a22, a23, a24, a25, a26, a27, a28, a29, a30)) :
    wX_shareOne_79 post (nI i) x2 (nI v) x4 x5 x6 le ck iv dn sn ls wc iw tr tf en tk (nI c) lv ce sc gv pc a1 a2 a3 a4 a5 a6 a7 a8 a9 a10 a11 a12 a13 a14 a15 a16 a17 a18 a19 a20 a21 a22 a23 a24 a25 a26 a27 a28 a29 a30 := by
  unfold wX_shareOne_79
  refine br_c (fun ev => ?_) (fun nv => ?_)
  · refine hp c a13 a14 a15 a16 a17 a18 a19 a20 kw (fun e he => ?_)
    rcases h6 with e6 | ⟨w, hw, e6, h6⟩
    · exact absurd (ev.symm.trans e6) ((by decide +kernel : ∀ i, i < 11 → nI i ≠ -1) v hv)
    · have t : w = v := by
        rw [e6, nI_eq (by omega) (by omega)] at ev
        exact ev
      have u : upd e v (V e) = e := by
        funext k
        by_cases g : k = v
        · rw [g, pk_us, h6 e he, t]
        · rw [pk_un g]
      rw [u]
      exact hk e he
  · have h6' : x6 = -1 ∨ ∃ w : Nat, w < 11 ∧ w ≠ v ∧ x6 = nI w ∧ ∀ e, K e → V e = e w := by
      rcases h6 with e6 | ⟨w, hw, e6, h6⟩
      · exact Or.inl e6
      · exact Or.inr ⟨w, hw, fun t => nv (by rw [e6, t]), e6, h6⟩
    have s112 : ¬ x2 = 1 → wX_shareOne_112 post (nI i) x2 (nI v) x4 x5 x6 le ck iv dn sn ls wc iw tr tf en tk (nI c) lv ce sc gv pc a1 a2 a3 a4 a5 a6 a7 a8 a9 a10 a11 a12 a13 a14 a15 a16 a17 a18 a19 a20 a21 a22 a23 a24 a25 a26 a27 a28 a29 a30 := by
      intro n1
      unfold wX_shareOne_112
      unfold wX_shareOne_113
      exact br_f n1 (br_t rfl (so_145 hi hv em hx h6' (fun z => absurd rfl z) kw hval hk hp))
    refine br_c (fun e1 => ?_) (fun n1 => br_c (fun _ => s112 n1) (fun n6 => ?_))
    · unfold wX_shareOne_108
      unfold wX_shareOne_113
      rw [nI_clamp (show i < 2 ^ 31 by omega)]
      exact br_t e1 ⟨pk_in i 240 hi, so_145 hi hv em hx h6' (fun _ => h1 e1) kw hval hk hp⟩
    · rcases h6 with e6 | ⟨w, hw, e6, h6⟩
      · exact absurd (by rw [e6]; exact bb_neg') n6
      · subst e6
        rw [nI_clamp (show w < 2 ^ 31 by omega)]
        refine ⟨pk_in w 11 hw, br_c (fun _ => s112 n1) (fun hkw => ?_)⟩
        unfold wX_shareOne_108
        unfold wX_shareOne_113
        rw [nI_clamp (show w < 2 ^ 31 by omega)]
        exact br_f n1 (br_f (by decide) ⟨pk_in w 11 hw, so_145 hi hv em hx h6' (fun _ e he => by rw [h6 e he]; exact (hk e he).1 w hw hkw) kw hval hk hp⟩)
theorem so_ok {post : St1 → Prop} {i c v : Nat} {K : (Nat → Int32) → Prop} {V : (Nat → Int32) → Int32} (hi : i < 240) (hv : v < 11) (em : a8 i = nI v)
    (hpl : zp_pl (zp_at a7 a8 a9 a10 a11 i)) (kw : kn_wf a15 (zp_at a16 a17 a18 a19 a20) c) (hval : ∀ e, K e → sg_vq (zp_at a7 a8 a9 a10 a11 i) e = V e)
    (hk : ∀ e, K e → kn_s a13 a14 a15 (zp_at a16 a17 a18 a19 a20) c e)
    (hp : ∀ d b7 b9 b10 b11 b13 b14 b15 b16 b17 b18 b19 b20 q, sv_ch (zp_at a7 a8 a9 a10 a11) (zp_at b7 a8 b9 b10 b11) i q → zp_pl q → q.2.1 = a8 i → (∀ e, K e → sg_vq q e = V e) →
      kn_wf b15 (zp_at b16 b17 b18 b19 b20) d → (∀ e, K e → kn_s b13 b14 b15 (zp_at b16 b17 b18 b19 b20) d (upd e v (V e))) →
      post (le, ck, iv, dn, sn, ls, wc, iw, tr, tf, en, tk, nI d, lv, ce, sc, gv, pc, a1, a2, a3, a4, a5, a6, b7, a8, b9, b10, b11, a12, b13, b14, b15, b16, b17, b18, b19, b20, a21, a22, a23, a24, a25, a26, a27, a28, a29, a30)) :
    wpX_shareOne post (le, ck, iv, dn, sn, ls, wc, iw, tr, tf, en, tk, nI c, lv, ce, sc, gv, pc, a1, a2, a3, a4, a5, a6, a7, a8, a9, a10, a11, a12, a13, a14, a15, a16, a17, a18, a19, a20, a21, a22, a23, a24, a25, a26, a27, a28, a29, a30) (nI i) := by
  obtain ⟨j, j1, j2, ej⟩ := zp_plO hpl
  have ej' : a7 i = nI j := ej
  have keep : ∀ d b13 b14 b15 b16 b17 b18 b19 b20, kn_wf b15 (zp_at b16 b17 b18 b19 b20) d → (∀ e, K e → kn_s b13 b14 b15 (zp_at b16 b17 b18 b19 b20) d (upd e v (V e))) → post (le, ck, iv, dn, sn, ls, wc, iw, tr, tf, en, tk, nI d, lv, ce, sc, gv, pc, a1, a2, a3, a4, a5, a6, a7, a8, a9, a10, a11, a12, b13, b14, b15, b16, b17, b18, b19, b20, a21, a22, a23, a24, a25, a26, a27, a28, a29, a30) :=
    fun d b13 b14 b15 b16 b17 b18 b19 b20 k1 k2 => hp d a7 a9 a10 a11 b13 b14 b15 b16 b17 b18 b19 b20 _ (sv_r _ i) hpl rfl hval k1 k2
  have v1 : (nI j) = 1 → ∀ e, K e → V e = a11 i := by
    intro e1 e he
    rw [← hval e he]
    unfold sg_vq sg_vl
    rw [if_pos (ej.trans e1)]
    rfl
  -- nothing was found: the operation stays
  have s46n : ∀ x4 : Int32, (¬ x4 = 0 → 3 ≤ j) → wX_shareOne_46 post (nI i) (nI j) (nI v) x4 (-1) le ck iv dn sn ls wc iw tr tf en tk (nI c) lv ce sc gv pc a1 a2 a3 a4 a5 a6 a7 a8 a9 a10 a11 a12 a13 a14 a15 a16 a17 a18 a19 a20 a21 a22 a23 a24 a25 a26 a27 a28 a29 a30 := by
    intro x4 h4
    unfold wX_shareOne_46
    refine br_t bb_neg' ?_
    unfold wX_shareOne_64
    rw [nI_clamp (show i < 2 ^ 31 by omega)]
    have hx : ¬ x4 = 0 → ¬ 0 ≤ (-1 : Int32) → kn_sh (a7 i) (a9 i) (a10 i) (a8 i) := fun z _ => zp_kn hpl (h4 z) ej j2
    refine pk_eq j 2 (fun e2 => ⟨pk_in i 240 hi, so_79 hi hv em hx (Or.inr ?_) v1 kw hval hk keep⟩) (fun n2 => so_79 hi hv em hx (Or.inl rfl) v1 kw hval hk keep)
    have f2 : zp_V (a9 i) := by
      rcases zp_plF hpl with g | g
      · exact g
      · rcases hpl.2 with h | h | h | h
        · exact absurd (h.1.symm.trans (ej.trans (by rw [e2]))) (by decide)
        · exact h.2.1
        · exact h.2.1
        · exact h.2.1
    obtain ⟨w, hw, ew⟩ := f2
    refine ⟨w, hw, ew, fun e he => ?_⟩
    rw [← hval e he]
    unfold sg_vq sg_vl
    rw [if_neg (by rw [ej, e2]; decide), if_pos (by rw [ej, e2]; rfl)]
    show e (a9 i).toNatClampNeg = e w
    rw [ew, nI_clamp (by omega)]
  unfold wpX_shareOne
  show _ ∧ _
  rw [nI_clamp (show i < 2 ^ 31 by omega)]
  refine ⟨pk_in i 240 hi, nm_r ej' ⟨pk_in i 240 hi, nm_r em (pk_lt j 3 (fun _ => ?_) (fun g3 => pk_lt 14 j (fun z => absurd z (by omega)) (fun _ => ?_)))⟩⟩
  · unfold wX_shareOne_29
    unfold wX_shareOne_30
    exact br_t rfl (s46n 0 (fun z => absurd rfl z))
  · unfold wX_shareOne_30
    refine br_f (by decide) (kn_find kw.1 hi (s46n 1 (fun _ => g3)) (fun k hk1 m1 m2 m3 m4 => ?_))
    have sh := kw.2.2 k hk1
    obtain ⟨w, hw, ew⟩ := sh.1
    have ew' : a20 k = nI w := ew
    -- what was found says the same
    have vw : ∀ e, K e → V e = e w := by
      intro e he
      have r := (hk e he).2.2 k hk1
      unfold kn_row at r
      have r' : e (a20 k).toNatClampNeg = sg_vl (a16 k) (a17 k) (a18 k) (a19 k) e := r
      rw [ew', nI_clamp (by omega), m1, m2, m3] at r'
      rw [r', ← hval e he]
      unfold sg_vq
      show sg_vl (a7 i) (a9 i) (a10 i) (a11 i) e = sg_vl (a7 i) (a9 i) (a10 i) (a19 k) e
      rcases m4 with m4 | m4
      · have nn : ¬ a10 i < 0 := by
          rcases zp_plS hpl with g | g
          · exact zp_Vn g
          · have g' : a10 i = -1 := g
            rw [g'] at m4
            exact absurd m4 bb_neg
        unfold sg_vl
        rw [if_neg nn, if_neg nn]
        have n1 : ¬ a7 i = 1 := by rw [ej']; show ¬ nI j = nI 1; rw [nI_eq (by omega) (by omega)]; omega
        rw [if_neg n1, if_neg n1]
      · rw [m4]
    rw [ew']
    unfold wX_shareOne_46
    refine br_f (nI_pos (by omega)) (bc_ok (o' := 2) hi (by decide) (bb_b8 w (by omega)) ?_)
    have ch : sv_ch (zp_at a7 a8 a9 a10 a11) (zp_at (upd a7 i 2) a8 (upd a9 i (nI w)) (upd a10 i (-1)) (upd a11 i 0)) i (2, a8 i, nI w, -1, 0) := sv_bc
    have hval2 : ∀ e, K e → sg_vq (2, a8 i, nI w, -1, 0) e = V e := fun e he => by rw [vq_2 hw, vw e he]
    unfold wX_shareOne_64
    show _ ∧ _
    rw [nI_clamp (show i < 2 ^ 31 by omega), pk_us]
    refine br_t rfl ⟨pk_in i 240 hi, so_79 hi hv em (fun _ z => absurd (nI_pos' (by omega)) z) (Or.inr ⟨w, hw, rfl, vw⟩) (fun z => absurd z (by decide)) kw (fun e he => ?_) hk (fun d b13 b14 b15 b16 b17 b18 b19 b20 k1 k2 => hp d _ _ _ _ b13 b14 b15 b16 b17 b18 b19 b20 _ ch (zp_p2 hpl.1 hw) rfl hval2 k1 k2)⟩
    rw [pk_us, pk_us, pk_us, pk_us]
    exact hval2 e he
end
end
section
/-! shareValues -/
/-- f' stands for f: the value that it is a copy of -/
def sv_cv (cp : Nat → Int32) (f f' : Int32) : Prop := (f = -1 ∧ f' = -1) ∨ ∃ w : Nat, w < 11 ∧ f = nI w ∧ f' = cp w
theorem sv_cvV {cp : Nat → Int32} {T : Nat → zp_Op} {c : Nat} (kw : kn_wf cp T c) {f f' : Int32} (h : sv_cv cp f f') (hf : zp_V f) : zp_V f' := by
  rcases h with h | ⟨w, hw, _, e⟩
  · exact absurd h.1 (zp_Vm hf)
  · rw [e]
    exact kw.2.1 w hw
theorem sv_cvM {cp : Nat → Int32} {f f' : Int32} (h : sv_cv cp f f') (hf : f = -1) : f' = -1 := by
  rcases h with h | ⟨w, hw, e, _⟩
  · exact h.2
  · rw [hf] at e
    exact absurd e.symm ((by decide +kernel : ∀ i, i < 11 → nI i ≠ -1) w hw)
theorem sv_cve {kk nn cp : Nat → Int32} {T : Nat → zp_Op} {c : Nat} {e : Nat → Int32} (ks : kn_s kk nn cp T c e) {f f' : Int32} (h : sv_cv cp f f') (hf : zp_V f) : e f'.toNatClampNeg = e f.toNatClampNeg := by
  rcases h with h | ⟨w, hw, e1, e2⟩
  · exact absurd h.1 (zp_Vm hf)
  · rw [e1, e2, nI_clamp (by omega)]
    exact (ks.2.1 w hw).symm
theorem sv_cpl {cp : Nat → Int32} {T : Nat → zp_Op} {c : Nat} (kw : kn_wf cp T c) {q : zp_Op} {f' s' : Int32} (h : zp_pl q) (hf : sv_cv cp q.2.2.1 f') (hs : sv_cv cp q.2.2.2.1 s') : zp_pl (q.1, q.2.1, f', s', q.2.2.2.2) := by
  refine ⟨h.1, ?_⟩
  rcases h.2 with h | h | h | h
  · exact Or.inl ⟨h.1, sv_cvM hf h.2.1, sv_cvM hs h.2.2⟩
  · exact Or.inr (Or.inl ⟨h.1, sv_cvV kw hf h.2.1, sv_cvM hs h.2.2⟩)
  · exact Or.inr (Or.inr (Or.inl ⟨h.1, sv_cvV kw hf h.2.1, sv_cvM hs h.2.2⟩))
  · refine Or.inr (Or.inr (Or.inr ⟨h.1, sv_cvV kw hf h.2.1, ?_⟩))
    rcases h.2.2 with g | g
    · exact Or.inl (sv_cvV kw hs g)
    · exact Or.inr ⟨sv_cvM hs g.1, g.2⟩
theorem sv_cvl {kk nn cp : Nat → Int32} {T : Nat → zp_Op} {c : Nat} {e : Nat → Int32} (kw : kn_wf cp T c) (ks : kn_s kk nn cp T c e) {q : zp_Op} {f' s' : Int32} (h : zp_pl q) (hf : sv_cv cp q.2.2.1 f') (hs : sv_cv cp q.2.2.2.1 s') : sg_vq (q.1, q.2.1, f', s', q.2.2.2.2) e = sg_vq q e := by
  unfold sg_vq
  dsimp only
  rcases h.2 with h | h | h | h
  · rw [sg_vl1 h.1, sg_vl1 h.1]
  · rw [sg_vl2 h.1, sg_vl2 h.1, sv_cve ks hf h.2.1]
  · rw [sg_vl13 h.1, sg_vl13 h.1, sv_cve ks hf h.2.1]
  · obtain ⟨⟨j, j1, j2, ej⟩, h1, h2⟩ := h
    rw [ej, sg_vlb j1 j2, sg_vlb j1 j2, sv_cve ks hf h1]
    rcases h2 with g | g
    · rw [if_neg (zp_Vn g), if_neg (zp_Vn (sv_cvV kw hs g)), sv_cve ks hs g]
    · rw [g.1, sv_cvM hs g.1, if_pos bb_neg']
section
variable {le ck iv dn sn ls wc tr tf en tk tc lv ce sc gv pc : Int32} {iw : Int64} {a1 a2 a3 a4 a5 a6 a7 a8 a9 a10 a11 a12 a13 a14 a15 a16 a17 a18 a19 a20 a21 a22 a23 a24 a25 a26 a27 a28 a29 a30 : Nat → Int32}
theorem ic_ok {post : Int32 → Prop} {j : Nat} (hj : j < 100) (h1 : 3 ≤ j → j ≤ 12 → post 1) (h0 : (j < 3 ∨ 12 < j) → post 0) : wpX_isCombined post (le, ck, iv, dn, sn, ls, wc, iw, tr, tf, en, tk, tc, lv, ce, sc, gv, pc, a1, a2, a3, a4, a5, a6, a7, a8, a9, a10, a11, a12, a13, a14, a15, a16, a17, a18, a19, a20, a21, a22, a23, a24, a25, a26, a27, a28, a29, a30) (nI j) := by
  unfold wpX_isCombined
  exact pk_lt j 3 (fun g => h0 (Or.inl g)) (fun g => pk_lt 12 j (fun g2 => h0 (Or.inr g2)) (fun g2 => h1 g g2))
theorem sv_mk {post : St1 → Prop} {m i j c v : Nat} {K : (Nat → Int32) → Prop} {V : (Nat → Int32) → Int32} (hi : i < 240) (hj : j < 14) (hv : v < 11) (em : a8 i = nI v)
    (hpl : zp_pl (zp_at a7 a8 a9 a10 a11 i)) (kw : kn_wf a15 (zp_at a16 a17 a18 a19 a20) c) (hval : ∀ e, K e → sg_vq (zp_at a7 a8 a9 a10 a11 i) e = V e)
    (hk : ∀ e, K e → kn_s a13 a14 a15 (zp_at a16 a17 a18 a19 a20) c e)
    (hp : ∀ d b7 b9 b10 b11 b13 b14 b15 b16 b17 b18 b19 b20 q, sv_ch (zp_at a7 a8 a9 a10 a11) (zp_at b7 a8 b9 b10 b11) i q → zp_pl q → q.2.1 = a8 i → (∀ e, K e → sg_vq q e = V e) →
      kn_wf b15 (zp_at b16 b17 b18 b19 b20) d → (∀ e, K e → kn_s b13 b14 b15 (zp_at b16 b17 b18 b19 b20) d (upd e v (V e))) →
      wX_shareValues_6 post m (nI (i + 1)) le ck iv dn sn ls wc iw tr tf en tk (nI d) lv ce sc gv pc a1 a2 a3 a4 a5 a6 b7 a8 b9 b10 b11 a12 b13 b14 b15 b16 b17 b18 b19 b20 a21 a22 a23 a24 a25 a26 a27 a28 a29 a30) :
    wX_shareValues_169 post (wX_shareValues_6 post m) (nI i) (nI j) le ck iv dn sn ls wc iw tr tf en tk (nI c) lv ce sc gv pc a1 a2 a3 a4 a5 a6 a7 a8 a9 a10 a11 a12 a13 a14 a15 a16 a17 a18 a19 a20 a21 a22 a23 a24 a25 a26 a27 a28 a29 a30 := by
  unfold wX_shareValues_169
  refine pk_eq j 16 (fun z => absurd z (by omega)) (fun _ => pk_eq j 17 (fun z => absurd z (by omega)) (fun _ => ?_))
  unfold wX_shareValues_187
  refine ⟨pk_in i 240 hi, br_f (by rw [nI_clamp (show i < 2 ^ 31 by omega), em]; exact nI_pos (by omega)) (so_ok hi hv em hpl kw hval hk (fun d b7 b9 b10 b11 b13 b14 b15 b16 b17 b18 b19 b20 q c1 c2 c3 c4 c5 c6 => nm_r (nI_1 i) (hp d b7 b9 b10 b11 b13 b14 b15 b16 b17 b18 b19 b20 q c1 c2 c3 c4 c5 c6)))⟩
theorem sv_pl {post : St1 → Prop} {m i j c v : Nat} {K : (Nat → Int32) → Prop} {V : (Nat → Int32) → Int32} (hi : i < 240) (ej : a7 i = nI j) (hj40 : j < 40) (hv : v < 11) (em : a8 i = nI v)
    (hpl : zp_pl (zp_at a7 a8 a9 a10 a11 i)) (kw : kn_wf a15 (zp_at a16 a17 a18 a19 a20) c) (hval : ∀ e, K e → sg_vq (zp_at a7 a8 a9 a10 a11 i) e = V e)
    (hk : ∀ e, K e → kn_s a13 a14 a15 (zp_at a16 a17 a18 a19 a20) c e)
    (hp : ∀ d b7 b9 b10 b11 b13 b14 b15 b16 b17 b18 b19 b20 q, sv_ch (zp_at a7 a8 a9 a10 a11) (zp_at b7 a8 b9 b10 b11) i q → zp_pl q → q.2.1 = a8 i → (∀ e, K e → sg_vq q e = V e) →
      kn_wf b15 (zp_at b16 b17 b18 b19 b20) d → (∀ e, K e → kn_s b13 b14 b15 (zp_at b16 b17 b18 b19 b20) d (upd e v (V e))) →
      wX_shareValues_6 post m (nI (i + 1)) le ck iv dn sn ls wc iw tr tf en tk (nI d) lv ce sc gv pc a1 a2 a3 a4 a5 a6 b7 a8 b9 b10 b11 a12 b13 b14 b15 b16 b17 b18 b19 b20 a21 a22 a23 a24 a25 a26 a27 a28 a29 a30) :
    wX_shareValues_86 post (wX_shareValues_6 post m) (nI i) (nI j) le ck iv dn sn ls wc iw tr tf en tk (nI c) lv ce sc gv pc a1 a2 a3 a4 a5 a6 a7 a8 a9 a10 a11 a12 a13 a14 a15 a16 a17 a18 a19 a20 a21 a22 a23 a24 a25 a26 a27 a28 a29 a30 := by
  have hj : j ≤ 13 := by
    obtain ⟨j', j1, j2, e⟩ := zp_plO hpl
    have e' : nI j' = nI j := e.symm.trans ej
    rw [nI_eq (by omega) (by omega)] at e'
    omega
  unfold wX_shareValues_86
  refine pk_eq j 15 (fun z => absurd z (by omega)) (fun _ => ic_ok (by omega) (fun g1 g2 => br_f (by decide) (sm_ok hi hpl ⟨j, g1, g2, ej⟩ hval (fun e he => (hk e he).1) (fun b7 b9 b10 b11 q c1 c2 c3 c4 => ?_))) (fun g => br_t rfl ?_))
  · unfold wX_shareValues_129
    refine pk_eq j 13 (fun z => absurd z (by omega)) (fun _ => sv_mk hi (by omega) hv em (by rw [c1.1]; exact c2) kw (fun e he => by rw [c1.1]; exact c4 e he) hk (fun d b7 b9 b10 b11 b13 b14 b15 b16 b17 b18 b19 b20 q' d1 d2 d3 d4 d5 d6 => hp d b7 b9 b10 b11 b13 b14 b15 b16 b17 b18 b19 b20 q' (sv_t c1 d1) d2 d3 d4 d5 d6))
  · unfold wX_shareValues_129
    refine pk_eq j 13 (fun e13 => ?_) (fun _ => sv_mk hi (by omega) hv em hpl kw hval hk hp)
    have f2 : zp_V (a9 i) := by
      rcases hpl.2 with h | h | h | h
      · exact absurd (h.1.symm.trans (ej.trans (by rw [e13]))) (by decide)
      · exact h.2.1
      · exact h.2.1
      · exact h.2.1
    obtain ⟨fa, hf, ef⟩ := f2
    rw [nI_clamp (show i < 2 ^ 31 by omega), ef, nI_clamp (show fa < 2 ^ 31 by omega)]
    refine ⟨pk_in i 240 hi, pk_in fa 11 hf, br_c (fun _ => sv_mk hi (by omega) hv em hpl kw hval hk hp) (fun hka => ⟨pk_in i 240 hi, pk_in fa 11 hf, bc_ok (o' := 1) (f' := -1) hi (by decide) (by decide) ?_⟩)⟩
    have ch : sv_ch (zp_at a7 a8 a9 a10 a11) (zp_at (upd a7 i 1) a8 (upd a9 i (-1)) (upd a10 i (-1)) (upd a11 i (a14 fa ^^^ (-1)))) i (1, a8 i, -1, -1, a14 fa ^^^ (-1)) := sv_bc
    refine sv_mk hi (by omega) hv em (by rw [ch.1]; exact zp_p1 hpl.1) kw (fun e he => ?_) hk (fun d b7 b9 b10 b11 b13 b14 b15 b16 b17 b18 b19 b20 q' d1 d2 d3 d4 d5 d6 => hp d b7 b9 b10 b11 b13 b14 b15 b16 b17 b18 b19 b20 q' (sv_t ch d1) d2 d3 d4 d5 d6)
    rw [ch.1, vq_1, ← hval e he, ← (hk e he).1 fa hf hka]
    unfold sg_vq sg_vl
    have e13' : (zp_at a7 a8 a9 a10 a11 i).1 = 13 := ej.trans (by rw [e13]; rfl)
    rw [if_neg (by rw [e13']; decide), if_neg (by rw [e13']; decide), if_pos e13']
    show e fa ^^^ (-1) = e (a9 i).toNatClampNeg ^^^ (-1)
    rw [ef, nI_clamp (by omega)]
theorem sv_us {post : St1 → Prop} {m i j c : Nat} (hi : i < 240) (hj : j = 20 ∨ j = 21 ∨ j = 22) (em : a8 i = -1) (hp : wX_shareValues_6 post m (nI (i + 1)) le ck iv dn sn ls wc iw tr tf en tk (nI c) lv ce sc gv pc a1 a2 a3 a4 a5 a6 a7 a8 a9 a10 a11 a12 a13 a14 a15 a16 a17 a18 a19 a20 a21 a22 a23 a24 a25 a26 a27 a28 a29 a30) :
    wX_shareValues_86 post (wX_shareValues_6 post m) (nI i) (nI j) le ck iv dn sn ls wc iw tr tf en tk (nI c) lv ce sc gv pc a1 a2 a3 a4 a5 a6 a7 a8 a9 a10 a11 a12 a13 a14 a15 a16 a17 a18 a19 a20 a21 a22 a23 a24 a25 a26 a27 a28 a29 a30 := by
  unfold wX_shareValues_86
  refine pk_eq j 15 (fun z => absurd z (by omega)) (fun _ => ic_ok (by omega) (fun g1 g2 => absurd g2 (by omega)) (fun g => br_t rfl ?_))
  unfold wX_shareValues_129
  refine pk_eq j 13 (fun z => absurd z (by omega)) (fun _ => ?_)
  unfold wX_shareValues_169
  refine pk_eq j 16 (fun z => absurd z (by omega)) (fun _ => pk_eq j 17 (fun z => absurd z (by omega)) (fun _ => ?_))
  unfold wX_shareValues_187
  exact ⟨pk_in i 240 hi, br_t (by rw [nI_clamp (show i < 2 ^ 31 by omega), em]; exact bb_neg') (nm_r (nI_1 i) hp)⟩
/-- copies are used for what was copied -/
theorem sv_cp {post : St1 → Prop} {m N i j c : Nat} (hN : N ≤ 240) (hi : i < N) (ej : a7 i = nI j) (hj : j < 40) (hj19 : j ≠ 19) (an : zp_any (zp_at a7 a8 a9 a10 a11 i)) (kw : kn_wf a15 (zp_at a16 a17 a18 a19 a20) c)
    (hp : ∀ b9 b10 f s, sv_cv a15 (a9 i) f → sv_cv a15 (a10 i) s → sv_ch (zp_at a7 a8 a9 a10 a11) (zp_at a7 a8 b9 b10 a11) i (nI j, a8 i, f, s, a11 i) → wX_shareValues_86 post (wX_shareValues_6 post m) (nI i) (nI j) le ck iv dn sn ls wc iw tr tf (nI N) tk (nI c) lv ce sc gv pc a1 a2 a3 a4 a5 a6 a7 a8 b9 b10 a11 a12 a13 a14 a15 a16 a17 a18 a19 a20 a21 a22 a23 a24 a25 a26 a27 a28 a29 a30) :
    wX_shareValues_6 post (m + 1) (nI i) le ck iv dn sn ls wc iw tr tf (nI N) tk (nI c) lv ce sc gv pc a1 a2 a3 a4 a5 a6 a7 a8 a9 a10 a11 a12 a13 a14 a15 a16 a17 a18 a19 a20 a21 a22 a23 a24 a25 a26 a27 a28 a29 a30 := by
  have s60 : ∀ b9 f, sv_cv a15 (a9 i) f → sv_ch (zp_at a7 a8 a9 a10 a11) (zp_at a7 a8 b9 a10 a11) i (nI j, a8 i, f, a10 i, a11 i) → wX_shareValues_60 post (wX_shareValues_6 post m) (nI i) (nI j) le ck iv dn sn ls wc iw tr tf (nI N) tk (nI c) lv ce sc gv pc a1 a2 a3 a4 a5 a6 a7 a8 b9 a10 a11 a12 a13 a14 a15 a16 a17 a18 a19 a20 a21 a22 a23 a24 a25 a26 a27 a28 a29 a30 := by
    intro b9 f hf hch
    unfold wX_shareValues_60
    rw [nI_clamp (show i < 2 ^ 31 by omega)]
    refine ⟨pk_in i 240 (by omega), ?_⟩
    rcases zp_anyS an with ⟨w, hw, ew⟩ | ew
    · have ew' : a10 i = nI w := ew
      rw [ew', nI_clamp (show w < 2 ^ 31 by omega)]
      refine br_f (nI_pos (by omega)) ⟨pk_in i 240 (by omega), pk_in w 11 hw, pk_in i 240 (by omega), nm_r (congrArg (upd a10 i) (zp_Vnar (kw.2.1 w hw))) (hp b9 _ f (a15 w) hf (Or.inr ⟨w, hw, ew', rfl⟩) ?_)⟩
      refine ⟨?_, fun k hk => ?_⟩
      · have q := hch.1
        have q1 : b9 i = f := congrArg (fun r : zp_Op => r.2.2.1) q
        unfold zp_at
        rw [pk_us, q1, ej]
      · have q := hch.2 k hk
        have q1 : b9 k = a9 k := congrArg (fun r : zp_Op => r.2.2.1) q
        unfold zp_at
        rw [pk_un hk, q1]
    · have ew' : a10 i = -1 := ew
      exact br_t (by rw [ew']; exact bb_neg') (hp b9 a10 f (a10 i) hf (Or.inl ⟨ew', ew'⟩) hch)
  refine pk_le N i (fun z => absurd z (by omega)) (fun _ => ⟨pk_in i 240 (by omega), nm_r (show a7 (nI i).toNatClampNeg = nI j by rw [nI_clamp (by omega), ej]) (pk_eq j 19 (fun z => absurd z hj19) (fun _ => ⟨pk_in i 240 (by omega), ?_⟩))⟩)
  rw [nI_clamp (show i < 2 ^ 31 by omega)]
  rcases zp_anyF an with ⟨w, hw, ew⟩ | ew
  · have ew' : a9 i = nI w := ew
    rw [ew', nI_clamp (show w < 2 ^ 31 by omega)]
    refine br_f (nI_pos (by omega)) ⟨pk_in i 240 (by omega), pk_in w 11 hw, pk_in i 240 (by omega), nm_r (congrArg (upd a9 i) (zp_Vnar (kw.2.1 w hw))) (s60 _ (a15 w) (Or.inr ⟨w, hw, ew', rfl⟩) ?_)⟩
    refine ⟨?_, fun k hk => ?_⟩
    · unfold zp_at
      rw [pk_us, ej]
    · unfold zp_at
      rw [pk_un hk]
  · have ew' : a9 i = -1 := ew
    refine br_t (by rw [ew']; exact bb_neg') (s60 a9 (a9 i) (Or.inl ⟨ew', ew'⟩) ⟨?_, fun k hk => rfl⟩)
    unfold zp_at
    rw [ej]
end
end
section
/-! shareValues: the loop -/
abbrev sv_St : Type := Int32 × (Nat → Int32) × (Nat → Int32) × (Nat → Int32) × (Nat → Int32) × (Nat → Int32) × (Nat → Int32) × (Nat → Int32) × (Nat → Int32) × (Nat → Int32) × (Nat → Int32) × (Nat → Int32) × (Nat → Int32)
/-- the picture ahead of turn i: B the list now, A as it was -/
def sv_P (A B : Nat → zp_Op) (N i : Nat) (kk nn cp : Nat → Int32) (T : Nat → zp_Op) (c : Nat) : Prop :=
  kn_wf cp T c ∧ (∀ j, i ≤ j → B j = A j) ∧ (∀ j, j < i → (j < N - 1 → zp_in (B j)) ∧ (j = N - 1 → zp_give (B j))) ∧ (∀ x, sg_run B i x = sg_run A i x) ∧ ∀ x, kn_s kk nn cp T c (sg_run A i x).1
theorem sv_below {A B C : Nat → zp_Op} {i : Nat} {q : zp_Op} (h : sv_ch B C i q) (hr : ∀ x, sg_run B i x = sg_run A i x) (x : sg_St) : sg_run C (i + 1) x = sg_op q (sg_run A i x) := by
  rw [sg_run_s, h.1, sg_run_c (P := C) (Q := B) (fun j hj => h.2 j (by omega)), hr]
theorem sv_next {A B C : Nat → zp_Op} {N i c d : Nat} {kk nn cp kk' nn' cp' : Nat → Int32} {T T' : Nat → zp_Op} {q : zp_Op} (hP : sv_P A B N i kk nn cp T c) (h : sv_ch B C i q) (h1 : i < N - 1 → zp_in q) (h2 : i = N - 1 → zp_give q)
    (hq : ∀ y : sg_St, kn_s kk nn cp T c y.1 → sg_op q y = sg_op (A i) y) (kw : kn_wf cp' T' d) (hk : ∀ y : sg_St, kn_s kk nn cp T c y.1 → kn_s kk' nn' cp' T' d (sg_op (A i) y).1) : sv_P A C N (i + 1) kk' nn' cp' T' d := by
  obtain ⟨p1, p2, p3, p4, p5⟩ := hP
  refine ⟨kw, fun j hj => ?_, fun j hj => ⟨fun g => ?_, fun g => ?_⟩, fun x => ?_, fun x => ?_⟩
  · rw [h.2 j (by omega)]
    exact p2 j (by omega)
  · by_cases t : j = i
    · rw [t, h.1]
      exact h1 (by omega)
    · rw [h.2 j t]
      exact (p3 j (by omega)).1 g
  · by_cases t : j = i
    · rw [t, h.1]
      exact h2 (by omega)
    · rw [h.2 j t]
      exact (p3 j (by omega)).2 g
  · rw [sv_below h p4, hq _ (p5 x)]
    rfl
  · exact hk _ (p5 x)
section
variable {le ck iv dn sn ls wc tr tf en tk tc lv ce sc gv pc : Int32} {iw : Int64} {a1 a2 a3 a4 a5 a6 a7 a8 a9 a10 a11 a12 a13 a14 a15 a16 a17 a18 a19 a20 a21 a22 a23 a24 a25 a26 a27 a28 a29 a30 : Nat → Int32}
theorem sv_ok {post : St1 → Prop} {N : Nat} (wf : zp_wf (zp_at a7 a8 a9 a10 a11) N)
    (hp : ∀ c b7 b9 b10 b11 b13 b14 b15 b16 b17 b18 b19 b20, zp_wf (zp_at b7 a8 b9 b10 b11) N → (∀ x, sg_run (zp_at b7 a8 b9 b10 b11) N x = sg_run (zp_at a7 a8 a9 a10 a11) N x) →
      post (le, ck, iv, dn, sn, ls, wc, iw, tr, tf, nI N, tk, c, lv, ce, sc, gv, pc, a1, a2, a3, a4, a5, a6, b7, a8, b9, b10, b11, a12, b13, b14, b15, b16, b17, b18, b19, b20, a21, a22, a23, a24, a25, a26, a27, a28, a29, a30)) : wpX_shareValues post (le, ck, iv, dn, sn, ls, wc, iw, tr, tf, nI N, tk, tc, lv, ce, sc, gv, pc, a1, a2, a3, a4, a5, a6, a7, a8, a9, a10, a11, a12, a13, a14, a15, a16, a17, a18, a19, a20, a21, a22, a23, a24, a25, a26, a27, a28, a29, a30) := by
  have hN := wf.2.1
  have hN1 := wf.1
  unfold wpX_shareValues
  refine kn_all (fun k13 k15 kw0 ks0 => ?_)
  refine pk_loop (fun m i (s : sv_St) => wX_shareValues_6 post m (nI i) le ck iv dn sn ls wc iw tr tf (nI N) tk s.1 lv ce sc gv pc a1 a2 a3 a4 a5 a6 s.2.1 a8 s.2.2.1 s.2.2.2.1 s.2.2.2.2.1 a12 s.2.2.2.2.2.1 s.2.2.2.2.2.2.1 s.2.2.2.2.2.2.2.1 s.2.2.2.2.2.2.2.2.1 s.2.2.2.2.2.2.2.2.2.1 s.2.2.2.2.2.2.2.2.2.2.1 s.2.2.2.2.2.2.2.2.2.2.2.1 s.2.2.2.2.2.2.2.2.2.2.2.2 a21 a22 a23 a24 a25 a26 a27 a28 a29 a30)
    (fun i s => ∃ c : Nat, s.1 = nI c ∧ sv_P (zp_at a7 a8 a9 a10 a11) (zp_at s.2.1 a8 s.2.2.1 s.2.2.2.1 s.2.2.2.2.1) N i s.2.2.2.2.2.1 s.2.2.2.2.2.2.1 s.2.2.2.2.2.2.2.1 (zp_at s.2.2.2.2.2.2.2.2.1 s.2.2.2.2.2.2.2.2.2.1 s.2.2.2.2.2.2.2.2.2.2.1 s.2.2.2.2.2.2.2.2.2.2.2.1 s.2.2.2.2.2.2.2.2.2.2.2.2) c)
    N 0 (nI 0, a7, a9, a10, a11, k13, a14, k15, a16, a17, a18, a19, a20) (by omega) ⟨0, rfl, kw0, fun _ _ => rfl, fun j hj => absurd hj (by omega), fun _ => rfl, fun x => ks0 _⟩ ?_ ?_
  · intro m s h
    obtain ⟨y, b7, b9, b10, b11, b13, b14, b15, b16, b17, b18, b19, b20⟩ := s
    obtain ⟨c, e, h⟩ := h
    dsimp only at e h
    obtain ⟨p1, p2, p3, p4, p5⟩ := h
    exact pk_le N N (fun _ => hp y b7 b9 b10 b11 b13 b14 b15 b16 b17 b18 b19 b20 ⟨hN1, hN, fun j hj => (p3 j (by omega)).1 hj, (p3 (N - 1) (by omega)).2 rfl⟩ p4) (fun z => absurd z (by omega))
  · intro m i s hi h hw
    obtain ⟨y, b7, b9, b10, b11, b13, b14, b15, b16, b17, b18, b19, b20⟩ := s
    obtain ⟨c, e, h⟩ := h
    dsimp only at e h
    subst e
    have W : ∀ (c : Nat) (c7 c9 c10 c11 c13 c14 c15 c16 c17 c18 c19 c20 : Nat → Int32), sv_P (zp_at a7 a8 a9 a10 a11) (zp_at c7 a8 c9 c10 c11) N (i + 1) c13 c14 c15 (zp_at c16 c17 c18 c19 c20) c →
        wX_shareValues_6 post m (nI (i + 1)) le ck iv dn sn ls wc iw tr tf (nI N) tk (nI c) lv ce sc gv pc a1 a2 a3 a4 a5 a6 c7 a8 c9 c10 c11 a12 c13 c14 c15 c16 c17 c18 c19 c20 a21 a22 a23 a24 a25 a26 a27 a28 a29 a30 :=
      fun c c7 c9 c10 c11 c13 c14 c15 c16 c17 c18 c19 c20 h => hw (nI c, c7, c9, c10, c11, c13, c14, c15, c16, c17, c18, c19, c20) ⟨c, rfl, h⟩
    clear hw
    show wX_shareValues_6 post (m + 1) (nI i) le ck iv dn sn ls wc iw tr tf (nI N) tk (nI c) lv ce sc gv pc a1 a2 a3 a4 a5 a6 b7 a8 b9 b10 b11 a12 b13 b14 b15 b16 b17 b18 b19 b20 a21 a22 a23 a24 a25 a26 a27 a28 a29 a30
    have ei : zp_at b7 a8 b9 b10 b11 i = zp_at a7 a8 a9 a10 a11 i := h.2.1 i (by omega)
    have anA := zp_wfA wf hi
    have an := anA
    rw [← ei] at an
    obtain ⟨j, hj, ej, hj2⟩ := zp_anyO an
    have ej' : b7 i = nI j := ej
    refine sv_cp (by omega) hi ej' (by omega) (by omega) an h.1 (fun c9 c10 f s hf hs hch => ?_)
    have i1 : i < N - 1 → zp_in (zp_at b7 a8 b9 b10 b11 i) := fun g => by rw [ei]; exact wf.2.2.1 i g
    have i2 : i = N - 1 → zp_give (zp_at b7 a8 b9 b10 b11 i) := fun g => by rw [ei, g]; exact wf.2.2.2
    have n1 : i < N - 1 ∨ i = N - 1 := by omega
    by_cases hm : a8 i = -1
    · -- an operation that only uses
      have hop : j = 20 ∨ j = 21 ∨ j = 22 := by
        rcases an with (q | q | q) | q
        · exact absurd hm (zp_Vm q.1)
        · have z : nI j = nI 20 := ej.symm.trans q.1
          rw [nI_eq (by omega) (by omega)] at z
          omega
        · have z : nI j = nI 21 := ej.symm.trans q.1
          rw [nI_eq (by omega) (by omega)] at z
          omega
        · have z : nI j = nI 22 := ej.symm.trans q.1
          rw [nI_eq (by omega) (by omega)] at z
          omega
      refine sv_us (by omega) hop hm (W c _ _ _ _ _ _ _ _ _ _ _ _ ?_)
      have sem : ∀ y : sg_St, kn_s b13 b14 b15 (zp_at b16 b17 b18 b19 b20) c y.1 → sg_op (nI j, a8 i, f, s, b11 i) y = sg_op (zp_at a7 a8 a9 a10 a11 i) y := by
        intro y ky
        rw [← ei]
        rcases an with (q | q | q) | q
        · exact absurd hm (zp_Vm q.1)
        · rw [sg_20 (q := (nI j, a8 i, f, s, b11 i)) (ej.symm.trans q.1), sg_20 q.1]
          rfl
        · rw [sg_21 (q := (nI j, a8 i, f, s, b11 i)) (ej.symm.trans q.1), sg_21 q.1]
          dsimp only
          rw [sv_cve ky hf q.2.2.1]
          rfl
        · rw [sg_22 (q := (nI j, a8 i, f, s, b11 i)) (ej.symm.trans q.1), sg_22 q.1]
          dsimp only
          rw [sv_cve ky hf q.2.2.1]
          rfl
      refine sv_next h hch (fun g => ?_) (fun g => ?_) sem h.1 (fun y ky => ?_)
      · rcases i1 g with q | q | q
        · exact absurd hm (zp_Vm q.1)
        · exact Or.inr (Or.inl ⟨ej.symm.trans q.1, hm, sv_cvM hf q.2.2.1, sv_cvM hs q.2.2.2.1, q.2.2.2.2⟩)
        · exact Or.inr (Or.inr ⟨ej.symm.trans q.1, hm, sv_cvV h.1 hf q.2.2.1, sv_cvM hs q.2.2.2⟩)
      · have q := i2 g
        exact ⟨ej.symm.trans q.1, hm, sv_cvV h.1 hf q.2.2.1, sv_cvM hs q.2.2.2⟩
      · rw [← ei]
        rcases an with (q | q | q) | q
        · exact absurd hm (zp_Vm q.1)
        · rw [sg_20 q.1]
          exact ky
        · rw [sg_21 q.1]
          exact ky
        · rw [sg_22 q.1]
          exact ky
    · -- an operation that makes
      have q0 : zp_pl (zp_at b7 a8 b9 b10 b11 i) := zp_anyP an hm
      obtain ⟨v, hv, ev⟩ := q0.1
      have ev' : a8 i = nI v := ev
      have hch1 : zp_at b7 a8 c9 c10 b11 i = (nI j, a8 i, f, s, b11 i) := hch.1
      have e0 : (nI j, a8 i, f, s, b11 i) = ((zp_at b7 a8 b9 b10 b11 i).1, (zp_at b7 a8 b9 b10 b11 i).2.1, f, s, (zp_at b7 a8 b9 b10 b11 i).2.2.2.2) := by
        rw [ej]
        rfl
      have pl1 : zp_pl (zp_at b7 a8 c9 c10 b11 i) := by
        rw [hch1, e0]
        exact sv_cpl h.1 q0 hf hs
      have g1 : i < N - 1 := by
        rcases n1 with g | g
        · exact g
        · exact absurd (i2 g).2.1 hm
      refine sv_pl (K := kn_s b13 b14 b15 (zp_at b16 b17 b18 b19 b20) c) (V := sg_vq (zp_at b7 a8 b9 b10 b11 i)) (by omega) ej' (by omega) hv ev' pl1 h.1 (fun e he => ?_) (fun e he => he) (fun d d7 d9 d10 d11 d13 d14 d15 d16 d17 d18 d19 d20 q r1 r2 r3 r4 r5 r6 => W d _ _ _ _ _ _ _ _ _ _ _ _ ?_)
      · rw [hch1, e0]
        exact sv_cvl h.1 he q0 hf hs
      · have pA : zp_pl (zp_at a7 a8 a9 a10 a11 i) := by rw [← ei]; exact q0
        refine sv_next h (sv_t hch r1) (fun _ => Or.inl r2) (fun g => absurd g (by omega)) (fun y ky => ?_) r5 (fun y ky => ?_)
        · rw [sg_pl r2, sg_pl pA]
          have t := r4 y.1 ky
          unfold sg_vq at t
          rw [t, r3, ei]
          rfl
        · rw [sg_pl pA]
          have t := r6 y.1 ky
          rw [ei] at t
          dsimp only
          rw [show (zp_at a7 a8 a9 a10 a11 i).2.1 = nI v from ev', nI_clamp (by omega)]
          exact t
end
end
section
/-! three rounds of improving -/
section
variable {le ck iv dn sn ls wc tr tf en tk tc lv ce sc gv pc : Int32} {iw : Int64} {a1 a2 a3 a4 a5 a6 a7 a8 a9 a10 a11 a12 a13 a14 a15 a16 a17 a18 a19 a20 a21 a22 a23 a24 a25 a26 a27 a28 a29 a30 : Nat → Int32}
abbrev iv_St : Type := Int32 × Int32 × (Nat → Int32) × (Nat → Int32) × (Nat → Int32) × (Nat → Int32) × (Nat → Int32) × (Nat → Int32) × (Nat → Int32) × (Nat → Int32) × (Nat → Int32) × (Nat → Int32) × (Nat → Int32) × (Nat → Int32) × (Nat → Int32) × (Nat → Int32)
theorem iv_ok {post : St1 → Prop} {N T : Nat} (wf : zp_wf (zp_at a7 a8 a9 a10 a11) N) (hT : T ≤ 40) (ht : sg_tk (zp_at a7 a8 a9 a10 a11) N T)
    (hp : ∀ (M : Nat) (c : Int32) (b7 b8 b9 b10 b11 b13 b14 b15 b16 b17 b18 b19 b20 b21 : Nat → Int32), zp_wf (zp_at b7 b8 b9 b10 b11) M → sg_eq (zp_at b7 b8 b9 b10 b11) M (zp_at a7 a8 a9 a10 a11) N →
      post (le, ck, iv, dn, sn, ls, wc, iw, tr, tf, nI M, tk, c, lv, ce, sc, gv, pc, a1, a2, a3, a4, a5, a6, b7, b8, b9, b10, b11, a12, b13, b14, b15, b16, b17, b18, b19, b20, b21, a22, a23, a24, a25, a26, a27, a28, a29, a30)) : wpX_improve post (le, ck, iv, dn, sn, ls, wc, iw, tr, tf, nI N, tk, tc, lv, ce, sc, gv, pc, a1, a2, a3, a4, a5, a6, a7, a8, a9, a10, a11, a12, a13, a14, a15, a16, a17, a18, a19, a20, a21, a22, a23, a24, a25, a26, a27, a28, a29, a30) := by
  unfold wpX_improve
  refine pk_loop (fun m i (s : iv_St) => wX_improve_2 post m (nI i) le ck iv dn sn ls wc iw tr tf s.1 tk s.2.1 lv ce sc gv pc a1 a2 a3 a4 a5 a6 s.2.2.1 s.2.2.2.1 s.2.2.2.2.1 s.2.2.2.2.2.1 s.2.2.2.2.2.2.1 a12 s.2.2.2.2.2.2.2.1 s.2.2.2.2.2.2.2.2.1 s.2.2.2.2.2.2.2.2.2.1 s.2.2.2.2.2.2.2.2.2.2.1 s.2.2.2.2.2.2.2.2.2.2.2.1 s.2.2.2.2.2.2.2.2.2.2.2.2.1 s.2.2.2.2.2.2.2.2.2.2.2.2.2.1 s.2.2.2.2.2.2.2.2.2.2.2.2.2.2.1 s.2.2.2.2.2.2.2.2.2.2.2.2.2.2.2 a22 a23 a24 a25 a26 a27 a28 a29 a30)
    (fun _ s => ∃ M : Nat, s.1 = nI M ∧ zp_wf (zp_at s.2.2.1 s.2.2.2.1 s.2.2.2.2.1 s.2.2.2.2.2.1 s.2.2.2.2.2.2.1) M ∧ sg_eq (zp_at s.2.2.1 s.2.2.2.1 s.2.2.2.2.1 s.2.2.2.2.2.1 s.2.2.2.2.2.2.1) M (zp_at a7 a8 a9 a10 a11) N)
    3 0 (nI N, tc, a7, a8, a9, a10, a11, a13, a14, a15, a16, a17, a18, a19, a20, a21) (by omega) ⟨N, rfl, wf, sg_eq_r _ _⟩ ?_ ?_
  · intro m s h
    obtain ⟨y, c, b7, b8, b9, b10, b11, b13, b14, b15, b16, b17, b18, b19, b20, b21⟩ := s
    obtain ⟨M, e, h1, h2⟩ := h
    dsimp only at e h1 h2
    subst e
    exact pk_le 3 3 (fun _ => hp M c b7 b8 b9 b10 b11 b13 b14 b15 b16 b17 b18 b19 b20 b21 h1 h2) (fun z => absurd z (by omega))
  · intro m i s hi h hw
    obtain ⟨y, c, b7, b8, b9, b10, b11, b13, b14, b15, b16, b17, b18, b19, b20, b21⟩ := s
    obtain ⟨M, e, h1, h2⟩ := h
    dsimp only at e h1 h2
    subst e
    have W : ∀ (M : Nat) (c : Int32) (b7 b8 b9 b10 b11 b13 b14 b15 b16 b17 b18 b19 b20 b21 : Nat → Int32), zp_wf (zp_at b7 b8 b9 b10 b11) M → sg_eq (zp_at b7 b8 b9 b10 b11) M (zp_at a7 a8 a9 a10 a11) N →
        wX_improve_2 post m (nI (i + 1)) le ck iv dn sn ls wc iw tr tf (nI M) tk c lv ce sc gv pc a1 a2 a3 a4 a5 a6 b7 b8 b9 b10 b11 a12 b13 b14 b15 b16 b17 b18 b19 b20 b21 a22 a23 a24 a25 a26 a27 a28 a29 a30 :=
      fun M c b7 b8 b9 b10 b11 b13 b14 b15 b16 b17 b18 b19 b20 b21 g1 g2 => hw (nI M, c, b7, b8, b9, b10, b11, b13, b14, b15, b16, b17, b18, b19, b20, b21) ⟨M, rfl, g1, g2⟩
    clear hw
    show wX_improve_2 post (m + 1) (nI i) le ck iv dn sn ls wc iw tr tf (nI M) tk c lv ce sc gv pc a1 a2 a3 a4 a5 a6 b7 b8 b9 b10 b11 a12 b13 b14 b15 b16 b17 b18 b19 b20 b21 a22 a23 a24 a25 a26 a27 a28 a29 a30
    refine pk_le 3 i (fun z => absurd z (by omega)) (fun _ => ?_)
    refine sv_ok h1 (fun c c7 c9 c10 c11 c13 c14 c15 c16 c17 c18 c19 c20 w1 r1 => ?_)
    refine du_ok w1 ?_
    refine pa_ok (zp_wg w1) (fun M2 d7 d8 d9 d10 d11 w2 r2 => ?_)
    refine al_find w2 (fun al ha hs => ?_)
    refine dd_ok w2 (fun e7 hd => ?_)
    have hd' : ∀ j, j < M2 → zp_at e7 d8 d9 d10 d11 j = zp_at d7 d8 d9 d10 d11 j ∨ ((zp_at e7 d8 d9 d10 d11 j).1 = 0 ∧ al_gone (zp_at d7 d8 d9 d10 d11 j) (al (j + 1))) := by
      intro j hj
      rcases hd j hj with g | g
      · left
        unfold zp_at
        rw [g]
      · exact Or.inr g
    obtain ⟨g3, r3⟩ := dd_eq w2 ha hd'
    refine pa_ok g3 (fun M4 f7 f8 f9 f10 f11 w4 r4 => ?_)
    have q1 : sg_eq (zp_at c7 b8 c9 c10 c11) M (zp_at a7 a8 a9 a10 a11) N := fun x => by rw [r1 x]; exact h2 x
    have q2 : sg_eq (zp_at d7 d8 d9 d10 d11) M2 (zp_at a7 a8 a9 a10 a11) N := fun x => by rw [r2 x]; exact q1 x
    have q3 : sg_eq (zp_at e7 d8 d9 d10 d11) M2 (zp_at a7 a8 a9 a10 a11) N := sg_eq_t r3 q2
    have q4 : sg_eq (zp_at f7 f8 f9 f10 f11) M4 (zp_at a7 a8 a9 a10 a11) N := fun x => by rw [r4 x]; exact q3 x
    refine jt_ok w4 hT (sg_tk_eq q4 ht) (fun g7 g11 w5 r5 => ?_)
    refine pa_ok w5 (fun M6 k7 k8 k9 k10 k11 w6 r6 => ?_)
    exact nm_r (nI_1 i) (W M6 _ _ _ _ _ _ _ _ _ _ _ _ _ _ _ w6 (fun x => by rw [r6 x, r5 x]; exact q4 x))
end
end
section
/-! registers -/
/-- values kept apart: y stands in x's row -/
def rg_ap (ap : Nat → Int32) (x y : Nat) : Prop := bb_t (ap x) y = true
def rg_sym (ap : Nat → Int32) : Prop := ∀ x y, x < 11 → y < 11 → rg_ap ap x y → rg_ap ap y x
/-- what setApart does -/
def rg_set (ap ap' : Nat → Int32) (v : Nat) (oth : Int32) : Prop := ∀ x y, x < 11 → y < 11 → (rg_ap ap' x y ↔ (rg_ap ap x y ∨ (x = v ∧ bb_t oth y = true) ∨ (y = v ∧ bb_t oth x = true)))
theorem rg_set_sym {ap ap' : Nat → Int32} {v : Nat} {oth : Int32} (h : rg_set ap ap' v oth) (hs : rg_sym ap) : rg_sym ap' := by
  intro x y hx hy hxy
  rw [h y x hy hx]
  rw [h x y hx hy] at hxy
  rcases hxy with g | g | g
  · exact Or.inl (hs x y hx hy g)
  · exact Or.inr (Or.inr g)
  · exact Or.inr (Or.inl g)
theorem rg_set_mono {ap ap' : Nat → Int32} {v : Nat} {oth : Int32} (h : rg_set ap ap' v oth) {x y : Nat} (hx : x < 11) (hy : y < 11) (g : rg_ap ap x y) : rg_ap ap' x y := (h x y hx hy).mpr (Or.inl g)
/-- how many of the first n values are in a set -/
def rg_cn (s : Int32) : Nat → Nat
  | 0 => 0
  | n + 1 => rg_cn s n + (if bb_t s n = true then 1 else 0)
theorem rg_cn_pos {s : Int32} {n : Nat} (h : 0 < rg_cn s n) : ∃ w, w < n ∧ bb_t s w = true := by
  induction n with
  | zero => exact absurd h (by show ¬ 0 < 0; omega)
  | succ n ih =>
    by_cases g : bb_t s n = true
    · exact ⟨n, by omega, g⟩
    · have h' : 0 < rg_cn s n + (if bb_t s n = true then 1 else 0) := h
      rw [if_neg g] at h'
      obtain ⟨w, hw, hb⟩ := ih (by omega)
      exact ⟨w, by omega, hb⟩
theorem rg_cn_out {s s' : Int32} {b : Nat} (ho : ∀ w, w ≠ b → w < 32 → bb_t s' w = bb_t s w) {n : Nat} (hn : n ≤ b) (h32 : n ≤ 32) : rg_cn s' n = rg_cn s n := by
  induction n with
  | zero => rfl
  | succ n ih =>
    show rg_cn s' n + (if bb_t s' n = true then 1 else 0) = rg_cn s n + (if bb_t s n = true then 1 else 0)
    rw [ih (by omega) (by omega), ho n (by omega) (by omega)]
theorem rg_cn_in {s s' : Int32} {b : Nat} (ho : ∀ w, w ≠ b → w < 32 → bb_t s' w = bb_t s w) (h1 : bb_t s b = true) (h0 : bb_t s' b = false) {n : Nat} (hn : b < n) (h32 : n ≤ 32) : rg_cn s' n + 1 = rg_cn s n := by
  induction n with
  | zero => exact absurd hn (by omega)
  | succ n ih =>
    show rg_cn s' n + (if bb_t s' n = true then 1 else 0) + 1 = rg_cn s n + (if bb_t s n = true then 1 else 0)
    by_cases g : b = n
    · subst g
      rw [h1, h0, rg_cn_out ho (Nat.le_refl b) (by omega), if_pos rfl, if_neg (by decide)]
    · rw [ho n (fun z => g z.symm) (by omega), ← ih (by omega) (by omega)]
      omega
section
variable {le ck iv dn sn ls wc tr tf en tk tc lv ce sc gv pc : Int32} {iw : Int64} {a1 a2 a3 a4 a5 a6 a7 a8 a9 a10 a11 a12 a13 a14 a15 a16 a17 a18 a19 a20 a21 a22 a23 a24 a25 a26 a27 a28 a29 a30 : Nat → Int32}
theorem rg_setApart {post : St1 → Prop} {v : Nat} {oth : Int32} (hv : v < 11) (hp : ∀ b22, rg_set a22 b22 v oth → post (le, ck, iv, dn, sn, ls, wc, iw, tr, tf, en, tk, tc, lv, ce, sc, gv, pc, a1, a2, a3, a4, a5, a6, a7, a8, a9, a10, a11, a12, a13, a14, a15, a16, a17, a18, a19, a20, a21, b22, a23, a24, a25, a26, a27, a28, a29, a30)) : wpX_setApart post (le, ck, iv, dn, sn, ls, wc, iw, tr, tf, en, tk, tc, lv, ce, sc, gv, pc, a1, a2, a3, a4, a5, a6, a7, a8, a9, a10, a11, a12, a13, a14, a15, a16, a17, a18, a19, a20, a21, a22, a23, a24, a25, a26, a27, a28, a29, a30) (nI v) oth := by
  unfold wpX_setApart
  show _ ∧ _
  rw [nI_clamp (show v < 2 ^ 31 by omega)]
  refine ⟨pk_in v 11 hv, pk_in v 11 hv, nm_e ?_⟩
  refine pk_loop (fun m i s => wX_setApart_13 post (nI v) oth le ck iv dn sn ls wc iw tr tf en tk tc lv ce sc gv pc m (nI i) a1 a2 a3 a4 a5 a6 a7 a8 a9 a10 a11 a12 a13 a14 a15 a16 a17 a18 a19 a20 a21 s a23 a24 a25 a26 a27 a28 a29 a30) (fun i s => ∀ x y, x < 11 → y < 11 → (rg_ap s x y ↔ (rg_ap a22 x y ∨ (x = v ∧ bb_t oth y = true) ∨ (x < i ∧ y = v ∧ bb_t oth x = true)))) 11 0 (upd a22 v ((a22 v ||| oth).toInt16.toInt32)) (by omega) ?_ ?_ ?_
  · intro x y hx hy
    unfold rg_ap
    by_cases t : x = v
    · rw [t, pk_us, bb_s16 _ (by omega), if_pos (by omega), bb_or, Bool.or_eq_true]
      constructor
      · intro h
        rcases h with h | h
        · exact Or.inl h
        · exact Or.inr (Or.inl ⟨rfl, h⟩)
      · intro h
        rcases h with h | h | h
        · exact Or.inl h
        · exact Or.inr h.2
        · exact absurd h.1 (by omega)
    · rw [pk_un t]
      constructor
      · exact fun h => Or.inl h
      · intro h
        rcases h with h | h | h
        · exact h
        · exact absurd h.1 t
        · exact absurd h.1 (by omega)
  · intro m b22 h
    refine pk_le 11 11 (fun _ => hp b22 (fun x y hx hy => ?_)) (fun z => absurd z (by omega))
    rw [h x y hx hy]
    constructor
    · intro g
      rcases g with g | g | g
      · exact Or.inl g
      · exact Or.inr (Or.inl g)
      · exact Or.inr (Or.inr g.2)
    · intro g
      rcases g with g | g | g
      · exact Or.inl g
      · exact Or.inr (Or.inl g)
      · exact Or.inr (Or.inr ⟨hx, g⟩)
  · intro m i b22 hi h hw
    refine pk_le 11 i (fun z => absurd z (by omega)) (fun _ => br_c (fun z => nm_r (nI_1 i) (hw b22 (fun x y hx hy => ?_))) (fun z => ⟨pk_in i 11 hi, al_bitOf ⟨pk_in i 11 hi, nm_r (show _ = upd b22 i ((b22 i ||| al_bit (nI v)).toInt16.toInt32) by rw [nI_clamp (by omega)]) (nm_r (nI_1 i) (hw _ (fun x y hx hy => ?_)))⟩⟩))
    · have hz : bb_t oth i = false := (bb_test (by omega)).mp z
      rw [h x y hx hy]
      constructor
      · intro g
        rcases g with g | g | g
        · exact Or.inl g
        · exact Or.inr (Or.inl g)
        · exact Or.inr (Or.inr ⟨by omega, g.2⟩)
      · intro g
        rcases g with g | g | g
        · exact Or.inl g
        · exact Or.inr (Or.inl g)
        · by_cases t : x = i
          · rw [t, hz] at g
            exact absurd g.2.2 (by decide)
          · exact Or.inr (Or.inr ⟨by omega, g.2⟩)
    · have hz : bb_t oth i = true := by
        cases hb : bb_t oth i with
        | true => rfl
        | false => exact absurd ((bb_test (by omega)).mpr hb) z
      by_cases t : x = i
      · subst t
        have e := h x y hx hy
        unfold rg_ap at e
        unfold rg_ap
        rw [pk_us, bb_s16 _ (by omega), if_pos (by omega), bb_or, Bool.or_eq_true, e, al_bit_t (Or.inl (zp_Vd hv)) hy, nI_eq (by omega) (by omega)]
        constructor
        · intro g
          rcases g with (g | g | g) | g
          · exact Or.inl g
          · exact Or.inr (Or.inl g)
          · exact absurd g.1 (by omega)
          · exact Or.inr (Or.inr ⟨by omega, g.symm, hz⟩)
        · intro g
          rcases g with g | g | g
          · exact Or.inl (Or.inl g)
          · exact Or.inl (Or.inr (Or.inl g))
          · exact Or.inr g.2.1.symm
      · have e := h x y hx hy
        unfold rg_ap at e
        unfold rg_ap
        rw [pk_un t, e]
        constructor
        · intro g
          rcases g with g | g | g
          · exact Or.inl g
          · exact Or.inr (Or.inl g)
          · exact Or.inr (Or.inr ⟨by omega, g.2⟩)
        · intro g
          rcases g with g | g | g
          · exact Or.inl g
          · exact Or.inr (Or.inl g)
          · exact Or.inr (Or.inr ⟨by omega, g.2⟩)
theorem rg_args {post : St1 → Prop} (hs : rg_sym a22) (hp : ∀ b22, rg_sym b22 → rg_ap b22 0 1 → post (le, ck, iv, dn, sn, ls, wc, iw, tr, tf, en, tk, tc, lv, ce, sc, gv, pc, a1, a2, a3, a4, a5, a6, a7, a8, a9, a10, a11, a12, a13, a14, a15, a16, a17, a18, a19, a20, a21, b22, a23, a24, a25, a26, a27, a28, a29, a30)) : wpX_keepArgumentsApart post (le, ck, iv, dn, sn, ls, wc, iw, tr, tf, en, tk, tc, lv, ce, sc, gv, pc, a1, a2, a3, a4, a5, a6, a7, a8, a9, a10, a11, a12, a13, a14, a15, a16, a17, a18, a19, a20, a21, a22, a23, a24, a25, a26, a27, a28, a29, a30) := by
  unfold wpX_keepArgumentsApart
  refine nm_e ?_
  have t0 : bb_t (a21 0 ||| 3) 0 = true := by rw [bb_or, show bb_t 3 0 = true by decide +kernel, Bool.or_true]
  have t1 : bb_t (a21 0 ||| 3) 1 = true := by rw [bb_or, show bb_t 3 1 = true by decide +kernel, Bool.or_true]
  refine pk_loop (fun m i s => wX_keepArgumentsApart_11 post (a21 0 ||| 3) m (nI i) le ck iv dn sn ls wc iw tr tf en tk tc lv ce sc gv pc a1 a2 a3 a4 a5 a6 a7 a8 a9 a10 a11 a12 a13 a14 a15 a16 a17 a18 a19 a20 a21 s a23 a24 a25 a26 a27 a28 a29 a30) (fun i s => rg_sym s ∧ (1 ≤ i → rg_ap s 0 1)) 11 0 a22 (by omega) ⟨hs, fun z => absurd z (by omega)⟩ ?_ ?_
  · intro m b22 h
    exact pk_le 11 11 (fun _ => hp b22 h.1 (h.2 (by omega))) (fun z => absurd z (by omega))
  · intro m i b22 hi h hw
    refine pk_le 11 i (fun z => absurd z (by omega)) (fun _ => nm_e (br_c (fun z => nm_r (nI_1 i) (hw b22 ⟨h.1, fun _ => ?_⟩)) (fun z => rg_setApart hi (fun c22 hc => nm_r (nI_1 i) (hw c22 ⟨rg_set_sym hc h.1, fun _ => ?_⟩)))))
    · rcases Nat.eq_zero_or_pos i with g | g
      · subst g
        have e : bb_t ((a21 0 ||| 3) &&& (((1 : Int32) <<< (nI 0 &&& 31)) ^^^ (-1))) 0 = true := by rw [z]; exact t0
        rw [bb_and, bb_not _ (by omega), bb_bit (by omega) (by omega)] at e
        rw [decide_eq_true rfl, Bool.not_true, Bool.and_false] at e
        exact absurd e (by decide)
      · exact h.2 g
    · rcases Nat.eq_zero_or_pos i with g | g
      · subst g
        refine (hc 0 1 (by omega) (by omega)).mpr (Or.inr (Or.inl ⟨rfl, ?_⟩))
        rw [bb_and, bb_not _ (by omega), bb_bit (by omega) (by omega), t1]
        decide
      · exact rg_set_mono hc (by omega) (by omega) (h.2 g)
/-- what must not share a register with what operation q makes -/
def rg_op (q : zp_Op) (nx : Int32) (ap : Nat → Int32) : Prop := ∀ v w : Nat, v < 11 → w < 11 → w ≠ v → q.2.1 = nI v → bb_t (al_af q nx) w = true → ¬ (q.1 = 2 ∧ q.2.2.1 = nI w) → rg_ap ap v w
theorem rg_op_mono {q : zp_Op} {nx : Int32} {ap ap' : Nat → Int32} (h : rg_op q nx ap) (hm : ∀ x y, x < 11 → y < 11 → rg_ap ap x y → rg_ap ap' x y) : rg_op q nx ap' := fun v w hv hw h1 h2 h3 h4 => hm v w hv hw (h v w hv hw h1 h2 h3 h4)
theorem rg_keep {post : St1 → Prop} {i v : Nat} (hi : i < 240) (an : zp_any (zp_at a7 a8 a9 a10 a11 i)) (hv : v < 11) (em : a8 i = nI v) (hs : rg_sym a22)
    (hp : ∀ b22, rg_sym b22 → (∀ x y, x < 11 → y < 11 → rg_ap a22 x y → rg_ap b22 x y) → rg_op (zp_at a7 a8 a9 a10 a11 i) (a21 (i + 1)) b22 → post (le, ck, iv, dn, sn, ls, wc, iw, tr, tf, en, tk, tc, lv, ce, sc, gv, pc, a1, a2, a3, a4, a5, a6, a7, a8, a9, a10, a11, a12, a13, a14, a15, a16, a17, a18, a19, a20, a21, b22, a23, a24, a25, a26, a27, a28, a29, a30)) : wpX_keepApart post (le, ck, iv, dn, sn, ls, wc, iw, tr, tf, en, tk, tc, lv, ce, sc, gv, pc, a1, a2, a3, a4, a5, a6, a7, a8, a9, a10, a11, a12, a13, a14, a15, a16, a17, a18, a19, a20, a21, a22, a23, a24, a25, a26, a27, a28, a29, a30) (nI i) := by
  unfold wpX_keepApart
  show _ ∧ _
  rw [nI_clamp (show i < 2 ^ 31 by omega)]
  refine ⟨pk_in i 240 hi, nm_r em (al_after an hi (al_bitOf (nm_e ⟨pk_in i 240 hi, br_c (fun e2 => ⟨pk_in i 240 hi, al_bitOf (nm_e ?_)⟩) (fun n2 => ?_)⟩)))⟩
  · unfold wX_keepApart_46
    refine rg_setApart hv (fun b22 hb => hp b22 (rg_set_sym hb hs) (fun x y hx hy g => rg_set_mono hb hx hy g) (fun v' w hv' hw h1 h2 h3 h4 => ?_))
    have ev : v' = v := by
      have z : nI v' = nI v := h2.symm.trans em
      rw [nI_eq (by omega) (by omega)] at z
      exact z
    subst ev
    refine (hb v' w hv' hw).mpr (Or.inr (Or.inl ⟨rfl, ?_⟩))
    rw [bb_and, bb_and, bb_not _ (by omega), bb_not _ (by omega), h3, Bool.true_and, Bool.and_eq_true, Bool.not_eq_true', Bool.not_eq_true']
    refine ⟨?_, ?_⟩
    · cases hc : bb_t (al_bit (nI v')) w with
      | false => rfl
      | true =>
        rw [al_bit_t (Or.inl (zp_Vd hv')) hw, nI_eq (by omega) (by omega)] at hc
        exact absurd hc.symm h1
    · cases hc : bb_t (al_bit (a9 i)) w with
      | false => rfl
      | true =>
        have hF : zp_V (a9 i) ∨ a9 i = -1 := zp_anyF an
        rw [al_bit_t hF hw] at hc
        exact absurd ⟨e2, hc⟩ h4
  · unfold wX_keepApart_46
    refine rg_setApart hv (fun b22 hb => hp b22 (rg_set_sym hb hs) (fun x y hx hy g => rg_set_mono hb hx hy g) (fun v' w hv' hw h1 h2 h3 h4 => ?_))
    have ev : v' = v := by
      have z : nI v' = nI v := h2.symm.trans em
      rw [nI_eq (by omega) (by omega)] at z
      exact z
    subst ev
    refine (hb v' w hv' hw).mpr (Or.inr (Or.inl ⟨rfl, ?_⟩))
    rw [bb_and, bb_not _ (by omega), h3, Bool.true_and, Bool.not_eq_true']
    cases hc : bb_t (al_bit (nI v')) w with
    | false => rfl
    | true =>
      rw [al_bit_t (Or.inl (zp_Vd hv')) hw, nI_eq (by omega) (by omega)] at hc
      exact absurd hc.symm h1
theorem rg_ones {post : Int32 → Prop} {p : Int32} (hp : ∀ k : Nat, k ≤ 11 → post (nI k)) : wpX_onesIn post (le, ck, iv, dn, sn, ls, wc, iw, tr, tf, en, tk, tc, lv, ce, sc, gv, pc, a1, a2, a3, a4, a5, a6, a7, a8, a9, a10, a11, a12, a13, a14, a15, a16, a17, a18, a19, a20, a21, a22, a23, a24, a25, a26, a27, a28, a29, a30) p := by
  unfold wpX_onesIn
  refine pk_loop (fun m i s => wX_onesIn_4 post p le ck iv dn sn ls wc iw tr tf en tk tc lv ce sc gv pc a1 a2 a3 a4 a5 a6 a7 a8 a9 a10 a11 a12 a13 a14 a15 a16 a17 a18 a19 a20 a21 a22 a23 a24 a25 a26 a27 a28 a29 a30 m s (nI i)) (fun i s => ∃ k : Nat, k ≤ i ∧ s = nI k) 11 0 (0 : Int32) (by omega) ⟨0, by omega, rfl⟩ ?_ ?_
  · intro m s h
    obtain ⟨k, hk, e⟩ := h
    subst e
    exact pk_le 11 11 (fun _ => hp k hk) (fun z => absurd z (by omega))
  · intro m i s hi h hw
    obtain ⟨k, hk, e⟩ := h
    subst e
    obtain ⟨j, hj, ej⟩ := pk_andE (p >>> (nI i &&& 31)) (m := 1) 1 (by decide)
    exact pk_le 11 i (fun z => absurd z (by omega)) (fun _ => nm_r (show nI k + ((p >>> (nI i &&& 31)) &&& 1) = nI (k + j) by rw [ej, nI_add]) (nm_r (nI_1 i) (hw _ ⟨k + j, by omega, rfl⟩)))
theorem rg_21 {post : St1 → Prop} {m k : Nat} {left : Int32} (hk : k < 11) (hl : ∃ w, w < 11 ∧ bb_t left w = true)
    (hp : ∀ b : Nat, b < 11 → bb_t left b = true → wX_orderValues_6 post le ck iv dn sn ls wc iw tr tf en tk tc lv ce sc gv pc m (left &&& (((1 : Int32) <<< (nI b &&& 31)) ^^^ (-1))) (nI (k + 1)) a1 a2 a3 a4 a5 a6 a7 a8 a9 a10 a11 a12 a13 a14 a15 a16 a17 a18 a19 a20 a21 a22 a23 (upd a24 k (nI b)) a25 a26 a27 a28 a29 a30) :
    ∃ n, wX_orderValues_21 post (wX_orderValues_6 post le ck iv dn sn ls wc iw tr tf en tk tc lv ce sc gv pc m) left (nI k) le ck iv dn sn ls wc iw tr tf en tk tc lv ce sc gv pc a1 a2 a3 a4 a5 a6 a7 a8 a9 a10 a11 a12 a13 a14 a15 a16 a17 a18 a19 a20 a21 a22 a23 a24 a25 a26 a27 a28 a29 a30 n (-1) 100 0 := by
  refine pk_loop (fun n i s => wX_orderValues_21 post (wX_orderValues_6 post le ck iv dn sn ls wc iw tr tf en tk tc lv ce sc gv pc m) left (nI k) le ck iv dn sn ls wc iw tr tf en tk tc lv ce sc gv pc a1 a2 a3 a4 a5 a6 a7 a8 a9 a10 a11 a12 a13 a14 a15 a16 a17 a18 a19 a20 a21 a22 a23 a24 a25 a26 a27 a28 a29 a30 n s.1 s.2 (nI i)) (fun i s => (s.1 = -1 ∧ s.2 = nI 100 ∧ ∀ w, w < i → bb_t left w = false) ∨ (∃ b : Nat, b < 11 ∧ s.1 = nI b ∧ bb_t left b = true)) 11 0 ((-1 : Int32), (100 : Int32)) (by omega) (Or.inl ⟨rfl, rfl, fun w hw => absurd hw (by omega)⟩) ?_ ?_
  · intro n s h
    obtain ⟨b, f⟩ := s
    rcases h with h | ⟨b', hb, e, ht⟩
    · obtain ⟨w, hw, ht⟩ := hl
      rw [h.2.2 w hw] at ht
      exact absurd ht (by decide)
    · dsimp only at e
      subst e
      refine pk_le 11 11 (fun _ => ⟨pk_in k 11 hk, nm_r (show upd a24 (nI k).toNatClampNeg (nI b').toInt8.toInt32 = upd a24 k (nI b') by rw [nI_clamp (by omega), bb_b8 b' (by omega)]) (al_bitOf (nm_r (show left &&& (al_bit (nI b') ^^^ (-1)) = _ by rw [al_bitV hb]) (nm_r (nI_1 k) (hp b' hb ht))))⟩) (fun z => absurd z (by omega))
  · intro n i s hi h hw
    obtain ⟨b, f⟩ := s
    have same : (b = -1 ∧ f = nI 100 ∧ ∀ w, w < i + 1 → bb_t left w = false) ∨ (∃ b' : Nat, b' < 11 ∧ b = nI b' ∧ bb_t left b' = true) → wX_orderValues_21 post (wX_orderValues_6 post le ck iv dn sn ls wc iw tr tf en tk tc lv ce sc gv pc m) left (nI k) le ck iv dn sn ls wc iw tr tf en tk tc lv ce sc gv pc a1 a2 a3 a4 a5 a6 a7 a8 a9 a10 a11 a12 a13 a14 a15 a16 a17 a18 a19 a20 a21 a22 a23 a24 a25 a26 a27 a28 a29 a30 n b f (nI (i + 1)) := fun h => hw (b, f) h
    refine pk_le 11 i (fun z => absurd z (by omega)) (fun _ => br_c (fun z => nm_r (nI_1 i) (same ?_)) (fun z => ⟨pk_in i 11 hi, rg_ones (fun c hc => br_c (fun _ => nm_r (nI_1 i) (hw (nI i, nI c) (Or.inr ⟨i, hi, rfl, ?_⟩))) (fun hn => nm_r (nI_1 i) (same ?_)))⟩))
    · rcases h with h | h
      · refine Or.inl ⟨h.1, h.2.1, fun w hw1 => ?_⟩
        by_cases t : w = i
        · rw [t]
          exact (bb_test (by omega)).mp z
        · exact h.2.2 w (by omega)
      · exact Or.inr h
    · cases hb : bb_t left i with
      | true => rfl
      | false => exact absurd ((bb_test (by omega)).mpr hb) z
    · rcases h with h | h
      · have e : f = nI 100 := h.2.1
        rw [e] at hn
        exact absurd (nI_lt (show c < 100 by omega) (by omega)) hn
      · exact Or.inr h
theorem rg_order {post : St1 → Prop} (hp : ∀ b24, (∀ j, j < 11 → zp_V (b24 j)) → post (le, ck, iv, dn, sn, ls, wc, iw, tr, tf, en, tk, tc, lv, ce, sc, gv, pc, a1, a2, a3, a4, a5, a6, a7, a8, a9, a10, a11, a12, a13, a14, a15, a16, a17, a18, a19, a20, a21, a22, a23, b24, a25, a26, a27, a28, a29, a30)) : wpX_orderValues post (le, ck, iv, dn, sn, ls, wc, iw, tr, tf, en, tk, tc, lv, ce, sc, gv, pc, a1, a2, a3, a4, a5, a6, a7, a8, a9, a10, a11, a12, a13, a14, a15, a16, a17, a18, a19, a20, a21, a22, a23, a24, a25, a26, a27, a28, a29, a30) := by
  unfold wpX_orderValues
  refine pk_loop (fun m i (s : Int32 × (Nat → Int32)) => wX_orderValues_6 post le ck iv dn sn ls wc iw tr tf en tk tc lv ce sc gv pc m s.1 (nI i) a1 a2 a3 a4 a5 a6 a7 a8 a9 a10 a11 a12 a13 a14 a15 a16 a17 a18 a19 a20 a21 a22 a23 s.2 a25 a26 a27 a28 a29 a30) (fun i s => rg_cn s.1 11 + i = 11 ∧ ∀ j, j < i → zp_V (s.2 j)) 11 0 ((2047 : Int32), a24) (by omega) ⟨by show rg_cn 2047 11 + 0 = 11; decide +kernel, fun j hj => absurd hj (by omega)⟩ ?_ ?_
  · intro m s h
    obtain ⟨l, b24⟩ := s
    exact pk_le 11 11 (fun _ => hp b24 h.2) (fun z => absurd z (by omega))
  · intro m i s hi h hw
    obtain ⟨l, b24⟩ := s
    obtain ⟨h1, h2⟩ := h
    dsimp only at h1 h2
    have hpos : 0 < rg_cn l 11 := by omega
    refine pk_le 11 i (fun z => absurd z (by omega)) (fun _ => rg_21 hi (rg_cn_pos hpos) (fun b hb ht => hw (l &&& (((1 : Int32) <<< (nI b &&& 31)) ^^^ (-1)), upd b24 i (nI b)) ⟨?_, fun j hj => ?_⟩))
    · dsimp only
      have e := rg_cn_in (s := l) (s' := l &&& (((1 : Int32) <<< (nI b &&& 31)) ^^^ (-1))) (b := b) (fun w hw1 hw2 => ?_) ht ?_ hb (by omega)
      · omega
      · rw [bb_and, bb_not _ hw2, bb_bit (by omega) hw2, decide_eq_false hw1, Bool.not_false, Bool.and_true]
      · rw [bb_and, bb_not _ (by omega), bb_bit (by omega) (by omega), decide_eq_true rfl, Bool.not_true, Bool.and_false]
    · dsimp only
      by_cases t : j = i
      · rw [t, pk_us]
        exact zp_Vd hb
      · rw [pk_un t]
        exact h2 j (by omega)
/-- a register or none -/
def rg_col (x : Int32) : Prop := x = -1 ∨ ∃ c : Nat, c < 5 ∧ x = nI c
theorem rg_paint {post : St1 → Prop} {v : Nat} (hv : v < 11) (hc : ∀ w, w < 11 → rg_col (a23 w))
    (hp : ∀ b23, (b23 = a23 ∨ ∃ c : Nat, c < 5 ∧ b23 = upd a23 v (nI c) ∧ ∀ w, w < 11 → rg_ap a22 v w → a23 w ≠ nI c) → post (le, ck, iv, dn, sn, ls, wc, iw, tr, tf, en, tk, tc, lv, ce, sc, gv, pc, a1, a2, a3, a4, a5, a6, a7, a8, a9, a10, a11, a12, a13, a14, a15, a16, a17, a18, a19, a20, a21, a22, b23, a24, a25, a26, a27, a28, a29, a30)) : wpX_paint post (le, ck, iv, dn, sn, ls, wc, iw, tr, tf, en, tk, tc, lv, ce, sc, gv, pc, a1, a2, a3, a4, a5, a6, a7, a8, a9, a10, a11, a12, a13, a14, a15, a16, a17, a18, a19, a20, a21, a22, a23, a24, a25, a26, a27, a28, a29, a30) (nI v) := by
  unfold wpX_paint
  refine pk_loop (fun m i s => wX_paint_4 post (nI v) le ck iv dn sn ls wc iw tr tf en tk tc lv ce sc gv pc a1 a2 a3 a4 a5 a6 a7 a8 a9 a10 a11 a12 a13 a14 a15 a16 a17 a18 a19 a20 a21 a22 a23 a24 a25 a26 a27 a28 a29 a30 m s (nI i)) (fun i s => ∀ w c : Nat, w < i → c < 5 → rg_ap a22 v w → a23 w = nI c → bb_t s c = true) 11 0 (0 : Int32) (by omega) (fun w c hw => absurd hw (by omega)) ?_ ?_
  · intro m s h
    refine pk_le 11 11 (fun _ => ?_) (fun z => absurd z (by omega))
    refine pk_loop (σ := Unit) (fun m i _ => wX_paint_51 post (nI v) s le ck iv dn sn ls wc iw tr tf en tk tc lv ce sc gv pc a1 a2 a3 a4 a5 a6 a7 a8 a9 a10 a11 a12 a13 a14 a15 a16 a17 a18 a19 a20 a21 a22 a23 a24 a25 a26 a27 a28 a29 a30 m (nI i)) (fun _ _ => True) 5 0 () (by omega) trivial ?_ ?_
    · intro m _ _
      exact pk_le 5 5 (fun _ => hp a23 (Or.inl rfl)) (fun z => absurd z (by omega))
    · intro m i _ hi _ hw
      refine pk_le 5 i (fun z => absurd z (by omega)) (fun _ => br_c (fun z => ⟨pk_in v 11 hv, nm_r (show upd a23 (nI v).toNatClampNeg (nI i).toInt8.toInt32 = upd a23 v (nI i) by rw [nI_clamp (by omega), bb_b8 i (by omega)]) (hp _ (Or.inr ⟨i, hi, rfl, fun w hw1 hw2 hw3 => ?_⟩))⟩) (fun _ => nm_r (nI_1 i) (hw () trivial)))
      have t := h w i hw1 hi hw2 hw3
      rw [(bb_test (by omega)).mp z] at t
      exact absurd t (by decide)
  · intro m i s hi h hw
    have same : (rg_ap a22 v i → a23 i = -1) → wX_paint_4 post (nI v) le ck iv dn sn ls wc iw tr tf en tk tc lv ce sc gv pc a1 a2 a3 a4 a5 a6 a7 a8 a9 a10 a11 a12 a13 a14 a15 a16 a17 a18 a19 a20 a21 a22 a23 a24 a25 a26 a27 a28 a29 a30 m s (nI (i + 1)) := by
      intro g
      refine hw s (fun w c h1 h2 h3 h4 => ?_)
      by_cases t : w = i
      · rw [t] at h3 h4
        rw [g h3] at h4
        exact absurd h4.symm ((by decide +kernel : ∀ i, i < 11 → nI i ≠ -1) c (by omega))
      · exact h w c (by omega) h2 h3 h4
    refine pk_le 11 i (fun z => absurd z (by omega)) (fun _ => ⟨pk_in v 11 hv, ?_⟩)
    rw [nI_clamp (show v < 2 ^ 31 by omega), nI_clamp (show i < 2 ^ 31 by omega)]
    refine br_c (fun z => nm_r (nI_1 i) (same (fun g => ?_))) (fun z => ⟨pk_in i 11 hi, br_c (fun z2 => nm_r (nI_1 i) (same (fun _ => ?_))) (fun z2 => ⟨pk_in i 11 hi, nm_e (nm_r (nI_1 i) (hw _ (fun w c h1 h2 h3 h4 => ?_)))⟩)⟩)
    · unfold rg_ap at g
      rw [(bb_test (by omega)).mp z] at g
      exact absurd g (by decide)
    · rcases hc i hi with e | ⟨c, hc1, e⟩
      · exact e
      · rw [e] at z2
        exact absurd z2 (nI_pos (by omega))
    · by_cases t : w = i
      · subst t
        rw [h4, bb_or, bb_bit (by omega) (by omega), decide_eq_true rfl, Bool.or_true]
      · rw [bb_or, h w c (by omega) h2 h3 h4, Bool.true_or]
end
end
section
/-! registers are chosen -/
/-- who is kept apart has another register -/
def rg_va (ap col : Nat → Int32) : Prop := ∀ x y, x < 11 → y < 11 → x ≠ y → rg_ap ap x y → col x = -1 ∨ col x ≠ col y
/-- what the machine's run needs of the registers -/
def rg_ok (P : Nat → zp_Op) (N : Nat) (al col : Nat → Int32) : Prop := (∀ w, w < 11 → rg_col (col w)) ∧ (col 0 = -1 ∨ col 0 ≠ col 1) ∧
  ∀ i, i < N → zp_pl (P i) → ∀ v w : Nat, v < 11 → w < 11 → w ≠ v → (P i).2.1 = nI v → bb_t (al_af (P i) (al (i + 1))) w = true → ¬ ((P i).1 = 2 ∧ (P i).2.2.1 = nI w) → col v = -1 ∨ col v ≠ col w
theorem rg_va_s {ap col : Nat → Int32} {v c : Nat} (hs : rg_sym ap) (h : rg_va ap col) (hv : v < 11) (hc : ∀ w, w < 11 → rg_ap ap v w → col w ≠ nI c) : rg_va ap (upd col v (nI c)) := by
  intro x y hx hy hxy hap
  by_cases t : x = v
  · right
    rw [t] at hap hxy
    rw [t, pk_us, pk_un (fun z => hxy z.symm)]
    exact fun z => hc y hy hap z.symm
  · rw [pk_un t]
    by_cases t2 : y = v
    · right
      rw [t2, pk_us]
      rw [t2] at hap
      exact hc x hx (hs x v hx hv hap)
    · rw [pk_un t2]
      exact h x y hx hy hxy hap
section
variable {le ck iv dn sn ls wc tr tf en tk tc lv ce sc gv pc : Int32} {iw : Int64} {a1 a2 a3 a4 a5 a6 a7 a8 a9 a10 a11 a12 a13 a14 a15 a16 a17 a18 a19 a20 a21 a22 a23 a24 a25 a26 a27 a28 a29 a30 : Nat → Int32}
theorem rg_88 {post : St1 → Prop} (hs : rg_sym a22) (ho : ∀ j, j < 11 → zp_V (a24 j)) (hc : ∀ w, w < 11 → rg_col (a23 w)) (hv : rg_va a22 a23)
    (hp : ∀ b23, (∀ w, w < 11 → rg_col (b23 w)) → rg_va a22 b23 → post (le, ck, iv, dn, sn, ls, wc, iw, tr, tf, en, tk, tc, lv, ce, sc, gv, pc, a1, a2, a3, a4, a5, a6, a7, a8, a9, a10, a11, a12, a13, a14, a15, a16, a17, a18, a19, a20, a21, a22, b23, a24, a25, a26, a27, a28, a29, a30)) : ∃ m, wX_chooseRegisters_88 post m 10 le ck iv dn sn ls wc iw tr tf en tk tc lv ce sc gv pc a1 a2 a3 a4 a5 a6 a7 a8 a9 a10 a11 a12 a13 a14 a15 a16 a17 a18 a19 a20 a21 a22 a23 a24 a25 a26 a27 a28 a29 a30 := by
  have g := pk_loopD (fun m i s => wX_chooseRegisters_88 post m (nI i + (-1)) le ck iv dn sn ls wc iw tr tf en tk tc lv ce sc gv pc a1 a2 a3 a4 a5 a6 a7 a8 a9 a10 a11 a12 a13 a14 a15 a16 a17 a18 a19 a20 a21 a22 s a24 a25 a26 a27 a28 a29 a30) (fun i s => i ≤ 11 ∧ (∀ w, w < 11 → rg_col (s w)) ∧ rg_va a22 s) ?_ ?_ 11 a23 ⟨by omega, hc, hv⟩
  · exact ⟨12, g⟩
  · intro m b23 h
    exact br_t (by decide) (hp b23 h.2.1 h.2.2)
  · intro m i b23 h hw
    obtain ⟨h1, h2, h3⟩ := h
    show wX_chooseRegisters_88 post (m + 1) (nI (i + 1) + (-1)) le ck iv dn sn ls wc iw tr tf en tk tc lv ce sc gv pc a1 a2 a3 a4 a5 a6 a7 a8 a9 a10 a11 a12 a13 a14 a15 a16 a17 a18 a19 a20 a21 a22 b23 a24 a25 a26 a27 a28 a29 a30
    rw [pk_m1]
    obtain ⟨v, hv1, ev⟩ := ho i (by omega)
    refine br_f (nI_pos (by omega)) ⟨pk_in i 11 (by omega), ?_⟩
    rw [nI_clamp (show i < 2 ^ 31 by omega), ev]
    refine rg_paint hv1 h2 (fun c23 hb => nm_e (hw c23 ?_))
    rcases hb with e | ⟨c, hc1, e, hb⟩
    · rw [e]
      exact ⟨by omega, h2, h3⟩
    · rw [e]
      refine ⟨by omega, fun w hw1 => ?_, rg_va_s hs h3 hv1 hb⟩
      by_cases t : w = v
      · rw [t, pk_us]
        exact Or.inr ⟨c, hc1, rfl⟩
      · rw [pk_un t]
        exact h2 w hw1
theorem rg_42 {post : St1 → Prop} {N : Nat} (hN : N ≤ 240) (an : ∀ i, i < N → zp_any (zp_at a7 a8 a9 a10 a11 i)) (hs : rg_sym a22) (h01 : rg_ap a22 0 1) (hc : ∀ w, w < 11 → a23 w = -1)
    (hp : ∀ b22 b23 b24, rg_ok (zp_at a7 a8 a9 a10 a11) N a21 b23 → post (le, ck, iv, dn, sn, ls, wc, iw, tr, tf, nI N, tk, tc, lv, ce, sc, gv, pc, a1, a2, a3, a4, a5, a6, a7, a8, a9, a10, a11, a12, a13, a14, a15, a16, a17, a18, a19, a20, a21, b22, b23, b24, a25, a26, a27, a28, a29, a30)) : ∃ m, wX_chooseRegisters_42 post m 0 le ck iv dn sn ls wc iw tr tf (nI N) tk tc lv ce sc gv pc a1 a2 a3 a4 a5 a6 a7 a8 a9 a10 a11 a12 a13 a14 a15 a16 a17 a18 a19 a20 a21 a22 a23 a24 a25 a26 a27 a28 a29 a30 := by
  refine pk_loop (fun m i s => wX_chooseRegisters_42 post m (nI i) le ck iv dn sn ls wc iw tr tf (nI N) tk tc lv ce sc gv pc a1 a2 a3 a4 a5 a6 a7 a8 a9 a10 a11 a12 a13 a14 a15 a16 a17 a18 a19 a20 a21 s a23 a24 a25 a26 a27 a28 a29 a30) (fun i s => rg_sym s ∧ rg_ap s 0 1 ∧ ∀ j, j < i → zp_pl (zp_at a7 a8 a9 a10 a11 j) → rg_op (zp_at a7 a8 a9 a10 a11 j) (a21 (j + 1)) s) N 0 a22 (by omega) ⟨hs, h01, fun j hj => absurd hj (by omega)⟩ ?_ ?_
  · intro m b22 h
    obtain ⟨h1, h2, h3⟩ := h
    refine pk_le N N (fun _ => rg_order (fun b24 ho => rg_88 h1 ho (fun w hw => Or.inl (hc w hw)) (fun x y hx hy _ _ => Or.inl (hc x hx)) (fun b23 hb1 hb2 => hp b22 b23 b24 ⟨hb1, hb2 0 1 (by omega) (by omega) (by omega) h2, fun i hi hpl v w hv hw hwv e1 e2 e3 => ?_⟩))) (fun z => absurd z (by omega))
    exact hb2 v w hv hw (fun z => hwv z.symm) (h3 i hi hpl v w hv hw hwv e1 e2 e3)
  · intro m i b22 hi h hw
    obtain ⟨h1, h2, h3⟩ := h
    have ani := an i hi
    obtain ⟨j, hj, ej, hj2⟩ := zp_anyO ani
    have ej' : a7 i = nI j := ej
    refine pk_le N i (fun z => absurd z (by omega)) (fun _ => ⟨pk_in i 240 (by omega), ?_⟩)
    rw [nI_clamp (show i < 2 ^ 31 by omega)]
    refine br_f (by rw [ej']; show ¬ nI j = nI 15; rw [nI_eq (by omega) (by omega)]; omega) ⟨pk_in i 240 (by omega), ?_⟩
    rcases zp_anyM ani with ⟨v, hv, ev⟩ | ev
    · have ev' : a8 i = nI v := ev
      refine br_f (by rw [ev']; exact nI_pos (by omega)) (rg_keep (by omega) ani hv ev' h1 (fun c22 hc1 hc2 hc3 => nm_r (nI_1 i) (hw c22 ⟨hc1, hc2 0 1 (by omega) (by omega) h2, fun k hk hpl => ?_⟩)))
      by_cases t : k = i
      · rw [t]
        exact hc3
      · exact rg_op_mono (h3 k (by omega) hpl) hc2
    · have ev' : a8 i = -1 := ev
      refine br_t (by rw [ev']; exact bb_neg') (nm_r (nI_1 i) (hw b22 ⟨h1, h2, fun k hk hpl => ?_⟩))
      by_cases t : k = i
      · rw [t] at hpl
        exact absurd ev (zp_Vm hpl.1)
      · exact h3 k (by omega) hpl
theorem rg_choose {post : St1 → Prop} {N : Nat} (hN : N ≤ 240) (an : ∀ i, i < N → zp_any (zp_at a7 a8 a9 a10 a11 i))
    (hp : ∀ b22 b23 b24, rg_ok (zp_at a7 a8 a9 a10 a11) N a21 b23 → post (le, ck, iv, dn, sn, ls, wc, iw, tr, tf, nI N, tk, tc, lv, ce, sc, gv, pc, a1, a2, a3, a4, a5, a6, a7, a8, a9, a10, a11, a12, a13, a14, a15, a16, a17, a18, a19, a20, a21, b22, b23, b24, a25, a26, a27, a28, a29, a30)) : wpX_chooseRegisters post (le, ck, iv, dn, sn, ls, wc, iw, tr, tf, nI N, tk, tc, lv, ce, sc, gv, pc, a1, a2, a3, a4, a5, a6, a7, a8, a9, a10, a11, a12, a13, a14, a15, a16, a17, a18, a19, a20, a21, a22, a23, a24, a25, a26, a27, a28, a29, a30) := by
  unfold wpX_chooseRegisters
  refine pk_loop (fun m i (s : (Nat → Int32) × (Nat → Int32)) => wX_chooseRegisters_2 post le ck iv dn sn ls wc iw tr tf (nI N) tk tc lv ce sc gv pc m (nI i) a1 a2 a3 a4 a5 a6 a7 a8 a9 a10 a11 a12 a13 a14 a15 a16 a17 a18 a19 a20 a21 s.1 s.2 a24 a25 a26 a27 a28 a29 a30) (fun i s => ∀ j, j < i → s.1 j = 0 ∧ s.2 j = -1) 11 0 (a22, a23) (by omega) (fun j hj => absurd hj (by omega)) ?_ ?_
  · intro m s h
    obtain ⟨b22, b23⟩ := s
    have hc : ∀ w, w < 11 → b23 w = -1 := fun w hw => (h w hw).2
    have hz : ∀ x, x < 11 → b22 x = 0 := fun x hx => (h x hx).1
    refine pk_le 11 11 (fun _ => br_c (fun _ => hp b22 b23 a24 ⟨fun w hw => Or.inl (hc w hw), Or.inl (hc 0 (by omega)), fun i hi hpl v w hv hw hwv e1 e2 e3 => Or.inl (hc v hv)⟩) (fun _ => rg_args (fun x y hx hy g => ?_) (fun c22 g1 g2 => rg_42 hN an g1 g2 hc hp))) (fun z => absurd z (by omega))
    have g' : bb_t (b22 x) y = true := g
    rw [hz x hx, bb_0] at g'
    exact absurd g' (by decide)
  · intro m i s hi h hw
    obtain ⟨b22, b23⟩ := s
    refine pk_le 11 i (fun z => absurd z (by omega)) (fun _ => ⟨pk_in i 11 hi, nm_r (show upd b22 (nI i).toNatClampNeg 0 = upd b22 i 0 by rw [nI_clamp (by omega)]) ⟨pk_in i 11 hi, nm_r (show upd b23 (nI i).toNatClampNeg (-1) = upd b23 i (-1) by rw [nI_clamp (by omega)]) (nm_r (nI_1 i) (hw (upd b22 i 0, upd b23 i (-1)) (fun j hj => ?_)))⟩⟩)
    dsimp only
    by_cases t : j = i
    · rw [t, pk_us, pk_us]
      exact ⟨rfl, rfl⟩
    · rw [pk_un t, pk_un t]
      exact h j (by omega)
end
end
section
/-! machine words -/
def wd_mk (o a b l : Int32) : Int32 := (((o <<< ((26 : Int32) &&& 31)) ||| (a <<< ((22 : Int32) &&& 31))) ||| (b <<< ((18 : Int32) &&& 31))) ||| (l &&& 262143)
def wd_op (w : Int32) : Int32 := (w.toUInt32 >>> ((26 : Int32).toUInt32 &&& Int32.toUInt32 31)).toInt32
def wd_a (w : Int32) : Int32 := ((w.toUInt32 >>> ((22 : Int32).toUInt32 &&& Int32.toUInt32 31)).toInt32) &&& 7
def wd_b (w : Int32) : Int32 := ((w.toUInt32 >>> ((18 : Int32).toUInt32 &&& Int32.toUInt32 31)).toInt32) &&& 7
def wd_l (w : Int32) : Int32 := w &&& 262143
def wd_n (w : Int32) : Int32 := (w <<< ((14 : Int32) &&& 31)) >>> ((14 : Int32) &&& 31)
theorem wd_262143 (i : Nat) : bb_t 262143 i = decide (i < 18) := by
  rcases Nat.lt_or_ge i 32 with h | h
  · exact (by decide +kernel : ∀ i, i < 32 → bb_t 262143 i = decide (i < 18)) i h
  · rw [bb_big h, decide_eq_false (by omega)]
theorem wd_7 (i : Nat) : bb_t 7 i = decide (i < 3) := by
  rcases Nat.lt_or_ge i 32 with h | h
  · exact (by decide +kernel : ∀ i, i < 32 → bb_t 7 i = decide (i < 3)) i h
  · rw [bb_big h, decide_eq_false (by omega)]
theorem wd_hi6 {n k : Nat} (hn : n < 64) (hk : 6 ≤ k) : bb_t (nI n) k = false := by
  rcases Nat.lt_or_ge k 32 with h | h
  · exact (by decide +kernel : ∀ n, n < 64 → ∀ k, k < 32 → 6 ≤ k → bb_t (nI n) k = false) n hn k h hk
  · exact bb_big h
theorem wd_hi3 {n k : Nat} (hn : n < 8) (hk : 3 ≤ k) : bb_t (nI n) k = false := by
  rcases Nat.lt_or_ge k 32 with h | h
  · exact (by decide +kernel : ∀ n, n < 8 → ∀ k, k < 32 → 3 ≤ k → bb_t (nI n) k = false) n hn k h hk
  · exact bb_big h
theorem wd_bit (o a b l : Int32) {i : Nat} (hi : i < 32) : bb_t (wd_mk o a b l) i = ((((decide (26 ≤ i) && bb_t o (i - 26)) || (decide (22 ≤ i) && bb_t a (i - 22))) || (decide (18 ≤ i) && bb_t b (i - 18))) || (bb_t l i && decide (i < 18))) := by
  unfold wd_mk
  rw [bb_or, bb_or, bb_or, bb_and, wd_262143]
  have h26 : bb_t (o <<< ((26 : Int32) &&& 31)) i = (decide (26 ≤ i) && bb_t o (i - 26)) := bb_shl 26 (by omega) o hi
  have h22 : bb_t (a <<< ((22 : Int32) &&& 31)) i = (decide (22 ≤ i) && bb_t a (i - 22)) := bb_shl 22 (by omega) a hi
  have h18 : bb_t (b <<< ((18 : Int32) &&& 31)) i = (decide (18 ≤ i) && bb_t b (i - 18)) := bb_shl 18 (by omega) b hi
  rw [h26, h22, h18]
section
variable {o a b : Nat} {l : Int32}
theorem wd_dop (ho : o < 64) (ha : a < 8) (hb : b < 8) : wd_op (wd_mk (nI o) (nI a) (nI b) l) = nI o := by
  apply bb_ext
  intro i hi
  have h : bb_t (wd_op (wd_mk (nI o) (nI a) (nI b) l)) i = bb_t (wd_mk (nI o) (nI a) (nI b) l) (26 + i) := bb_ushr 26 (by omega) _ i
  rw [h]
  rcases Nat.lt_or_ge i 6 with g | g
  · rw [wd_bit _ _ _ _ (by omega), wd_hi3 (n := a) ha (by omega), wd_hi3 (n := b) hb (by omega), decide_eq_true (show 26 ≤ 26 + i by omega), decide_eq_false (show ¬ 26 + i < 18 by omega), Bool.and_false, Bool.and_false, Bool.and_false, Bool.or_false, Bool.or_false, Bool.or_false, Bool.true_and, show 26 + i - 26 = i by omega]
  · rw [bb_big (by omega), wd_hi6 ho g]
theorem wd_da (ho : o < 64) (ha : a < 8) (hb : b < 8) : wd_a (wd_mk (nI o) (nI a) (nI b) l) = nI a := by
  apply bb_ext
  intro i hi
  have h : bb_t (wd_a (wd_mk (nI o) (nI a) (nI b) l)) i = (bb_t (wd_mk (nI o) (nI a) (nI b) l) (22 + i) && bb_t 7 i) := by
    unfold wd_a
    rw [bb_and]
    have h2 := bb_ushr 22 (by omega) (wd_mk (nI o) (nI a) (nI b) l) i
    exact congrArg (fun z => z && bb_t 7 i) h2
  rw [h, wd_7]
  rcases Nat.lt_or_ge i 3 with g | g
  · rw [decide_eq_true g, Bool.and_true, wd_bit _ _ _ _ (by omega), wd_hi3 (n := b) hb (by omega), decide_eq_false (show ¬ 26 ≤ 22 + i by omega), decide_eq_true (show 22 ≤ 22 + i by omega), decide_eq_false (show ¬ 22 + i < 18 by omega), Bool.and_false, Bool.and_false, Bool.or_false, Bool.or_false, Bool.false_and, Bool.false_or, Bool.true_and, show 22 + i - 22 = i by omega]
  · rw [decide_eq_false (by omega), Bool.and_false, wd_hi3 ha g]
theorem wd_db (ho : o < 64) (ha : a < 8) (hb : b < 8) : wd_b (wd_mk (nI o) (nI a) (nI b) l) = nI b := by
  apply bb_ext
  intro i hi
  have h : bb_t (wd_b (wd_mk (nI o) (nI a) (nI b) l)) i = (bb_t (wd_mk (nI o) (nI a) (nI b) l) (18 + i) && bb_t 7 i) := by
    unfold wd_b
    rw [bb_and]
    have h2 := bb_ushr 18 (by omega) (wd_mk (nI o) (nI a) (nI b) l) i
    exact congrArg (fun z => z && bb_t 7 i) h2
  rw [h, wd_7]
  rcases Nat.lt_or_ge i 3 with g | g
  · rw [decide_eq_true g, Bool.and_true, wd_bit _ _ _ _ (by omega), decide_eq_false (show ¬ 26 ≤ 18 + i by omega), decide_eq_false (show ¬ 22 ≤ 18 + i by omega), decide_eq_true (show 18 ≤ 18 + i by omega), decide_eq_false (show ¬ 18 + i < 18 by omega), Bool.and_false, Bool.or_false, Bool.false_and, Bool.false_and, Bool.false_or, Bool.false_or, Bool.true_and, show 18 + i - 18 = i by omega]
  · rw [decide_eq_false (by omega), Bool.and_false, wd_hi3 hb g]
theorem wd_lo (o a b l : Int32) {i : Nat} (hi : i < 18) : bb_t (wd_mk o a b l) i = bb_t l i := by
  rw [wd_bit _ _ _ _ (by omega), decide_eq_false (show ¬ 26 ≤ i by omega), decide_eq_false (show ¬ 22 ≤ i by omega), decide_eq_false (show ¬ 18 ≤ i by omega), decide_eq_true hi, Bool.false_and, Bool.false_and, Bool.false_and, Bool.false_or, Bool.false_or, Bool.false_or, Bool.and_true]
theorem wd_dl (o a b l : Int32) : wd_l (wd_mk o a b l) = l &&& 262143 := by
  apply bb_ext
  intro i hi
  unfold wd_l
  rw [bb_and, bb_and, wd_262143]
  rcases Nat.lt_or_ge i 18 with g | g
  · rw [wd_lo _ _ _ _ g]
  · rw [decide_eq_false (by omega), Bool.and_false, Bool.and_false]
theorem wd_ln {n : Nat} (hn : n < 262144) : nI n &&& 262143 = nI n := by
  rw [pk_andN (show n < 2 ^ 32 by omega) 18 (by decide), Nat.mod_eq_of_lt (by omega)]
theorem wd_dln {n : Nat} (hn : n < 262144) (o a b : Int32) : wd_l (wd_mk o a b (nI n)) = nI n := by rw [wd_dl, wd_ln hn]
theorem wd_sh14 (o a b l : Int32) : (wd_mk o a b l) <<< ((14 : Int32) &&& 31) = l <<< ((14 : Int32) &&& 31) := by
  apply bb_ext
  intro i hi
  have h1 : bb_t ((wd_mk o a b l) <<< ((14 : Int32) &&& 31)) i = (decide (14 ≤ i) && bb_t (wd_mk o a b l) (i - 14)) := bb_shl 14 (by omega) _ hi
  have h2 : bb_t (l <<< ((14 : Int32) &&& 31)) i = (decide (14 ≤ i) && bb_t l (i - 14)) := bb_shl 14 (by omega) _ hi
  rw [h1, h2]
  rcases Nat.lt_or_ge i 14 with g | g
  · rw [decide_eq_false (by omega), Bool.false_and, Bool.false_and]
  · rw [wd_lo _ _ _ _ (by omega)]
theorem wd_smI {l : Int32} (h : zp_small l) : -100000 ≤ l.toInt ∧ l.toInt ≤ 100000 := by
  obtain ⟨h1, h2⟩ := h
  rw [Int32.lt_iff_toInt_lt] at h1 h2
  have e1 : (-100000 : Int32).toInt = -100000 := by decide +kernel
  have e2 : (100000 : Int32).toInt = 100000 := by decide +kernel
  rw [e1] at h1
  rw [e2] at h2
  omega
theorem wd_sh {l : Int32} (h : zp_small l) : (l <<< ((14 : Int32) &&& 31)) >>> ((14 : Int32) &&& 31) = l := by
  obtain ⟨h1, h2⟩ := wd_smI h
  have e1 := pk_shl l ((14 : Int32) &&& 31) 14 (by decide)
  have t1 : l.toInt = if 2 * l.toBitVec.toNat < 2 ^ 32 then (l.toBitVec.toNat : Int) else (l.toBitVec.toNat : Int) - (2 ^ 32 : Nat) := BitVec.toInt_eq_toNat_cond l.toBitVec
  have t2 : (l <<< ((14 : Int32) &&& 31)).toInt = if 2 * (l <<< ((14 : Int32) &&& 31)).toBitVec.toNat < 2 ^ 32 then ((l <<< ((14 : Int32) &&& 31)).toBitVec.toNat : Int) else ((l <<< ((14 : Int32) &&& 31)).toBitVec.toNat : Int) - (2 ^ 32 : Nat) := BitVec.toInt_eq_toNat_cond _
  have e : (l <<< ((14 : Int32) &&& 31)).toInt = l.toInt * 16384 := by
    rw [t2, e1]
    have hlt := l.toBitVec.isLt
    generalize l.toInt = z at *
    generalize l.toBitVec.toNat = n at *
    split at t1
    · rw [if_pos (by omega)]
      omega
    · split
      · omega
      · omega
  apply Int32.toInt_inj.mp
  rw [pk_shr _ _ 14 (by decide), e, Int.shiftRight_eq_div_pow]
  show l.toInt * 16384 / 16384 = l.toInt
  omega
theorem wd_dn {l : Int32} (h : zp_small l) (o a b : Int32) : wd_n (wd_mk o a b l) = l := by
  unfold wd_n
  rw [wd_sh14, wd_sh h]
end
/-! words as pictures: operation, a, b, low -/
abbrev wd_W : Type := Nat × Nat × Nat × Int32
def wd_of (w : wd_W) : Int32 := wd_mk (nI w.1) (nI w.2.1) (nI w.2.2.1) w.2.2.2
def wd_good (w : wd_W) : Prop := w.2.1 < 8 ∧ w.2.2.1 < 8 ∧
  ((3 ≤ w.1 ∧ w.1 ≤ 12 ∧ ∃ r : Nat, r < 8 ∧ w.2.2.2 = nI r) ∨ (35 ≤ w.1 ∧ w.1 ≤ 44 ∧ zp_small w.2.2.2) ∨ (w.1 = 16 ∧ zp_small w.2.2.2) ∨ ((w.1 = 17 ∨ w.1 = 18) ∧ ∃ n : Nat, n < 65536 ∧ w.2.2.2 = nI n)
   ∨ (w.1 = 19 ∨ w.1 = 20) ∨ ((w.1 = 23 ∨ w.1 = 24) ∧ ∃ v : Nat, v < 11 ∧ w.2.2.2 = nI v) ∨ (w.1 = 28 ∧ ∃ k : Nat, k ≤ 40 ∧ w.2.2.2 = nI k) ∨ w.1 = 29)
/-- registers, homes, steps, how many printed, printed -/
abbrev wm_St : Type := (Nat → Int32) × (Nat → Int32) × Nat × Nat × (Nat → Int32)
def wm_vl (w : wd_W) (x : wm_St) : Int32 :=
  if w.1 = 16 then w.2.2.2 else if w.1 = 17 then w.2.2.2 <<< ((16 : Int32) &&& 31) else if w.1 = 18 then x.1 w.2.2.1 ||| w.2.2.2
  else if w.1 = 19 then x.1 w.2.2.1 else if w.1 = 20 then x.1 w.2.2.1 ^^^ (-1) else if w.1 = 23 then x.2.1 w.2.2.2.toNatClampNeg
  else if w.1 < 13 then sg_cb (nI w.1) (x.1 w.2.2.1) (x.1 w.2.2.2.toNatClampNeg) else sg_cb (nI (w.1 - 32)) (x.1 w.2.2.1) w.2.2.2
def wm_op (w : wd_W) (x : wm_St) : wm_St :=
  if w.1 = 28 then (x.1, x.2.1, x.2.2.1 + w.2.2.2.toNatClampNeg, x.2.2.2)
  else if w.1 = 29 then (x.1, x.2.1, x.2.2.1, x.2.2.2.1 + 1, if x.2.2.2.1 < 20 then upd x.2.2.2.2 x.2.2.2.1 (x.1 w.2.1) else x.2.2.2.2)
  else if w.1 = 24 then (x.1, upd x.2.1 w.2.2.2.toNatClampNeg (x.1 w.2.1), x.2.2)
  else (upd x.1 w.2.1 (wm_vl w x), x.2)
def wm_run (W : Nat → wd_W) : Nat → wm_St → wm_St
  | 0 => fun x => x
  | n + 1 => fun x => wm_op (W n) (wm_run W n x)
theorem wm_run_s (W : Nat → wd_W) (n : Nat) (x : wm_St) : wm_run W (n + 1) x = wm_op (W n) (wm_run W n x) := rfl
theorem wm_run_c {W V : Nat → wd_W} {n : Nat} (h : ∀ i, i < n → W i = V i) (x : wm_St) : wm_run W n x = wm_run V n x := by
  induction n with
  | zero => rfl
  | succ n ih => rw [wm_run_s, wm_run_s, ih (fun i hi => h i (by omega)), h n (by omega)]
theorem wm_op_mono (w : wd_W) (x : wm_St) : x.2.2.1 ≤ (wm_op w x).2.2.1 := by
  unfold wm_op
  by_cases h : w.1 = 28
  · rw [if_pos h]; exact Nat.le_add_right _ _
  · rw [if_neg h]
    by_cases h1 : w.1 = 29
    · rw [if_pos h1]; exact Nat.le_refl _
    · rw [if_neg h1]
      by_cases h2 : w.1 = 24
      · rw [if_pos h2]; exact Nat.le_refl _
      · rw [if_neg h2]; exact Nat.le_refl _
theorem wm_run_mono (W : Nat → wd_W) {a b : Nat} (h : a ≤ b) (x : wm_St) : (wm_run W a x).2.2.1 ≤ (wm_run W b x).2.2.1 := by
  induction b with
  | zero => rw [show a = 0 by omega]; exact Nat.le_refl _
  | succ b ih =>
    rcases Nat.lt_or_ge b a with g | g
    · rw [show a = b + 1 by omega]; exact Nat.le_refl _
    · exact Nat.le_trans (ih g) (wm_op_mono (W b) (wm_run W b x))
def wd_up (W : Nat → wd_W) (c : Nat) (w : wd_W) : Nat → wd_W := fun j => if j = c then w else W j
/-- the words of the code -/
def cd_ok (code : Nat → Int32) (W : Nat → wd_W) (c : Nat) : Prop := ∀ j, j < c → code j = wd_of (W j) ∧ wd_good (W j)
theorem cd_add {code : Nat → Int32} {W : Nat → wd_W} {c : Nat} {w : wd_W} (h : cd_ok code W c) (hg : wd_good w) : cd_ok (upd code c (wd_of w)) (wd_up W c w) (c + 1) := by
  intro j hj
  by_cases t : j = c
  · subst t
    rw [pk_us]
    unfold wd_up
    rw [if_pos rfl]
    exact ⟨rfl, hg⟩
  · rw [pk_un t]
    unfold wd_up
    rw [if_neg t]
    exact h j (by omega)
theorem cd_addr {W : Nat → wd_W} {c : Nat} {w : wd_W} (x : wm_St) : wm_run (wd_up W c w) (c + 1) x = wm_op w (wm_run W c x) := by
  rw [wm_run_s, wm_run_c (V := W) (fun i hi => by unfold wd_up; rw [if_neg (by omega)])]
  unfold wd_up
  rw [if_pos rfl]
/-- a value's place: its register or its home -/
def lc_at (col : Nat → Int32) (x : wm_St) (v : Nat) : Int32 := if col v = -1 then x.2.1 v else x.1 (col v).toNatClampNeg
end
section
/-! encoding one operation -/
/-- only register k differs -/
def cd_same (k : Nat) (y z : wm_St) : Prop := y.2 = z.2 ∧ ∀ j, j ≠ k → y.1 j = z.1 j
/-- only scratch registers differ -/
def cd_scr (y z : wm_St) : Prop := y.2 = z.2 ∧ ∀ j, j < 5 → y.1 j = z.1 j
/-- m now holds val, what doesn't share its register is as it was -/
def cd_mk (col : Nat → Int32) (z y : wm_St) (m : Nat) (val : Int32) : Prop := lc_at col y m = val ∧ (∀ w, w < 11 → w ≠ m → (col m = -1 ∨ col m ≠ col w) → lc_at col y w = lc_at col z w) ∧ y.2.2 = z.2.2
/-- the register in which v's new value is made -/
def cd_tg (col : Nat → Int32) (v r : Nat) : Prop := (col v = -1 ∧ r = 5) ∨ (col v = nI r ∧ r < 5)
theorem cd_ne (r : Nat) (hr : r < 8) : nI r ≠ -1 := (by decide +kernel : ∀ i, i < 8 → nI i ≠ -1) r hr
/-- the value made in register r, then taken home -/
def cd_th (col : Nat → Int32) (m : Nat) (x : wm_St) : wm_St := if col m = -1 then (x.1, upd x.2.1 m (x.1 5), x.2.2) else x
theorem cd_fin {col : Nat → Int32} (hcol : ∀ w, w < 11 → rg_col (col w)) {m r : Nat} (hm : m < 11) (hr : cd_tg col m r) {z y : wm_St} (h : cd_scr y z) (val : Int32) : cd_mk col z (cd_th col m (upd y.1 r val, y.2)) m val := by
  obtain ⟨h1, h2⟩ := h
  unfold cd_th
  rcases hr with ⟨e, er⟩ | ⟨e, er⟩
  · subst er
    rw [if_pos e]
    refine ⟨?_, fun w hw hwm _ => ?_, ?_⟩
    · unfold lc_at
      rw [if_pos e]
      show upd y.2.1 m (upd y.1 5 val 5) m = val
      rw [pk_us, pk_us]
    · unfold lc_at
      by_cases t : col w = -1
      · rw [if_pos t, if_pos t]
        show upd y.2.1 m (upd y.1 5 val 5) w = z.2.1 w
        rw [pk_un hwm, h1]
      · rw [if_neg t, if_neg t]
        rcases hcol w hw with q | ⟨c, hc, q⟩
        · exact absurd q t
        · rw [q, nI_clamp (by omega)]
          show upd y.1 5 val c = z.1 c
          rw [pk_un (by omega)]
          exact h2 c hc
    · show y.2.2 = z.2.2
      rw [h1]
  · have ne : col m ≠ -1 := by rw [e]; exact cd_ne r (by omega)
    rw [if_neg ne]
    refine ⟨?_, fun w hw hwm hd => ?_, ?_⟩
    · unfold lc_at
      rw [if_neg ne, e, nI_clamp (by omega)]
      exact pk_us
    · unfold lc_at
      by_cases t : col w = -1
      · rw [if_pos t, if_pos t]
        show y.2.1 w = z.2.1 w
        rw [h1]
      · rw [if_neg t, if_neg t]
        rcases hcol w hw with q | ⟨c, hc, q⟩
        · exact absurd q t
        · rw [q, nI_clamp (by omega)]
          show upd y.1 r val c = z.1 c
          rw [pk_un (fun g => ?_)]
          · exact h2 c hc
          · rcases hd with hd | hd
            · exact ne hd
            · exact hd (by rw [e, q, g])
    · show y.2.2 = z.2.2
      rw [h1]
theorem cd_same_scr {k : Nat} (hk : 5 ≤ k) {y z : wm_St} (h : cd_same k y z) : cd_scr y z := ⟨h.1, fun j hj => h.2 j (by omega)⟩
theorem cd_scr_t {x y z : wm_St} (h : cd_scr x y) (g : cd_scr y z) : cd_scr x z := ⟨h.1.trans g.1, fun j hj => (h.2 j hj).trans (g.2 j hj)⟩
theorem cd_scr_r (x : wm_St) : cd_scr x x := ⟨rfl, fun _ _ => rfl⟩
/-- places look alike to those that differ in scratch registers alone -/
theorem cd_scr_lc {col : Nat → Int32} (hcol : ∀ w, w < 11 → rg_col (col w)) {y z : wm_St} (h : cd_scr y z) {w : Nat} (hw : w < 11) : lc_at col y w = lc_at col z w := by
  unfold lc_at
  by_cases t : col w = -1
  · rw [if_pos t, if_pos t, h.1]
  · rw [if_neg t, if_neg t]
    rcases hcol w hw with q | ⟨c, hc, q⟩
    · exact absurd q t
    · rw [q, nI_clamp (by omega)]
      exact h.2 c hc
/-! words that store into a register -/
theorem wm_reg {w : wd_W} (h : w.1 ≠ 28 ∧ w.1 ≠ 29 ∧ w.1 ≠ 24) (x : wm_St) : wm_op w x = (upd x.1 w.2.1 (wm_vl w x), x.2) := by
  unfold wm_op
  rw [if_neg h.1, if_neg h.2.1, if_neg h.2.2]
theorem wm_reg' {o a b : Nat} {l : Int32} (h : o ≠ 28 ∧ o ≠ 29 ∧ o ≠ 24) (x : wm_St) : wm_op (o, a, b, l) x = (upd x.1 a (wm_vl (o, a, b, l) x), x.2) := wm_reg h x
theorem wm_23 (a b v : Nat) (hv : v < 11) (x : wm_St) : wm_op (23, a, b, nI v) x = (upd x.1 a (x.2.1 v), x.2) := by
  rw [wm_reg' ⟨by decide, by decide, by decide⟩]
  unfold wm_vl
  dsimp only
  rw [if_neg (by decide), if_neg (by decide), if_neg (by decide), if_neg (by decide), if_neg (by decide), if_pos rfl, nI_clamp (by omega)]
theorem wm_24 (a b v : Nat) (hv : v < 11) (x : wm_St) : wm_op (24, a, b, nI v) x = (x.1, upd x.2.1 v (x.1 a), x.2.2) := by
  unfold wm_op
  dsimp only
  rw [if_neg (by decide), if_neg (by decide), if_pos rfl, nI_clamp (by omega)]
theorem wm_16 (a b : Nat) (l : Int32) (x : wm_St) : wm_op (16, a, b, l) x = (upd x.1 a l, x.2) := by
  rw [wm_reg' ⟨by decide, by decide, by decide⟩]
  unfold wm_vl
  dsimp only
  rw [if_pos rfl]
theorem wm_17 (a b : Nat) (l : Int32) (x : wm_St) : wm_op (17, a, b, l) x = (upd x.1 a (l <<< ((16 : Int32) &&& 31)), x.2) := by
  rw [wm_reg' ⟨by decide, by decide, by decide⟩]
  unfold wm_vl
  dsimp only
  rw [if_neg (by decide), if_pos rfl]
theorem wm_18 (a b : Nat) (l : Int32) (x : wm_St) : wm_op (18, a, b, l) x = (upd x.1 a (x.1 b ||| l), x.2) := by
  rw [wm_reg' ⟨by decide, by decide, by decide⟩]
  unfold wm_vl
  dsimp only
  rw [if_neg (by decide), if_neg (by decide), if_pos rfl]
theorem wm_19 (a b : Nat) (l : Int32) (x : wm_St) : wm_op (19, a, b, l) x = (upd x.1 a (x.1 b), x.2) := by
  rw [wm_reg' ⟨by decide, by decide, by decide⟩]
  unfold wm_vl
  dsimp only
  rw [if_neg (by decide), if_neg (by decide), if_neg (by decide), if_pos rfl]
theorem wm_20 (a b : Nat) (l : Int32) (x : wm_St) : wm_op (20, a, b, l) x = (upd x.1 a (x.1 b ^^^ (-1)), x.2) := by
  rw [wm_reg' ⟨by decide, by decide, by decide⟩]
  unfold wm_vl
  dsimp only
  rw [if_neg (by decide), if_neg (by decide), if_neg (by decide), if_neg (by decide), if_pos rfl]
theorem wm_two {j : Nat} (j1 : 3 ≤ j) (j2 : j ≤ 12) (a b r : Nat) (hr : r < 8) (x : wm_St) : wm_op (j, a, b, nI r) x = (upd x.1 a (sg_cb (nI j) (x.1 b) (x.1 r)), x.2) := by
  rw [wm_reg' ⟨by omega, by omega, by omega⟩]
  unfold wm_vl
  dsimp only
  rw [if_neg (by omega), if_neg (by omega), if_neg (by omega), if_neg (by omega), if_neg (by omega), if_neg (by omega), if_pos (by omega), nI_clamp (by omega)]
theorem wm_num {j : Nat} (j1 : 3 ≤ j) (j2 : j ≤ 12) (a b : Nat) (l : Int32) (x : wm_St) : wm_op (32 + j, a, b, l) x = (upd x.1 a (sg_cb (nI j) (x.1 b) l), x.2) := by
  rw [wm_reg' ⟨by omega, by omega, by omega⟩]
  unfold wm_vl
  dsimp only
  rw [if_neg (by omega), if_neg (by omega), if_neg (by omega), if_neg (by omega), if_neg (by omega), if_neg (by omega), if_neg (by omega), show 32 + j - 32 = j by omega]
/-- a large number in two halves -/
theorem wd_half (k : Int32) : ((k.toUInt32 >>> ((16 : Int32).toUInt32 &&& Int32.toUInt32 31)).toInt32 <<< ((16 : Int32) &&& 31)) ||| (k &&& 65535) = k := by
  apply bb_ext
  intro i hi
  have h1 : bb_t ((k.toUInt32 >>> ((16 : Int32).toUInt32 &&& Int32.toUInt32 31)).toInt32 <<< ((16 : Int32) &&& 31)) i = (decide (16 ≤ i) && bb_t (k.toUInt32 >>> ((16 : Int32).toUInt32 &&& Int32.toUInt32 31)).toInt32 (i - 16)) := bb_shl 16 (by omega) _ hi
  have h2 : bb_t (k.toUInt32 >>> ((16 : Int32).toUInt32 &&& Int32.toUInt32 31)).toInt32 (i - 16) = bb_t k (16 + (i - 16)) := bb_ushr 16 (by omega) k (i - 16)
  have h3 : bb_t 65535 i = decide (i < 16) := (by decide +kernel : ∀ i, i < 32 → bb_t 65535 i = decide (i < 16)) i hi
  rw [bb_or, bb_and, h1, h2, h3]
  rcases Nat.lt_or_ge i 16 with g | g
  · rw [decide_eq_false (by omega), decide_eq_true g, Bool.false_and, Bool.false_or, Bool.and_true]
  · rw [decide_eq_true g, decide_eq_false (by omega), Bool.and_false, Bool.or_false, Bool.true_and, show 16 + (i - 16) = i by omega]
theorem wd_lo16 (k : Int32) : ∃ n : Nat, n < 65536 ∧ k &&& 65535 = nI n := by
  obtain ⟨j, hj, e⟩ := pk_andE k (m := 65535) 16 (by decide)
  exact ⟨j, by omega, e⟩
theorem wd_hi16 (k : Int32) : ∃ n : Nat, n < 65536 ∧ (k.toUInt32 >>> ((16 : Int32).toUInt32 &&& Int32.toUInt32 31)).toInt32 = nI n := by
  have h := pk_ushr k 16 16 (by decide)
  have hk := k.toBitVec.isLt
  refine ⟨k.toBitVec.toNat / 2 ^ 16, by omega, ?_⟩
  apply Int32.toBitVec_inj.mp
  apply BitVec.eq_of_toNat_eq
  rw [h, pk_tn (by omega)]
section
variable {le ck iv dn sn ls wc tr tf en tk tc lv ce sc gv pc : Int32} {iw : Int64} {a1 a2 a3 a4 a5 a6 a7 a8 a9 a10 a11 a12 a13 a14 a15 a16 a17 a18 a19 a20 a21 a22 a23 a24 a25 a26 a27 a28 a29 a30 : Nat → Int32}
theorem cd_word {post : St1 → Prop} {c : Nat} {W : Nat → wd_W} {w : wd_W} {p0 p1 p2 p3 : Int32} (hc : c < 700) (h : cd_ok a25 W c) (hg : wd_good w) (e0 : p0 = nI w.1) (e1 : p1 = nI w.2.1) (e2 : p2 = nI w.2.2.1) (e3 : p3 = w.2.2.2)
    (hp : ∀ b25 W', cd_ok b25 W' (c + 1) → (∀ x, wm_run W' (c + 1) x = wm_op w (wm_run W c x)) → post (le, ck, iv, dn, sn, ls, wc, iw, tr, tf, en, tk, tc, lv, nI (c + 1), sc, gv, pc, a1, a2, a3, a4, a5, a6, a7, a8, a9, a10, a11, a12, a13, a14, a15, a16, a17, a18, a19, a20, a21, a22, a23, a24, b25, a26, a27, a28, a29, a30)) : wpX_word post (le, ck, iv, dn, sn, ls, wc, iw, tr, tf, en, tk, tc, lv, nI c, sc, gv, pc, a1, a2, a3, a4, a5, a6, a7, a8, a9, a10, a11, a12, a13, a14, a15, a16, a17, a18, a19, a20, a21, a22, a23, a24, a25, a26, a27, a28, a29, a30) p0 p1 p2 p3 := by
  subst e0 e1 e2 e3
  unfold wpX_word
  show _ ∧ _
  rw [nI_clamp (show c < 2 ^ 31 by omega)]
  exact ⟨pk_in c 700 hc, nm_r (show _ = upd a25 c (wd_of w) from rfl) (nm_r (nI_1 c) (hp _ _ (cd_add h hg) (fun x => cd_addr x)))⟩
theorem cd_wordG {post : St1 → Prop} {c r : Nat} (hc : c < 700) (hp : post (le, ck, iv, dn, sn, ls, wc, iw, tr, tf, en, tk, tc, lv, nI (c + 1), sc, gv, pc, a1, a2, a3, a4, a5, a6, a7, a8, a9, a10, a11, a12, a13, a14, a15, a16, a17, a18, a19, a20, a21, a22, a23, a24, upd a25 c (wd_mk (nI 30) (nI r) (nI 0) 0), a26, a27, a28, a29, a30)) : wpX_word post (le, ck, iv, dn, sn, ls, wc, iw, tr, tf, en, tk, tc, lv, nI c, sc, gv, pc, a1, a2, a3, a4, a5, a6, a7, a8, a9, a10, a11, a12, a13, a14, a15, a16, a17, a18, a19, a20, a21, a22, a23, a24, a25, a26, a27, a28, a29, a30) 30 (nI r) 0 0 := by
  unfold wpX_word
  show _ ∧ _
  rw [nI_clamp (show c < 2 ^ 31 by omega)]
  exact ⟨pk_in c 700 hc, nm_r (show _ = upd a25 c (wd_mk (nI 30) (nI r) (nI 0) 0) from rfl) (nm_r (nI_1 c) hp)⟩
theorem cd_bring {post : Int32 → St1 → Prop} {c v sq : Nat} {W : Nat → wd_W} (hc : c < 700) (h : cd_ok a25 W c) (hcol : ∀ w, w < 11 → rg_col (a23 w)) (hv : v < 11) (h5 : 5 ≤ sq) (h8 : sq < 8)
    (hp : ∀ c' b25 W' r, c ≤ c' → c' ≤ c + 1 → cd_ok b25 W' c' → ((a23 v = -1 ∧ r = sq) ∨ (a23 v = nI r ∧ r < 5)) → (∀ x, cd_same sq (wm_run W' c' x) (wm_run W c x) ∧ (wm_run W' c' x).1 r = lc_at a23 (wm_run W c x) v) → post (nI r) (le, ck, iv, dn, sn, ls, wc, iw, tr, tf, en, tk, tc, lv, nI c', sc, gv, pc, a1, a2, a3, a4, a5, a6, a7, a8, a9, a10, a11, a12, a13, a14, a15, a16, a17, a18, a19, a20, a21, a22, a23, a24, b25, a26, a27, a28, a29, a30)) :
    wpX_bring post (le, ck, iv, dn, sn, ls, wc, iw, tr, tf, en, tk, tc, lv, nI c, sc, gv, pc, a1, a2, a3, a4, a5, a6, a7, a8, a9, a10, a11, a12, a13, a14, a15, a16, a17, a18, a19, a20, a21, a22, a23, a24, a25, a26, a27, a28, a29, a30) (nI v) (nI sq) := by
  unfold wpX_bring
  show _ ∧ _
  rw [nI_clamp (show v < 2 ^ 31 by omega)]
  refine ⟨pk_in v 11 hv, ?_⟩
  rcases hcol v hv with e | ⟨k, hk, e⟩
  · refine br_t (by rw [e]; exact bb_neg') (cd_word (w := (23, sq, 0, nI v)) hc h ⟨h8, by dsimp only; omega, Or.inr (Or.inr (Or.inr (Or.inr (Or.inr (Or.inl ⟨Or.inl rfl, v, hv, rfl⟩)))))⟩ rfl rfl rfl rfl (fun b25 W' g1 g2 => hp (c + 1) b25 W' sq (by omega) (by omega) g1 (Or.inl ⟨e, rfl⟩) (fun x => ?_)))
    rw [g2, wm_23 _ _ _ hv]
    refine ⟨⟨rfl, fun j hj => pk_un hj⟩, ?_⟩
    unfold lc_at
    rw [if_pos e]
    exact pk_us
  · refine br_f (by rw [e]; exact nI_pos (by omega)) ⟨pk_in v 11 hv, ?_⟩
    rw [e]
    refine hp c a25 W k (by omega) (by omega) h (Or.inr ⟨e, hk⟩) (fun x => ⟨⟨rfl, fun _ _ => rfl⟩, ?_⟩)
    unfold lc_at
    rw [if_neg (by rw [e]; exact cd_ne k (by omega)), e, nI_clamp (by omega)]
theorem cd_target {post : Int32 → Prop} {v : Nat} (hcol : ∀ w, w < 11 → rg_col (a23 w)) (hv : v < 11) (hp : ∀ r, cd_tg a23 v r → post (nI r)) : wpX_target post (le, ck, iv, dn, sn, ls, wc, iw, tr, tf, en, tk, tc, lv, ce, sc, gv, pc, a1, a2, a3, a4, a5, a6, a7, a8, a9, a10, a11, a12, a13, a14, a15, a16, a17, a18, a19, a20, a21, a22, a23, a24, a25, a26, a27, a28, a29, a30) (nI v) := by
  unfold wpX_target
  show _ ∧ _
  rw [nI_clamp (show v < 2 ^ 31 by omega)]
  refine ⟨pk_in v 11 hv, ?_⟩
  rcases hcol v hv with e | ⟨k, hk, e⟩
  · exact br_t (by rw [e]; exact bb_neg') (hp 5 (Or.inl ⟨e, rfl⟩))
  · refine br_f (by rw [e]; exact nI_pos (by omega)) ⟨pk_in v 11 hv, ?_⟩
    rw [e]
    exact hp k (Or.inr ⟨e, hk⟩)
theorem cd_take {post : St1 → Prop} {c v : Nat} {W : Nat → wd_W} (hc : c < 700) (h : cd_ok a25 W c) (hcol : ∀ w, w < 11 → rg_col (a23 w)) (hv : v < 11)
    (hp : ∀ c' b25 W', c ≤ c' → c' ≤ c + 1 → cd_ok b25 W' c' → (∀ x, wm_run W' c' x = cd_th a23 v (wm_run W c x)) → post (le, ck, iv, dn, sn, ls, wc, iw, tr, tf, en, tk, tc, lv, nI c', sc, gv, pc, a1, a2, a3, a4, a5, a6, a7, a8, a9, a10, a11, a12, a13, a14, a15, a16, a17, a18, a19, a20, a21, a22, a23, a24, b25, a26, a27, a28, a29, a30)) : wpX_takeHome post (le, ck, iv, dn, sn, ls, wc, iw, tr, tf, en, tk, tc, lv, nI c, sc, gv, pc, a1, a2, a3, a4, a5, a6, a7, a8, a9, a10, a11, a12, a13, a14, a15, a16, a17, a18, a19, a20, a21, a22, a23, a24, a25, a26, a27, a28, a29, a30) (nI v) := by
  unfold wpX_takeHome
  show _ ∧ _
  rw [nI_clamp (show v < 2 ^ 31 by omega)]
  refine ⟨pk_in v 11 hv, ?_⟩
  rcases hcol v hv with e | ⟨k, hk, e⟩
  · refine br_f (by rw [e]; exact bb_neg) (cd_word (w := (24, 5, 0, nI v)) hc h ⟨by dsimp only; omega, by dsimp only; omega, Or.inr (Or.inr (Or.inr (Or.inr (Or.inr (Or.inl ⟨Or.inr rfl, v, hv, rfl⟩)))))⟩ rfl rfl rfl rfl (fun b25 W' g1 g2 => hp (c + 1) b25 W' (by omega) (by omega) g1 (fun x => ?_)))
    rw [g2, wm_24 _ _ _ hv]
    unfold cd_th
    rw [if_pos e]
  · refine br_t (by rw [e]; exact nI_pos' (by omega)) (hp c a25 W (by omega) (by omega) h (fun x => ?_))
    unfold cd_th
    rw [if_neg (by rw [e]; exact cd_ne k (by omega))]
theorem cd_tg8 {col : Nat → Int32} {v r : Nat} (h : cd_tg col v r) : r < 8 := by
  rcases h with h | h
  · omega
  · omega
theorem cd_two {post : St1 → Prop} {c i j m f : Nat} {W : Nat → wd_W} (hc : c < 600) (h : cd_ok a25 W c) (hcol : ∀ w, w < 11 → rg_col (a23 w)) (hi : i < 240) (j1 : 3 ≤ j) (j2 : j ≤ 12) (hm : m < 11) (hf : f < 11)
    (em : a8 i = nI m) (ef : a9 i = nI f) (es : zp_V (a10 i) ∨ (a10 i = -1 ∧ zp_small (a11 i)))
    (hp : ∀ c' b25 W', c ≤ c' → c' ≤ c + 4 → cd_ok b25 W' c' → (∀ x, cd_mk a23 (wm_run W c x) (wm_run W' c' x) m (sg_cb (nI j) (lc_at a23 (wm_run W c x) f) (if a10 i < 0 then a11 i else lc_at a23 (wm_run W c x) (a10 i).toNatClampNeg))) → post (le, ck, iv, dn, sn, ls, wc, iw, tr, tf, en, tk, tc, lv, nI c', sc, gv, pc, a1, a2, a3, a4, a5, a6, a7, a8, a9, a10, a11, a12, a13, a14, a15, a16, a17, a18, a19, a20, a21, a22, a23, a24, b25, a26, a27, a28, a29, a30)) :
    wpX_encodeTwo post (le, ck, iv, dn, sn, ls, wc, iw, tr, tf, en, tk, tc, lv, nI c, sc, gv, pc, a1, a2, a3, a4, a5, a6, a7, a8, a9, a10, a11, a12, a13, a14, a15, a16, a17, a18, a19, a20, a21, a22, a23, a24, a25, a26, a27, a28, a29, a30) (nI i) (nI j) := by
  unfold wpX_encodeTwo
  show _ ∧ _
  rw [nI_clamp (show i < 2 ^ 31 by omega), ef]
  refine ⟨pk_in i 240 hi, cd_bring (sq := 5) (by omega) h hcol hf (by omega) (by omega) (fun c1 b25 W1 ra k1 k2 k3 k4 k5 => ?_)⟩
  show _ ∧ _
  rw [em]
  refine ⟨pk_in i 240 hi, cd_target hcol hm (fun rm ht => ⟨pk_in i 240 hi, ?_⟩)⟩
  have hra : ra < 8 := by omega
  have hrm := cd_tg8 ht
  rcases es with ⟨s, hs, es⟩ | ⟨es, sm⟩
  · rw [es]
    refine br_t (nI_pos' (by omega)) ⟨pk_in i 240 hi, cd_bring (sq := 6) (by omega) k3 hcol hs (by omega) (by omega) (fun c2 d25 W2 rb l1 l2 l3 l4 l5 => pk_eq j 14 (fun z => absurd z (by omega)) (fun _ => ?_))⟩
    unfold wX_encodeTwo_80
    have hrb : rb < 8 := by omega
    refine cd_word (w := (j, rm, ra, nI rb)) (by omega) l3 ⟨hrm, hra, Or.inl ⟨j1, j2, rb, hrb, rfl⟩⟩ rfl rfl rfl rfl (fun e25 W3 m1 m2 => ?_)
    unfold wX_encodeTwo_88
    show _ ∧ _
    rw [nI_clamp (show i < 2 ^ 31 by omega), em]
    refine ⟨pk_in i 240 hi, cd_take (by omega) m1 hcol hm (fun c4 f25 W4 n1 n2 n3 n4 => hp c4 f25 W4 (by omega) (by omega) n3 (fun x => ?_))⟩
    rw [n4, m2, wm_two j1 j2 _ _ _ hrb]
    have s1 := cd_same_scr (by omega) (k5 x).1
    have s2 := cd_same_scr (by omega) (l5 x).1
    have va : (wm_run W2 c2 x).1 ra = lc_at a23 (wm_run W c x) f := by
      rw [(l5 x).1.2 ra (by omega)]
      exact (k5 x).2
    have vb : (wm_run W2 c2 x).1 rb = lc_at a23 (wm_run W c x) s := by
      rw [(l5 x).2]
      exact cd_scr_lc hcol s1 hs
    rw [va, vb, es, if_neg (nI_pos (by omega)), nI_clamp (by omega)]
    exact cd_fin hcol hm ht (cd_scr_t s2 s1) _
  · rw [es]
    refine br_f bb_neg ⟨pk_in i 240 hi, ?_⟩
    refine cd_word (w := (32 + j, rm, ra, a11 i)) (by omega) k3 ⟨hrm, hra, Or.inr (Or.inl ⟨by dsimp only; omega, by dsimp only; omega, sm⟩)⟩ (nI_add 32 j) rfl rfl rfl (fun e25 W3 m1 m2 => ?_)
    unfold wX_encodeTwo_88
    show _ ∧ _
    rw [nI_clamp (show i < 2 ^ 31 by omega), em]
    refine ⟨pk_in i 240 hi, cd_take (by omega) m1 hcol hm (fun c4 f25 W4 n1 n2 n3 n4 => hp c4 f25 W4 (by omega) (by omega) n3 (fun x => ?_))⟩
    rw [n4, m2, wm_num j1 j2, (k5 x).2, es, if_pos bb_neg']
    exact cd_fin hcol hm ht (cd_same_scr (by omega) (k5 x).1) _
theorem cd_number {post : St1 → Prop} {c i m : Nat} {W : Nat → wd_W} (hc : c < 600) (h : cd_ok a25 W c) (hcol : ∀ w, w < 11 → rg_col (a23 w)) (hi : i < 240) (hm : m < 11) (em : a8 i = nI m)
    (hp : ∀ c' b25 W', c ≤ c' → c' ≤ c + 4 → cd_ok b25 W' c' → (∀ x, cd_mk a23 (wm_run W c x) (wm_run W' c' x) m (a11 i)) → post (le, ck, iv, dn, sn, ls, wc, iw, tr, tf, en, tk, tc, lv, nI c', sc, gv, pc, a1, a2, a3, a4, a5, a6, a7, a8, a9, a10, a11, a12, a13, a14, a15, a16, a17, a18, a19, a20, a21, a22, a23, a24, b25, a26, a27, a28, a29, a30)) :
    wpX_encodeMaking post (le, ck, iv, dn, sn, ls, wc, iw, tr, tf, en, tk, tc, lv, nI c, sc, gv, pc, a1, a2, a3, a4, a5, a6, a7, a8, a9, a10, a11, a12, a13, a14, a15, a16, a17, a18, a19, a20, a21, a22, a23, a24, a25, a26, a27, a28, a29, a30) (nI i) 1 := by
  unfold wpX_encodeMaking
  show _ ∧ _
  rw [nI_clamp (show i < 2 ^ 31 by omega), em]
  refine ⟨pk_in i 240 hi, cd_target hcol hm (fun rm ht => br_t rfl ⟨pk_in i 240 hi, ?_⟩)⟩
  have hrm := cd_tg8 ht
  unfold wpX_encodeNumber
  refine is_ok (fun sm => br_f (by decide) ?_) (fun _ => br_t rfl ?_)
  · refine cd_word (w := (16, rm, 0, a11 i)) (by omega) h ⟨hrm, by dsimp only; omega, Or.inr (Or.inr (Or.inl ⟨rfl, sm⟩))⟩ rfl rfl rfl rfl (fun e25 W3 m1 m2 => ?_)
    unfold wX_encodeMaking_77
    show _ ∧ _
    rw [nI_clamp (show i < 2 ^ 31 by omega), em]
    refine ⟨pk_in i 240 hi, cd_take (by omega) m1 hcol hm (fun c4 f25 W4 n1 n2 n3 n4 => hp c4 f25 W4 (by omega) (by omega) n3 (fun x => ?_))⟩
    rw [n4, m2, wm_16]
    exact cd_fin hcol hm ht (cd_scr_r _) _
  · obtain ⟨hn, h1, e1⟩ := wd_hi16 (a11 i)
    obtain ⟨ln, h2, e2⟩ := wd_lo16 (a11 i)
    refine cd_word (w := (17, rm, 0, nI hn)) (by omega) h ⟨hrm, by dsimp only; omega, Or.inr (Or.inr (Or.inr (Or.inl ⟨Or.inl rfl, hn, h1, rfl⟩)))⟩ rfl rfl rfl e1 (fun e25 W3 m1 m2 => ?_)
    refine cd_word (w := (18, rm, rm, nI ln)) (by omega) m1 ⟨hrm, hrm, Or.inr (Or.inr (Or.inr (Or.inl ⟨Or.inr rfl, ln, h2, rfl⟩)))⟩ rfl rfl rfl e2 (fun e26 W5 m3 m4 => ?_)
    unfold wX_encodeMaking_77
    show _ ∧ _
    rw [nI_clamp (show i < 2 ^ 31 by omega), em]
    refine ⟨pk_in i 240 hi, cd_take (by omega) m3 hcol hm (fun c4 f25 W4 n1 n2 n3 n4 => hp c4 f25 W4 (by omega) (by omega) n3 (fun x => ?_))⟩
    rw [n4, m4, m2, wm_18, wm_17]
    dsimp only
    have e3 : upd (upd (wm_run W c x).1 rm (nI hn <<< ((16 : Int32) &&& 31))) rm (upd (wm_run W c x).1 rm (nI hn <<< ((16 : Int32) &&& 31)) rm ||| nI ln) = upd (wm_run W c x).1 rm (a11 i) := by
      rw [pk_us, ← e1, ← e2, wd_half]
      funext k
      by_cases t : k = rm
      · rw [t, pk_us, pk_us]
      · rw [pk_un t, pk_un t, pk_un t]
    rw [e3]
    exact cd_fin hcol hm ht (cd_scr_r _) _
theorem cd_move {post : St1 → Prop} {c i m f : Nat} {W : Nat → wd_W} (hc : c < 600) (h : cd_ok a25 W c) (hcol : ∀ w, w < 11 → rg_col (a23 w)) (hi : i < 240) (hm : m < 11) (hf : f < 11) (em : a8 i = nI m) (ef : a9 i = nI f)
    (hp : ∀ c' b25 W', c ≤ c' → c' ≤ c + 4 → cd_ok b25 W' c' → (∀ x, cd_mk a23 (wm_run W c x) (wm_run W' c' x) m (lc_at a23 (wm_run W c x) f) ∧ (f ≠ m → lc_at a23 (wm_run W' c' x) f = lc_at a23 (wm_run W c x) f)) → post (le, ck, iv, dn, sn, ls, wc, iw, tr, tf, en, tk, tc, lv, nI c', sc, gv, pc, a1, a2, a3, a4, a5, a6, a7, a8, a9, a10, a11, a12, a13, a14, a15, a16, a17, a18, a19, a20, a21, a22, a23, a24, b25, a26, a27, a28, a29, a30)) :
    wpX_encodeMaking post (le, ck, iv, dn, sn, ls, wc, iw, tr, tf, en, tk, tc, lv, nI c, sc, gv, pc, a1, a2, a3, a4, a5, a6, a7, a8, a9, a10, a11, a12, a13, a14, a15, a16, a17, a18, a19, a20, a21, a22, a23, a24, a25, a26, a27, a28, a29, a30) (nI i) 2 := by
  unfold wpX_encodeMaking
  show _ ∧ _
  rw [nI_clamp (show i < 2 ^ 31 by omega), em, ef]
  refine ⟨pk_in i 240 hi, cd_target hcol hm (fun rm ht => ?_)⟩
  refine br_f (by decide) ⟨pk_in i 240 hi, cd_bring (sq := 6) (by omega) h hcol hf (by omega) (by omega) (fun c1 b25 W1 ra k1 k2 k3 k4 k5 => ?_)⟩
  refine br_f (by decide) ?_
  have hrm := cd_tg8 ht
  have hra : ra < 8 := by omega
  refine pk_eq ra rm (fun e => ?_) (fun ne => ?_)
  · -- the same register: nothing to do
    have sm : a23 m = nI ra ∧ a23 f = nI ra := by
      rcases ht with ⟨_, t1⟩ | ⟨t1, t2⟩
      · rcases k4 with ⟨_, q1⟩ | ⟨_, q1⟩
        · omega
        · omega
      · rcases k4 with ⟨_, q1⟩ | ⟨q1, q2⟩
        · omega
        · exact ⟨by rw [t1, e], q1⟩
    have nm : a23 m ≠ -1 := by rw [sm.1]; exact cd_ne ra hra
    unfold wX_encodeMaking_77
    show _ ∧ _
    rw [nI_clamp (show i < 2 ^ 31 by omega), em]
    refine ⟨pk_in i 240 hi, cd_take (by omega) k3 hcol hm (fun c4 f25 W4 n1 n2 n3 n4 => hp c4 f25 W4 (by omega) (by omega) n3 (fun x => ?_))⟩
    rw [n4]
    unfold cd_th
    rw [if_neg nm]
    have s1 := cd_same_scr (by omega) (k5 x).1
    refine ⟨⟨?_, fun w hw _ _ => cd_scr_lc hcol s1 hw, by rw [s1.1]⟩, fun _ => cd_scr_lc hcol s1 hf⟩
    rw [cd_scr_lc hcol s1 hm]
    unfold lc_at
    rw [if_neg nm, if_neg (by rw [sm.2]; exact cd_ne ra hra), sm.1, sm.2]
  · unfold wX_encodeMaking_56
    refine br_f (by decide) ?_
    unfold wX_encodeMaking_70
    refine cd_word (w := (19, rm, ra, 0)) (by omega) k3 ⟨hrm, hra, Or.inr (Or.inr (Or.inr (Or.inr (Or.inl (Or.inl rfl)))))⟩ rfl rfl rfl rfl (fun e25 W3 m1 m2 => ?_)
    unfold wX_encodeMaking_77
    show _ ∧ _
    rw [nI_clamp (show i < 2 ^ 31 by omega), em]
    refine ⟨pk_in i 240 hi, cd_take (by omega) m1 hcol hm (fun c4 f25 W4 n1 n2 n3 n4 => hp c4 f25 W4 (by omega) (by omega) n3 (fun x => ?_))⟩
    rw [n4, m2, wm_19, (k5 x).2]
    have fin := cd_fin hcol hm ht (cd_same_scr (by omega) (k5 x).1) (lc_at a23 (wm_run W c x) f)
    refine ⟨fin, fun hfm => fin.2.1 f hf hfm ?_⟩
    rcases ht with ⟨t1, _⟩ | ⟨t1, t2⟩
    · exact Or.inl t1
    · right
      rw [t1]
      rcases k4 with ⟨q1, _⟩ | ⟨q1, q2⟩
      · rw [q1]
        exact cd_ne rm hrm
      · rw [q1]
        intro z
        rw [nI_eq (by omega) (by omega)] at z
        exact ne z.symm
theorem cd_not {post : St1 → Prop} {c i m f : Nat} {W : Nat → wd_W} (hc : c < 600) (h : cd_ok a25 W c) (hcol : ∀ w, w < 11 → rg_col (a23 w)) (hi : i < 240) (hm : m < 11) (hf : f < 11) (em : a8 i = nI m) (ef : a9 i = nI f)
    (hp : ∀ c' b25 W', c ≤ c' → c' ≤ c + 4 → cd_ok b25 W' c' → (∀ x, cd_mk a23 (wm_run W c x) (wm_run W' c' x) m (lc_at a23 (wm_run W c x) f ^^^ (-1))) → post (le, ck, iv, dn, sn, ls, wc, iw, tr, tf, en, tk, tc, lv, nI c', sc, gv, pc, a1, a2, a3, a4, a5, a6, a7, a8, a9, a10, a11, a12, a13, a14, a15, a16, a17, a18, a19, a20, a21, a22, a23, a24, b25, a26, a27, a28, a29, a30)) :
    wpX_encodeMaking post (le, ck, iv, dn, sn, ls, wc, iw, tr, tf, en, tk, tc, lv, nI c, sc, gv, pc, a1, a2, a3, a4, a5, a6, a7, a8, a9, a10, a11, a12, a13, a14, a15, a16, a17, a18, a19, a20, a21, a22, a23, a24, a25, a26, a27, a28, a29, a30) (nI i) 13 := by
  unfold wpX_encodeMaking
  show _ ∧ _
  rw [nI_clamp (show i < 2 ^ 31 by omega), em, ef]
  refine ⟨pk_in i 240 hi, cd_target hcol hm (fun rm ht => ?_)⟩
  refine br_f (by decide) ⟨pk_in i 240 hi, cd_bring (sq := 6) (by omega) h hcol hf (by omega) (by omega) (fun c1 b25 W1 ra k1 k2 k3 k4 k5 => ?_)⟩
  refine br_t rfl ?_
  have hrm := cd_tg8 ht
  have hra : ra < 8 := by omega
  unfold wX_encodeMaking_56
  refine br_t rfl ?_
  unfold wX_encodeMaking_70
  refine cd_word (w := (20, rm, ra, 0)) (by omega) k3 ⟨hrm, hra, Or.inr (Or.inr (Or.inr (Or.inr (Or.inl (Or.inr rfl)))))⟩ rfl rfl rfl rfl (fun e25 W3 m1 m2 => ?_)
  unfold wX_encodeMaking_77
  show _ ∧ _
  rw [nI_clamp (show i < 2 ^ 31 by omega), em]
  refine ⟨pk_in i 240 hi, cd_take (by omega) m1 hcol hm (fun c4 f25 W4 n1 n2 n3 n4 => hp c4 f25 W4 (by omega) (by omega) n3 (fun x => ?_))⟩
  rw [n4, m2, wm_20, (k5 x).2]
  exact cd_fin hcol hm ht (cd_same_scr (by omega) (k5 x).1) _
theorem cd_out {post : St1 → Prop} {c i f : Nat} {W : Nat → wd_W} (hc : c < 600) (h : cd_ok a25 W c) (hcol : ∀ w, w < 11 → rg_col (a23 w)) (hi : i < 240) (hf : f < 11) (ef : a9 i = nI f)
    (hp : ∀ c' b25 W', c ≤ c' → c' ≤ c + 4 → cd_ok b25 W' c' → (∀ x, ∃ y, cd_scr y (wm_run W c x) ∧ wm_run W' c' x = (y.1, y.2.1, y.2.2.1, y.2.2.2.1 + 1, if y.2.2.2.1 < 20 then upd y.2.2.2.2 y.2.2.2.1 (lc_at a23 (wm_run W c x) f) else y.2.2.2.2)) → post (le, ck, iv, dn, sn, ls, wc, iw, tr, tf, en, tk, tc, lv, nI c', sc, gv, pc, a1, a2, a3, a4, a5, a6, a7, a8, a9, a10, a11, a12, a13, a14, a15, a16, a17, a18, a19, a20, a21, a22, a23, a24, b25, a26, a27, a28, a29, a30)) :
    wpX_encodeUsing post (le, ck, iv, dn, sn, ls, wc, iw, tr, tf, en, tk, tc, lv, nI c, sc, gv, pc, a1, a2, a3, a4, a5, a6, a7, a8, a9, a10, a11, a12, a13, a14, a15, a16, a17, a18, a19, a20, a21, a22, a23, a24, a25, a26, a27, a28, a29, a30) (nI i) 21 := by
  unfold wpX_encodeUsing
  show _ ∧ _
  rw [nI_clamp (show i < 2 ^ 31 by omega), ef]
  refine ⟨pk_in i 240 hi, cd_bring (sq := 5) (by omega) h hcol hf (by omega) (by omega) (fun c1 b25 W1 ra k1 k2 k3 k4 k5 => ?_)⟩
  refine br_f (by decide) (br_f (by decide) (br_t rfl ?_))
  have hra : ra < 8 := by omega
  unfold wX_encodeUsing_72
  refine cd_word (w := (29, ra, 0, 0)) (by omega) k3 ⟨hra, by dsimp only; omega, Or.inr (Or.inr (Or.inr (Or.inr (Or.inr (Or.inr (Or.inr rfl))))))⟩ rfl rfl rfl rfl (fun e25 W3 m1 m2 => hp (c1 + 1) e25 W3 (by omega) (by omega) m1 (fun x => ⟨wm_run W1 c1 x, cd_same_scr (by omega) (k5 x).1, ?_⟩))
  rw [m2]
  unfold wm_op
  dsimp only
  rw [if_neg (by decide), if_pos rfl, (k5 x).2]
theorem cd_give {post : St1 → Prop} {c i f : Nat} {W : Nat → wd_W} (hc : c < 600) (h : cd_ok a25 W c) (hcol : ∀ w, w < 11 → rg_col (a23 w)) (hi : i < 240) (hf : f < 11) (ef : a9 i = nI f)
    (hp : ∀ c' b25 W' r, c ≤ c' → c' ≤ c + 1 → r < 8 → cd_ok b25 W' c' → (∀ x, cd_scr (wm_run W' c' x) (wm_run W c x) ∧ (wm_run W' c' x).1 r = lc_at a23 (wm_run W c x) f) → post (le, ck, iv, dn, sn, ls, wc, iw, tr, tf, en, tk, tc, lv, nI (c' + 1), sc, gv, pc, a1, a2, a3, a4, a5, a6, a7, a8, a9, a10, a11, a12, a13, a14, a15, a16, a17, a18, a19, a20, a21, a22, a23, a24, upd b25 c' (wd_mk (nI 30) (nI r) (nI 0) 0), a26, a27, a28, a29, a30)) :
    wpX_encodeUsing post (le, ck, iv, dn, sn, ls, wc, iw, tr, tf, en, tk, tc, lv, nI c, sc, gv, pc, a1, a2, a3, a4, a5, a6, a7, a8, a9, a10, a11, a12, a13, a14, a15, a16, a17, a18, a19, a20, a21, a22, a23, a24, a25, a26, a27, a28, a29, a30) (nI i) 22 := by
  unfold wpX_encodeUsing
  show _ ∧ _
  rw [nI_clamp (show i < 2 ^ 31 by omega), ef]
  refine ⟨pk_in i 240 hi, cd_bring (sq := 5) (by omega) h hcol hf (by omega) (by omega) (fun c1 b25 W1 ra k1 k2 k3 k4 k5 => ?_)⟩
  refine br_f (by decide) (br_f (by decide) (br_f (by decide) ?_))
  unfold wX_encodeUsing_72
  exact cd_wordG (by omega) (hp c1 b25 W1 ra k1 k2 (by omega) k3 (fun x => ⟨cd_same_scr (by omega) (k5 x).1, (k5 x).2⟩))
end
end
section
/-! encoding: the loop; the code does what the list says -/
/-- machine and list agree on what is alive, on steps and on what is printed -/
def cd_sim (col : Nat → Int32) (al : Int32) (X : wm_St) (Y : sg_St) : Prop := (∀ v, v < 11 → bb_t al v = true → lc_at col X v = Y.1 v) ∧ X.2.2.1 = Y.2.1 ∧ X.2.2.2.1 = Y.2.2.1 ∧ (1 ≤ Y.2.2.1 → Y.2.2.1 ≤ 20 → X.2.2.2.2 (Y.2.2.1 - 1) = Y.2.2.2.1)
/-- an operation that makes a value -/
theorem cd_sim_pl {q : zp_Op} (h : zp_pl q) {col : Nat → Int32} {nx : Int32} {m : Nat} (hm : m < 11) (em : q.2.1 = nI m) {X X' : wm_St} {Y : sg_St} {val : Int32} (hs : cd_sim col (al_tr q nx) X Y) (hk : cd_mk col X X' m val) (hv : val = sg_vl q.1 q.2.2.1 q.2.2.2.1 q.2.2.2.2 Y.1)
    (hr : ∀ w, w < 11 → w ≠ m → bb_t (al_af q nx) w = true → (col m = -1 ∨ col m ≠ col w) ∨ lc_at col X' w = lc_at col X w) : cd_sim col nx X' (sg_op q Y) := by
  obtain ⟨s1, s2, s3, s4⟩ := hs
  obtain ⟨k1, k2, k3⟩ := hk
  have af : al_af q nx = nx := by unfold al_af; rw [if_neg (zp_plM h).2.2.1]
  rw [af] at hr
  have tt := fun v hv => @al_tr_t q (Or.inl (Or.inl h)) nx v hv
  rw [af] at tt
  rw [sg_pl h]
  refine ⟨fun v hv1 hb => ?_, ?_, ?_, ?_⟩
  · dsimp only
    rw [em, nI_clamp (by omega)]
    by_cases t : v = m
    · rw [t, pk_us, k1, hv]
    · rw [pk_un t]
      have e : lc_at col X' v = lc_at col X v := by
        rcases hr v hv1 t hb with g | g
        · exact k2 v hv1 t g
        · exact g
      rw [e]
      exact s1 v hv1 ((tt v hv1).mpr (Or.inl ⟨hb, by rw [em]; intro z; rw [nI_eq (by omega) (by omega)] at z; exact t z.symm⟩))
  · rw [k3]; exact s2
  · rw [k3]; exact s3
  · rw [k3]; exact s4
/-- what an operation uses is alive -/
theorem cd_use_f {q : zp_Op} (h : zp_any q) {col : Nat → Int32} {nx : Int32} {X : wm_St} {Y : sg_St} (hs : cd_sim col (al_tr q nx) X Y) {f : Nat} (hf : f < 11) (ef : q.2.2.1 = nI f) : lc_at col X f = Y.1 f := hs.1 f hf ((al_tr_t h hf).mpr (Or.inr (Or.inl ef)))
theorem cd_use_s {q : zp_Op} (h : zp_any q) {col : Nat → Int32} {nx : Int32} {X : wm_St} {Y : sg_St} (hs : cd_sim col (al_tr q nx) X Y) {f : Nat} (hf : f < 11) (ef : q.2.2.2.1 = nI f) : lc_at col X f = Y.1 f := hs.1 f hf ((al_tr_t h hf).mpr (Or.inr (Or.inr ef)))
/-- the code of the first i operations -/
def cd_I (P : Nat → zp_Op) (al col : Nat → Int32) (code : Nat → Int32) (i c : Nat) : Prop := ∃ W : Nat → wd_W, c ≤ 4 * i ∧ cd_ok code W c ∧ ∀ X Y, cd_sim col (al 0) X Y → cd_sim col (al i) (wm_run W c X) (sg_run P i Y)
/-- the whole code: its last word gives -/
def cd_fn (P : Nat → zp_Op) (N : Nat) (al col : Nat → Int32) (code : Nat → Int32) (c : Nat) : Prop := ∃ (W : Nat → wd_W) (r : Nat), c < 600 ∧ r < 8 ∧ cd_ok code W c ∧ code c = wd_mk (nI 30) (nI r) (nI 0) 0 ∧
  ∀ X Y, cd_sim col (al 0) X Y → (wm_run W c X).2.2.1 = (sg_run P N Y).2.1 ∧ (wm_run W c X).2.2.2.1 = (sg_run P N Y).2.2.1 ∧ (1 ≤ (sg_run P N Y).2.2.1 → (sg_run P N Y).2.2.1 ≤ 20 → (wm_run W c X).2.2.2.2 ((sg_run P N Y).2.2.1 - 1) = (sg_run P N Y).2.2.2.1) ∧ (wm_run W c X).1 r = (sg_run P N Y).2.2.2.2
theorem cd_I_s {P : Nat → zp_Op} {N : Nat} {al col code code' : Nat → Int32} {i c c' : Nat} {W' : Nat → wd_W} (ha : al_eq P N al) (hi : i < N) {W : Nat → wd_W} (h1 : ∀ X Y, cd_sim col (al 0) X Y → cd_sim col (al i) (wm_run W c X) (sg_run P i Y)) (hc : c' ≤ 4 * (i + 1)) (hk : cd_ok code' W' c')
    (hs : ∀ X Y, cd_sim col (al_tr (P i) (al (i + 1))) (wm_run W c X) Y → cd_sim col (al (i + 1)) (wm_run W' c' X) (sg_op (P i) Y)) : cd_I P al col code' (i + 1) c' := by
  refine ⟨W', hc, hk, fun X Y h => ?_⟩
  rw [sg_run_s]
  refine hs X _ ?_
  rw [← ha.2 i hi]
  exact h1 X Y h
section
variable {le ck iv dn sn ls wc tr tf en tk tc lv ce sc gv pc : Int32} {iw : Int64} {a1 a2 a3 a4 a5 a6 a7 a8 a9 a10 a11 a12 a13 a14 a15 a16 a17 a18 a19 a20 a21 a22 a23 a24 a25 a26 a27 a28 a29 a30 : Nat → Int32}
theorem cd_162 {post : St1 → Prop} {c : Nat} {W : Nat → wd_W} {r : Nat} (hc : c < 600) (hr : r < 8) (h : cd_ok a25 W c) (hl : a25 c = wd_mk (nI 30) (nI r) (nI 0) 0) (hp : post (le, ck, iv, dn, sn, ls, wc, iw, tr, tf, en, tk, tc, lv, nI (c + 1), sc, gv, pc, a1, a2, a3, a4, a5, a6, a7, a8, a9, a10, a11, a12, a13, a14, a15, a16, a17, a18, a19, a20, a21, a22, a23, a24, a25, a26, a27, a28, a29, a30)) : ∃ m, wX_encode_162 post le ck iv dn sn ls wc iw tr tf en tk tc lv (nI (c + 1)) sc gv pc m 0 a1 a2 a3 a4 a5 a6 a7 a8 a9 a10 a11 a12 a13 a14 a15 a16 a17 a18 a19 a20 a21 a22 a23 a24 a25 a26 a27 a28 a29 a30 := by
  refine pk_loop (σ := Unit) (fun m i _ => wX_encode_162 post le ck iv dn sn ls wc iw tr tf en tk tc lv (nI (c + 1)) sc gv pc m (nI i) a1 a2 a3 a4 a5 a6 a7 a8 a9 a10 a11 a12 a13 a14 a15 a16 a17 a18 a19 a20 a21 a22 a23 a24 a25 a26 a27 a28 a29 a30) (fun _ _ => True) (c + 1) 0 () (by omega) trivial ?_ ?_
  · intro m _ _
    exact pk_le (c + 1) (c + 1) (fun _ => hp) (fun z => absurd z (by omega))
  · intro m i _ hi _ hw
    have g : ∃ o : Nat, wd_op (a25 i) = nI o ∧ (o < 25 ∨ 27 < o) ∧ o < 64 := by
      rcases Nat.lt_or_ge i c with t | t
      · obtain ⟨e, w1, w2, w3⟩ := h i t
        refine ⟨(W i).1, ?_, ?_, ?_⟩
        · rw [e]
          exact wd_dop (by omega) w1 w2
        · omega
        · omega
      · rw [show i = c by omega, hl]
        exact ⟨30, wd_dop (by omega) hr (by omega), by omega, by omega⟩
    obtain ⟨o, e, ho, ho2⟩ := g
    have e' : ((a25 (nI i).toNatClampNeg).toUInt32 >>> ((26 : Int32).toUInt32 &&& Int32.toUInt32 31)).toInt32 = nI o := by
      rw [nI_clamp (show i < 2 ^ 31 by omega)]
      exact e
    exact pk_le (c + 1) i (fun z => absurd z (by omega)) (fun _ => ⟨pk_in i 700 (by omega), nm_r e' (pk_lt o 25 (fun _ => nm_r (nI_1 i) (hw () trivial)) (fun _ => pk_lt 27 o (fun _ => nm_r (nI_1 i) (hw () trivial)) (fun z => absurd z (by omega))))⟩)
/-- one operation that isn't the last -/
theorem cd_step {post : St1 → Prop} {m N i c : Nat} (wf : zp_wf (zp_at a7 a8 a9 a10 a11) N) (hi : i < N - 1) (ha : al_eq (zp_at a7 a8 a9 a10 a11) N a21) (hr : rg_ok (zp_at a7 a8 a9 a10 a11) N a21 a23) (h : cd_I (zp_at a7 a8 a9 a10 a11) a21 a23 a25 i c)
    (hp : ∀ c' b25, cd_I (zp_at a7 a8 a9 a10 a11) a21 a23 b25 (i + 1) c' → wX_encode_7 post m (nI (i + 1)) le ck iv dn sn ls wc iw tr tf (nI N) tk tc lv (nI c') sc gv pc a1 a2 a3 a4 a5 a6 a7 a8 a9 a10 a11 a12 a13 a14 a15 a16 a17 a18 a19 a20 a21 a22 a23 a24 b25 a26 a27 a28 a29 a30) :
    wX_encode_7 post (m + 1) (nI i) le ck iv dn sn ls wc iw tr tf (nI N) tk tc lv (nI c) sc gv pc a1 a2 a3 a4 a5 a6 a7 a8 a9 a10 a11 a12 a13 a14 a15 a16 a17 a18 a19 a20 a21 a22 a23 a24 a25 a26 a27 a28 a29 a30 := by
  have hN := wf.2.1
  obtain ⟨W, hc, hk, hsim⟩ := h
  obtain ⟨hcol, _, hint⟩ := hr
  have q := wf.2.2.1 i hi
  obtain ⟨j, hj, ej, hj2⟩ := zp_inO q
  have ej' : a7 i = nI j := ej
  have an : zp_any (zp_at a7 a8 a9 a10 a11 i) := Or.inl q
  refine pk_le N i (fun z => absurd z (by omega)) (fun _ => ⟨pk_in i 240 (by omega), nm_r (show a7 (nI i).toNatClampNeg = nI j by rw [nI_clamp (by omega), ej']) (pk_eq j 19 (fun z => absurd z (by omega)) (fun _ => ?_))⟩)
  rcases q with q | q | q
  · -- makes a value
    obtain ⟨v, hv, ev⟩ := q.1
    have ev' : a8 i = nI v := ev
    have hint' : ∀ w, w < 11 → w ≠ v → bb_t (al_af (zp_at a7 a8 a9 a10 a11 i) (a21 (i + 1))) w = true → ¬ (a7 i = 2 ∧ a9 i = nI w) → a23 v = -1 ∨ a23 v ≠ a23 w := fun w hw hwv hb hn => hint i (by omega) q v w hv hw hwv ev hb hn
    have hj13 : j ≤ 13 := by
      obtain ⟨j', j1, j2, e⟩ := zp_plO q
      have e' : nI j' = nI j := e.symm.trans ej
      rw [nI_eq (by omega) (by omega)] at e'
      omega
    refine pk_eq j 20 (fun z => absurd z (by omega)) (fun _ => pk_eq j 18 (fun z => absurd z (by omega)) (fun _ => ic_ok (by omega) (fun g1 g2 => br_f (by decide) ?_) (fun g => br_t rfl (pk_eq j 14 (fun z => absurd z (by omega)) (fun _ => pk_eq j 15 (fun z => absurd z (by omega)) (fun _ => ⟨pk_in i 240 (by omega), br_f (by rw [nI_clamp (show i < 2 ^ 31 by omega), ev']; exact nI_pos (by omega)) ?_⟩))))))
    · -- two values
      obtain ⟨f, hf, ef⟩ : zp_V (a9 i) := by
        rcases q.2 with t | t | t | t
        · exact absurd (ej'.symm.trans t.1) ((by decide +kernel : ∀ j, j < 13 → 3 ≤ j → ¬ nI j = 1) j (by omega) g1)
        · exact t.2.1
        · exact t.2.1
        · exact t.2.1
      have es : zp_V (a10 i) ∨ (a10 i = -1 ∧ zp_small (a11 i)) := by
        rcases q.2 with t | t | t | t
        · exact absurd (ej'.symm.trans t.1) ((by decide +kernel : ∀ j, j < 13 → 3 ≤ j → ¬ nI j = 1) j (by omega) g1)
        · exact absurd (ej'.symm.trans t.1) ((by decide +kernel : ∀ j, j < 13 → 3 ≤ j → ¬ nI j = 2) j (by omega) g1)
        · exact absurd (ej'.symm.trans t.1) ((by decide +kernel : ∀ j, j < 13 → 3 ≤ j → ¬ nI j = 13) j (by omega) g1)
        · exact t.2.2
      unfold wX_encode_107
      refine cd_two (by omega) hk hcol (by omega) g1 g2 hv hf ev' ef es (fun c' b25 W' k1 k2 k3 k4 => nm_r (nI_1 i) (hp c' b25 (cd_I_s (code := a25) ha (by omega) hsim (by omega) k3 (fun X Y hs => cd_sim_pl q hv ev hs (k4 X) ?_ (fun w hw hwv hb => Or.inl (hint' w hw hwv hb (fun z => ?_)))))))
      · rw [ej, sg_vlb g1 g2]
        show sg_cb (nI j) (lc_at a23 (wm_run W c X) f) (if a10 i < 0 then a11 i else lc_at a23 (wm_run W c X) (a10 i).toNatClampNeg) = sg_cb (nI j) (Y.1 (a9 i).toNatClampNeg) (if a10 i < 0 then a11 i else Y.1 (a10 i).toNatClampNeg)
        rw [cd_use_f an hs hf ef, ef, nI_clamp (show f < 2 ^ 31 by omega)]
        rcases es with es | es
        · rw [if_neg (zp_Vn es), if_neg (zp_Vn es), cd_use_s an hs (zp_Vc es).1 (zp_Vc es).2]
        · rw [es.1, if_pos bb_neg', if_pos bb_neg']
      · exact absurd (ej'.symm.trans z.1) ((by decide +kernel : ∀ j, j < 13 → 3 ≤ j → ¬ nI j = 2) j (by omega) g1)
    · -- a number, a copy, a turned value
      rcases q.2 with t | t | t | t
      · have e1 : j = 1 := by
          have z : nI j = nI 1 := ej.symm.trans t.1
          rw [nI_eq (by omega) (by omega)] at z
          exact z
        subst e1
        refine cd_number (by omega) hk hcol (by omega) hv ev' (fun c' b25 W' k1 k2 k3 k4 => nm_r (nI_1 i) (hp c' b25 (cd_I_s (code := a25) ha (by omega) hsim (by omega) k3 (fun X Y hs => cd_sim_pl q hv ev hs (k4 X) ?_ (fun w hw hwv hb => Or.inl (hint' w hw hwv hb (fun z => ?_)))))))
        · unfold sg_vl
          rw [if_pos t.1]
          rfl
        · exact absurd (ej'.symm.trans z.1) (by decide)
      · have e2 : j = 2 := by
          have z : nI j = nI 2 := ej.symm.trans t.1
          rw [nI_eq (by omega) (by omega)] at z
          exact z
        subst e2
        obtain ⟨f, hf, ef⟩ := t.2.1
        have ef' : a9 i = nI f := ef
        refine cd_move (by omega) hk hcol (by omega) hv hf ev' ef' (fun c' b25 W' k1 k2 k3 k4 => nm_r (nI_1 i) (hp c' b25 (cd_I_s (code := a25) ha (by omega) hsim (by omega) k3 (fun X Y hs => cd_sim_pl q hv ev hs (k4 X).1 ?_ (fun w hw hwv hb => ?_)))))
        · rw [cd_use_f an hs hf ef]
          unfold sg_vl
          rw [if_neg (by rw [t.1]; decide), if_pos t.1, ef, nI_clamp (by omega)]
        · by_cases hwf : w = f
          · right
            rw [hwf]
            exact (k4 X).2 (by rw [← hwf]; exact hwv)
          · left
            refine hint' w hw hwv hb (fun z => ?_)
            have z2 : nI f = nI w := ef'.symm.trans z.2
            rw [nI_eq (by omega) (by omega)] at z2
            exact hwf z2.symm
      · have e3 : j = 13 := by
          have z : nI j = nI 13 := ej.symm.trans t.1
          rw [nI_eq (by omega) (by omega)] at z
          exact z
        subst e3
        obtain ⟨f, hf, ef⟩ := t.2.1
        have ef' : a9 i = nI f := ef
        refine cd_not (by omega) hk hcol (by omega) hv hf ev' ef' (fun c' b25 W' k1 k2 k3 k4 => nm_r (nI_1 i) (hp c' b25 (cd_I_s (code := a25) ha (by omega) hsim (by omega) k3 (fun X Y hs => cd_sim_pl q hv ev hs (k4 X) ?_ (fun w hw hwv hb => Or.inl (hint' w hw hwv hb (fun z => ?_)))))))
        · rw [cd_use_f an hs hf ef]
          unfold sg_vl
          rw [if_neg (by rw [t.1]; decide), if_neg (by rw [t.1]; decide), if_pos t.1, ef, nI_clamp (by omega)]
        · exact absurd (ej'.symm.trans z.1) (by decide)
      · obtain ⟨j', j1, j2, e⟩ := t.1
        have z : nI j = nI j' := ej.symm.trans e
        rw [nI_eq (by omega) (by omega)] at z
        omega
  · -- steps are counted
    have e20 : j = 20 := by
      have z : nI j = nI 20 := ej.symm.trans q.1
      rw [nI_eq (by omega) (by omega)] at z
      exact z
    obtain ⟨k, hk1, ek⟩ := q.2.2.2.2
    have ek' : a11 i = nI k := ek
    refine pk_eq j 20 (fun _ => ⟨pk_in i 240 (by omega), ?_⟩) (fun z => absurd e20 z)
    rw [nI_clamp (show i < 2 ^ 31 by omega)]
    refine cd_word (w := (28, 0, 0, nI k)) (by omega) hk ⟨by dsimp only; omega, by dsimp only; omega, Or.inr (Or.inr (Or.inr (Or.inr (Or.inr (Or.inr (Or.inl ⟨rfl, k, hk1, rfl⟩))))))⟩ rfl rfl rfl ek' (fun b25 W' k2 k3 => nm_r (nI_1 i) (hp (c + 1) b25 (cd_I_s (code := a25) ha (by omega) hsim (by omega) k2 (fun X Y hs => ?_))))
    rw [k3, sg_20 q.1, ek]
    unfold wm_op
    dsimp only
    rw [if_pos rfl]
    obtain ⟨s1, s2, s3, s4⟩ := hs
    refine ⟨fun v hv hb => s1 v hv ((al_tr_t an hv).mpr (Or.inl ⟨?_, ?_⟩)), ?_, s3, s4⟩
    · unfold al_af
      rw [if_neg (by rw [q.1]; decide)]
      exact hb
    · rw [q.2.1]
      exact fun z => (by decide +kernel : ∀ i, i < 11 → nI i ≠ -1) v hv z.symm
    · dsimp only
      rw [s2]
  · -- printed
    have e21 : j = 21 := by
      have z : nI j = nI 21 := ej.symm.trans q.1
      rw [nI_eq (by omega) (by omega)] at z
      exact z
    subst e21
    obtain ⟨f, hf, ef⟩ := q.2.2.1
    have ef' : a9 i = nI f := ef
    have em : a8 i = -1 := q.2.1
    refine br_f (by decide) (br_f (by decide) (ic_ok (by omega) (fun g1 g2 => absurd g2 (by omega)) (fun _ => br_t rfl (br_f (by decide) (br_f (by decide) ⟨pk_in i 240 (by omega), br_t (by rw [nI_clamp (show i < 2 ^ 31 by omega), em]; exact bb_neg') ?_⟩)))))
    refine cd_out (by omega) hk hcol (by omega) hf ef' (fun c' b25 W' k1 k2 k3 k4 => nm_r (nI_1 i) (hp c' b25 (cd_I_s (code := a25) ha (by omega) hsim (by omega) k3 (fun X Y hs => ?_))))
    obtain ⟨y, y1, y2⟩ := k4 X
    have uf := cd_use_f an hs hf ef
    rw [y2, sg_21 q.1, ef, nI_clamp (by omega)]
    obtain ⟨s1, s2, s3, s4⟩ := hs
    have yy := y1.1
    refine ⟨fun v hv hb => ?_, ?_, ?_, fun g1 g2 => ?_⟩
    · have e1 : lc_at a23 (y.1, y.2.1, y.2.2.1, y.2.2.2.1 + 1, if y.2.2.2.1 < 20 then upd y.2.2.2.2 y.2.2.2.1 (lc_at a23 (wm_run W c X) f) else y.2.2.2.2) v = lc_at a23 y v := rfl
      rw [e1, cd_scr_lc hcol y1 hv]
      refine s1 v hv ((al_tr_t an hv).mpr (Or.inl ⟨?_, ?_⟩))
      · unfold al_af
        rw [if_neg (by rw [q.1]; decide)]
        exact hb
      · rw [q.2.1]
        exact fun z => (by decide +kernel : ∀ i, i < 11 → nI i ≠ -1) v hv z.symm
    · dsimp only
      rw [yy]
      exact s2
    · dsimp only
      rw [yy, s3]
    · dsimp only at g1 g2
      dsimp only
      rw [yy, s3, if_pos (by omega), show Y.2.2.1 + 1 - 1 = Y.2.2.1 by omega, pk_us, uf]
theorem cd_encode {post : St1 → Prop} {N : Nat} (wf : zp_wf (zp_at a7 a8 a9 a10 a11) N) (ha : al_eq (zp_at a7 a8 a9 a10 a11) N a21) (hr : rg_ok (zp_at a7 a8 a9 a10 a11) N a21 a23)
    (hp : ∀ c b25, cd_fn (zp_at a7 a8 a9 a10 a11) N a21 a23 b25 c → post (le, ck, iv, dn, sn, ls, wc, iw, tr, tf, nI N, tk, tc, lv, nI (c + 1), sc, gv, pc, a1, a2, a3, a4, a5, a6, a7, a8, a9, a10, a11, a12, a13, a14, a15, a16, a17, a18, a19, a20, a21, a22, a23, a24, b25, a26, a27, a28, a29, a30)) : wpX_encode post (le, ck, iv, dn, sn, ls, wc, iw, tr, tf, nI N, tk, tc, lv, ce, sc, gv, pc, a1, a2, a3, a4, a5, a6, a7, a8, a9, a10, a11, a12, a13, a14, a15, a16, a17, a18, a19, a20, a21, a22, a23, a24, a25, a26, a27, a28, a29, a30) := by
  have hN := wf.2.1
  have hN1 := wf.1
  unfold wpX_encode
  refine pk_loop (fun m i (s : Int32 × (Nat → Int32)) => wX_encode_7 post m (nI i) le ck iv dn sn ls wc iw tr tf (nI N) tk tc lv s.1 sc gv pc a1 a2 a3 a4 a5 a6 a7 a8 a9 a10 a11 a12 a13 a14 a15 a16 a17 a18 a19 a20 a21 a22 a23 a24 s.2 a26 a27 a28 a29 a30) (fun i s => ∃ c : Nat, (i < N → s.1 = nI c ∧ cd_I (zp_at a7 a8 a9 a10 a11) a21 a23 s.2 i c) ∧ (i = N → s.1 = nI (c + 1) ∧ cd_fn (zp_at a7 a8 a9 a10 a11) N a21 a23 s.2 c)) N 0 ((0 : Int32), a25) (by omega) ⟨0, fun _ => ⟨rfl, fun _ => (0, 0, 0, 0), by omega, fun j hj => absurd hj (by omega), fun X Y h => h⟩, fun z => absurd z (by omega)⟩ ?_ ?_
  · intro m s h
    obtain ⟨y, b25⟩ := s
    obtain ⟨c, _, h⟩ := h
    obtain ⟨e, hh⟩ := h rfl
    dsimp only at e hh
    clear h
    subst e
    have h' := hh
    obtain ⟨W, r, h1, h2, h3, h4, h5⟩ := hh
    exact pk_le N N (fun _ => cd_162 h1 h2 h3 h4 (hp c b25 h')) (fun z => absurd z (by omega))
  · intro m i s hi h hw
    obtain ⟨y, b25⟩ := s
    obtain ⟨c, h0, _⟩ := h
    obtain ⟨e, h⟩ := h0 hi
    dsimp only at e h
    clear h0
    subst e
    show wX_encode_7 post (m + 1) (nI i) le ck iv dn sn ls wc iw tr tf (nI N) tk tc lv (nI c) sc gv pc a1 a2 a3 a4 a5 a6 a7 a8 a9 a10 a11 a12 a13 a14 a15 a16 a17 a18 a19 a20 a21 a22 a23 a24 b25 a26 a27 a28 a29 a30
    rcases Nat.lt_or_ge i (N - 1) with g | g
    · exact cd_step wf g ha hr h (fun c' d25 hd => hw (nI c', d25) ⟨c', fun _ => ⟨rfl, hd⟩, fun z => absurd z (by omega)⟩)
    · have q := wf.2.2.2
      have ei : N - 1 = i := by omega
      rw [ei] at q
      obtain ⟨W, hc, hk, hsim⟩ := h
      obtain ⟨f, hf, ef⟩ := q.2.2.1
      have ef' : a9 i = nI f := ef
      have em : a8 i = -1 := q.2.1
      have e22 : a7 (nI i).toNatClampNeg = 22 := by rw [nI_clamp (by omega)]; exact q.1
      refine pk_le N i (fun z => absurd z (by omega)) (fun _ => ⟨pk_in i 240 (by omega), nm_r e22 (br_f (by decide) (br_f (by decide) (br_f (by decide) (ic_ok (j := 22) (by omega) (fun g1 g2 => absurd g2 (by omega)) (fun _ => br_t rfl (br_f (by decide) (br_f (by decide) ⟨pk_in i 240 (by omega), br_t (by rw [nI_clamp (show i < 2 ^ 31 by omega), em]; exact bb_neg') ?_⟩)))))))⟩)
      refine cd_give (by omega) hk hr.1 (by omega) hf ef' (fun c' d25 W' r k1 k2 k3 k4 k5 => nm_r (nI_1 i) (hw (nI (c' + 1), upd d25 c' (wd_mk (nI 30) (nI r) (nI 0) 0)) ⟨c', fun z => absurd z (by omega), fun _ => ⟨rfl, W', r, by omega, k3, fun j hj => ?_, ?_, fun X Y hs => ?_⟩⟩))
      · dsimp only
        rw [pk_un (by omega)]
        exact k4 j hj
      · dsimp only
        rw [pk_us]
      · have s0 := hsim X Y hs
        rw [ha.2 i hi] at s0
        have uf := cd_use_f (Or.inr q) s0 hf ef
        obtain ⟨s1, s2, s3, s4⟩ := s0
        obtain ⟨t1, t2⟩ := k5 X
        have t3 := t1.1
        rw [show N = i + 1 by omega, sg_run_s, sg_22 q.1]
        dsimp only
        rw [t3, t2, ef, nI_clamp (by omega)]
        exact ⟨s2, s3, s4, uf⟩
end
end
section
/-! running the code -/
theorem ex_and7 {r : Nat} (hr : r < 8) : nI r &&& 7 = nI r := by
  rw [pk_andN (show r < 2 ^ 32 by omega) 3 (by decide), Nat.mod_eq_of_lt (by omega)]
theorem wm_pc (W : Nat → wd_W) (n : Nat) (x : wm_St) : (wm_run W n x).2.2.2.1 ≤ x.2.2.2.1 + n := by
  induction n with
  | zero => exact Nat.le_refl _
  | succ n ih =>
    rw [wm_run_s]
    have h : (wm_op (W n) (wm_run W n x)).2.2.2.1 ≤ (wm_run W n x).2.2.2.1 + 1 := by
      unfold wm_op
      by_cases h0 : (W n).1 = 28
      · rw [if_pos h0]; exact Nat.le_add_right _ _
      rw [if_neg h0]
      by_cases h1 : (W n).1 = 29
      · rw [if_pos h1]; exact Nat.le_refl _
      rw [if_neg h1]
      by_cases h2 : (W n).1 = 24
      · rw [if_pos h2]; exact Nat.le_add_right _ _
      rw [if_neg h2]; exact Nat.le_add_right _ _
    omega
/-- the arguments come in -/
def ex_bi (col : Nat → Int32) (v : Nat) (x : Int32) (r : (Nat → Int32) × (Nat → Int32)) : (Nat → Int32) × (Nat → Int32) := if col v = -1 then (r.1, upd r.2 v x) else (upd r.1 (col v).toNatClampNeg x, r.2)
theorem ex_bi1 {col : Nat → Int32} {v : Nat} {x : Int32} {r : (Nat → Int32) × (Nat → Int32)} {y : Nat × Nat × (Nat → Int32)} : lc_at col ((ex_bi col v x r).1, (ex_bi col v x r).2, y) v = x := by
  unfold lc_at ex_bi
  by_cases h : col v = -1
  · rw [if_pos h, if_pos h]
    exact pk_us
  · rw [if_neg h, if_neg h]
    exact pk_us
theorem ex_bi2 {col : Nat → Int32} (hc : ∀ w, w < 11 → rg_col (col w)) {v w : Nat} (hv : v < 11) (hw : w < 11) (hvw : w ≠ v) (hd : col w = -1 ∨ col w ≠ col v) {x : Int32} {r : (Nat → Int32) × (Nat → Int32)} {y : Nat × Nat × (Nat → Int32)} : lc_at col ((ex_bi col v x r).1, (ex_bi col v x r).2, y) w = lc_at col (r.1, r.2, y) w := by
  unfold lc_at ex_bi
  by_cases h : col v = -1
  · rw [if_pos h]
    by_cases g : col w = -1
    · rw [if_pos g, if_pos g]
      exact pk_un hvw
    · rw [if_neg g, if_neg g]
  · rw [if_neg h]
    by_cases g : col w = -1
    · rw [if_pos g, if_pos g]
    · rw [if_neg g, if_neg g]
      have ne : col w ≠ col v := by
        rcases hd with z | z
        · exact absurd z g
        · exact z
      show upd r.1 (col v).toNatClampNeg x (col w).toNatClampNeg = r.1 (col w).toNatClampNeg
      refine pk_un (fun z => ne ?_)
      rcases hc v hv with e | ⟨c, h5, e⟩
      · exact absurd e h
      · rcases hc w hw with e' | ⟨c', h5', e'⟩
        · exact absurd e' g
        · rw [e, e', nI_clamp (by omega), nI_clamp (by omega)] at z
          rw [e, e', z]
section
variable {le ck iv dn sn ls wc tr tf en tk tc lv ce sc gv pc : Int32} {iw : Int64} {a1 a2 a3 a4 a5 a6 a7 a8 a9 a10 a11 a12 a13 a14 a15 a16 a17 a18 a19 a20 a21 a22 a23 a24 a25 a26 a27 a28 a29 a30 : Nat → Int32}
theorem ex_bring {post : St1 → Prop} {v : Nat} {x : Int32} (hc : ∀ w, w < 11 → rg_col (a23 w)) (hv : v < 11) (hp : post (le, ck, iv, dn, sn, ls, wc, iw, tr, tf, en, tk, tc, lv, ce, sc, gv, pc, a1, a2, a3, a4, a5, a6, a7, a8, a9, a10, a11, a12, a13, a14, a15, a16, a17, a18, a19, a20, a21, a22, a23, a24, a25, a26, (ex_bi a23 v x (a27, a28)).1, (ex_bi a23 v x (a27, a28)).2, a29, a30)) : wpX_bringIn post (le, ck, iv, dn, sn, ls, wc, iw, tr, tf, en, tk, tc, lv, ce, sc, gv, pc, a1, a2, a3, a4, a5, a6, a7, a8, a9, a10, a11, a12, a13, a14, a15, a16, a17, a18, a19, a20, a21, a22, a23, a24, a25, a26, a27, a28, a29, a30) (nI v) x := by
  unfold wpX_bringIn
  show _ ∧ _
  unfold ex_bi at hp
  rw [nI_clamp (show v < 2 ^ 31 by omega)]
  refine ⟨pk_in v 11 hv, ?_⟩
  rcases hc v hv with e | ⟨c, h5, e⟩
  · rw [if_pos e] at hp
    exact br_t (by rw [e]; exact bb_neg') ⟨pk_in v 11 hv, nm_e hp⟩
  · rw [if_neg (by rw [e]; exact cd_ne c (by omega))] at hp
    exact br_f (by rw [e]; exact nI_pos (by omega)) ⟨pk_in v 11 hv, by rw [e]; exact pk_in c 8 (by omega), nm_e hp⟩
/-- one word by 'step' -/
theorem ex_stp {post : St1 → Prop} {w : wd_W} {l : Int32} {t p : Nat} (hg : wd_good w) (h28 : w.1 ≠ 28) (hl : (∃ n : Nat, n < 262144 ∧ w.2.2.2 = nI n) → l = w.2.2.2) (hp30 : p < 10000)
    (hp : post (le, ck, iv, dn, sn, ls, wc, iw, tr, tf, en, tk, tc, lv, ce, sc, gv, nI (wm_op w (a27, a28, t, p, a30)).2.2.2.1, a1, a2, a3, a4, a5, a6, a7, a8, a9, a10, a11, a12, a13, a14, a15, a16, a17, a18, a19, a20, a21, a22, a23, a24, a25, a26, (wm_op w (a27, a28, t, p, a30)).1, (wm_op w (a27, a28, t, p, a30)).2.1, a29, (wm_op w (a27, a28, t, p, a30)).2.2.2.2)) : wpX_step post (le, ck, iv, dn, sn, ls, wc, iw, tr, tf, en, tk, tc, lv, ce, sc, gv, nI p, a1, a2, a3, a4, a5, a6, a7, a8, a9, a10, a11, a12, a13, a14, a15, a16, a17, a18, a19, a20, a21, a22, a23, a24, a25, a26, a27, a28, a29, a30) (wd_of w) (nI w.1) l := by
  obtain ⟨o, a, b, lw⟩ := w
  obtain ⟨ha, hb, hg⟩ := hg
  dsimp only at ha hb hg h28 hl
  show wpX_step post (le, ck, iv, dn, sn, ls, wc, iw, tr, tf, en, tk, tc, lv, ce, sc, gv, nI p, a1, a2, a3, a4, a5, a6, a7, a8, a9, a10, a11, a12, a13, a14, a15, a16, a17, a18, a19, a20, a21, a22, a23, a24, a25, a26, a27, a28, a29, a30) (wd_of (o, a, b, lw)) (nI o) l
  have ho : o < 64 := by omega
  have da : ((wd_of (o, a, b, lw)).toUInt32 >>> ((22 : Int32).toUInt32 &&& Int32.toUInt32 31)).toInt32 &&& 7 = nI a := wd_da ho ha hb
  have db : ((wd_of (o, a, b, lw)).toUInt32 >>> ((18 : Int32).toUInt32 &&& Int32.toUInt32 31)).toInt32 &&& 7 = nI b := wd_db ho ha hb
  have dn : zp_small lw → (wd_of (o, a, b, lw) <<< ((14 : Int32) &&& 31)) >>> ((14 : Int32) &&& 31) = lw := fun h => wd_dn h _ _ _
  have ca : (nI a).toNatClampNeg = a := nI_clamp (by omega)
  have cb : (nI b).toNatClampNeg = b := nI_clamp (by omega)
  unfold wpX_step
  show ∀ x, _ → _
  refine nm_r da (nm_r db ?_)
  rcases hg with h | h | h | h | h | h | h | h
  · -- two registers
    obtain ⟨j1, j2, r, hr, rfl⟩ := h
    have el : l = nI r := hl ⟨r, by omega, rfl⟩
    subst el
    rw [wm_two j1 j2 _ _ _ hr] at hp
    refine nm_e (ic_ok (by omega) (fun _ _ => br_f (by decide) ⟨pk_in b 8 hb, by rw [ex_and7 hr]; exact pk_in r 8 hr, ?_⟩) (fun z => absurd z (by omega)))
    rw [ex_and7 hr, nI_clamp (show r < 2 ^ 31 by omega), cb]
    refine cb_ok j1 j2 ⟨pk_in a 8 ha, ?_⟩
    rw [ca]
    exact nm_e hp
  · -- a register and a number
    obtain ⟨j1, j2, sm⟩ := h
    obtain ⟨j, rfl⟩ : ∃ j, o = 32 + j := ⟨o - 32, by omega⟩
    rw [wm_num (by omega) (by omega)] at hp
    refine nm_r (dn sm) (ic_ok (by omega) (fun _ z => absurd z (by omega)) (fun _ => br_t rfl (pk_le (32 + j) 32 (fun z => absurd z (by omega)) (fun _ => ⟨pk_in b 8 hb, ?_⟩))))
    rw [cb]
    refine cb_ok (j := j) (by omega) (by omega) ⟨pk_in a 8 ha, ?_⟩ ?_
    · rw [ca]
      exact nm_e hp
    · show nI (32 + j) - nI 32 = nI j
      rw [pk_sub (by omega)]
      exact congrArg nI (by omega)
  · obtain ⟨rfl, sm⟩ := h
    rw [wm_16] at hp
    refine nm_r (dn sm) (ic_ok (by omega) (fun _ z => absurd z (by omega)) (fun _ => br_t rfl (br_t (by decide) (br_t rfl ⟨pk_in a 8 ha, ?_⟩))))
    rw [ca]
    exact nm_e hp
  · obtain ⟨h, n, hn, rfl⟩ := h
    have el : l = nI n := hl ⟨n, by omega, rfl⟩
    subst el
    rcases h with rfl | rfl
    · rw [wm_17] at hp
      refine nm_e (ic_ok (by omega) (fun _ z => absurd z (by omega)) (fun _ => br_t rfl (br_t (by decide) (br_f (by decide) (br_t rfl ⟨pk_in a 8 ha, ?_⟩)))))
      rw [ca]
      exact nm_e hp
    · rw [wm_18] at hp
      refine nm_e (ic_ok (by omega) (fun _ z => absurd z (by omega)) (fun _ => br_t rfl (br_t (by decide) (br_f (by decide) (br_f (by decide) (br_t rfl ⟨pk_in b 8 hb, pk_in a 8 ha, ?_⟩))))))
      rw [ca, cb]
      exact nm_e hp
  · rcases h with rfl | rfl
    · rw [wm_19] at hp
      refine nm_e (ic_ok (by omega) (fun _ z => absurd z (by omega)) (fun _ => br_t rfl (br_t (by decide) (br_f (by decide) (br_f (by decide) (br_f (by decide) (br_t rfl ⟨pk_in b 8 hb, pk_in a 8 ha, ?_⟩)))))))
      rw [ca, cb]
      exact nm_e hp
    · rw [wm_20] at hp
      refine nm_e (ic_ok (by omega) (fun _ z => absurd z (by omega)) (fun _ => br_t rfl (br_t (by decide) (br_f (by decide) (br_f (by decide) (br_f (by decide) (br_f (by decide) (br_t rfl ⟨pk_in b 8 hb, pk_in a 8 ha, ?_⟩))))))))
      rw [ca, cb]
      exact nm_e hp
  · obtain ⟨h, v, hv, rfl⟩ := h
    have el : l = nI v := hl ⟨v, by omega, rfl⟩
    subst el
    rcases h with rfl | rfl
    · rw [wm_23 _ _ _ hv] at hp
      refine nm_e (ic_ok (by omega) (fun _ z => absurd z (by omega)) (fun _ => br_t rfl (br_t (by decide) (br_f (by decide) (br_f (by decide) (br_f (by decide) (br_f (by decide) (br_f (by decide) (br_f (by decide) (br_f (by decide) (br_t rfl ⟨pk_in v 11 hv, pk_in a 8 ha, ?_⟩)))))))))))
      rw [ca, nI_clamp (show v < 2 ^ 31 by omega)]
      exact nm_e hp
    · rw [wm_24 _ _ _ hv] at hp
      refine nm_e (ic_ok (by omega) (fun _ z => absurd z (by omega)) (fun _ => br_t rfl (br_t (by decide) (br_f (by decide) (br_f (by decide) (br_f (by decide) (br_f (by decide) (br_f (by decide) (br_f (by decide) (br_f (by decide) (br_f (by decide) (br_t rfl ⟨pk_in a 8 ha, pk_in v 11 hv, ?_⟩))))))))))))
      rw [ca, nI_clamp (show v < 2 ^ 31 by omega)]
      exact nm_e hp
  · exact absurd h.1 h28
  · subst h
    unfold wm_op at hp
    dsimp only at hp
    rw [if_neg (by decide), if_pos rfl] at hp
    refine nm_e (ic_ok (by omega) (fun _ z => absurd z (by omega)) (fun _ => br_t rfl (br_t (by decide) (br_f (by decide) (br_f (by decide) (br_f (by decide) (br_f (by decide) (br_f (by decide) (br_f (by decide) (br_f (by decide) (br_f (by decide) (br_f (by decide) (br_t rfl ⟨pk_in a 8 ha, ?_⟩)))))))))))))
    rw [ca]
    unfold wpX_print
    refine pk_le 20 p (fun g => ?_) (fun g => ⟨pk_in p 20 g, ?_⟩)
    · rw [if_neg (by omega)] at hp
      exact nm_r (nI_1 p) hp
    · rw [if_pos g] at hp
      rw [nI_clamp (show p < 2 ^ 31 by omega)]
      exact nm_e (nm_r (nI_1 p) hp)
end
end
section
/-! running the code: the loop -/
theorem ex_low {w : wd_W} (h : ∃ n : Nat, n < 262144 ∧ w.2.2.2 = nI n) : wd_of w &&& 262143 = w.2.2.2 := by
  obtain ⟨n, hn, e⟩ := h
  have d : wd_l (wd_mk (nI w.1) (nI w.2.1) (nI w.2.2.1) w.2.2.2) = w.2.2.2 &&& 262143 := wd_dl _ _ _ _
  show wd_l (wd_mk (nI w.1) (nI w.2.1) (nI w.2.2.1) w.2.2.2) = w.2.2.2
  rw [d, e, wd_ln hn]
section
variable {le ck iv dn sn ls wc tr tf en tk tc lv ce sc gv pc : Int32} {iw : Int64} {a1 a2 a3 a4 a5 a6 a7 a8 a9 a10 a11 a12 a13 a14 a15 a16 a17 a18 a19 a20 a21 a22 a23 a24 a25 a26 a27 a28 a29 a30 : Nat → Int32}
/-- one word -/
theorem ex_one {post : Int32 → St1 → Prop} {m c i t p : Nat} {w : wd_W} (hi : i < c) (hc : c < 600) (hw : a25 i = wd_of w) (hg : wd_good w) (ht : (wm_op w (a27, a28, t, p, a30)).2.2.1 ≤ 300) (hp30 : p < 10000)
    (hp : wX_execute_29 post m (nI (i + 1)) le ck iv dn sn ls wc iw tr tf en tk tc lv (nI (c + 1)) (nI (wm_op w (a27, a28, t, p, a30)).2.2.1) gv (nI (wm_op w (a27, a28, t, p, a30)).2.2.2.1) a1 a2 a3 a4 a5 a6 a7 a8 a9 a10 a11 a12 a13 a14 a15 a16 a17 a18 a19 a20 a21 a22 a23 a24 a25 a26 ((wm_op w (a27, a28, t, p, a30)).1) ((wm_op w (a27, a28, t, p, a30)).2.1) a29 ((wm_op w (a27, a28, t, p, a30)).2.2.2.2)) :
    wX_execute_29 post (m + 1) (nI i) le ck iv dn sn ls wc iw tr tf en tk tc lv (nI (c + 1)) (nI t) gv (nI p) a1 a2 a3 a4 a5 a6 a7 a8 a9 a10 a11 a12 a13 a14 a15 a16 a17 a18 a19 a20 a21 a22 a23 a24 a25 a26 a27 a28 a29 a30 := by
  have ho : w.1 < 64 ∧ w.1 ≠ 30 ∧ w.1 ≠ 27 ∧ w.1 ≠ 26 ∧ w.1 ≠ 25 := by
    obtain ⟨_, _, h⟩ := hg
    refine ⟨?_, ?_, ?_, ?_, ?_⟩ <;> omega
  have dop : ((wd_of w).toUInt32 >>> ((26 : Int32).toUInt32 &&& Int32.toUInt32 31)).toInt32 = nI w.1 := wd_dop ho.1 hg.1 hg.2.1
  have da : (((wd_of w).toUInt32 >>> ((22 : Int32).toUInt32 &&& Int32.toUInt32 31)).toInt32) &&& 7 = nI w.2.1 := wd_da ho.1 hg.1 hg.2.1
  refine pk_le (c + 1) i (fun z => absurd z (by omega)) (fun _ => ⟨pk_in i 700 (by omega), nm_r (show a25 (nI i).toNatClampNeg = wd_of w by rw [nI_clamp (by omega), hw]) (nm_r dop (nm_e ⟨by rw [da]; exact pk_in w.2.1 8 hg.1, nm_e ?_⟩))⟩)
  by_cases h28 : w.1 = 28
  · -- steps
    obtain ⟨o, a, b, l⟩ := w
    dsimp only at h28
    subst h28
    obtain ⟨k, hk, ek⟩ : ∃ k : Nat, k ≤ 40 ∧ l = nI k := by
      obtain ⟨_, _, h⟩ := hg
      dsimp only at h
      rcases h with h | h | h | h | h | h | h | h
      · omega
      · omega
      · omega
      · omega
      · omega
      · omega
      · exact h.2
      · omega
    subst ek
    have el : wd_of (28, a, b, nI k) &&& 262143 = nI k := ex_low ⟨k, by omega, rfl⟩
    dsimp only
    rw [el]
    unfold wm_op at ht hp
    dsimp only at ht hp
    rw [if_pos rfl] at ht hp
    dsimp only at ht hp
    rw [nI_clamp (show k < 2 ^ 31 by omega)] at ht hp
    refine br_t rfl ?_
    rw [nI_add]
    refine pk_le (t + k) 300 (fun _ => nm_e ?_) (fun z => absurd z (by omega))
    unfold wX_execute_115
    refine br_f (by decide) (br_f (by decide) (br_f (by decide) ?_))
    unfold wX_execute_149
    refine br_f (by decide) ?_
    unfold wX_execute_165
    unfold wX_execute_166
    refine br_f (by decide) (br_t (by decide) ?_)
    unfold wX_execute_192
    exact br_t rfl (nm_r (nI_1 i) hp)
  · refine pk_eq w.1 28 (fun z => absurd z h28) (fun _ => ?_)
    have tt : (wm_op w (a27, a28, t, p, a30)).2.2.1 = t := by
      unfold wm_op
      rw [if_neg h28]
      by_cases h1 : w.1 = 29
      · rw [if_pos h1]
      · rw [if_neg h1]
        by_cases h2 : w.1 = 24
        · rw [if_pos h2]
        · rw [if_neg h2]
    rw [tt] at hp
    have fin : wX_execute_182 post (wX_execute_29 post m) (nI i) (wd_of w) (nI w.1) (wd_of w &&& 262143) 0 le ck iv dn sn ls wc iw tr tf en tk tc lv (nI (c + 1)) (nI t) gv (nI p) a1 a2 a3 a4 a5 a6 a7 a8 a9 a10 a11 a12 a13 a14 a15 a16 a17 a18 a19 a20 a21 a22 a23 a24 a25 a26 a27 a28 a29 a30 := by
      unfold wX_execute_182
      refine ex_stp (t := t) hg h28 (fun h => ex_low h) hp30 ?_
      unfold wX_execute_192
      exact br_t rfl (nm_r (nI_1 i) hp)
    unfold wX_execute_115
    refine pk_eq w.1 30 (fun z => absurd z ho.2.1) (fun _ => pk_eq w.1 27 (fun z => absurd z ho.2.2.1) (fun _ => pk_eq w.1 25 (fun z => absurd z ho.2.2.2.2) (fun _ => ?_)))
    unfold wX_execute_149
    refine pk_eq w.1 26 (fun z => absurd z ho.2.2.2.1) (fun _ => ?_)
    unfold wX_execute_165
    unfold wX_execute_166
    exact pk_lt w.1 25 (fun _ => fin) (fun _ => pk_lt w.1 29 (fun z => absurd z (by omega)) (fun _ => fin))
/-- the last word -/
theorem ex_give {post : Int32 → St1 → Prop} {m c r : Nat} (hc : c < 600) (hr : r < 8) (hw : a25 c = wd_mk (nI 30) (nI r) (nI 0) 0) (hp : post 0 (le, ck, iv, dn, sn, ls, wc, iw, tr, tf, en, tk, tc, lv, nI (c + 1), sc, a27 r, pc, a1, a2, a3, a4, a5, a6, a7, a8, a9, a10, a11, a12, a13, a14, a15, a16, a17, a18, a19, a20, a21, a22, a23, a24, a25, a26, a27, a28, a29, a30)) : wX_execute_29 post (m + 1) (nI c) le ck iv dn sn ls wc iw tr tf en tk tc lv (nI (c + 1)) sc gv pc a1 a2 a3 a4 a5 a6 a7 a8 a9 a10 a11 a12 a13 a14 a15 a16 a17 a18 a19 a20 a21 a22 a23 a24 a25 a26 a27 a28 a29 a30 := by
  have dop : ((wd_mk (nI 30) (nI r) (nI 0) 0).toUInt32 >>> ((26 : Int32).toUInt32 &&& Int32.toUInt32 31)).toInt32 = nI 30 := wd_dop (by omega) hr (by omega)
  have da : (((wd_mk (nI 30) (nI r) (nI 0) 0).toUInt32 >>> ((22 : Int32).toUInt32 &&& Int32.toUInt32 31)).toInt32) &&& 7 = nI r := wd_da (by omega) hr (by omega)
  refine pk_le (c + 1) c (fun z => absurd z (by omega)) (fun _ => ⟨pk_in c 700 (by omega), nm_r (show a25 (nI c).toNatClampNeg = wd_mk (nI 30) (nI r) (nI 0) 0 by rw [nI_clamp (by omega), hw]) (nm_r dop (nm_e ⟨by rw [da]; exact pk_in r 8 hr, nm_r (show a27 _ = a27 r by rw [da, nI_clamp (by omega)]) (br_f (by decide) ?_)⟩))⟩)
  unfold wX_execute_115
  exact br_t rfl hp
theorem ex_loop {post : Int32 → St1 → Prop} {c r : Nat} {W : Nat → wd_W} (hc : c < 600) (hr : r < 8) (hk : cd_ok a25 W c) (hl : a25 c = wd_mk (nI 30) (nI r) (nI 0) 0) (tb : ∀ i, i ≤ c → (wm_run W i (a27, a28, 0, 0, a30)).2.2.1 ≤ 40)
    (fin : post 0 (le, ck, iv, dn, sn, ls, wc, iw, tr, tf, en, tk, tc, lv, nI (c + 1), nI (wm_run W c (a27, a28, 0, 0, a30)).2.2.1, (wm_run W c (a27, a28, 0, 0, a30)).1 r, nI (wm_run W c (a27, a28, 0, 0, a30)).2.2.2.1, a1, a2, a3, a4, a5, a6, a7, a8, a9, a10, a11, a12, a13, a14, a15, a16, a17, a18, a19, a20, a21, a22, a23, a24, a25, a26, (wm_run W c (a27, a28, 0, 0, a30)).1, (wm_run W c (a27, a28, 0, 0, a30)).2.1, a29, (wm_run W c (a27, a28, 0, 0, a30)).2.2.2.2)) :
    ∃ m, wX_execute_29 post m 0 le ck iv dn sn ls wc iw tr tf en tk tc lv (nI (c + 1)) 0 gv 0 a1 a2 a3 a4 a5 a6 a7 a8 a9 a10 a11 a12 a13 a14 a15 a16 a17 a18 a19 a20 a21 a22 a23 a24 a25 a26 a27 a28 a29 a30 := by
  refine pk_loop (fun m i (s : wm_St) => wX_execute_29 post m (nI i) le ck iv dn sn ls wc iw tr tf en tk tc lv (nI (c + 1)) (nI s.2.2.1) gv (nI s.2.2.2.1) a1 a2 a3 a4 a5 a6 a7 a8 a9 a10 a11 a12 a13 a14 a15 a16 a17 a18 a19 a20 a21 a22 a23 a24 a25 a26 s.1 s.2.1 a29 s.2.2.2.2) (fun i s => s = wm_run W i (a27, a28, 0, 0, a30)) c 0 (a27, a28, 0, 0, a30) (by omega) rfl ?_ ?_
  · intro m s h
    subst h
    exact ex_give hc hr hl fin
  · intro m i s hi h hw
    have nx := hw (wm_run W (i + 1) (a27, a28, 0, 0, a30)) rfl
    have t1 := tb (i + 1) (by omega)
    have p1 := wm_pc W i (a27, a28, 0, 0, a30)
    have p2 : (wm_run W i (a27, a28, 0, 0, a30)).2.2.2.1 ≤ 0 + i := p1
    subst h
    refine ex_one (w := W i) hi hc (hk i hi).1 (hk i hi).2 ?_ (by omega) nx
    exact Nat.le_trans t1 (by omega)
theorem ex_ok {post : Int32 → St1 → Prop} {N T c : Nat} {P : Nat → zp_Op} {x y : Int32} (hT : T ≤ 40) (ht : sg_tk P N T) (hr : rg_ok P N a21 a23) (hf : cd_fn P N a21 a23 a25 c)
    (hp : ∀ (e0 : Nat → Int32) (z1 z2 z3 : Int32) (b27 b28 b30 : Nat → Int32), e0 0 = x → e0 1 = y → z1 = nI (sg_run P N (e0, 0, 0, 0, 0)).2.1 → z2 = (sg_run P N (e0, 0, 0, 0, 0)).2.2.2.2 → z3 = nI (sg_run P N (e0, 0, 0, 0, 0)).2.2.1 →
      (1 ≤ (sg_run P N (e0, 0, 0, 0, 0)).2.2.1 → (sg_run P N (e0, 0, 0, 0, 0)).2.2.1 ≤ 20 → b30 ((sg_run P N (e0, 0, 0, 0, 0)).2.2.1 - 1) = (sg_run P N (e0, 0, 0, 0, 0)).2.2.2.1) → post 0 (le, ck, iv, dn, sn, ls, wc, iw, tr, tf, en, tk, tc, lv, nI (c + 1), z1, z2, z3, a1, a2, a3, a4, a5, a6, a7, a8, a9, a10, a11, a12, a13, a14, a15, a16, a17, a18, a19, a20, a21, a22, a23, a24, a25, a26, b27, b28, a29, b30)) :
    wpX_execute post (le, ck, iv, dn, sn, ls, wc, iw, tr, tf, en, tk, tc, lv, nI (c + 1), sc, gv, pc, a1, a2, a3, a4, a5, a6, a7, a8, a9, a10, a11, a12, a13, a14, a15, a16, a17, a18, a19, a20, a21, a22, a23, a24, a25, a26, a27, a28, a29, a30) x y := by
  obtain ⟨hcol, h01, _⟩ := hr
  obtain ⟨W, r, hc, hr8, hk, hl, hsim⟩ := hf
  have e1 : ∀ A B : Nat → Int32, (A, B) = ex_bi a23 1 y (ex_bi a23 0 x (a27, a28)) → lc_at a23 (A, B, 0, 0, a30) 1 = y := by
    intro A B h
    have h1 : A = (ex_bi a23 1 y (ex_bi a23 0 x (a27, a28))).1 := congrArg Prod.fst h
    have h2 : B = (ex_bi a23 1 y (ex_bi a23 0 x (a27, a28))).2 := congrArg Prod.snd h
    rw [h1, h2]
    exact ex_bi1
  have e0 : ∀ A B : Nat → Int32, (A, B) = ex_bi a23 1 y (ex_bi a23 0 x (a27, a28)) → lc_at a23 (A, B, 0, 0, a30) 0 = x := by
    intro A B h
    have h1 : A = (ex_bi a23 1 y (ex_bi a23 0 x (a27, a28))).1 := congrArg Prod.fst h
    have h2 : B = (ex_bi a23 1 y (ex_bi a23 0 x (a27, a28))).2 := congrArg Prod.snd h
    rw [h1, h2, ex_bi2 hcol (by omega) (by omega) (by omega) h01]
    exact ex_bi1
  have main : ∀ A B : Nat → Int32, (A, B) = ex_bi a23 1 y (ex_bi a23 0 x (a27, a28)) → ∃ m, wX_execute_29 post m 0 le ck iv dn sn ls wc iw tr tf en tk tc lv (nI (c + 1)) 0 0 0 a1 a2 a3 a4 a5 a6 a7 a8 a9 a10 a11 a12 a13 a14 a15 a16 a17 a18 a19 a20 a21 a22 a23 a24 a25 a26 A B a29 a30 := by
    intro A B h
    have q := hsim (A, B, 0, 0, a30) (fun v => lc_at a23 (A, B, 0, 0, a30) v, 0, 0, 0, 0) ⟨fun v _ _ => rfl, rfl, rfl, fun z => absurd z (by show ¬ 1 ≤ 0; omega)⟩
    refine ex_loop (W := W) hc hr8 hk hl (fun i hi => ?_) ?_
    · have m1 := wm_run_mono W hi (A, B, 0, 0, a30)
      rw [q.1, ht] at m1
      have m2 : (wm_run W i (A, B, 0, 0, a30)).2.2.1 ≤ 0 + T := m1
      omega
    · exact hp (fun v => lc_at a23 (A, B, 0, 0, a30) v) _ _ _ _ _ _ (e0 A B h) (e1 A B h) (by rw [q.1]) q.2.2.2 (by rw [q.2.1]) q.2.2.1
  unfold wpX_execute
  exact ex_bring (v := 0) hcol (by omega) (ex_bring (v := 1) hcol (by omega) (main _ _ rfl))
end
end
section
/-! translate and run -/
section
variable {le ck iv dn sn ls wc tr tf en tk tc lv ce sc gv pc : Int32} {iw : Int64} {a1 a2 a3 a4 a5 a6 a7 a8 a9 a10 a11 a12 a13 a14 a15 a16 a17 a18 a19 a20 a21 a22 a23 a24 a25 a26 a27 a28 a29 a30 : Nat → Int32}
theorem tr_ok {post : St1 → Prop} {n : Nat} (hn : n < 40) (va : im_va a1 a2 n) (he : (a1 n = nI 25 ∧ 1 ≤ (im_run a1 a2 n).1) ∨ a1 n = nI 26) (h3 : ∀ j, j ≤ n → a3 j = nI (im_run a1 a2 j).1)
    (hp : ∀ (y1 y2 y3 y4 y5 : Int32) (N c : Nat) (b7 b8 b9 b10 b11 b13 b14 b15 b16 b17 b18 b19 b20 b21 b22 b23 b24 b25 : Nat → Int32), sg_tk (zp_at b7 b8 b9 b10 b11) N (n + 1) → rg_ok (zp_at b7 b8 b9 b10 b11) N b21 b23 → cd_fn (zp_at b7 b8 b9 b10 b11) N b21 b23 b25 c →
      (∀ x : sg_St, (sg_run (zp_at b7 b8 b9 b10 b11) N x).2 = (x.2.1 + (n + 1), (im_ex a1 a2 n x).2.2.1, (im_ex a1 a2 n x).2.2.2.1, if a1 n = nI 26 then 0 else (im_ex a1 a2 n x).1 (3 + (im_run a1 a2 n).1))) →
      post (nI (n + 1), ck, iv, dn, sn, ls, wc, iw, y1, y2, y3, y4, y5, lv, nI (c + 1), sc, gv, pc, a1, a2, a3, a4, a5, a6, b7, b8, b9, b10, b11, a12, b13, b14, b15, b16, b17, b18, b19, b20, b21, b22, b23, b24, b25, a26, a27, a28, a29, a30)) :
    wpX_translate post (nI (n + 1), ck, iv, dn, sn, ls, wc, iw, tr, tf, en, tk, tc, lv, ce, sc, gv, pc, a1, a2, a3, a4, a5, a6, a7, a8, a9, a10, a11, a12, a13, a14, a15, a16, a17, a18, a19, a20, a21, a22, a23, a24, a25, a26, a27, a28, a29, a30) := by
  unfold wpX_translate
  refine lo_lower hn va he h3 (fun N w b7 b8 b9 b10 b11 hfin => ?_)
  obtain ⟨wf, hw⟩ := hfin
  have tkN : sg_tk (zp_at b7 b8 b9 b10 b11) N (n + 1) := fun x => by rw [hw x]
  -- the rest, for any list that says the same
  have rest : ∀ (M : Nat) (y5 : Int32) (c7 c8 c9 c10 c11 c13 c14 c15 c16 c17 c18 c19 c20 c21 : Nat → Int32), zp_wf (zp_at c7 c8 c9 c10 c11) M → sg_eq (zp_at c7 c8 c9 c10 c11) M (zp_at b7 b8 b9 b10 b11) N →
      wX_translate_29 post (nI (n + 1)) ck iv dn sn ls wc iw 1 lv (nI M) w y5 lv ce sc gv pc a1 a2 a3 a4 a5 a6 c7 c8 c9 c10 c11 a12 c13 c14 c15 c16 c17 c18 c19 c20 c21 a22 a23 a24 a25 a26 a27 a28 a29 a30 := by
    intro M y5 c7 c8 c9 c10 c11 c13 c14 c15 c16 c17 c18 c19 c20 c21 wM eM
    have hM := wM.2.1
    unfold wX_translate_29
    refine al_find wM (fun al ha hs => ?_)
    refine rg_choose (by omega) (fun i hi => zp_wfA wM hi) (fun d22 d23 d24 hr => ?_)
    refine cd_encode wM ha hr (fun c d25 hf => ?_)
    exact hp _ _ _ _ _ M c _ _ _ _ _ _ _ _ _ _ _ _ _ _ _ _ _ _ (sg_tk_eq eM tkN) hr hf (fun x => by rw [eM x]; exact hw x)
  refine br_c (fun _ => iv_ok wf (by omega) tkN (fun M c c7 c8 c9 c10 c11 c13 c14 c15 c16 c17 c18 c19 c20 c21 wM eM => rest M c c7 c8 c9 c10 c11 c13 c14 c15 c16 c17 c18 c19 c20 c21 wM eM)) (fun _ => rest N tc b7 b8 b9 b10 b11 a13 a14 a15 a16 a17 a18 a19 a20 a21 wf (sg_eq_r _ _))
theorem rn_ok {post : Int32 → St1 → Prop} {n : Nat} {x y : Int32} (hn : n < 40) (va : im_va a1 a2 n) (he : (a1 n = nI 25 ∧ 1 ≤ (im_run a1 a2 n).1) ∨ a1 n = nI 26)
    (hp : ∀ (e0 : Nat → Int32) (y1 y2 y3 y4 y6 y7 y8 y9 y10 y11 : Int32) (y5 : Int64) (sc' gv' pc' : Int32) (b3 b4 b5 b6 b7 b8 b9 b10 b11 b13 b14 b15 b16 b17 b18 b19 b20 b21 b22 b23 b24 b25 b27 b28 b30 : Nat → Int32), e0 0 = x → e0 1 = y → ch_at a1 a2 b3 b5 (n + 1) →
      sc' = nI (n + 1) → pc' = nI (im_ex a1 a2 n (e0, 0, 0, 0, 0)).2.2.1 → gv' = (if a1 n = nI 26 then 0 else (im_ex a1 a2 n (e0, 0, 0, 0, 0)).1 (3 + (im_run a1 a2 n).1)) →
      (1 ≤ (im_ex a1 a2 n (e0, 0, 0, 0, 0)).2.2.1 → (im_ex a1 a2 n (e0, 0, 0, 0, 0)).2.2.1 ≤ 20 → b30 ((im_ex a1 a2 n (e0, 0, 0, 0, 0)).2.2.1 - 1) = (im_ex a1 a2 n (e0, 0, 0, 0, 0)).2.2.2.1) →
      post 0 (nI (n + 1), 1, 1, y1, y2, y3, y4, y5, y6, y7, y8, y9, y10, lv, y11, sc', gv', pc', a1, a2, b3, b4, b5, b6, b7, b8, b9, b10, b11, a12, b13, b14, b15, b16, b17, b18, b19, b20, b21, b22, b23, b24, b25, a26, b27, b28, a29, b30)) :
    wpX_run post (nI (n + 1), 0, iv, dn, sn, ls, wc, iw, 0, tf, en, tk, tc, lv, ce, sc, gv, pc, a1, a2, a3, a4, a5, a6, a7, a8, a9, a10, a11, a12, a13, a14, a15, a16, a17, a18, a19, a20, a21, a22, a23, a24, a25, a26, a27, a28, a29, a30) x y := by
  unfold wpX_run
  refine ch_valid hn va he (fun x1 x2 x3 x4 x5 b3 b4 b5 b6 hat => br_f (by decide) (br_t rfl ?_))
  unfold wX_run_28
  refine tr_ok hn va he (fun j hj => (hat j (by omega)).1) (fun y1 y2 y3 y4 y5 N c b7 b8 b9 b10 b11 b13 b14 b15 b16 b17 b18 b19 b20 b21 b22 b23 b24 b25 htk hr hf hw => ?_)
  unfold wX_run_32
  refine ex_ok (T := n + 1) (by omega) htk hr hf (fun e0 z1 z2 z3 b27 b28 b30 q1 q2 q3 q4 q5 q6 => ?_)
  have w := hw (e0, 0, 0, 0, 0)
  have w1 : (sg_run (zp_at b7 b8 b9 b10 b11) N (e0, 0, 0, 0, 0)).2.1 = 0 + (n + 1) := congrArg (fun r : Nat × Nat × Int32 × Int32 => r.1) w
  have w2 : (sg_run (zp_at b7 b8 b9 b10 b11) N (e0, 0, 0, 0, 0)).2.2.1 = (im_ex a1 a2 n (e0, 0, 0, 0, 0)).2.2.1 := by rw [w]
  have w3 : (sg_run (zp_at b7 b8 b9 b10 b11) N (e0, 0, 0, 0, 0)).2.2.2.1 = (im_ex a1 a2 n (e0, 0, 0, 0, 0)).2.2.2.1 := by rw [w]
  have w4 : (sg_run (zp_at b7 b8 b9 b10 b11) N (e0, 0, 0, 0, 0)).2.2.2.2 = (if a1 n = nI 26 then 0 else (im_ex a1 a2 n (e0, 0, 0, 0, 0)).1 (3 + (im_run a1 a2 n).1)) := congrArg (fun r : Nat × Nat × Int32 × Int32 => r.2.2.2) w
  rw [w1, Nat.zero_add] at q3
  rw [w2] at q5 q6
  rw [w3] at q6
  rw [w4] at q4
  exact hp e0 _ _ _ _ _ _ _ _ _ _ _ z1 z2 z3 b3 b4 b5 b6 b7 b8 b9 b10 b11 b13 b14 b15 b16 b17 b18 b19 b20 b21 b22 b23 b24 b25 b27 b28 b30 q1 q2 hat q3 q5 q4 q6
end
end
section
/-! the law's picture -/
/-- what the law's variables say of the stack machine's values -/
def mw_E (e : Nat → Int32) (d k : Nat) (s t u v l0 l1 l2 l3 : Int32) : Prop :=
  (1 ≤ d → e (3 + d) = v) ∧ (2 ≤ d → e (2 + d) = u) ∧ (3 ≤ d → e (1 + d) = t) ∧ (4 ≤ d → e d = s) ∧
  (ch_bit k 0 = 1 → e 0 = l0) ∧ (ch_bit k 1 = 1 → e 1 = l1) ∧ (ch_bit k 2 = 1 → e 2 = l2) ∧ (ch_bit k 3 = 1 → e 3 = l3)
def mw_I (o q : Nat → Int32) (a b : Int32) (n d k p : Nat) (s t u v l0 l1 l2 l3 sh : Int32) : Prop :=
  n ≤ 39 ∧ p ≤ n ∧ im_va o q n ∧ im_run o q n = (d, k) ∧ ∀ e0 : Nat → Int32, e0 0 = a → e0 1 = b →
    (im_ex o q n (e0, 0, 0, 0, 0)).2.2.1 = p ∧ (1 ≤ p → (im_ex o q n (e0, 0, 0, 0, 0)).2.2.2.1 = sh) ∧ mw_E (im_ex o q n (e0, 0, 0, 0, 0)).1 d k s t u v l0 l1 l2 l3
theorem mw_I_c {o q o' q' : Nat → Int32} {a b : Int32} {n d k p : Nat} {s t u v l0 l1 l2 l3 sh : Int32} (h : ∀ j, j < n → o j = o' j ∧ q j = q' j) (g : mw_I o q a b n d k p s t u v l0 l1 l2 l3 sh) : mw_I o' q' a b n d k p s t u v l0 l1 l2 l3 sh := by
  obtain ⟨g1, g2, g3, g4, g5⟩ := g
  refine ⟨g1, g2, im_va_c h g3, by rw [← im_run_c h]; exact g4, fun e0 h0 h1 => ?_⟩
  rw [← im_ex_c h]
  exact g5 e0 h0 h1
theorem mw_bd {o q : Nat → Int32} {a b : Int32} {n d k p : Nat} {s t u v l0 l1 l2 l3 sh : Int32} (g : mw_I o q a b n d k p s t u v l0 l1 l2 l3 sh) : d ≤ 4 ∧ k < 16 := by
  have h := im_bd g.2.2.1
  rw [g.2.2.2.1] at h
  exact h
theorem mw_0 (o q : Nat → Int32) (a b s t u v l2 l3 sh : Int32) : mw_I o q a b 0 0 3 0 s t u v a b l2 l3 sh := by
  refine ⟨by omega, by omega, fun j hj => absurd hj (by omega), rfl, fun e0 h0 h1 => ⟨rfl, fun z => absurd z (by omega), ?_⟩⟩
  refine ⟨fun z => absurd z (by omega), fun z => absurd z (by omega), fun z => absurd z (by omega), fun z => absurd z (by omega), fun _ => h0, fun _ => h1, fun z => absurd z (by decide), fun z => absurd z (by decide)⟩
/-- one more instruction: the picture grows -/
theorem mw_s {o q : Nat → Int32} {a b x y : Int32} {n d k p d' k' p' : Nat} {s t u v l0 l1 l2 l3 sh s' t' u' v' l0' l1' l2' l3' sh' : Int32} (g : mw_I o q a b n d k p s t u v l0 l1 l2 l3 sh) (hn : n < 39) (ok : im_ok x y d k) (hx : im_dk x y (d, k) = (d', k'))
    (hp : p' = p ∨ p' = p + 1)
    (hs : ∀ X : sg_St, X.2.2.1 = p → (1 ≤ p → X.2.2.2.1 = sh) → mw_E X.1 d k s t u v l0 l1 l2 l3 → (im_fx x y d X).2.2.1 = p' ∧ (1 ≤ p' → (im_fx x y d X).2.2.2.1 = sh') ∧ mw_E (im_fx x y d X).1 d' k' s' t' u' v' l0' l1' l2' l3') :
    mw_I (upd o n x) (upd q n y) a b (n + 1) d' k' p' s' t' u' v' l0' l1' l2' l3' sh' := by
  obtain ⟨g1, g2, g3, g4, g5⟩ := g
  have hc : ∀ j, j < n → o j = upd o n x j ∧ q j = upd q n y j := fun j hj => ⟨(pk_un (by omega)).symm, (pk_un (by omega)).symm⟩
  have er : im_run (upd o n x) (upd q n y) n = (d, k) := by rw [← im_run_c hc, g4]
  refine ⟨by omega, by omega, fun j hj => ?_, ?_, fun e0 h0 h1 => ?_⟩
  · rcases Nat.lt_or_ge j n with z | z
    · exact im_va_c hc g3 j z
    · rw [show j = n by omega, pk_us, pk_us, er]
      exact ok
  · show im_dk (upd o n x n) (upd q n y n) (im_run (upd o n x) (upd q n y) n) = (d', k')
    rw [pk_us, pk_us, er, hx]
  · have e : im_ex (upd o n x) (upd q n y) (n + 1) (e0, 0, 0, 0, 0) = im_fx x y d (im_ex o q n (e0, 0, 0, 0, 0)) := by
      show im_fx (upd o n x n) (upd q n y n) (im_run (upd o n x) (upd q n y) n).1 (im_ex (upd o n x) (upd q n y) n (e0, 0, 0, 0, 0)) = _
      rw [pk_us, pk_us, er, ← im_ex_c hc]
    rw [e]
    obtain ⟨f1, f2, f3⟩ := g5 e0 h0 h1
    exact hs _ f1 f2 f3
/-- places of the stack lie behind those -/
theorem mw_push {e : Nat → Int32} {d k : Nat} {s t u v l0 l1 l2 l3 x : Int32} (h : mw_E e d k s t u v l0 l1 l2 l3) : mw_E (upd e (4 + d) x) (d + 1) k t u v x l0 l1 l2 l3 := by
  obtain ⟨h1, h2, h3, h4, h5, h6, h7, h8⟩ := h
  refine ⟨fun _ => ?_, fun z => ?_, fun z => ?_, fun z => ?_, fun z => ?_, fun z => ?_, fun z => ?_, fun z => ?_⟩
  · rw [show 3 + (d + 1) = 4 + d by omega, pk_us]
  · rw [show 2 + (d + 1) = 3 + d by omega, pk_un (by omega)]; exact h1 (by omega)
  · rw [show 1 + (d + 1) = 2 + d by omega, pk_un (by omega)]; exact h2 (by omega)
  · rw [show d + 1 = 1 + d by omega, pk_un (by omega)]; exact h3 (by omega)
  · rw [pk_un (by omega)]; exact h5 z
  · rw [pk_un (by omega)]; exact h6 z
  · rw [pk_un (by omega)]; exact h7 z
  · rw [pk_un (by omega)]; exact h8 z
/-- the top changes -/
theorem mw_top {e : Nat → Int32} {d k : Nat} {s t u v l0 l1 l2 l3 x : Int32} (hd : 1 ≤ d) (h : mw_E e d k s t u v l0 l1 l2 l3) : mw_E (upd e (3 + d) x) d k s t u x l0 l1 l2 l3 := by
  obtain ⟨h1, h2, h3, h4, h5, h6, h7, h8⟩ := h
  refine ⟨fun _ => ?_, fun z => ?_, fun z => ?_, fun z => ?_, fun z => ?_, fun z => ?_, fun z => ?_, fun z => ?_⟩
  · rw [pk_us]
  · rw [pk_un (by omega)]; exact h2 z
  · rw [pk_un (by omega)]; exact h3 z
  · rw [pk_un (by omega)]; exact h4 z
  · rw [pk_un (by omega)]; exact h5 z
  · rw [pk_un (by omega)]; exact h6 z
  · rw [pk_un (by omega)]; exact h7 z
  · rw [pk_un (by omega)]; exact h8 z
/-- the top goes -/
theorem mw_pop {e : Nat → Int32} {d k : Nat} {s t u v l0 l1 l2 l3 : Int32} (hd : d ≤ 3) (h : mw_E e (d + 1) k s t u v l0 l1 l2 l3) : mw_E e d k s s t u l0 l1 l2 l3 := by
  obtain ⟨h1, h2, h3, h4, h5, h6, h7, h8⟩ := h
  refine ⟨fun z => ?_, fun z => ?_, fun z => ?_, fun z => absurd z (by omega), h5, h6, h7, h8⟩
  · rw [show 3 + d = 2 + (d + 1) by omega]; exact h2 (by omega)
  · rw [show 2 + d = 1 + (d + 1) by omega]; exact h3 (by omega)
  · rw [show 1 + d = d + 1 by omega]; exact h4 (by omega)
/-- two go, one comes -/
theorem mw_two {e : Nat → Int32} {d k : Nat} {s t u v l0 l1 l2 l3 x : Int32} (hd : d ≤ 3) (hd1 : 1 ≤ d) (h : mw_E e (d + 1) k s t u v l0 l1 l2 l3) : mw_E (upd e (2 + (d + 1)) x) d k s s t x l0 l1 l2 l3 := by
  have g := mw_top (x := x) hd1 (mw_pop hd h)
  rw [show 2 + (d + 1) = 3 + d by omega]
  exact g
theorem mw_swap {e : Nat → Int32} {d k : Nat} {s t u v l0 l1 l2 l3 : Int32} (hd : 2 ≤ d) (hd4 : d ≤ 4) (h : mw_E e d k s t u v l0 l1 l2 l3) : mw_E (upd (upd (upd e 10 (e (3 + d))) (3 + d) (e (2 + d))) (2 + d) (e (3 + d))) d k s t v u l0 l1 l2 l3 := by
  obtain ⟨h1, h2, h3, h4, h5, h6, h7, h8⟩ := h
  refine ⟨fun z => ?_, fun z => ?_, fun z => ?_, fun z => ?_, fun z => ?_, fun z => ?_, fun z => ?_, fun z => ?_⟩
  · rw [pk_un (by omega), pk_us]; exact h2 hd
  · rw [pk_us]; exact h1 (by omega)
  · rw [pk_un (by omega), pk_un (by omega), pk_un (by omega)]; exact h3 z
  · rw [pk_un (by omega), pk_un (by omega), pk_un (by omega)]; exact h4 z
  · rw [pk_un (by omega), pk_un (by omega), pk_un (by omega)]; exact h5 z
  · rw [pk_un (by omega), pk_un (by omega), pk_un (by omega)]; exact h6 z
  · rw [pk_un (by omega), pk_un (by omega), pk_un (by omega)]; exact h7 z
  · rw [pk_un (by omega), pk_un (by omega), pk_un (by omega)]; exact h8 z
/-- one of the places 0..3 is stored -/
theorem mw_store {e : Nat → Int32} {d k l : Nat} {s t u v l0 l1 l2 l3 : Int32} (hl : l < 4) (hk : k < 16) (hd : d ≤ 3) (h : mw_E e (d + 1) k s t u v l0 l1 l2 l3) :
    mw_E (upd e l (e (3 + (d + 1)))) d (k ||| 2 ^ l) s s t u (if l = 0 then v else l0) (if l = 1 then v else l1) (if l = 2 then v else l2) (if l = 3 then v else l3) := by
  obtain ⟨h1, h2, h3, h4, h5, h6, h7, h8⟩ := h
  have top := h1 (by omega)
  have loc : ∀ j (x : Int32), j < 4 → (ch_bit k j = 1 → e j = x) → ch_bit (k ||| 2 ^ l) j = 1 → upd e l (e (3 + (d + 1))) j = if l = j then v else x := by
    intro j x hj hx hb
    rw [ch_bits k hk l hl j hj] at hb
    by_cases g : j = l
    · rw [g, pk_us, if_pos rfl]; exact top
    · rw [pk_un g, if_neg (fun z => g z.symm)]
      rw [if_neg g] at hb
      exact hx hb
  refine ⟨fun z => ?_, fun z => ?_, fun z => ?_, fun z => absurd z (by omega), loc 0 l0 (by omega) h5, loc 1 l1 (by omega) h6, loc 2 l2 (by omega) h7, loc 3 l3 (by omega) h8⟩
  · rw [pk_un (by omega), show 3 + d = 2 + (d + 1) by omega]; exact h2 (by omega)
  · rw [pk_un (by omega), show 2 + d = 1 + (d + 1) by omega]; exact h3 (by omega)
  · rw [pk_un (by omega), show 1 + d = d + 1 by omega]; exact h4 (by omega)
end
section
/-! the law's turn: the checks -/
section
variable {le ck iv dn sn ls wc tr tf en tk tc lv ce sc gv pc : Int32} {iw : Int64} {a1 a2 a3 a4 a5 a6 a7 a8 a9 a10 a11 a12 a13 a14 a15 a16 a17 a18 a19 a20 a21 a22 a23 a24 a25 a26 a27 a28 a29 a30 : Nat → Int32}
theorem mw_sort {post : Int32 → St1 → Prop} {n d k j : Nat} (hn : n < 40) (hk : k < 16) (hj : j < 4) (h3 : a3 n = nI d) (hd : d ≤ 4) (h5 : a5 n = nI (ch_enc k)) (hp : post (nI (ch_bit k j)) (nI (n + 1), 1, 1, dn, sn, ls, wc, iw, tr, tf, en, tk, tc, lv, ce, sc, gv, pc, a1, a2, a3, a4, a5, a6, a7, a8, a9, a10, a11, a12, a13, a14, a15, a16, a17, a18, a19, a20, a21, a22, a23, a24, a25, a26, a27, a28, a29, a30)) : wpX_sort post (nI (n + 1), 1, 1, dn, sn, ls, wc, iw, tr, tf, en, tk, tc, lv, ce, sc, gv, pc, a1, a2, a3, a4, a5, a6, a7, a8, a9, a10, a11, a12, a13, a14, a15, a16, a17, a18, a19, a20, a21, a22, a23, a24, a25, a26, a27, a28, a29, a30) (nI n) (nI j) := by
  unfold wpX_sort
  refine br_f (nI_pos (by omega)) (pk_lt 3 j (fun z => absurd z (by omega)) (fun _ => br_f (nI_pos (by omega)) (pk_lt n (n + 1) (fun _ => ch_valid1 (br_f (by decide) ⟨pk_in n 40 hn, br_t (by rw [nI_clamp (by omega), h3]; exact nI_pos' (by omega)) ⟨pk_in n 40 hn, ?_⟩⟩)) (fun z => absurd z (by omega)))))
  rw [nI_clamp (show n < 2 ^ 31 by omega), h5, ch_get k hk j hj]
  exact hp
theorem mw_sort0 {post : Int32 → St1 → Prop} {n d k j : Nat} (hn : n < 40) (hj : j < 4) (va : im_va a1 a2 n) (er : im_run a1 a2 n = (d, k)) (he : (a1 n = nI 25 ∧ 1 ≤ d) ∨ a1 n = nI 26)
    (hp : ∀ (x1 x2 x3 x4 : Int32) (x5 : Int64) b3 b4 b5 b6, b3 n = nI d → b5 n = nI (ch_enc k) → post (nI (ch_bit k j)) (nI (n + 1), 1, 1, x1, x2, x3, x4, x5, tr, tf, en, tk, tc, lv, ce, sc, gv, pc, a1, a2, b3, b4, b5, b6, a7, a8, a9, a10, a11, a12, a13, a14, a15, a16, a17, a18, a19, a20, a21, a22, a23, a24, a25, a26, a27, a28, a29, a30)) : wpX_sort post (nI (n + 1), 0, iv, dn, sn, ls, wc, iw, tr, tf, en, tk, tc, lv, ce, sc, gv, pc, a1, a2, a3, a4, a5, a6, a7, a8, a9, a10, a11, a12, a13, a14, a15, a16, a17, a18, a19, a20, a21, a22, a23, a24, a25, a26, a27, a28, a29, a30) (nI n) (nI j) := by
  have hb := im_bd va
  have he' : (a1 n = nI 25 ∧ 1 ≤ (im_run a1 a2 n).1) ∨ a1 n = nI 26 := by rw [er]; exact he
  rw [er] at hb
  unfold wpX_sort
  refine br_f (nI_pos (by omega)) (pk_lt 3 j (fun z => absurd z (by omega)) (fun _ => br_f (nI_pos (by omega)) (pk_lt n (n + 1) (fun _ => ch_valid hn va he' (fun x1 x2 x3 x4 x5 b3 b4 b5 b6 hat => ?_)) (fun z => absurd z (by omega)))))
  obtain ⟨t3, t5⟩ := hat n (by omega)
  rw [er] at t3 t5
  refine br_f (by decide) ⟨pk_in n 40 hn, br_t (by rw [nI_clamp (by omega), t3]; exact nI_pos' (by have := hb.1; dsimp only at this; omega)) ⟨pk_in n 40 hn, ?_⟩⟩
  rw [nI_clamp (show n < 2 ^ 31 by omega), t5, ch_get k hb.2 j hj]
  exact hp x1 x2 x3 x4 x5 b3 b4 b5 b6 t3 t5
section
variable {post : Int32 → Prop} {L : Nat} {xs : Nat → Int32} {x2 x3 x6 x7 x8 x9 x10 x11 x12 x13 x16 x19 : Int32} {kc ks : Nat}
theorem mw_763 {m n d k p i : Nat} (hn : n < 40) (hp31 : p < 100) (va : im_va a1 a2 n) (er : im_run a1 a2 n = (d, k)) (he : (a1 n = nI 25 ∧ 1 ≤ d) ∨ a1 n = nI 26)
    (hp : ∀ (zck ziv zdn zsn zls zwc ztr ztf zen ztk ztc zlv zce zsc zgv zpc : Int32) (ziw : Int64) (b1 b2 b3 b4 b5 b6 b7 b8 b9 b10 b11 b12 b13 b14 b15 b16 b17 b18 b19 b20 b21 b22 b23 b24 b25 b26 b27 b28 b29 b30 : Nat → Int32), (∀ j, j < n → a1 j = b1 j ∧ a2 j = b2 j) → wL_law_77 post L xs x2 x3 kc ks m (nI n) (nI d) x6 x7 x8 x9 x10 x11 x12 x13 (nI k) (nI p) x16 (nI (i + 2)) (nI n) zck ziv zdn zsn zls zwc ziw ztr ztf zen ztk ztc zlv zce zsc zgv zpc b1 b2 b3 b4 b5 b6 b7 b8 b9 b10 b11 b12 b13 b14 b15 b16 b17 b18 b19 b20 b21 b22 b23 b24 b25 b26 b27 b28 b29 b30) :
    ∃ f, wL_law_763 post L xs (wL_law_77 post L xs x2 x3 kc ks m) x2 x3 (nI n) (nI d) x6 x7 x8 x9 x10 x11 x12 x13 (nI k) (nI p) x16 (nI i) kc ks f 0 (nI (n + 1)) 0 iv dn sn ls wc iw tr tf en tk tc lv ce sc gv pc a1 a2 a3 a4 a5 a6 a7 a8 a9 a10 a11 a12 a13 a14 a15 a16 a17 a18 a19 a20 a21 a22 a23 a24 a25 a26 a27 a28 a29 a30 := by
  have hb := im_bd va
  rw [er] at hb
  obtain ⟨hb1, hb2⟩ := hb
  dsimp only at hb1 hb2
  have kb : ∀ j, j < 4 → nI (ch_bit k j) = (nI k >>> (nI j &&& 31)) &&& 1 := fun j hj => (ch_kn k hb2 j hj).symm
  refine ⟨5, pk_le 4 0 (fun z => absurd z (by omega)) (fun _ => mw_sort0 (j := 0) hn (by omega) va er he (fun y1 y2 y3 y4 y5 b3 b4 b5 b6 t3 t5 => br_t (kb 0 (by omega)) (nm_r (nI_1 0) ?_)))⟩
  refine pk_le 4 1 (fun z => absurd z (by omega)) (fun _ => mw_sort (j := 1) hn hb2 (by omega) t3 hb1 t5 (br_t (kb 1 (by omega)) (nm_r (nI_1 1) ?_)))
  refine pk_le 4 2 (fun z => absurd z (by omega)) (fun _ => mw_sort (j := 2) hn hb2 (by omega) t3 hb1 t5 (br_t (kb 2 (by omega)) (nm_r (nI_1 2) ?_)))
  refine pk_le 4 3 (fun z => absurd z (by omega)) (fun _ => mw_sort (j := 3) hn hb2 (by omega) t3 hb1 t5 (br_t (kb 3 (by omega)) (nm_r (nI_1 3) ?_)))
  refine pk_le 4 4 (fun _ => tw_retract hn (br_t rfl (nm_r (nI_add i 2) ?_))) (fun z => absurd z (by omega))
  exact hp _ _ _ _ _ _ _ _ _ _ _ _ _ _ _ _ _ _ _ _ _ _ _ _ _ _ _ _ _ _ _ _ _ _ _ _ _ _ _ _ _ _ _ _ _ _ _ (fun j hj => ⟨rfl, rfl⟩)
theorem mw_722 {m n d k p i e : Nat} (hn : n < 40) (hp31 : p < 100) (he : (e = 26 ∧ d = 0) ∨ (e = 25 ∧ 1 ≤ d)) (va : im_va a1 a2 n) (er : im_run a1 a2 n = (d, k)) (h3 : a3 n = nI d)
    (hp : ∀ (zck ziv zdn zsn zls zwc ztr ztf zen ztk ztc zlv zce zsc zgv zpc : Int32) (ziw : Int64) (b1 b2 b3 b4 b5 b6 b7 b8 b9 b10 b11 b12 b13 b14 b15 b16 b17 b18 b19 b20 b21 b22 b23 b24 b25 b26 b27 b28 b29 b30 : Nat → Int32), (∀ j, j < n → a1 j = b1 j ∧ a2 j = b2 j) → wL_law_77 post L xs x2 x3 kc ks m (nI n) (nI d) x6 x7 x8 x9 x10 x11 x12 x13 (nI k) (nI p) x16 (nI (i + 2)) (nI n) zck ziv zdn zsn zls zwc ziw ztr ztf zen ztk ztc zlv zce zsc zgv zpc b1 b2 b3 b4 b5 b6 b7 b8 b9 b10 b11 b12 b13 b14 b15 b16 b17 b18 b19 b20 b21 b22 b23 b24 b25 b26 b27 b28 b29 b30) :
    wL_law_722 post L xs (wL_law_77 post L xs x2 x3 kc ks m) x2 x3 (nI n) (nI d) x6 x7 x8 x9 x10 x11 x12 x13 (nI k) (nI p) x16 (nI i) (nI e) kc ks (nI (n + 1)) 1 1 dn sn ls wc iw tr tf en tk tc lv ce sc gv pc a1 a2 a3 a4 a5 a6 a7 a8 a9 a10 a11 a12 a13 a14 a15 a16 a17 a18 a19 a20 a21 a22 a23 a24 a25 a26 a27 a28 a29 a30 := by
  have hb := im_bd va
  rw [er] at hb
  obtain ⟨hb1, hb2⟩ := hb
  dsimp only at hb1 hb2
  unfold wL_law_722
  unfold wpX_depth
  refine br_f (nI_pos (by omega)) (pk_lt n (n + 1) (fun _ => ch_valid1 (br_f (by decide) ⟨pk_in n 40 hn, br_t (by rw [nI_clamp (by omega), h3]; exact nI_pos' (by omega)) ⟨pk_in n 40 hn, br_t (by rw [nI_clamp (by omega), h3]) ?_⟩⟩)) (fun z => absurd z (by omega)))
  refine tw_retract hn (br_t rfl (tw_emit hn (by omega) (by omega) (fun z => absurd z (by omega)) (br_t (nI_1 n).symm ?_)))
  have hc : ∀ j, j < n → a1 j = upd a1 n (nI e) j ∧ a2 j = upd a2 n 0 j := fun j hj => ⟨(pk_un (by omega)).symm, (pk_un (by omega)).symm⟩
  refine mw_763 hn hp31 (im_va_c hc va) (by rw [← im_run_c hc]; exact er) ?_ (fun zck ziv zdn zsn zls zwc ztr ztf zen ztk ztc zlv zce zsc zgv zpc ziw b1 b2 b3 b4 b5 b6 b7 b8 b9 b10 b11 b12 b13 b14 b15 b16 b17 b18 b19 b20 b21 b22 b23 b24 b25 b26 b27 b28 b29 b30 hq => hp _ _ _ _ _ _ _ _ _ _ _ _ _ _ _ _ _ _ _ _ _ _ _ _ _ _ _ _ _ _ _ _ _ _ _ _ _ _ _ _ _ _ _ _ _ _ _ (fun j hj => ⟨(hc j hj).1.trans (hq j hj).1, (hc j hj).2.trans (hq j hj).2⟩))
  rw [pk_us]
  rcases he with ⟨e1, e2⟩ | ⟨e1, e2⟩
  · rw [e1]
    exact Or.inr rfl
  · rw [e1]
    exact Or.inl ⟨rfl, e2⟩
theorem mw_672 {m n d k p i e : Nat} {z0 : Int32} (hn : n < 40) (hp31 : p < 100) (he : (e = 26 ∧ d = 0) ∨ (e = 25 ∧ 1 ≤ d)) (va : im_va a1 a2 n) (er : im_run a1 a2 n = (d, k)) (h3 : a3 n = nI d) (hz : gv = z0) (ho : 1 ≤ p → p ≤ 20 → a30 (p - 1) = x16)
    (hp : ∀ (zck ziv zdn zsn zls zwc ztr ztf zen ztk ztc zlv zce zsc zgv zpc : Int32) (ziw : Int64) (b1 b2 b3 b4 b5 b6 b7 b8 b9 b10 b11 b12 b13 b14 b15 b16 b17 b18 b19 b20 b21 b22 b23 b24 b25 b26 b27 b28 b29 b30 : Nat → Int32), (∀ j, j < n → a1 j = b1 j ∧ a2 j = b2 j) → wL_law_77 post L xs x2 x3 kc ks m (nI n) (nI d) x6 x7 x8 x9 x10 x11 x12 x13 (nI k) (nI p) x16 (nI (i + 2)) (nI n) zck ziv zdn zsn zls zwc ziw ztr ztf zen ztk ztc zlv zce zsc zgv zpc b1 b2 b3 b4 b5 b6 b7 b8 b9 b10 b11 b12 b13 b14 b15 b16 b17 b18 b19 b20 b21 b22 b23 b24 b25 b26 b27 b28 b29 b30) :
    wL_law_672 post L xs (wL_law_77 post L xs x2 x3 kc ks m) x2 x3 (nI n) (nI d) x6 x7 x8 x9 x10 x11 x12 x13 (nI k) (nI p) x16 (nI i) (nI e) z0 gv kc ks (nI (n + 1)) 1 1 dn sn ls wc iw tr tf en tk tc lv ce (nI (n + 1)) gv (nI p) a1 a2 a3 a4 a5 a6 a7 a8 a9 a10 a11 a12 a13 a14 a15 a16 a17 a18 a19 a20 a21 a22 a23 a24 a25 a26 a27 a28 a29 a30 := by
  have s722 : wL_law_722 post L xs (wL_law_77 post L xs x2 x3 kc ks m) x2 x3 (nI n) (nI d) x6 x7 x8 x9 x10 x11 x12 x13 (nI k) (nI p) x16 (nI i) (nI e) kc ks (nI (n + 1)) 1 1 dn sn ls wc iw tr tf en tk tc lv ce (nI (n + 1)) gv (nI p) a1 a2 a3 a4 a5 a6 a7 a8 a9 a10 a11 a12 a13 a14 a15 a16 a17 a18 a19 a20 a21 a22 a23 a24 a25 a26 a27 a28 a29 a30 := mw_722 hn hp31 he va er h3 hp
  unfold wL_law_672
  refine br_t hz ?_
  unfold wpX_steps
  refine br_t (nI_1 n).symm ?_
  unfold wpX_printed
  refine br_t rfl (pk_le p 0 (fun _ => s722) (fun g1 => pk_lt 20 p (fun _ => s722) (fun g2 => ?_)))
  obtain ⟨p', rfl⟩ : ∃ p', p = p' + 1 := ⟨p - 1, by omega⟩
  unfold wpX_output
  show _ ∧ _
  rw [nI_pred]
  refine br_f (nI_pos (by omega)) (pk_le (p' + 1) p' (fun z => absurd z (by omega)) (fun _ => pk_le p' 19 (fun _ => ⟨pk_in p' 20 (by omega), br_t ?_ s722⟩) (fun z => absurd z (by omega))))
  rw [nI_clamp (show p' < 2 ^ 31 by omega)]
  exact ho (by omega) (by omega)
theorem mw_612 {m n d k p i e : Nat} (he : (e = 26 ∧ d = 0) ∨ (e = 25 ∧ 1 ≤ d)) (g : mw_I a1 a2 x2 x3 n d k p x6 x7 x8 x9 x10 x11 x12 x13 x16)
    (hp : ∀ (zck ziv zdn zsn zls zwc ztr ztf zen ztk ztc zlv zce zsc zgv zpc : Int32) (ziw : Int64) (b1 b2 b3 b4 b5 b6 b7 b8 b9 b10 b11 b12 b13 b14 b15 b16 b17 b18 b19 b20 b21 b22 b23 b24 b25 b26 b27 b28 b29 b30 : Nat → Int32), (∀ j, j < n → a1 j = b1 j ∧ a2 j = b2 j) → wL_law_77 post L xs x2 x3 kc ks m (nI n) (nI d) x6 x7 x8 x9 x10 x11 x12 x13 (nI k) (nI p) x16 (nI (i + 2)) (nI n) zck ziv zdn zsn zls zwc ziw ztr ztf zen ztk ztc zlv zce zsc zgv zpc b1 b2 b3 b4 b5 b6 b7 b8 b9 b10 b11 b12 b13 b14 b15 b16 b17 b18 b19 b20 b21 b22 b23 b24 b25 b26 b27 b28 b29 b30) :
    wL_law_612 post L xs (wL_law_77 post L xs x2 x3 kc ks m) x2 x3 (nI n) (nI d) x6 x7 x8 x9 x10 x11 x12 x13 (nI k) (nI p) x16 (nI i) x19 (nI e) kc ks (nI n) ck iv dn sn ls wc iw tr tf en tk tc lv ce sc gv pc a1 a2 a3 a4 a5 a6 a7 a8 a9 a10 a11 a12 a13 a14 a15 a16 a17 a18 a19 a20 a21 a22 a23 a24 a25 a26 a27 a28 a29 a30 := by
  obtain ⟨hb1, hb2⟩ := mw_bd g
  obtain ⟨g1, g2, g3, g4, g5⟩ := g
  obtain ⟨w, hw, ew⟩ := pk_andE (x19 >>> ((8 : Int32) &&& 31)) (m := 255) 8 (by decide)
  have e3 : nI w - nI w / 3 * 3 = nI (w % 3) := pk_rem (a := w) (d := 3) (by omega) (by omega) (by omega)
  have hc : ∀ j, j < n → a1 j = upd a1 n (nI e) j ∧ a2 j = upd a2 n 0 j := fun j hj => ⟨(pk_un (by omega)).symm, (pk_un (by omega)).symm⟩
  have va' : im_va (upd a1 n (nI e)) (upd a2 n 0) n := im_va_c hc g3
  have er' : im_run (upd a1 n (nI e)) (upd a2 n 0) n = (d, k) := by rw [← im_run_c hc]; exact g4
  unfold wL_law_612
  rw [ew, e3]
  refine tw_emit (by omega) (by omega) (by omega) (fun z => absurd z (by omega)) (br_t (nI_1 n).symm ⟨by decide, ?_⟩)
  refine tw_level (by omega) (br_f (by decide) ?_)
  refine rn_ok (by omega) va' ?_ (fun e0 y1 y2 y3 y4 y6 y7 y8 y9 y10 y11 y5 sc' gv' pc' b3 b4 b5 b6 b7 b8 b9 b10 b11 b13 b14 b15 b16 b17 b18 b19 b20 b21 b22 b23 b24 b25 b27 b28 b30 q1 q2 q3 q4 q5 q6 q7 => br_t rfl ?_)
  · rw [pk_us, er']
    rcases he with ⟨e1, e2⟩ | ⟨e1, e2⟩
    · rw [e1]
      exact Or.inr rfl
    · rw [e1]
      exact Or.inl ⟨rfl, e2⟩
  · obtain ⟨f1, f2, f3⟩ := g5 e0 q1 q2
    rw [← im_ex_c hc, pk_us, er'] at q6
    rw [← im_ex_c hc, f1] at q5 q7
    have t3 := (q3 n (by omega)).1
    rw [er'] at t3
    subst q4 q5
    have ho : 1 ≤ p → p ≤ 20 → b30 (p - 1) = x16 := fun z1 z2 => (q7 z1 z2).trans (f2 z1)
    have hp' : ∀ (zck ziv zdn zsn zls zwc ztr ztf zen ztk ztc zlv zce zsc zgv zpc : Int32) (ziw : Int64) (b1 b2 b3 b4 b5 b6 b7 b8 b9 b10 b11 b12 b13 b14 b15 b16 b17 b18 b19 b20 b21 b22 b23 b24 b25 b26 b27 b28 b29 b30 : Nat → Int32), (∀ j, j < n → upd a1 n (nI e) j = b1 j ∧ upd a2 n 0 j = b2 j) → wL_law_77 post L xs x2 x3 kc ks m (nI n) (nI d) x6 x7 x8 x9 x10 x11 x12 x13 (nI k) (nI p) x16 (nI (i + 2)) (nI n) zck ziv zdn zsn zls zwc ziw ztr ztf zen ztk ztc zlv zce zsc zgv zpc b1 b2 b3 b4 b5 b6 b7 b8 b9 b10 b11 b12 b13 b14 b15 b16 b17 b18 b19 b20 b21 b22 b23 b24 b25 b26 b27 b28 b29 b30 :=
      fun zck ziv zdn zsn zls zwc ztr ztf zen ztk ztc zlv zce zsc zgv zpc ziw b1 b2 b3 b4 b5 b6 b7 b8 b9 b10 b11 b12 b13 b14 b15 b16 b17 b18 b19 b20 b21 b22 b23 b24 b25 b26 b27 b28 b29 b30 hq => hp _ _ _ _ _ _ _ _ _ _ _ _ _ _ _ _ _ _ _ _ _ _ _ _ _ _ _ _ _ _ _ _ _ _ _ _ _ _ _ _ _ _ _ _ _ _ _ (fun j hj => ⟨(hc j hj).1.trans (hq j hj).1, (hc j hj).2.trans (hq j hj).2⟩)
    unfold wpX_result
    refine pk_le d 0 (fun d0 => mw_672 (by omega) (by omega) he va' er' t3 ?_ ho hp') (fun d1 => mw_672 (by omega) (by omega) he va' er' t3 ?_ ho hp')
    · have ee : e = 26 := by omega
      rw [q6, if_pos (by rw [ee])]
    · have ee : e = 25 := by omega
      rw [q6, if_neg (by rw [ee]; decide)]
      exact f3.1 d1
theorem mw_600 {m n d k p i : Nat} (g : mw_I a1 a2 x2 x3 n d k p x6 x7 x8 x9 x10 x11 x12 x13 x16)
    (hp : ∀ (zck ziv zdn zsn zls zwc ztr ztf zen ztk ztc zlv zce zsc zgv zpc : Int32) (ziw : Int64) (b1 b2 b3 b4 b5 b6 b7 b8 b9 b10 b11 b12 b13 b14 b15 b16 b17 b18 b19 b20 b21 b22 b23 b24 b25 b26 b27 b28 b29 b30 : Nat → Int32), (∀ j, j < n → a1 j = b1 j ∧ a2 j = b2 j) → wL_law_77 post L xs x2 x3 kc ks m (nI n) (nI d) x6 x7 x8 x9 x10 x11 x12 x13 (nI k) (nI p) x16 (nI (i + 2)) (nI n) zck ziv zdn zsn zls zwc ziw ztr ztf zen ztk ztc zlv zce zsc zgv zpc b1 b2 b3 b4 b5 b6 b7 b8 b9 b10 b11 b12 b13 b14 b15 b16 b17 b18 b19 b20 b21 b22 b23 b24 b25 b26 b27 b28 b29 b30) :
    wL_law_600 post L xs (wL_law_77 post L xs x2 x3 kc ks m) x2 x3 (nI n) (nI d) x6 x7 x8 x9 x10 x11 x12 x13 (nI k) (nI p) x16 (nI i) x19 kc ks (nI n) ck iv dn sn ls wc iw tr tf en tk tc lv ce sc gv pc a1 a2 a3 a4 a5 a6 a7 a8 a9 a10 a11 a12 a13 a14 a15 a16 a17 a18 a19 a20 a21 a22 a23 a24 a25 a26 a27 a28 a29 a30 := by
  obtain ⟨hb1, hb2⟩ := mw_bd g
  unfold wL_law_600
  exact pk_le d 0 (fun d0 => mw_612 (e := 26) (Or.inl ⟨rfl, by omega⟩) g hp) (fun d1 => mw_612 (e := 25) (Or.inr ⟨rfl, d1⟩) g hp)
end
end
end
section
/-! the law's turn: an instruction is emitted -/
section
variable {le ck iv dn sn ls wc tr tf en tk tc lv ce sc gv pc : Int32} {iw : Int64} {a1 a2 a3 a4 a5 a6 a7 a8 a9 a10 a11 a12 a13 a14 a15 a16 a17 a18 a19 a20 a21 a22 a23 a24 a25 a26 a27 a28 a29 a30 : Nat → Int32}
variable {post : Int32 → Prop} {L : Nat} {xs : Nat → Int32} {x2 x3 x6 x7 x8 x9 x10 x11 x12 x13 x16 x17 x19 : Int32} {kc ks : Nat}
/-- behind an instruction: the law's new variables match -/
def mw_K (post : Int32 → Prop) (L : Nat) (xs : Nat → Int32) (x2 x3 x17 x19 : Int32) (kc ks m n : Nat) (le ck iv dn sn ls wc : Int32) (iw : Int64) (tr tf en tk tc lv ce sc gv pc : Int32) (a1 a2 a3 a4 a5 a6 a7 a8 a9 a10 a11 a12 a13 a14 a15 a16 a17 a18 a19 a20 a21 a22 a23 a24 a25 a26 a27 a28 a29 a30 : Nat → Int32) : Prop :=
  ∀ (d k p : Nat) (s t u v l0 l1 l2 l3 sh : Int32), mw_I a1 a2 x2 x3 n d k p s t u v l0 l1 l2 l3 sh → wL_law_600 post L xs (wL_law_77 post L xs x2 x3 kc ks m) x2 x3 (nI n) (nI d) s t u v l0 l1 l2 l3 (nI k) (nI p) sh x17 x19 kc ks le ck iv dn sn ls wc iw tr tf en tk tc lv ce sc gv pc a1 a2 a3 a4 a5 a6 a7 a8 a9 a10 a11 a12 a13 a14 a15 a16 a17 a18 a19 a20 a21 a22 a23 a24 a25 a26 a27 a28 a29 a30
/-- those that grow -/
theorem mw_354 {m n d : Nat} {x4 x14 x15 z : Int32} (hp : wL_law_600 post L xs (wL_law_77 post L xs x2 x3 kc ks m) x2 x3 x4 (nI (d + 1)) x7 x8 x9 z x10 x11 x12 x13 x14 x15 x16 x17 x19 kc ks le ck iv dn sn ls wc iw tr tf en tk tc lv ce sc gv pc a1 a2 a3 a4 a5 a6 a7 a8 a9 a10 a11 a12 a13 a14 a15 a16 a17 a18 a19 a20 a21 a22 a23 a24 a25 a26 a27 a28 a29 a30) :
    wL_law_354 post L xs (wL_law_77 post L xs x2 x3 kc ks m) x2 x3 x4 (nI d) x7 x8 x9 x10 x11 x12 x13 x14 x15 x16 x17 x19 z kc ks le ck iv dn sn ls wc iw tr tf en tk tc lv ce sc gv pc a1 a2 a3 a4 a5 a6 a7 a8 a9 a10 a11 a12 a13 a14 a15 a16 a17 a18 a19 a20 a21 a22 a23 a24 a25 a26 a27 a28 a29 a30 := by
  unfold wL_law_354
  refine nm_r (nI_1 d) ?_
  unfold wL_law_555
  exact hp
/-- those that shrink -/
theorem mw_542 {m d : Nat} {x4 x14 x15 z : Int32} (hp : wL_law_600 post L xs (wL_law_77 post L xs x2 x3 kc ks m) x2 x3 x4 (nI d) x6 x6 x7 z x10 x11 x12 x13 x14 x15 x16 x17 x19 kc ks le ck iv dn sn ls wc iw tr tf en tk tc lv ce sc gv pc a1 a2 a3 a4 a5 a6 a7 a8 a9 a10 a11 a12 a13 a14 a15 a16 a17 a18 a19 a20 a21 a22 a23 a24 a25 a26 a27 a28 a29 a30) :
    wL_law_542 post L xs (wL_law_77 post L xs x2 x3 kc ks m) x2 x3 x4 (nI (d + 1)) x6 x7 x10 x11 x12 x13 x14 x15 x16 x17 x19 z kc ks le ck iv dn sn ls wc iw tr tf en tk tc lv ce sc gv pc a1 a2 a3 a4 a5 a6 a7 a8 a9 a10 a11 a12 a13 a14 a15 a16 a17 a18 a19 a20 a21 a22 a23 a24 a25 a26 a27 a28 a29 a30 := by
  unfold wL_law_542
  refine nm_r (pk_m1 d) ?_
  unfold wL_law_555
  exact hp
theorem mw_540 {m d : Nat} {x4 x14 x15 : Int32} (hp : wL_law_600 post L xs (wL_law_77 post L xs x2 x3 kc ks m) x2 x3 x4 (nI d) x6 x6 x7 x8 x10 x11 x12 x13 x14 x15 x16 x17 x19 kc ks le ck iv dn sn ls wc iw tr tf en tk tc lv ce sc gv pc a1 a2 a3 a4 a5 a6 a7 a8 a9 a10 a11 a12 a13 a14 a15 a16 a17 a18 a19 a20 a21 a22 a23 a24 a25 a26 a27 a28 a29 a30) :
    wL_law_540 post L xs (wL_law_77 post L xs x2 x3 kc ks m) x2 x3 x4 (nI (d + 1)) x6 x7 x8 x10 x11 x12 x13 x14 x15 x16 x17 x19 kc ks le ck iv dn sn ls wc iw tr tf en tk tc lv ce sc gv pc a1 a2 a3 a4 a5 a6 a7 a8 a9 a10 a11 a12 a13 a14 a15 a16 a17 a18 a19 a20 a21 a22 a23 a24 a25 a26 a27 a28 a29 a30 := by
  unfold wL_law_540
  exact mw_542 hp
/-- not a store, not an output: straight to the end of the chain -/
theorem mw_chain {m o d : Nat} {x4 x14 x15 x20 : Int32} (ho : o < 40) (h2 : o ≠ 2) (h24 : o ≠ 24)
    (hp : wL_law_515 post L xs (wL_law_77 post L xs x2 x3 kc ks m) x2 x3 x4 (nI d) x6 x7 x8 x9 x10 x11 x12 x13 x14 x15 x16 x17 (nI o) x19 kc ks le ck iv dn sn ls wc iw tr tf en tk tc lv ce sc gv pc a1 a2 a3 a4 a5 a6 a7 a8 a9 a10 a11 a12 a13 a14 a15 a16 a17 a18 a19 a20 a21 a22 a23 a24 a25 a26 a27 a28 a29 a30) :
    wL_law_431 post L xs (wL_law_77 post L xs x2 x3 kc ks m) x2 x3 x4 (nI d) x6 x7 x8 x9 x10 x11 x12 x13 x14 x15 x16 x17 (nI o) x19 x20 kc ks le ck iv dn sn ls wc iw tr tf en tk tc lv ce sc gv pc a1 a2 a3 a4 a5 a6 a7 a8 a9 a10 a11 a12 a13 a14 a15 a16 a17 a18 a19 a20 a21 a22 a23 a24 a25 a26 a27 a28 a29 a30 := by
  unfold wL_law_431
  refine pk_eq o 2 (fun z => absurd z h2) (fun _ => ?_)
  unfold wL_law_447
  refine pk_eq o 2 (fun z => absurd z h2) (fun _ => ?_)
  unfold wL_law_463
  refine pk_eq o 2 (fun z => absurd z h2) (fun _ => ?_)
  unfold wL_law_479
  refine pk_eq o 2 (fun z => absurd z h2) (fun _ => ?_)
  unfold wL_law_494
  refine pk_eq o 24 (fun z => absurd z h24) (fun _ => ?_)
  unfold wL_law_504
  exact pk_eq o 24 (fun z => absurd z h24) (fun _ => hp)
/-- the end of a store -/
theorem mw_479 {m d k l : Nat} {x4 x15 : Int32} (hk : k < 16) (hl : l < 4)
    (hp : wL_law_600 post L xs (wL_law_77 post L xs x2 x3 kc ks m) x2 x3 x4 (nI d) x6 x6 x7 x8 x10 x11 x12 x13 (nI (k ||| 2 ^ l)) x15 x16 x17 x19 kc ks le ck iv dn sn ls wc iw tr tf en tk tc lv ce sc gv pc a1 a2 a3 a4 a5 a6 a7 a8 a9 a10 a11 a12 a13 a14 a15 a16 a17 a18 a19 a20 a21 a22 a23 a24 a25 a26 a27 a28 a29 a30) :
    wL_law_479 post L xs (wL_law_77 post L xs x2 x3 kc ks m) x2 x3 x4 (nI (d + 1)) x6 x7 x8 x9 x10 x11 x12 x13 (nI k) x15 x16 x17 2 x19 (nI l) kc ks le ck iv dn sn ls wc iw tr tf en tk tc lv ce sc gv pc a1 a2 a3 a4 a5 a6 a7 a8 a9 a10 a11 a12 a13 a14 a15 a16 a17 a18 a19 a20 a21 a22 a23 a24 a25 a26 a27 a28 a29 a30 := by
  unfold wL_law_479
  refine br_t rfl (nm_r (ch_kp k hk l hl).1 ?_)
  unfold wL_law_494
  refine br_f (by decide) ?_
  unfold wL_law_504
  refine br_f (by decide) ?_
  unfold wL_law_515
  exact br_t (by decide) (mw_540 hp)
theorem mw_324 {m n o d k p l : Nat} {x22 y z0 : Int32} (g : mw_I a1 a2 x2 x3 n d k p x6 x7 x8 x9 x10 x11 x12 x13 x16) (hn : n < 39) (hl : l < 4) (ok : im_ok (nI o) y d k) (hy : y = if o = 0 then x19 else nI l) (ho : o ≤ 16 ∨ o = 24)
    (h22 : (o < 2 ∨ o = 14) → x22 = 1) (h22' : ¬ (o < 2 ∨ o = 14) → x22 = 0) (hz : ∀ e, mw_E e d k x6 x7 x8 x9 x10 x11 x12 x13 → ch_bit k l = 1 → e l = z0)
    (hp : mw_K post L xs x2 x3 x17 x19 kc ks m (n + 1) (nI (n + 1)) 0 iv dn sn ls wc iw 0 tf en tk tc lv ce sc gv pc (upd a1 n (nI o)) (upd a2 n y) a3 a4 a5 a6 a7 a8 a9 a10 a11 a12 a13 a14 a15 a16 a17 a18 a19 a20 a21 a22 a23 a24 a25 a26 a27 a28 a29 a30) :
    wL_law_324 post L xs (wL_law_77 post L xs x2 x3 kc ks m) x2 x3 (nI (n + 1)) (nI d) x6 x7 x8 x9 x10 x11 x12 x13 (nI k) (nI p) x16 x17 (nI o) x19 (nI l) x22 z0 kc ks (nI (n + 1)) 0 iv dn sn ls wc iw 0 tf en tk tc lv ce sc gv pc (upd a1 n (nI o)) (upd a2 n y) a3 a4 a5 a6 a7 a8 a9 a10 a11 a12 a13 a14 a15 a16 a17 a18 a19 a20 a21 a22 a23 a24 a25 a26 a27 a28 a29 a30 := by
  obtain ⟨hb1, hb2⟩ := mw_bd g
  have hp99 := g.2.1
  have ok0 := ok
  have inj : ∀ j : Nat, j < 100 → nI o = nI j → o = j := fun j hj z => by rw [nI_eq (by omega) (by omega)] at z; exact z
  obtain ⟨_, _, ok⟩ := ok
  unfold wL_law_324
  rcases ok with h | h | h | h | h | h | h | h | h
  · obtain ⟨e, hd⟩ := h
    have eo := inj 0 (by omega) e
    subst eo
    rw [if_pos rfl] at hy
    subst hy
    rw [h22 (by omega)]
    refine br_f (by decide) (br_t rfl (mw_354 (n := n) (hp _ _ _ _ _ _ _ _ _ _ _ _ (mw_s g hn ok0 (im_dk0 _ _ _) (Or.inl rfl) (fun X f1 f2 f3 => ?_)))))
    rw [im_fx0]
    exact ⟨f1, f2, mw_push f3⟩
  · obtain ⟨e, hd, j, hj, ey, hbit⟩ := h
    have eo := inj 1 (by omega) e
    subst eo
    rw [if_neg (by decide)] at hy
    have ejl : j = l := by
      have z : nI j = nI l := ey.symm.trans hy
      rw [nI_eq (by omega) (by omega)] at z
      exact z
    subst ejl
    rw [h22 (by omega)]
    refine br_f (by decide) (br_f (by decide) (br_t rfl (mw_354 (n := n) (hp _ _ _ _ _ _ _ _ _ _ _ _ (mw_s g hn ok0 (im_dk1 _ _ _) (Or.inl rfl) (fun X f1 f2 f3 => ?_))))))
    rw [im_fx1, ey, nI_clamp (by omega), hz X.1 f3 hbit]
    exact ⟨f1, f2, mw_push f3⟩
  · obtain ⟨e, hd, j, hj, ey⟩ := h
    have eo := inj 2 (by omega) e
    subst eo
    rw [if_neg (by decide)] at hy
    have ejl : j = l := by
      have z : nI j = nI l := ey.symm.trans hy
      rw [nI_eq (by omega) (by omega)] at z
      exact z
    subst ejl
    rw [h22' (by omega)]
    obtain ⟨d', rfl⟩ : ∃ d', d = d' + 1 := ⟨d - 1, by omega⟩
    have new : mw_I (upd a1 n (nI 2)) (upd a2 n y) x2 x3 (n + 1) d' (k ||| 2 ^ j) p x6 x6 x7 x8 (if j = 0 then x9 else x10) (if j = 1 then x9 else x11) (if j = 2 then x9 else x12) (if j = 3 then x9 else x13) x16 := by
      refine mw_s g hn ok0 (by rw [im_dk2, ey, nI_clamp (by omega)]; rfl) (Or.inl rfl) (fun X f1 f2 f3 => ?_)
      rw [im_fx2, ey, nI_clamp (by omega)]
      exact ⟨f1, f2, mw_store hj hb2 (by omega) f3⟩
    have fin := hp _ _ _ _ _ _ _ _ _ _ _ _ new
    refine br_t rfl (br_f (by decide) (br_f (by decide) (br_t rfl ?_)))
    rcases (show j = 0 ∨ j = 1 ∨ j = 2 ∨ j = 3 by omega) with e | e | e | e
    · subst e
      rw [if_pos rfl, if_neg (by decide), if_neg (by decide), if_neg (by decide)] at fin
      refine br_t rfl ?_
      unfold wL_law_431
      refine br_t rfl (br_f (by decide) ?_)
      unfold wL_law_447
      refine br_t rfl (br_f (by decide) ?_)
      unfold wL_law_463
      exact br_t rfl (br_f (by decide) (mw_479 hb2 hj fin))
    · subst e
      rw [if_neg (by decide), if_pos rfl, if_neg (by decide), if_neg (by decide)] at fin
      refine br_f (by decide) ?_
      unfold wL_law_431
      refine br_t rfl (br_t rfl ?_)
      unfold wL_law_447
      refine br_t rfl (br_f (by decide) ?_)
      unfold wL_law_463
      exact br_t rfl (br_f (by decide) (mw_479 hb2 hj fin))
    · subst e
      rw [if_neg (by decide), if_neg (by decide), if_pos rfl, if_neg (by decide)] at fin
      refine br_f (by decide) ?_
      unfold wL_law_431
      refine br_t rfl (br_f (by decide) ?_)
      unfold wL_law_447
      refine br_t rfl (br_t rfl ?_)
      unfold wL_law_463
      exact br_t rfl (br_f (by decide) (mw_479 hb2 hj fin))
    · subst e
      rw [if_neg (by decide), if_neg (by decide), if_neg (by decide), if_pos rfl] at fin
      refine br_f (by decide) ?_
      unfold wL_law_431
      refine br_t rfl (br_f (by decide) ?_)
      unfold wL_law_447
      refine br_t rfl (br_f (by decide) ?_)
      unfold wL_law_463
      exact br_t rfl (br_t rfl (mw_479 hb2 hj fin))
  · obtain ⟨⟨j, j1, j2, e⟩, hd⟩ := h
    have eo := inj j (by omega) e
    subst eo
    rw [h22' (by omega)]
    obtain ⟨d', rfl⟩ : ∃ d', d = d' + 1 := ⟨d - 1, by omega⟩
    refine br_t rfl (pk_eq o 13 (fun z => absurd z (by omega)) (fun _ => pk_eq o 16 (fun z => absurd z (by omega)) (fun _ => pk_eq o 2 (fun z => absurd z (by omega)) (fun _ => mw_chain (by omega) (by omega) (by omega) ?_))))
    unfold wL_law_515
    refine pk_lt o 3 (fun z => absurd z (by omega)) (fun _ => pk_lt 12 o (fun z => absurd z (by omega)) (fun _ => cb_joined j1 j2 (mw_542 (hp _ _ _ _ _ _ _ _ _ _ _ _ (mw_s g hn ok0 (im_dkb j1 j2 _ _ _) (Or.inl rfl) (fun X f1 f2 f3 => ?_))))))
    rw [im_fxb j1 j2, f3.1 (by omega), f3.2.1 (by omega)]
    exact ⟨f1, f2, mw_two (by omega) (by omega) f3⟩
  · obtain ⟨e, hd⟩ := h
    have eo := inj 13 (by omega) e
    subst eo
    rw [h22' (by omega)]
    refine br_t rfl (br_t rfl (nm_e ?_))
    unfold wL_law_555
    refine hp _ _ _ _ _ _ _ _ _ _ _ _ (mw_s g hn ok0 (im_dk13 _ _ _) (Or.inl rfl) (fun X f1 f2 f3 => ?_))
    rw [im_fx13, f3.1 hd]
    exact ⟨f1, f2, mw_top hd f3⟩
  · obtain ⟨e, hd, hd2⟩ := h
    have eo := inj 14 (by omega) e
    subst eo
    rw [h22 (by omega)]
    refine br_f (by decide) (br_f (by decide) (br_f (by decide) (mw_354 (n := n) (hp _ _ _ _ _ _ _ _ _ _ _ _ (mw_s g hn ok0 (im_dk14 _ _ _) (Or.inl rfl) (fun X f1 f2 f3 => ?_))))))
    rw [im_fx14, f3.1 hd]
    exact ⟨f1, f2, mw_push f3⟩
  · obtain ⟨e, hd⟩ := h
    have eo := inj 15 (by omega) e
    subst eo
    rw [h22' (by omega)]
    obtain ⟨d', rfl⟩ : ∃ d', d = d' + 1 := ⟨d - 1, by omega⟩
    refine br_t rfl (br_f (by decide) (br_f (by decide) (br_f (by decide) (mw_chain (by omega) (by omega) (by omega) ?_))))
    unfold wL_law_515
    refine br_f (by decide) (br_t (by decide) (mw_540 (hp _ _ _ _ _ _ _ _ _ _ _ _ (mw_s g hn ok0 (im_dk15 _ _ _) (Or.inl rfl) (fun X f1 f2 f3 => ?_)))))
    rw [im_fx15]
    exact ⟨f1, f2, mw_pop (by omega) f3⟩
  · obtain ⟨e, hd⟩ := h
    have eo := inj 16 (by omega) e
    subst eo
    rw [h22' (by omega)]
    refine br_t rfl (br_f (by decide) (br_t rfl ?_))
    unfold wL_law_555
    refine hp _ _ _ _ _ _ _ _ _ _ _ _ (mw_s g hn ok0 (im_dk16 _ _ _) (Or.inl rfl) (fun X f1 f2 f3 => ?_))
    rw [im_fx16]
    exact ⟨f1, f2, mw_swap hd hb1 f3⟩
  · obtain ⟨e, hd⟩ := h
    have eo := inj 24 (by omega) e
    subst eo
    rw [h22' (by omega)]
    obtain ⟨d', rfl⟩ : ∃ d', d = d' + 1 := ⟨d - 1, by omega⟩
    refine br_t rfl (br_f (by decide) (br_f (by decide) (br_f (by decide) ?_)))
    unfold wL_law_431
    refine br_f (by decide) ?_
    unfold wL_law_447
    refine br_f (by decide) ?_
    unfold wL_law_463
    refine br_f (by decide) ?_
    unfold wL_law_479
    refine br_f (by decide) ?_
    unfold wL_law_494
    refine br_t rfl (nm_r (nI_1 p) ?_)
    unfold wL_law_504
    refine br_t rfl ?_
    unfold wL_law_515
    refine br_f (by decide) (br_t (by decide) (mw_540 (hp _ _ _ _ _ _ _ _ _ _ _ _ (mw_s g hn ok0 (im_dk24 _ _ _) (Or.inr rfl) (fun X f1 f2 f3 => ?_)))))
    rw [im_fx24]
    exact ⟨by rw [← f1], fun _ => f3.1 (by omega), mw_pop (by omega) f3⟩
theorem mw_275 {m n o d k p l : Nat} {x22 y : Int32} (g : mw_I a1 a2 x2 x3 n d k p x6 x7 x8 x9 x10 x11 x12 x13 x16) (hn : n < 39) (hl : l < 4) (ok : im_ok (nI o) y d k) (hy : y = if o = 0 then x19 else nI l) (ho : o ≤ 16 ∨ o = 24)
    (h22 : (o < 2 ∨ o = 14) → x22 = 1) (h22' : ¬ (o < 2 ∨ o = 14) → x22 = 0)
    (hp : mw_K post L xs x2 x3 x17 x19 kc ks m (n + 1) (nI (n + 1)) 0 iv dn sn ls wc iw 0 tf en tk tc lv ce sc gv pc (upd a1 n (nI o)) (upd a2 n y) a3 a4 a5 a6 a7 a8 a9 a10 a11 a12 a13 a14 a15 a16 a17 a18 a19 a20 a21 a22 a23 a24 a25 a26 a27 a28 a29 a30) :
    wL_law_275 post L xs (wL_law_77 post L xs x2 x3 kc ks m) x2 x3 (nI n) (nI d) x6 x7 x8 x9 x10 x11 x12 x13 (nI k) (nI p) x16 x17 (nI o) x19 (nI l) x22 y (nI o) kc ks (nI n) ck iv dn sn ls wc iw tr tf en tk tc lv ce sc gv pc a1 a2 a3 a4 a5 a6 a7 a8 a9 a10 a11 a12 a13 a14 a15 a16 a17 a18 a19 a20 a21 a22 a23 a24 a25 a26 a27 a28 a29 a30 := by
  unfold wL_law_275
  have h12 : o = 1 ∨ o = 2 → ∃ j : Nat, j ≤ 3 ∧ y = nI j := fun z => ⟨l, by omega, by rw [hy, if_neg (by omega)]⟩
  refine tw_emit (by omega) (by omega) (by omega) h12 (br_t (nI_1 n).symm (nm_r (nI_1 n) ?_))
  have s324 := fun z0 hz => mw_324 (z0 := z0) g hn hl ok hy ho h22 h22' hz hp
  refine pk_eq l 0 (fun e => s324 _ (fun e' he hb => ?_)) (fun n0 => pk_eq l 1 (fun e => s324 _ (fun e' he hb => ?_)) (fun n1 => pk_eq l 2 (fun e => s324 _ (fun e' he hb => ?_)) (fun n2 => s324 _ (fun e' he hb => ?_))))
  · subst e
    exact he.2.2.2.2.1 hb
  · subst e
    exact he.2.2.2.2.2.1 hb
  · subst e
    exact he.2.2.2.2.2.2.1 hb
  · have e : l = 3 := by omega
    subst e
    exact he.2.2.2.2.2.2.2 hb
end
end
section
/-! the law -/
section
variable {le ck iv dn sn ls wc tr tf en tk tc lv ce sc gv pc : Int32} {iw : Int64} {a1 a2 a3 a4 a5 a6 a7 a8 a9 a10 a11 a12 a13 a14 a15 a16 a17 a18 a19 a20 a21 a22 a23 a24 a25 a26 a27 a28 a29 a30 : Nat → Int32}
variable {post : Int32 → Prop} {L : Nat} {xs : Nat → Int32} {x2 x3 x6 x7 x8 x9 x10 x11 x12 x13 x16 x17 x19 : Int32} {kc ks : Nat}
/-- which instructions are emitted -/
theorem mw_246 {m n o d k p l : Nat} {x22 : Int32} (g : mw_I a1 a2 x2 x3 n d k p x6 x7 x8 x9 x10 x11 x12 x13 x16) (hl : l < 4) (ho : o ≤ 16 ∨ o = 24)
    (ok : ∀ y : Int32, (y = if o = 0 then x19 else nI l) → im_ok (nI o) y d k) (h22 : (o < 2 ∨ o = 14) → x22 = 1) (h22' : ¬ (o < 2 ∨ o = 14) → x22 = 0)
    (hF : wL_law_558 post L xs (wL_law_77 post L xs x2 x3 kc ks m) x2 x3 (nI n) (nI d) x6 x7 x8 x9 x10 x11 x12 x13 (nI k) (nI p) x16 x17 (nI o) x19 kc ks (nI n) ck iv dn sn ls wc iw tr tf en tk tc lv ce sc gv pc a1 a2 a3 a4 a5 a6 a7 a8 a9 a10 a11 a12 a13 a14 a15 a16 a17 a18 a19 a20 a21 a22 a23 a24 a25 a26 a27 a28 a29 a30)
    (hT : n < 39 → ∀ y : Int32, mw_K post L xs x2 x3 x17 x19 kc ks m (n + 1) (nI (n + 1)) 0 iv dn sn ls wc iw 0 tf en tk tc lv ce sc gv pc (upd a1 n (nI o)) (upd a2 n y) a3 a4 a5 a6 a7 a8 a9 a10 a11 a12 a13 a14 a15 a16 a17 a18 a19 a20 a21 a22 a23 a24 a25 a26 a27 a28 a29 a30) :
    wL_law_246 post L xs (wL_law_77 post L xs x2 x3 kc ks m) x2 x3 (nI n) (nI d) x6 x7 x8 x9 x10 x11 x12 x13 (nI k) (nI p) x16 x17 (nI o) x19 (nI l) x22 1 kc ks (nI n) ck iv dn sn ls wc iw tr tf en tk tc lv ce sc gv pc a1 a2 a3 a4 a5 a6 a7 a8 a9 a10 a11 a12 a13 a14 a15 a16 a17 a18 a19 a20 a21 a22 a23 a24 a25 a26 a27 a28 a29 a30 := by
  have hn := g.1
  unfold wL_law_246
  refine br_f (by decide) (pk_le 39 n (fun _ => hF) (fun hn39 => pk_eq o 0 (fun e => ?_) (fun ne => ?_)))
  · have hy : x19 = if o = 0 then x19 else nI l := by rw [if_pos e]
    exact mw_275 g hn39 hl (ok _ hy) hy ho h22 h22' (hT hn39 _)
  · have hy : nI l = if o = 0 then x19 else nI l := by rw [if_neg ne]
    exact mw_275 g hn39 hl (ok _ hy) hy ho h22 h22' (hT hn39 _)
theorem mw_121 {m n o d k p i : Nat} (g : mw_I a1 a2 x2 x3 n d k p x6 x7 x8 x9 x10 x11 x12 x13 x16) (ho : o ≤ 16 ∨ o = 24) (hi : i + 1 < L) (hL : L ≤ 260)
    (hF : ∀ y, wL_law_558 post L xs (wL_law_77 post L xs x2 x3 kc ks m) x2 x3 (nI n) (nI d) x6 x7 x8 x9 x10 x11 x12 x13 (nI k) (nI p) x16 (nI i) (nI o) y kc ks (nI n) ck iv dn sn ls wc iw tr tf en tk tc lv ce sc gv pc a1 a2 a3 a4 a5 a6 a7 a8 a9 a10 a11 a12 a13 a14 a15 a16 a17 a18 a19 a20 a21 a22 a23 a24 a25 a26 a27 a28 a29 a30)
    (hT : n < 39 → ∀ y y' : Int32, mw_K post L xs x2 x3 (nI i) y' kc ks m (n + 1) (nI (n + 1)) 0 iv dn sn ls wc iw 0 tf en tk tc lv ce sc gv pc (upd a1 n (nI o)) (upd a2 n y) a3 a4 a5 a6 a7 a8 a9 a10 a11 a12 a13 a14 a15 a16 a17 a18 a19 a20 a21 a22 a23 a24 a25 a26 a27 a28 a29 a30) :
    wL_law_121 post L xs (wL_law_77 post L xs x2 x3 kc ks m) x2 x3 (nI n) (nI d) x6 x7 x8 x9 x10 x11 x12 x13 (nI k) (nI p) x16 (nI i) (nI o) kc ks (nI n) ck iv dn sn ls wc iw tr tf en tk tc lv ce sc gv pc a1 a2 a3 a4 a5 a6 a7 a8 a9 a10 a11 a12 a13 a14 a15 a16 a17 a18 a19 a20 a21 a22 a23 a24 a25 a26 a27 a28 a29 a30 := by
  obtain ⟨hb1, hb2⟩ := mw_bd g
  unfold wL_law_121
  refine ⟨pk_in (i + 1) L hi (nI_1 i), nm_e ?_⟩
  generalize xs (nI i + 1).toNatClampNeg = c
  obtain ⟨l, hl, el⟩ := pk_andE c (m := 3) 2 (by decide)
  have hl4 : l < 4 := by omega
  refine nm_r el ?_
  -- fits or not
  have s245 : ∀ x22 : Int32, wL_law_245 post L xs (wL_law_77 post L xs x2 x3 kc ks m) x2 x3 (nI n) (nI d) x6 x7 x8 x9 x10 x11 x12 x13 (nI k) (nI p) x16 (nI i) (nI o) c (nI l) x22 kc ks (nI n) ck iv dn sn ls wc iw tr tf en tk tc lv ce sc gv pc a1 a2 a3 a4 a5 a6 a7 a8 a9 a10 a11 a12 a13 a14 a15 a16 a17 a18 a19 a20 a21 a22 a23 a24 a25 a26 a27 a28 a29 a30 := by
    intro x22
    unfold wL_law_245
    unfold wL_law_246
    exact br_t rfl (hF c)
  have s241 : ∀ x22 : Int32, ((o < 2 ∨ o = 14) → x22 = 1) → (¬ (o < 2 ∨ o = 14) → x22 = 0) → (∀ y : Int32, (y = if o = 0 then c else nI l) → im_ok (nI o) y d k) →
      wL_law_241 post L xs (wL_law_77 post L xs x2 x3 kc ks m) x2 x3 (nI n) (nI d) x6 x7 x8 x9 x10 x11 x12 x13 (nI k) (nI p) x16 (nI i) (nI o) c (nI l) x22 kc ks (nI n) ck iv dn sn ls wc iw tr tf en tk tc lv ce sc gv pc a1 a2 a3 a4 a5 a6 a7 a8 a9 a10 a11 a12 a13 a14 a15 a16 a17 a18 a19 a20 a21 a22 a23 a24 a25 a26 a27 a28 a29 a30 := by
    intro x22 h1 h2 ok
    unfold wL_law_241
    exact mw_246 g hl4 ho ok h1 h2 (hF c) (fun hn y => hT hn y c)
  have s224 : ∀ x22 : Int32, ((o < 2 ∨ o = 14) → x22 = 1) → (¬ (o < 2 ∨ o = 14) → x22 = 0) → ((o ≠ 1 ∨ ch_bit k l = 1) → ∀ y : Int32, (y = if o = 0 then c else nI l) → im_ok (nI o) y d k) →
      wL_law_224 post L xs (wL_law_77 post L xs x2 x3 kc ks m) x2 x3 (nI n) (nI d) x6 x7 x8 x9 x10 x11 x12 x13 (nI k) (nI p) x16 (nI i) (nI o) c (nI l) x22 kc ks (nI n) ck iv dn sn ls wc iw tr tf en tk tc lv ce sc gv pc a1 a2 a3 a4 a5 a6 a7 a8 a9 a10 a11 a12 a13 a14 a15 a16 a17 a18 a19 a20 a21 a22 a23 a24 a25 a26 a27 a28 a29 a30 := by
    intro x22 h1 h2 ok
    unfold wL_law_224
    refine pk_eq o 1 (fun e => ?_) (fun ne => s241 x22 h1 h2 (ok (Or.inl ne)))
    rw [ch_kn k hb2 l hl4]
    refine pk_eq (ch_bit k l) 1 (fun hb => s241 x22 h1 h2 (ok (Or.inr hb))) (fun _ => s245 x22) rfl rfl ?_ (by omega)
    rcases ch_bit2 k l with z | z
    · omega
    · omega
  have s204 : ∀ need : Nat, need ≤ 2 → (need = 0 ↔ o < 2) → (need = 1 ↔ (o = 2 ∨ o = 13 ∨ o = 14 ∨ o = 15 ∨ o = 24)) → ∀ x22 : Int32, ((o < 2 ∨ o = 14) → x22 = 1) → (¬ (o < 2 ∨ o = 14) → x22 = 0) →
      wL_law_204 post L xs (wL_law_77 post L xs x2 x3 kc ks m) x2 x3 (nI n) (nI d) x6 x7 x8 x9 x10 x11 x12 x13 (nI k) (nI p) x16 (nI i) (nI o) c (nI l) (nI need) x22 kc ks (nI n) ck iv dn sn ls wc iw tr tf en tk tc lv ce sc gv pc a1 a2 a3 a4 a5 a6 a7 a8 a9 a10 a11 a12 a13 a14 a15 a16 a17 a18 a19 a20 a21 a22 a23 a24 a25 a26 a27 a28 a29 a30 := by
    intro need hneed hn0 hn1 x22 h1 h2
    have okk : need ≤ d → ((o < 2 ∨ o = 14) → d < 4) → (o ≠ 1 ∨ ch_bit k l = 1) → ∀ y : Int32, (y = if o = 0 then c else nI l) → im_ok (nI o) y d k := by
      intro q1 q2 q3 y hy
      refine ⟨hb1, hb2, ?_⟩
      rcases Nat.lt_or_ge o 3 with z | z
      · rcases (show o = 0 ∨ o = 1 ∨ o = 2 by omega) with e | e | e
        · subst e
          exact Or.inl ⟨rfl, q2 (by omega)⟩
        · subst e
          rw [if_neg (by decide)] at hy
          refine Or.inr (Or.inl ⟨rfl, q2 (by omega), l, hl4, hy, ?_⟩)
          rcases q3 with q3 | q3
          · exact absurd rfl q3
          · exact q3
        · subst e
          rw [if_neg (by decide)] at hy
          exact Or.inr (Or.inr (Or.inl ⟨rfl, by omega, l, hl4, hy⟩))
      · rcases Nat.lt_or_ge o 13 with z2 | z2
        · exact Or.inr (Or.inr (Or.inr (Or.inl ⟨⟨o, z, by omega, rfl⟩, by omega⟩)))
        · rcases (show o = 13 ∨ o = 14 ∨ o = 15 ∨ o = 16 ∨ o = 24 by omega) with e | e | e | e | e
          · subst e
            exact Or.inr (Or.inr (Or.inr (Or.inr (Or.inl ⟨rfl, by omega⟩))))
          · subst e
            exact Or.inr (Or.inr (Or.inr (Or.inr (Or.inr (Or.inl ⟨rfl, by omega, q2 (by omega)⟩)))))
          · subst e
            exact Or.inr (Or.inr (Or.inr (Or.inr (Or.inr (Or.inr (Or.inl ⟨rfl, by omega⟩))))))
          · subst e
            exact Or.inr (Or.inr (Or.inr (Or.inr (Or.inr (Or.inr (Or.inr (Or.inl ⟨rfl, by omega⟩)))))))
          · subst e
            exact Or.inr (Or.inr (Or.inr (Or.inr (Or.inr (Or.inr (Or.inr (Or.inr ⟨rfl, by omega⟩)))))))
    unfold wL_law_204
    refine pk_lt d need (fun _ => s245 x22) (fun q1 => br_c (fun e0 => ?_) (fun ne0 => pk_le 4 d (fun _ => s245 x22) (fun q2 => s224 x22 h1 h2 (okk q1 (fun _ => q2)))))
    refine s224 x22 h1 h2 (okk q1 (fun z => ?_))
    rw [h1 z] at e0
    exact absurd e0 (by decide)
  have s184 : ∀ need : Nat, need ≤ 2 → (need = 0 ↔ o < 2) → (need = 1 ↔ (o = 2 ∨ o = 13 ∨ o = 14 ∨ o = 15 ∨ o = 24)) →
      wL_law_184 post L xs (wL_law_77 post L xs x2 x3 kc ks m) x2 x3 (nI n) (nI d) x6 x7 x8 x9 x10 x11 x12 x13 (nI k) (nI p) x16 (nI i) (nI o) c (nI l) (nI need) kc ks (nI n) ck iv dn sn ls wc iw tr tf en tk tc lv ce sc gv pc a1 a2 a3 a4 a5 a6 a7 a8 a9 a10 a11 a12 a13 a14 a15 a16 a17 a18 a19 a20 a21 a22 a23 a24 a25 a26 a27 a28 a29 a30 := by
    intro need hneed hn0 hn1
    have s199 : (o < 2 ∨ o = 14) → wL_law_199 post L xs (wL_law_77 post L xs x2 x3 kc ks m) x2 x3 (nI n) (nI d) x6 x7 x8 x9 x10 x11 x12 x13 (nI k) (nI p) x16 (nI i) (nI o) c (nI l) (nI need) kc ks (nI n) ck iv dn sn ls wc iw tr tf en tk tc lv ce sc gv pc a1 a2 a3 a4 a5 a6 a7 a8 a9 a10 a11 a12 a13 a14 a15 a16 a17 a18 a19 a20 a21 a22 a23 a24 a25 a26 a27 a28 a29 a30 := by
      intro z
      unfold wL_law_199
      exact s204 need hneed hn0 hn1 1 (fun _ => rfl) (fun q => absurd z q)
    unfold wL_law_184
    exact pk_lt o 2 (fun z => s199 (Or.inl z)) (fun z1 => pk_eq o 14 (fun z => s199 (Or.inr z)) (fun z2 => s204 need hneed hn0 hn1 0 (fun q => absurd q (by omega)) (fun _ => rfl)))
  have s179 : (o = 2 ∨ o = 13 ∨ o = 14 ∨ o = 15 ∨ o = 24) → wL_law_179 post L xs (wL_law_77 post L xs x2 x3 kc ks m) x2 x3 (nI n) (nI d) x6 x7 x8 x9 x10 x11 x12 x13 (nI k) (nI p) x16 (nI i) (nI o) c (nI l) kc ks (nI n) ck iv dn sn ls wc iw tr tf en tk tc lv ce sc gv pc a1 a2 a3 a4 a5 a6 a7 a8 a9 a10 a11 a12 a13 a14 a15 a16 a17 a18 a19 a20 a21 a22 a23 a24 a25 a26 a27 a28 a29 a30 := by
    intro z
    unfold wL_law_179
    exact s184 1 (by omega) ⟨fun q => absurd q (by omega), fun q => absurd q (by omega)⟩ ⟨fun _ => z, fun _ => rfl⟩
  exact pk_le 2 o (fun z => pk_eq o 2 (fun e => s179 (by omega)) (fun n2 => pk_eq o 13 (fun e => s179 (by omega)) (fun n13 => pk_eq o 14 (fun e => s179 (by omega)) (fun n14 => pk_eq o 15 (fun e => s179 (by omega)) (fun n15 => pk_eq o 24 (fun e => s179 (by omega)) (fun n24 => s184 2 (by omega) ⟨fun q => absurd q (by omega), fun q => absurd q (by omega)⟩ ⟨fun q => absurd q (by omega), fun q => absurd q (by omega)⟩)))))) (fun z => s184 0 (by omega) ⟨fun _ => z, fun _ => rfl⟩ ⟨fun q => absurd q (by omega), fun q => absurd q (by omega)⟩)
/-- one turn -/
theorem mw_turn {m n o d k p i : Nat} (g : mw_I a1 a2 x2 x3 n d k p x6 x7 x8 x9 x10 x11 x12 x13 x16) (ho : o ≤ 16 ∨ o = 24) (hi : i + 1 < L) (hL : L ≤ 260)
    (hJ : ∀ (n d k p : Nat) (s t u v l0 l1 l2 l3 sh : Int32) (zck ziv zdn zsn zls zwc ztr ztf zen ztk ztc zlv zce zsc zgv zpc : Int32) (ziw : Int64) (b1 b2 b3 b4 b5 b6 b7 b8 b9 b10 b11 b12 b13 b14 b15 b16 b17 b18 b19 b20 b21 b22 b23 b24 b25 b26 b27 b28 b29 b30 : Nat → Int32), mw_I b1 b2 x2 x3 n d k p s t u v l0 l1 l2 l3 sh → wL_law_77 post L xs x2 x3 kc ks m (nI n) (nI d) s t u v l0 l1 l2 l3 (nI k) (nI p) sh (nI (i + 2)) (nI n) zck ziv zdn zsn zls zwc ziw ztr ztf zen ztk ztc zlv zce zsc zgv zpc b1 b2 b3 b4 b5 b6 b7 b8 b9 b10 b11 b12 b13 b14 b15 b16 b17 b18 b19 b20 b21 b22 b23 b24 b25 b26 b27 b28 b29 b30) :
    wL_law_121 post L xs (wL_law_77 post L xs x2 x3 kc ks m) x2 x3 (nI n) (nI d) x6 x7 x8 x9 x10 x11 x12 x13 (nI k) (nI p) x16 (nI i) (nI o) kc ks (nI n) ck iv dn sn ls wc iw tr tf en tk tc lv ce sc gv pc a1 a2 a3 a4 a5 a6 a7 a8 a9 a10 a11 a12 a13 a14 a15 a16 a17 a18 a19 a20 a21 a22 a23 a24 a25 a26 a27 a28 a29 a30 := by
  have hn := g.1
  refine mw_121 g ho hi hL (fun y => ?_) (fun hn39 y y' => ?_)
  · have same : wL_law_600 post L xs (wL_law_77 post L xs x2 x3 kc ks m) x2 x3 (nI n) (nI d) x6 x7 x8 x9 x10 x11 x12 x13 (nI k) (nI p) x16 (nI i) y kc ks (nI n) ck iv dn sn ls wc iw tr tf en tk tc lv ce sc gv pc a1 a2 a3 a4 a5 a6 a7 a8 a9 a10 a11 a12 a13 a14 a15 a16 a17 a18 a19 a20 a21 a22 a23 a24 a25 a26 a27 a28 a29 a30 :=
      mw_600 g (fun zck ziv zdn zsn zls zwc ztr ztf zen ztk ztc zlv zce zsc zgv zpc ziw b1 b2 b3 b4 b5 b6 b7 b8 b9 b10 b11 b12 b13 b14 b15 b16 b17 b18 b19 b20 b21 b22 b23 b24 b25 b26 b27 b28 b29 b30 hq => hJ _ _ _ _ _ _ _ _ _ _ _ _ _ _ _ _ _ _ _ _ _ _ _ _ _ _ _ _ _ _ _ _ _ _ _ _ _ _ _ _ _ _ _ _ _ _ _ _ _ _ _ _ _ _ _ _ _ _ _ _ (mw_I_c hq g))
    unfold wL_law_558
    refine pk_eq o 15 (fun _ => pk_le n 3 (fun _ => same) (fun _ => tw_drop (br_t rfl ?_))) (fun _ => same)
    exact mw_600 (n := 0) (d := 0) (k := 3) (p := 0) (mw_0 _ _ _ _ _ _ _ _ _ _ _) (fun zck ziv zdn zsn zls zwc ztr ztf zen ztk ztc zlv zce zsc zgv zpc ziw b1 b2 b3 b4 b5 b6 b7 b8 b9 b10 b11 b12 b13 b14 b15 b16 b17 b18 b19 b20 b21 b22 b23 b24 b25 b26 b27 b28 b29 b30 hq => hJ 0 0 3 0 _ _ _ _ _ _ _ _ _ _ _ _ _ _ _ _ _ _ _ _ _ _ _ _ _ _ _ _ _ _ _ _ _ _ _ _ _ _ _ _ _ _ _ _ _ _ _ _ _ _ _ _ _ _ _ _ (mw_0 _ _ _ _ _ _ _ _ _ _ _))
  · intro d' k' p' s t u v l0 l1 l2 l3 sh g'
    exact mw_600 g' (fun zck ziv zdn zsn zls zwc ztr ztf zen ztk ztc zlv zce zsc zgv zpc ziw b1 b2 b3 b4 b5 b6 b7 b8 b9 b10 b11 b12 b13 b14 b15 b16 b17 b18 b19 b20 b21 b22 b23 b24 b25 b26 b27 b28 b29 b30 hq => hJ _ _ _ _ _ _ _ _ _ _ _ _ _ _ _ _ _ _ _ _ _ _ _ _ _ _ _ _ _ _ _ _ _ _ _ _ _ _ _ _ _ _ _ _ _ _ _ _ _ _ _ _ _ _ _ _ _ _ _ _ (mw_I_c hq g'))
end
theorem mw_loop {post : Int32 → Prop} {L : Nat} {xs : Nat → Int32} {x2 x3 : Int32} {kc ks : Nat} (hL : L ≤ 260) (h1 : post 1) : ∀ (m i n d k p : Nat) (s t u v l0 l1 l2 l3 sh : Int32) (zck ziv zdn zsn zls zwc ztr ztf zen ztk ztc zlv zce zsc zgv zpc : Int32) (ziw : Int64) (b1 b2 b3 b4 b5 b6 b7 b8 b9 b10 b11 b12 b13 b14 b15 b16 b17 b18 b19 b20 b21 b22 b23 b24 b25 b26 b27 b28 b29 b30 : Nat → Int32), i ≤ L + 2 → L + 3 ≤ m + i → mw_I b1 b2 x2 x3 n d k p s t u v l0 l1 l2 l3 sh →
    wL_law_77 post L xs x2 x3 kc ks m (nI n) (nI d) s t u v l0 l1 l2 l3 (nI k) (nI p) sh (nI i) (nI n) zck ziv zdn zsn zls zwc ziw ztr ztf zen ztk ztc zlv zce zsc zgv zpc b1 b2 b3 b4 b5 b6 b7 b8 b9 b10 b11 b12 b13 b14 b15 b16 b17 b18 b19 b20 b21 b22 b23 b24 b25 b26 b27 b28 b29 b30 := by
  intro m
  induction m with
  | zero => intro i n d k p s t u v l0 l1 l2 l3 sh zck ziv zdn zsn zls zwc ztr ztf zen ztk ztc zlv zce zsc zgv zpc ziw b1 b2 b3 b4 b5 b6 b7 b8 b9 b10 b11 b12 b13 b14 b15 b16 b17 b18 b19 b20 b21 b22 b23 b24 b25 b26 b27 b28 b29 b30 hi hm g; exact absurd hm (by omega)
  | succ m ih =>
    intro i n d k p s t u v l0 l1 l2 l3 sh zck ziv zdn zsn zls zwc ztr ztf zen ztk ztc zlv zce zsc zgv zpc ziw b1 b2 b3 b4 b5 b6 b7 b8 b9 b10 b11 b12 b13 b14 b15 b16 b17 b18 b19 b20 b21 b22 b23 b24 b25 b26 b27 b28 b29 b30 hi hm g
    have go : i + 2 ≤ L → ∀ o : Nat, (o ≤ 16 ∨ o = 24) → wL_law_121 post L xs (wL_law_77 post L xs x2 x3 kc ks m) x2 x3 (nI n) (nI d) s t u v l0 l1 l2 l3 (nI k) (nI p) sh (nI i) (nI o) kc ks (nI n) zck ziv zdn zsn zls zwc ziw ztr ztf zen ztk ztc zlv zce zsc zgv zpc b1 b2 b3 b4 b5 b6 b7 b8 b9 b10 b11 b12 b13 b14 b15 b16 b17 b18 b19 b20 b21 b22 b23 b24 b25 b26 b27 b28 b29 b30 := fun hiL o ho => mw_turn g ho (by omega) hL (fun n d k p s t u v l0 l1 l2 l3 sh zck ziv zdn zsn zls zwc ztr ztf zen ztk ztc zlv zce zsc zgv zpc ziw b1 b2 b3 b4 b5 b6 b7 b8 b9 b10 b11 b12 b13 b14 b15 b16 b17 b18 b19 b20 b21 b22 b23 b24 b25 b26 b27 b28 b29 b30 g' => ih _ _ _ _ _ _ _ _ _ _ _ _ _ _ _ _ _ _ _ _ _ _ _ _ _ _ _ _ _ _ _ _ _ _ _ _ _ _ _ _ _ _ _ _ _ _ _ _ _ _ _ _ _ _ _ _ _ _ _ _ _ (by omega) (by omega) g')
    obtain ⟨w, hw, ew⟩ := pk_andE (xs (nI i).toNatClampNeg) (m := 255) 8 (by decide)
    have e17 : nI w - nI w / 17 * 17 = nI (w % 17) := pk_rem (a := w) (d := 17) (by omega) (by omega) (by omega)
    have hcond : ¬ (nI L - 2 < nI i) → i + 2 ≤ L := by
      intro hc
      rcases Nat.lt_or_ge L 2 with z | z
      · exfalso
        apply hc
        have e : nI L - nI 2 < 0 := pk_sneg (by omega) z
        have e2 : (0 : Int32) ≤ nI i := nI_pos' (by omega)
        exact Int32.lt_of_lt_of_le e e2
      · have e : nI L - nI 2 = nI (L - 2) := pk_sub z
        have hc' : ¬ (nI (L - 2) < nI i) := by rw [← e]; exact hc
        rw [nI_ltI (by omega) (by omega)] at hc'
        omega
    refine br_c (fun _ => h1) (fun hc => ?_)
    have hiL := hcond hc
    refine ⟨pk_in i L (by omega), by decide, ?_⟩
    rw [ew]
    refine nm_r e17 (pk_eq (w % 17) 15 (fun e15 => ⟨pk_in i L (by omega), br_c (fun _ => ?_) (fun _ => go hiL 24 (Or.inr rfl))⟩) (fun n15 => go hiL (w % 17) (Or.inl (by omega))))
    exact go hiL (w % 17) (Or.inl (by omega))
theorem mw_34 {L : Nat} {xs : Nat → Int32} {x2 x3 : Int32} {kc ks : Nat} (hL : L ≤ 260) (zck ziv zdn zsn zls zwc ztr ztf zen ztk ztc zlv zce zsc zgv zpc : Int32) (ziw : Int64) (b1 b2 b3 b4 b5 b6 b7 b8 b9 b10 b11 b12 b13 b14 b15 b16 b17 b18 b19 b20 b21 b22 b23 b24 b25 b26 b27 b28 b29 b30 : Nat → Int32) : wL_law_34 (fun r => r = 1) L xs x2 x3 kc ks 0 zck ziv zdn zsn zls zwc ziw ztr ztf zen ztk ztc zlv zce zsc zgv zpc b1 b2 b3 b4 b5 b6 b7 b8 b9 b10 b11 b12 b13 b14 b15 b16 b17 b18 b19 b20 b21 b22 b23 b24 b25 b26 b27 b28 b29 b30 := by
  unfold wL_law_34
  exact ⟨L + 3, mw_loop (post := fun r => r = 1) (L := L) (xs := xs) (x2 := x2) (x3 := x3) (kc := kc) (ks := ks) hL rfl (L + 3) 2 0 0 3 0 0 0 0 0 x2 x3 0 0 0 zck ziv zdn zsn zls zwc ztr ztf zen ztk ztc zlv zce zsc zgv zpc ziw b1 b2 b3 b4 b5 b6 b7 b8 b9 b10 b11 b12 b13 b14 b15 b16 b17 b18 b19 b20 b21 b22 b23 b24 b25 b26 b27 b28 b29 b30 (by omega) (by omega) (mw_0 _ _ _ _ _ _ _ _ _ _ _)⟩
theorem i_vc (xs : Nat → Int32) (L : Nat) (hL : L ≤ 260) : wpL_law (fun r => r = 1) L xs := by
  have s20 : ∀ (z : Int32) (kc ks : Nat) (zck ziv zdn zsn zls zwc ztr ztf zen ztk ztc zlv zce zsc zgv zpc : Int32) (ziw : Int64) (b1 b2 b3 b4 b5 b6 b7 b8 b9 b10 b11 b12 b13 b14 b15 b16 b17 b18 b19 b20 b21 b22 b23 b24 b25 b26 b27 b28 b29 b30 : Nat → Int32), wL_law_20 (fun r => r = 1) L xs z kc ks 0 zck ziv zdn zsn zls zwc ziw ztr ztf zen ztk ztc zlv zce zsc zgv zpc b1 b2 b3 b4 b5 b6 b7 b8 b9 b10 b11 b12 b13 b14 b15 b16 b17 b18 b19 b20 b21 b22 b23 b24 b25 b26 b27 b28 b29 b30 := by
    intro z kc ks zck ziv zdn zsn zls zwc ztr ztf zen ztk ztc zlv zce zsc zgv zpc ziw b1 b2 b3 b4 b5 b6 b7 b8 b9 b10 b11 b12 b13 b14 b15 b16 b17 b18 b19 b20 b21 b22 b23 b24 b25 b26 b27 b28 b29 b30
    unfold wL_law_20
    exact pk_le L 1 (fun _ => mw_34 hL _ _ _ _ _ _ _ _ _ _ _ _ _ _ _ _ _ _ _ _ _ _ _ _ _ _ _ _ _ _ _ _ _ _ _ _ _ _ _ _ _ _ _ _ _ _ _) (fun g => ⟨pk_in 1 L g, mw_34 hL _ _ _ _ _ _ _ _ _ _ _ _ _ _ _ _ _ _ _ _ _ _ _ _ _ _ _ _ _ _ _ _ _ _ _ _ _ _ _ _ _ _ _ _ _ _ _⟩)
  unfold wpL_law
  refine ⟨30, 2710, by omega, by omega, ?_⟩
  unfold wpX_init
  refine ⟨by omega, by omega, by omega, by omega, by omega, by omega, by omega, by omega, by omega, by omega, by omega, by omega, by omega, by omega, by omega, by omega, by omega, by omega, by omega, by omega, by omega, by omega, by omega, by omega, by omega, by omega, by omega, by omega, by omega, by omega, by omega, by omega, by omega, by omega, by omega, by omega, by omega, by omega, by omega, by omega, by omega, by omega, by omega, by omega, by omega, by omega, by omega, by omega, by omega, by omega, by omega, by omega, by omega, by omega, by omega, by omega, by omega, by omega, by omega, by omega, ?_⟩
  exact pk_le L 0 (fun _ => s20 _ _ _ _ _ _ _ _ _ _ _ _ _ _ _ _ _ _ _ _ _ _ _ _ _ _ _ _ _ _ _ _ _ _ _ _ _ _ _ _ _ _ _ _ _ _ _ _ _ _) (fun g => ⟨pk_in 0 L g, s20 _ _ _ _ _ _ _ _ _ _ _ _ _ _ _ _ _ _ _ _ _ _ _ _ _ _ _ _ _ _ _ _ _ _ _ _ _ _ _ _ _ _ _ _ _ _ _ _ _ _⟩)
end
