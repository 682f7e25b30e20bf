section
/-! ===== an Int32 by its bits ===== -/
def kb_bt (x : Int32) (i : Nat) : Bool := x.toBitVec.getLsbD i
theorem kb_ext {x y : Int32} (h : ∀ i, i < 32 → kb_bt x i = kb_bt y i) : x = y := Int32.toBitVec_inj.mp (BitVec.eq_of_getLsbD_eq (fun i hi => h i hi))
theorem kb_or (x y : Int32) (i : Nat) : kb_bt (x ||| y) i = (kb_bt x i || kb_bt y i) := by unfold kb_bt; rw [Int32.toBitVec_or, BitVec.getLsbD_or]
theorem kb_and (x y : Int32) (i : Nat) : kb_bt (x &&& y) i = (kb_bt x i && kb_bt y i) := by unfold kb_bt; rw [Int32.toBitVec_and, BitVec.getLsbD_and]
theorem kb_xor (x y : Int32) (i : Nat) : kb_bt (x ^^^ y) i = (kb_bt x i ^^ kb_bt y i) := by unfold kb_bt; rw [Int32.toBitVec_xor, BitVec.getLsbD_xor]
theorem kb_big {x : Int32} {i : Nat} (h : 32 ≤ i) : kb_bt x i = false := BitVec.getLsbD_of_ge _ _ h
theorem kb_0 (i : Nat) : kb_bt 0 i = false := BitVec.getLsbD_zero
theorem kb_m1 : ∀ i, i < 32 → kb_bt (-1) i = true := by decide +kernel
theorem kb_63 (i : Nat) : kb_bt 63 i = decide (i < 6) := by
  rcases Nat.lt_or_ge i 32 with h | h
  · exact (by decide +kernel : ∀ i, i < 32 → kb_bt 63 i = decide (i < 6)) i h
  · rw [kb_big h, decide_eq_false (by omega)]
theorem kb_1 (i : Nat) : kb_bt 1 i = decide (i = 0) := by
  rcases Nat.lt_or_ge i 32 with h | h
  · exact (by decide +kernel : ∀ i, i < 32 → kb_bt 1 i = decide (i = 0)) i h
  · rw [kb_big h, decide_eq_false (by omega)]
theorem kb_not (x : Int32) {i : Nat} (hi : i < 32) : kb_bt (x ^^^ (-1)) i = !(kb_bt x i) := by
  rw [kb_xor, kb_m1 i hi]
  cases kb_bt x i <;> rfl
theorem kb_nI {n i : Nat} (hi : i < 32) : kb_bt (nI n) i = n.testBit i := by
  show (BitVec.ofNat 32 n).getLsbD i = _
  rw [BitVec.getLsbD_ofNat, decide_eq_true hi, Bool.true_and]
theorem kb_bitV : ∀ k, k < 32 → ((1 : Int32) <<< (nI k &&& 31)).toBitVec = BitVec.twoPow 32 k := by decide +kernel
theorem kb_bit {k : Nat} (hk : k < 32) (i : Nat) : kb_bt ((1 : Int32) <<< (nI k &&& 31)) i = decide (k = i) := by
  unfold kb_bt
  rw [kb_bitV k hk, BitVec.getLsbD_twoPow, decide_eq_true hk, Bool.true_and]
/-! ===== six bits; a pattern; a number of a pattern ===== -/
def kb_six (x : Int32) : Prop := ∀ i, 6 ≤ i → kb_bt x i = false
theorem kb_six_of {x : Int32} (h : kb_six x) : ∃ n : Nat, n < 64 ∧ x = nI n := by
  have hlt : x.toBitVec.toNat < 2 ^ 6 := Nat.lt_pow_two_of_testBit _ (fun i hi => h i hi)
  refine ⟨x.toBitVec.toNat, hlt, ?_⟩
  apply Int32.toBitVec_inj.1
  show x.toBitVec = BitVec.ofNat 32 x.toBitVec.toNat
  simp
theorem kb_six_nI {n : Nat} (h : n < 64) : kb_six (nI n) := by
  intro i hi
  rcases Nat.lt_or_ge i 32 with z | z
  · rw [kb_nI z]
    have h2 : 2 ^ 6 ≤ 2 ^ i := Nat.pow_le_pow_right (by omega) hi
    exact Nat.testBit_lt_two_pow (Nat.lt_of_lt_of_le h h2)
  · exact kb_big z
def kb_ok (v m : Int32) : Prop := kb_six v ∧ kb_six m ∧ ∀ i, (kb_bt v i && kb_bt m i) = false
def kb_mem (x v m : Int32) : Prop := (x &&& (m ^^^ (-1))) = v
theorem kb_memI {x v m : Int32} (h : ∀ i, i < 32 → (kb_bt x i && !kb_bt m i) = kb_bt v i) : kb_mem x v m :=
  kb_ext (fun i hi => by rw [kb_and, kb_not m hi, h i hi])
theorem kb_memE {x v m : Int32} (h : kb_mem x v m) {i : Nat} (hi : i < 32) : (kb_bt x i && !kb_bt m i) = kb_bt v i := by
  have h' : (x &&& (m ^^^ (-1))) = v := h
  rw [← h', kb_and, kb_not m hi]
theorem kb_six_and {x y : Int32} (h : kb_six x) : kb_six (x &&& y) := fun i hi => by rw [kb_and, h i hi, Bool.false_and]
theorem kb_six_and' {x y : Int32} (h : kb_six y) : kb_six (x &&& y) := fun i hi => by rw [kb_and, h i hi, Bool.and_false]
theorem kb_six_or {x y : Int32} (h : kb_six x) (h' : kb_six y) : kb_six (x ||| y) := fun i hi => by rw [kb_or, h i hi, h' i hi, Bool.false_or]
theorem kb_six_xor {x y : Int32} (h : kb_six x) (h' : kb_six y) : kb_six (x ^^^ y) := fun i hi => by rw [kb_xor, h i hi, h' i hi]; rfl
theorem kb_six_63 : kb_six 63 := fun i hi => by rw [kb_63, decide_eq_false (by omega)]
theorem kb_six_0 : kb_six 0 := fun i _ => kb_0 i
theorem kb_six_bit {k : Nat} (hk : k < 6) : kb_six ((1 : Int32) <<< (nI k &&& 31)) := fun i hi => by rw [kb_bit (by omega), decide_eq_false (by omega)]
theorem kb_mem_lo {v m : Int32} (h : kb_ok v m) : kb_six v ∧ kb_mem v v m := by
  refine ⟨h.1, kb_memI (fun i _ => ?_)⟩
  have e := h.2.2 i
  revert e
  generalize kb_bt v i = a
  generalize kb_bt m i = b
  revert a b
  decide
theorem kb_mem_hi {v m : Int32} (h : kb_ok v m) : kb_six (v ||| m) ∧ kb_mem (v ||| m) v m := by
  refine ⟨kb_six_or h.1 h.2.1, kb_memI (fun i _ => ?_)⟩
  have e := h.2.2 i
  rw [kb_or]
  revert e
  generalize kb_bt v i = a
  generalize kb_bt m i = b
  revert a b
  decide
theorem kb_m6 {m : Int32} (h : kb_six m) {i : Nat} (hm : kb_bt m i = true) : i < 6 := by
  rcases Nat.lt_or_ge i 6 with z | z
  · exact z
  · rw [h i z] at hm
    exact absurd hm (by decide)
theorem kb_mem_one {v m : Int32} (h : kb_ok v m) {k : Nat} (hm : kb_bt m k = true) : kb_six (v ||| ((1 : Int32) <<< (nI k &&& 31))) ∧ kb_mem (v ||| ((1 : Int32) <<< (nI k &&& 31))) v m := by
  have hk : k < 6 := kb_m6 h.2.1 hm
  refine ⟨kb_six_or h.1 (kb_six_bit hk), kb_memI (fun i _ => ?_)⟩
  have e := h.2.2 i
  rw [kb_or, kb_bit (by omega)]
  by_cases z : k = i
  · subst z
    rw [hm] at e ⊢
    revert e
    generalize kb_bt v k = a
    revert a
    simp
  · rw [decide_eq_false z]
    revert e
    generalize kb_bt v i = a
    generalize kb_bt m i = b
    revert a b
    decide
theorem kb_mem_sub {x v m : Int32} (h : kb_mem x v m) {i : Nat} (hi : i < 32) : kb_bt v i = true → kb_bt x i = true := by
  have e := kb_memE h hi
  rw [← e]
  generalize kb_bt x i = a
  generalize kb_bt m i = b
  revert a b
  decide
theorem kb_mem_sup {x v m : Int32} (h : kb_mem x v m) {i : Nat} (hi : i < 32) : kb_bt x i = true → kb_bt (v ||| m) i = true := by
  have e := kb_memE h hi
  rw [kb_or, ← e]
  generalize kb_bt x i = a
  generalize kb_bt m i = b
  revert a b
  decide
/-! ===== sums: the carry into place i ===== -/
def kb_c (i : Nat) (x y : Int32) (c : Bool) : Bool := BitVec.carry i x.toBitVec y.toBitVec c
theorem kb_c0 (x y : Int32) (c : Bool) : kb_c 0 x y c = c := BitVec.carry_zero
theorem kb_cs (i : Nat) (x y : Int32) (c : Bool) : kb_c (i + 1) x y c = (kb_bt x i && kb_bt y i || kb_bt x i && kb_c i x y c || kb_bt y i && kb_c i x y c) := BitVec.carry_succ i x.toBitVec y.toBitVec c
theorem kb_add (x y : Int32) {i : Nat} (hi : i < 32) : kb_bt (x + y) i = (kb_bt x i ^^ (kb_bt y i ^^ kb_c i x y false)) := by
  unfold kb_bt kb_c
  rw [Int32.toBitVec_add, BitVec.getLsbD_add hi]
theorem kb_sub (x y : Int32) {i : Nat} (hi : i < 32) : kb_bt (x - y) i = (kb_bt x i ^^ ((!kb_bt y i) ^^ kb_c i x (y ^^^ (-1)) true)) := by
  have e1 : (y ^^^ (-1)).toBitVec = ~~~ y.toBitVec := by
    rw [Int32.toBitVec_xor]
    show y.toBitVec ^^^ BitVec.allOnes 32 = _
    rw [BitVec.xor_allOnes]
  have e : (x - y).toBitVec = x.toBitVec + (y ^^^ (-1)).toBitVec + BitVec.setWidth 32 (BitVec.ofBool true) := by
    rw [Int32.toBitVec_sub, BitVec.sub_eq_add_neg, BitVec.neg_eq_not_add, ← BitVec.add_assoc, e1]
    rfl
  have h := BitVec.getLsbD_add_add_bool hi x.toBitVec (y ^^^ (-1)).toBitVec true
  rw [← e] at h
  rw [← kb_not y hi]
  exact h
theorem kb_mono {x y x' y' : Int32} {c : Bool} (i : Nat) (hx : ∀ j, j < i → kb_bt x j = true → kb_bt x' j = true) (hy : ∀ j, j < i → kb_bt y j = true → kb_bt y' j = true) : kb_c i x y c = true → kb_c i x' y' c = true := by
  induction i with
  | zero =>
    rw [kb_c0, kb_c0]
    exact id
  | succ i ih =>
    have ih' := ih (fun j hj => hx j (by omega)) (fun j hj => hy j (by omega))
    have hxi := hx i (by omega)
    have hyi := hy i (by omega)
    rw [kb_cs, kb_cs]
    revert ih' hxi hyi
    generalize kb_bt x i = a
    generalize kb_bt x' i = a'
    generalize kb_bt y i = b
    generalize kb_bt y' i = b'
    generalize kb_c i x y c = d
    generalize kb_c i x' y' c = d'
    clear hx hy ih
    revert a a' b b' d d'
    decide
theorem kb_ccongr {x y x' y' : Int32} {c : Bool} (i : Nat) (hx : ∀ j, j < i → kb_bt x j = kb_bt x' j) (hy : ∀ j, j < i → kb_bt y j = kb_bt y' j) : kb_c i x y c = kb_c i x' y' c := by
  have a := kb_mono (c := c) (x := x) (y := y) (x' := x') (y' := y') i (fun j hj h => by rw [← hx j hj]; exact h) (fun j hj h => by rw [← hy j hj]; exact h)
  have b := kb_mono (c := c) (x := x') (y := y') (x' := x) (y' := y) i (fun j hj h => by rw [hx j hj]; exact h) (fun j hj h => by rw [hy j hj]; exact h)
  revert a b
  generalize kb_c i x y c = p
  generalize kb_c i x' y' c = q
  clear hx hy
  revert p q
  decide
theorem kb_addor {x y : Int32} (h : ∀ i, (kb_bt x i && kb_bt y i) = false) : x + y = x ||| y := by
  apply Int32.toBitVec_inj.1
  rw [Int32.toBitVec_add, Int32.toBitVec_or]
  apply BitVec.add_eq_or_of_and_eq_zero
  apply BitVec.eq_of_getLsbD_eq
  intro i _
  rw [BitVec.getLsbD_and, BitVec.getLsbD_zero]
  exact h i
/-- place k alone flips: the sum's place k flips -/
theorem kb_flip {v y : Int32} {k : Nat} (hk : k < 32) (hv : kb_bt v k = false) : kb_bt (v + y) k ≠ kb_bt ((v ||| ((1 : Int32) <<< (nI k &&& 31))) + y) k := by
  rw [kb_add _ _ hk, kb_add _ _ hk, kb_or, kb_bit hk, decide_eq_true (rfl : k = k), hv, kb_ccongr (x := v ||| ((1 : Int32) <<< (nI k &&& 31))) (x' := v) (y := y) (y' := y) k (fun j hj => by rw [kb_or, kb_bit hk, decide_eq_false (by omega), Bool.or_false]) (fun _ _ => rfl)]
  generalize kb_bt y k = b
  generalize kb_c k v y false = c
  revert b c
  decide
theorem kb_flipS {v y : Int32} {k : Nat} (hk : k < 32) (hv : kb_bt v k = false) : kb_bt (v - y) k ≠ kb_bt ((v ||| ((1 : Int32) <<< (nI k &&& 31))) - y) k := by
  rw [kb_sub _ _ hk, kb_sub _ _ hk, kb_or, kb_bit hk, decide_eq_true (rfl : k = k), hv, kb_ccongr (x := v ||| ((1 : Int32) <<< (nI k &&& 31))) (x' := v) (y := y ^^^ (-1)) (y' := y ^^^ (-1)) k (fun j hj => by rw [kb_or, kb_bit hk, decide_eq_false (by omega), Bool.or_false]) (fun _ _ => rfl)]
  generalize kb_bt y k = b
  generalize kb_c k v (y ^^^ (-1)) true = c
  revert b c
  decide
theorem kb_flipT {v x : Int32} {k : Nat} (hk : k < 32) (hv : kb_bt v k = false) : kb_bt (x - v) k ≠ kb_bt (x - (v ||| ((1 : Int32) <<< (nI k &&& 31)))) k := by
  rw [kb_sub _ _ hk, kb_sub _ _ hk, kb_or, kb_bit hk, decide_eq_true (rfl : k = k), hv, kb_ccongr (x := x) (x' := x) (y := (v ||| ((1 : Int32) <<< (nI k &&& 31))) ^^^ (-1)) (y' := v ^^^ (-1)) k (fun _ _ => rfl) (fun j hj => by rw [kb_not _ (by omega), kb_not _ (by omega), kb_or, kb_bit hk, decide_eq_false (by omega), Bool.or_false])]
  generalize kb_bt x k = b
  generalize kb_c k x (v ^^^ (-1)) true = c
  revert b c
  decide
end
section
/-! ===== what combine must answer: a pattern that holds each result, and no smaller one ===== -/
def kb_res (k : Nat) (x y : Int32) : Int32 := if k = 0 then (x + y) &&& 63 else if k = 1 then (x - y) &&& 63 else if k = 2 then x &&& y else if k = 3 then x ||| y else if k = 4 then x ^^^ y else x
def kb_P (k : Nat) (x y z : Int32) : Prop := z = kb_res k x y ∨ (k = 5 ∧ z = y)
def kb_pair (va ma vb mb x y : Int32) : Prop := kb_six x ∧ kb_six y ∧ kb_mem x va ma ∧ kb_mem y vb mb
def kb_exact (k : Nat) (va ma vb mb v m : Int32) : Prop :=
  kb_ok v m ∧ (∀ x y z, kb_pair va ma vb mb x y → kb_P k x y z → kb_six z ∧ kb_mem z v m) ∧
  (∀ i, i < 32 → kb_bt m i = true → ∃ x y z x' y' z', kb_pair va ma vb mb x y ∧ kb_P k x y z ∧ kb_pair va ma vb mb x' y' ∧ kb_P k x' y' z' ∧ kb_bt z i ≠ kb_bt z' i)
def kb_ex (R : Int32 → Int32 → Int32) (va ma vb mb v m : Int32) : Prop :=
  kb_ok v m ∧ (∀ x y, kb_pair va ma vb mb x y → kb_six (R x y) ∧ kb_mem (R x y) v m) ∧
  (∀ i, i < 32 → kb_bt m i = true → ∃ x y x' y', kb_pair va ma vb mb x y ∧ kb_pair va ma vb mb x' y' ∧ kb_bt (R x y) i ≠ kb_bt (R x' y') i)
theorem kb_exact_of {k : Nat} {va ma vb mb v m : Int32} (hk : k < 5) (h : kb_ex (kb_res k) va ma vb mb v m) : kb_exact k va ma vb mb v m := by
  refine ⟨h.1, fun x y z hp hz => ?_, fun i hi hm => ?_⟩
  · rcases hz with hz | hz
    · rw [hz]
      exact h.2.1 x y hp
    · exact absurd hz.1 (by omega)
  · obtain ⟨x, y, x', y', h1, h2, h3⟩ := h.2.2 i hi hm
    exact ⟨x, y, kb_res k x y, x', y', kb_res k x' y', h1, Or.inl rfl, h2, Or.inl rfl, h3⟩
section
variable {va ma vb mb : Int32}
theorem kb_p_ll (ha : kb_ok va ma) (hb : kb_ok vb mb) : kb_pair va ma vb mb va vb := ⟨(kb_mem_lo ha).1, (kb_mem_lo hb).1, (kb_mem_lo ha).2, (kb_mem_lo hb).2⟩
theorem kb_p_hh (ha : kb_ok va ma) (hb : kb_ok vb mb) : kb_pair va ma vb mb (va ||| ma) (vb ||| mb) := ⟨(kb_mem_hi ha).1, (kb_mem_hi hb).1, (kb_mem_hi ha).2, (kb_mem_hi hb).2⟩
theorem kb_p_hl (ha : kb_ok va ma) (hb : kb_ok vb mb) : kb_pair va ma vb mb (va ||| ma) vb := ⟨(kb_mem_hi ha).1, (kb_mem_lo hb).1, (kb_mem_hi ha).2, (kb_mem_lo hb).2⟩
theorem kb_p_lh (ha : kb_ok va ma) (hb : kb_ok vb mb) : kb_pair va ma vb mb va (vb ||| mb) := ⟨(kb_mem_lo ha).1, (kb_mem_hi hb).1, (kb_mem_lo ha).2, (kb_mem_hi hb).2⟩
theorem kb_p_ol (ha : kb_ok va ma) (hb : kb_ok vb mb) {k : Nat} (hm : kb_bt ma k = true) : kb_pair va ma vb mb (va ||| ((1 : Int32) <<< (nI k &&& 31))) vb := ⟨(kb_mem_one ha hm).1, (kb_mem_lo hb).1, (kb_mem_one ha hm).2, (kb_mem_lo hb).2⟩
theorem kb_p_lo (ha : kb_ok va ma) (hb : kb_ok vb mb) {k : Nat} (hm : kb_bt mb k = true) : kb_pair va ma vb mb va (vb ||| ((1 : Int32) <<< (nI k &&& 31))) := ⟨(kb_mem_lo ha).1, (kb_mem_one hb hm).1, (kb_mem_lo ha).2, (kb_mem_one hb hm).2⟩
end
theorem kb_vf {v m : Int32} (h : kb_ok v m) {i : Nat} (hm : kb_bt m i = true) : kb_bt v i = false := by
  have e := h.2.2 i
  rw [hm, Bool.and_true] at e
  exact e
/-! ===== the sum ===== -/
theorem kb_B1 : ∀ va vb ma mb x y c1 c c2 : Bool, (x && !ma) = va → (y && !mb) = vb → (c1 = true → c = true) → (c = true → c2 = true) →
    ((x ^^ (y ^^ c)) && !((((va ^^ (vb ^^ c1)) ^^ ((va || ma) ^^ ((vb || mb) ^^ c2))) || ma) || mb)) = ((va ^^ (vb ^^ c1)) && !((((va ^^ (vb ^^ c1)) ^^ ((va || ma) ^^ ((vb || mb) ^^ c2))) || ma) || mb)) := by decide +kernel
theorem kb_most {va ma vb mb : Int32} (ha : kb_ok va ma) (hb : kb_ok vb mb) : va + vb + ma + mb = (va ||| ma) + (vb ||| mb) := by
  rw [← kb_addor ha.2.2, ← kb_addor hb.2.2]
  ac_rfl
theorem kb_ex_add {va ma vb mb V M : Int32} (ha : kb_ok va ma) (hb : kb_ok vb mb) (hM : M = ((((va + vb) ^^^ (va + vb + ma + mb)) ||| ma) ||| mb) &&& 63) (hV : V = ((va + vb) &&& (M ^^^ (-1))) &&& 63) :
    kb_ex (fun x y => (x + y) &&& 63) va ma vb mb V M := by
  rw [kb_most ha hb] at hM
  have bM : ∀ i, kb_bt M i = ((((kb_bt (va + vb) i ^^ kb_bt ((va ||| ma) + (vb ||| mb)) i) || kb_bt ma i) || kb_bt mb i) && decide (i < 6)) := fun i => by
    rw [hM, kb_and, kb_or, kb_or, kb_xor, kb_63]
  have bV : ∀ i, i < 32 → kb_bt V i = ((kb_bt (va + vb) i && !kb_bt M i) && decide (i < 6)) := fun i hi => by
    rw [hV, kb_and, kb_and, kb_not _ hi, kb_63]
  refine ⟨⟨?_, ?_, fun i => ?_⟩, fun x y hp => ⟨kb_six_and' kb_six_63, kb_memI (fun i hi => ?_)⟩, fun i hi hm => ?_⟩
  · rw [hV]
    exact kb_six_and' kb_six_63
  · rw [hM]
    exact kb_six_and' kb_six_63
  · rcases Nat.lt_or_ge i 32 with hi | hi
    · rw [bV i hi]
      generalize kb_bt (va + vb) i = a
      generalize kb_bt M i = b
      generalize decide (i < 6) = c
      revert a b c
      decide
    · rw [kb_big hi, Bool.false_and]
  · rcases Nat.lt_or_ge i 6 with z | z
    · obtain ⟨_, _, hx, hy⟩ := hp
      have e1 := kb_memE hx hi
      have e2 := kb_memE hy hi
      have c1 : kb_c i va vb false = true → kb_c i x y false = true := kb_mono i (fun j hj => kb_mem_sub hx (by omega)) (fun j hj => kb_mem_sub hy (by omega))
      have c2 : kb_c i x y false = true → kb_c i (va ||| ma) (vb ||| mb) false = true := kb_mono i (fun j hj => kb_mem_sup hx (by omega)) (fun j hj => kb_mem_sup hy (by omega))
      have B := kb_B1 _ _ _ _ _ _ _ _ _ e1 e2 c1 c2
      show (kb_bt ((x + y) &&& 63) i && !kb_bt M i) = kb_bt V i
      rw [bV i hi, bM i, kb_and, kb_63, decide_eq_true z, Bool.and_true, Bool.and_true, Bool.and_true, kb_add _ _ hi, kb_add _ _ hi, kb_add _ _ hi, kb_or, kb_or]
      exact B
    · show (kb_bt ((x + y) &&& 63) i && !kb_bt M i) = kb_bt V i
      rw [bV i hi, kb_and, kb_63, decide_eq_false (by omega), Bool.and_false, Bool.false_and, Bool.and_false]
  · have b := bM i
    rw [hm] at b
    have z : i < 6 := by
      rcases Nat.lt_or_ge i 6 with z | z
      · exact z
      · rw [decide_eq_false (by omega), Bool.and_false] at b
        exact absurd b (by decide)
    rw [decide_eq_true z, Bool.and_true] at b
    have red : ∀ x y : Int32, kb_bt ((x + y) &&& 63) i = kb_bt (x + y) i := fun x y => by rw [kb_and, kb_63, decide_eq_true z, Bool.and_true]
    cases h1 : kb_bt ma i with
    | true =>
      refine ⟨va, vb, _, vb, kb_p_ll ha hb, kb_p_ol ha hb h1, ?_⟩
      show kb_bt ((va + vb) &&& 63) i ≠ kb_bt ((_ + vb) &&& 63) i
      rw [red, red]
      exact kb_flip hi (kb_vf ha h1)
    | false =>
      cases h2 : kb_bt mb i with
      | true =>
        refine ⟨va, vb, va, _, kb_p_ll ha hb, kb_p_lo ha hb h2, ?_⟩
        show kb_bt ((va + vb) &&& 63) i ≠ kb_bt ((va + _) &&& 63) i
        rw [red, red, Int32.add_comm va vb, Int32.add_comm va (vb ||| _)]
        exact kb_flip hi (kb_vf hb h2)
      | false =>
        refine ⟨va, vb, va ||| ma, vb ||| mb, kb_p_ll ha hb, kb_p_hh ha hb, ?_⟩
        show kb_bt ((va + vb) &&& 63) i ≠ kb_bt (((va ||| ma) + (vb ||| mb)) &&& 63) i
        rw [red, red]
        rw [h1, h2, Bool.or_false, Bool.or_false] at b
        intro h
        rw [h] at b
        revert b
        generalize kb_bt ((va ||| ma) + (vb ||| mb)) i = q
        revert q
        decide
/-! ===== the difference ===== -/
theorem kb_B2 : ∀ va vb ma mb x y cL c cP cH : Bool, (x && !ma) = va → (y && !mb) = vb → (cL = true → c = true) → (c = true → cH = true) → (cL = true → cP = true) → (cP = true → cH = true) →
    ((x ^^ ((!y) ^^ c)) && !(((((va || ma) ^^ ((!vb) ^^ cH)) ^^ (va ^^ ((!(vb || mb)) ^^ cL))) || ma) || mb)) = ((va ^^ ((!vb) ^^ cP)) && !(((((va || ma) ^^ ((!vb) ^^ cH)) ^^ (va ^^ ((!(vb || mb)) ^^ cL))) || ma) || mb)) := by decide +kernel
theorem kb_dhi {va ma vb : Int32} (ha : kb_ok va ma) : va - vb + ma = (va ||| ma) - vb := by
  rw [← kb_addor ha.2.2, Int32.sub_eq_add_neg, Int32.sub_eq_add_neg]
  ac_rfl
theorem kb_dlo {va vb mb : Int32} (hb : kb_ok vb mb) : va - vb - mb = va - (vb ||| mb) := by
  rw [← kb_addor hb.2.2, Int32.sub_eq_add_neg, Int32.sub_eq_add_neg, Int32.sub_eq_add_neg, Int32.neg_add, Int32.sub_eq_add_neg]
  ac_rfl
theorem kb_notsub {x y : Int32} {i : Nat} (hi : i < 32) (h : kb_bt x i = true → kb_bt y i = true) : kb_bt (y ^^^ (-1)) i = true → kb_bt (x ^^^ (-1)) i = true := by
  rw [kb_not _ hi, kb_not _ hi]
  revert h
  generalize kb_bt x i = a
  generalize kb_bt y i = b
  revert a b
  decide
theorem kb_ex_sub {va ma vb mb V M : Int32} (ha : kb_ok va ma) (hb : kb_ok vb mb) (hM : M = ((((va - vb + ma) ^^^ (va - vb - mb)) ||| ma) ||| mb) &&& 63) (hV : V = ((va - vb) &&& (M ^^^ (-1))) &&& 63) :
    kb_ex (fun x y => (x - y) &&& 63) va ma vb mb V M := by
  rw [kb_dhi ha, kb_dlo hb] at hM
  have bM : ∀ i, kb_bt M i = ((((kb_bt ((va ||| ma) - vb) i ^^ kb_bt (va - (vb ||| mb)) i) || kb_bt ma i) || kb_bt mb i) && decide (i < 6)) := fun i => by
    rw [hM, kb_and, kb_or, kb_or, kb_xor, kb_63]
  have bV : ∀ i, i < 32 → kb_bt V i = ((kb_bt (va - vb) i && !kb_bt M i) && decide (i < 6)) := fun i hi => by
    rw [hV, kb_and, kb_and, kb_not _ hi, kb_63]
  refine ⟨⟨?_, ?_, fun i => ?_⟩, fun x y hp => ⟨kb_six_and' kb_six_63, kb_memI (fun i hi => ?_)⟩, fun i hi hm => ?_⟩
  · rw [hV]
    exact kb_six_and' kb_six_63
  · rw [hM]
    exact kb_six_and' kb_six_63
  · rcases Nat.lt_or_ge i 32 with hi | hi
    · rw [bV i hi]
      generalize kb_bt (va - vb) i = a
      generalize kb_bt M i = b
      generalize decide (i < 6) = c
      revert a b c
      decide
    · rw [kb_big hi, Bool.false_and]
  · rcases Nat.lt_or_ge i 6 with z | z
    · have key : ∀ x y : Int32, kb_mem x va ma → kb_mem y vb mb → (kb_c i va ((vb ||| mb) ^^^ (-1)) true = true → kb_c i x (y ^^^ (-1)) true = true) ∧ (kb_c i x (y ^^^ (-1)) true = true → kb_c i (va ||| ma) (vb ^^^ (-1)) true = true) := fun x y hx hy =>
        ⟨kb_mono i (fun j hj => kb_mem_sub hx (by omega)) (fun j hj => kb_notsub (by omega) (kb_mem_sup hy (by omega))), kb_mono i (fun j hj => kb_mem_sup hx (by omega)) (fun j hj => kb_notsub (by omega) (kb_mem_sub hy (by omega)))⟩
      obtain ⟨_, _, hx, hy⟩ := hp
      have e1 := kb_memE hx hi
      have e2 := kb_memE hy hi
      have k1 := key x y hx hy
      have k2 := key va vb (kb_mem_lo ha).2 (kb_mem_lo hb).2
      have B := kb_B2 _ _ _ _ _ _ _ _ _ _ e1 e2 k1.1 k1.2 k2.1 k2.2
      show (kb_bt ((x - y) &&& 63) i && !kb_bt M i) = kb_bt V i
      rw [bV i hi, bM i, kb_and, kb_63, decide_eq_true z, Bool.and_true, Bool.and_true, Bool.and_true, kb_sub _ _ hi, kb_sub _ _ hi, kb_sub _ _ hi, kb_sub _ _ hi, kb_or, kb_or]
      exact B
    · show (kb_bt ((x - y) &&& 63) i && !kb_bt M i) = kb_bt V i
      rw [bV i hi, kb_and, kb_63, decide_eq_false (by omega), Bool.and_false, Bool.false_and, Bool.and_false]
  · have b := bM i
    rw [hm] at b
    have z : i < 6 := by
      rcases Nat.lt_or_ge i 6 with z | z
      · exact z
      · rw [decide_eq_false (by omega), Bool.and_false] at b
        exact absurd b (by decide)
    rw [decide_eq_true z, Bool.and_true] at b
    have red : ∀ x y : Int32, kb_bt ((x - y) &&& 63) i = kb_bt (x - y) i := fun x y => by rw [kb_and, kb_63, decide_eq_true z, Bool.and_true]
    cases h1 : kb_bt ma i with
    | true =>
      refine ⟨va, vb, _, vb, kb_p_ll ha hb, kb_p_ol ha hb h1, ?_⟩
      show kb_bt ((va - vb) &&& 63) i ≠ kb_bt ((_ - vb) &&& 63) i
      rw [red, red]
      exact kb_flipS hi (kb_vf ha h1)
    | false =>
      cases h2 : kb_bt mb i with
      | true =>
        refine ⟨va, vb, va, _, kb_p_ll ha hb, kb_p_lo ha hb h2, ?_⟩
        show kb_bt ((va - vb) &&& 63) i ≠ kb_bt ((va - _) &&& 63) i
        rw [red, red]
        exact kb_flipT hi (kb_vf hb h2)
      | false =>
        refine ⟨va ||| ma, vb, va, vb ||| mb, kb_p_hl ha hb, kb_p_lh ha hb, ?_⟩
        show kb_bt (((va ||| ma) - vb) &&& 63) i ≠ kb_bt ((va - (vb ||| mb)) &&& 63) i
        rw [red, red]
        rw [h1, h2, Bool.or_false, Bool.or_false] at b
        intro h
        rw [h] at b
        revert b
        generalize kb_bt (va - (vb ||| mb)) i = q
        revert q
        decide
/-! ===== bit by bit ===== -/
theorem kb_ex_and {va ma vb mb V M : Int32} (ha : kb_ok va ma) (hb : kb_ok vb mb) (hV : V = va &&& vb) (hM : M = ((va ||| ma) &&& (vb ||| mb)) &&& (V ^^^ (-1))) :
    kb_ex (fun x y => x &&& y) va ma vb mb V M := by
  have bV : ∀ i, kb_bt V i = (kb_bt va i && kb_bt vb i) := fun i => by rw [hV, kb_and]
  have bM : ∀ i, i < 32 → kb_bt M i = (((kb_bt va i || kb_bt ma i) && (kb_bt vb i || kb_bt mb i)) && !(kb_bt va i && kb_bt vb i)) := fun i hi => by
    rw [hM, kb_and, kb_and, kb_or, kb_or, kb_not _ hi, bV]
  refine ⟨⟨?_, ?_, fun i => ?_⟩, fun x y hp => ⟨kb_six_and hp.1, kb_memI (fun i hi => ?_)⟩, fun i hi hm => ?_⟩
  · rw [hV]
    exact kb_six_and ha.1
  · rw [hM]
    exact kb_six_and (kb_six_and (kb_six_or ha.1 ha.2.1))
  · rcases Nat.lt_or_ge i 32 with hi | hi
    · rw [bM i hi, bV]
      generalize kb_bt va i = a
      generalize kb_bt vb i = b
      generalize kb_bt ma i = c
      generalize kb_bt mb i = d
      revert a b c d
      decide
    · rw [kb_big hi, Bool.false_and]
  · have e1 := kb_memE hp.2.2.1 hi
    have e2 := kb_memE hp.2.2.2 hi
    show (kb_bt (x &&& y) i && !kb_bt M i) = kb_bt V i
    rw [kb_and, bM i hi, bV, ← e1, ← e2]
    generalize kb_bt x i = a
    generalize kb_bt y i = b
    generalize kb_bt ma i = c
    generalize kb_bt mb i = d
    revert a b c d
    decide
  · refine ⟨va, vb, va ||| ma, vb ||| mb, kb_p_ll ha hb, kb_p_hh ha hb, ?_⟩
    show kb_bt (va &&& vb) i ≠ kb_bt ((va ||| ma) &&& (vb ||| mb)) i
    rw [kb_and, kb_and, kb_or, kb_or]
    rw [bM i hi] at hm
    revert hm
    generalize kb_bt va i = a
    generalize kb_bt vb i = b
    generalize kb_bt ma i = c
    generalize kb_bt mb i = d
    revert a b c d
    decide
theorem kb_ex_or {va ma vb mb V M : Int32} (ha : kb_ok va ma) (hb : kb_ok vb mb) (hV : V = va ||| vb) (hM : M = (ma ||| mb) &&& (V ^^^ (-1))) :
    kb_ex (fun x y => x ||| y) va ma vb mb V M := by
  have bV : ∀ i, kb_bt V i = (kb_bt va i || kb_bt vb i) := fun i => by rw [hV, kb_or]
  have bM : ∀ i, i < 32 → kb_bt M i = ((kb_bt ma i || kb_bt mb i) && !(kb_bt va i || kb_bt vb i)) := fun i hi => by
    rw [hM, kb_and, kb_or, kb_not _ hi, bV]
  refine ⟨⟨?_, ?_, fun i => ?_⟩, fun x y hp => ⟨kb_six_or hp.1 hp.2.1, kb_memI (fun i hi => ?_)⟩, fun i hi hm => ?_⟩
  · rw [hV]
    exact kb_six_or ha.1 hb.1
  · rw [hM]
    exact kb_six_and (kb_six_or ha.2.1 hb.2.1)
  · rcases Nat.lt_or_ge i 32 with hi | hi
    · rw [bM i hi, bV]
      generalize kb_bt va i = a
      generalize kb_bt vb i = b
      generalize kb_bt ma i = c
      generalize kb_bt mb i = d
      revert a b c d
      decide
    · rw [kb_big hi, Bool.false_and]
  · have e1 := kb_memE hp.2.2.1 hi
    have e2 := kb_memE hp.2.2.2 hi
    show (kb_bt (x ||| y) i && !kb_bt M i) = kb_bt V i
    rw [kb_or, bM i hi, bV, ← e1, ← e2]
    generalize kb_bt x i = a
    generalize kb_bt y i = b
    generalize kb_bt ma i = c
    generalize kb_bt mb i = d
    revert a b c d
    decide
  · refine ⟨va, vb, va ||| ma, vb ||| mb, kb_p_ll ha hb, kb_p_hh ha hb, ?_⟩
    show kb_bt (va ||| vb) i ≠ kb_bt ((va ||| ma) ||| (vb ||| mb)) i
    rw [kb_or, kb_or, kb_or, kb_or]
    rw [bM i hi] at hm
    revert hm
    generalize kb_bt va i = a
    generalize kb_bt vb i = b
    generalize kb_bt ma i = c
    generalize kb_bt mb i = d
    revert a b c d
    decide
theorem kb_ex_xor {va ma vb mb V M : Int32} (ha : kb_ok va ma) (hb : kb_ok vb mb) (hM : M = ma ||| mb) (hV : V = (va ^^^ vb) &&& (M ^^^ (-1))) :
    kb_ex (fun x y => x ^^^ y) va ma vb mb V M := by
  have bM : ∀ i, kb_bt M i = (kb_bt ma i || kb_bt mb i) := fun i => by rw [hM, kb_or]
  have bV : ∀ i, i < 32 → kb_bt V i = ((kb_bt va i ^^ kb_bt vb i) && !(kb_bt ma i || kb_bt mb i)) := fun i hi => by
    rw [hV, kb_and, kb_xor, kb_not _ hi, bM]
  refine ⟨⟨?_, ?_, fun i => ?_⟩, fun x y hp => ⟨kb_six_xor hp.1 hp.2.1, kb_memI (fun i hi => ?_)⟩, fun i hi hm => ?_⟩
  · rw [hV]
    exact kb_six_and (kb_six_xor ha.1 hb.1)
  · rw [hM]
    exact kb_six_or ha.2.1 hb.2.1
  · rcases Nat.lt_or_ge i 32 with hi | hi
    · rw [bV i hi, bM]
      generalize kb_bt va i = a
      generalize kb_bt vb i = b
      generalize kb_bt ma i = c
      generalize kb_bt mb i = d
      revert a b c d
      decide
    · rw [kb_big hi, Bool.false_and]
  · have e1 := kb_memE hp.2.2.1 hi
    have e2 := kb_memE hp.2.2.2 hi
    show (kb_bt (x ^^^ y) i && !kb_bt M i) = kb_bt V i
    rw [kb_xor, bM, bV i hi, ← e1, ← e2]
    generalize kb_bt x i = a
    generalize kb_bt y i = b
    generalize kb_bt ma i = c
    generalize kb_bt mb i = d
    revert a b c d
    decide
  · rw [bM] at hm
    cases h1 : kb_bt ma i with
    | true =>
      refine ⟨va, vb, va ||| ma, vb, kb_p_ll ha hb, kb_p_hl ha hb, ?_⟩
      show kb_bt (va ^^^ vb) i ≠ kb_bt ((va ||| ma) ^^^ vb) i
      rw [kb_xor, kb_xor, kb_or, h1, kb_vf ha h1]
      generalize kb_bt vb i = b
      revert b
      decide
    | false =>
      have h2 : kb_bt mb i = true := by
        rw [h1, Bool.false_or] at hm
        exact hm
      refine ⟨va, vb, va, vb ||| mb, kb_p_ll ha hb, kb_p_lh ha hb, ?_⟩
      show kb_bt (va ^^^ vb) i ≠ kb_bt (va ^^^ (vb ||| mb)) i
      rw [kb_xor, kb_xor, kb_or, h2, kb_vf hb h2]
      generalize kb_bt va i = b
      revert b
      decide
/-! ===== the join ===== -/
theorem kb_exact_5 {va ma vb mb V M : Int32} (ha : kb_ok va ma) (hb : kb_ok vb mb) (hM : M = (ma ||| mb) ||| (va ^^^ vb)) (hV : V = va &&& (M ^^^ (-1))) :
    kb_exact 5 va ma vb mb V M := by
  have bM : ∀ i, kb_bt M i = ((kb_bt ma i || kb_bt mb i) || (kb_bt va i ^^ kb_bt vb i)) := fun i => by rw [hM, kb_or, kb_or, kb_xor]
  have bV : ∀ i, i < 32 → kb_bt V i = (kb_bt va i && !((kb_bt ma i || kb_bt mb i) || (kb_bt va i ^^ kb_bt vb i))) := fun i hi => by
    rw [hV, kb_and, kb_not _ hi, bM]
  have r5 : ∀ x y : Int32, kb_res 5 x y = x := fun _ _ => rfl
  refine ⟨⟨?_, ?_, fun i => ?_⟩, fun x y w hp hz => ?_, fun i hi hm => ?_⟩
  · rw [hV]
    exact kb_six_and ha.1
  · rw [hM]
    exact kb_six_or (kb_six_or ha.2.1 hb.2.1) (kb_six_xor ha.1 hb.1)
  · rcases Nat.lt_or_ge i 32 with hi | hi
    · rw [bV i hi, bM]
      generalize kb_bt va i = a
      generalize kb_bt vb i = b
      generalize kb_bt ma i = c
      generalize kb_bt mb i = d
      revert a b c d
      decide
    · rw [kb_big hi, Bool.false_and]
  · have hx : kb_mem x V M := kb_memI (fun i hi => by
      have e1 := kb_memE hp.2.2.1 hi
      rw [bM, bV i hi]
      revert e1
      generalize kb_bt x i = a
      generalize kb_bt va i = b
      generalize kb_bt vb i = e
      generalize kb_bt ma i = c
      generalize kb_bt mb i = d
      revert a b c d e
      decide)
    have hy : kb_mem y V M := kb_memI (fun i hi => by
      have e1 := kb_memE hp.2.2.2 hi
      rw [bM, bV i hi]
      revert e1
      generalize kb_bt y i = a
      generalize kb_bt va i = b
      generalize kb_bt vb i = e
      generalize kb_bt ma i = c
      generalize kb_bt mb i = d
      revert a b c d e
      decide)
    rcases hz with hz | hz
    · rw [hz, r5]
      exact ⟨hp.1, hx⟩
    · rw [hz.2]
      exact ⟨hp.2.1, hy⟩
  · rw [bM] at hm
    cases h1 : kb_bt ma i with
    | true =>
      refine ⟨va, vb, va, va ||| ma, vb, va ||| ma, kb_p_ll ha hb, Or.inl rfl, kb_p_hl ha hb, Or.inl rfl, ?_⟩
      rw [kb_or, h1, kb_vf ha h1]
      decide
    | false =>
      cases h2 : kb_bt mb i with
      | true =>
        refine ⟨va, vb, vb, va, vb ||| mb, vb ||| mb, kb_p_ll ha hb, Or.inr ⟨rfl, rfl⟩, kb_p_lh ha hb, Or.inr ⟨rfl, rfl⟩, ?_⟩
        rw [kb_or, h2, kb_vf hb h2]
        decide
      | false =>
        refine ⟨va, vb, va, va, vb, vb, kb_p_ll ha hb, Or.inl rfl, kb_p_ll ha hb, Or.inr ⟨rfl, rfl⟩, ?_⟩
        rw [h1, h2] at hm
        revert hm
        generalize kb_bt va i = a
        generalize kb_bt vb i = b
        revert a b
        decide
end
section
/-! ===== how many numbers of a pattern are at most l ===== -/
def kb_pc (b : Nat → Bool) : Nat → Nat
  | 0 => 0
  | n + 1 => kb_pc b n + (b n).toNat
theorem kb_pc_le (b : Nat → Bool) : ∀ n, kb_pc b n ≤ n
  | 0 => Nat.le_refl 0
  | n + 1 => by
    have h := kb_pc_le b n
    have h2 := Bool.toNat_le (b n)
    show kb_pc b n + (b n).toNat ≤ n + 1
    omega
theorem kb_pc_cut {a b : Nat → Bool} {k : Nat} (h : ∀ j, a j = (b j && decide (j < k))) : ∀ n, kb_pc a n = kb_pc b (min n k)
  | 0 => by rw [Nat.zero_min]; rfl
  | n + 1 => by
    show kb_pc a n + (a n).toNat = _
    rw [kb_pc_cut h n, h n]
    rcases Nat.lt_or_ge n k with z | z
    · rw [decide_eq_true z, Bool.and_true, show min n k = n by omega, show min (n + 1) k = n + 1 by omega]
      rfl
    · rw [decide_eq_false (by omega), Bool.and_false, show min n k = k by omega, show min (n + 1) k = k by omega]
      rfl
/-- 2 to the number of unknown places below k -/
def kb_w (m : Nat → Bool) (k : Nat) : Nat := 2 ^ kb_pc m k
theorem kb_w_t {m : Nat → Bool} {k : Nat} (h : m k = true) : kb_w m (k + 1) = kb_w m k + kb_w m k := by
  show 2 ^ (kb_pc m k + (m k).toNat) = 2 ^ kb_pc m k + 2 ^ kb_pc m k
  rw [h, show (true : Bool).toNat = 1 from rfl, Nat.pow_succ]
  omega
theorem kb_w_f {m : Nat → Bool} {k : Nat} (h : m k = false) : kb_w m (k + 1) = kb_w m k := by
  show 2 ^ (kb_pc m k + (m k).toNat) = 2 ^ kb_pc m k
  rw [h]
  rfl
theorem kb_w_pos (m : Nat → Bool) (k : Nat) : 0 < kb_w m k := Nat.pow_pos (by omega)
def kb_rk (v m l : Nat → Bool) : Nat → Nat
  | 0 => 1
  | k + 1 => if m k = true then (if l k = true then kb_w m k else 0) + kb_rk v m l k else if v k = l k then kb_rk v m l k else if l k = true then kb_w m k else 0
section
variable {v m l : Nat → Bool} {k : Nat}
theorem kb_rk_m1 (hm : m k = true) (hl : l k = true) : kb_rk v m l (k + 1) = kb_w m k + kb_rk v m l k := by
  show (if _ then _ else _) = _
  rw [if_pos hm, if_pos hl]
theorem kb_rk_m0 (hm : m k = true) (hl : l k = false) : kb_rk v m l (k + 1) = 0 + kb_rk v m l k := by
  show (if _ then _ else _) = _
  rw [if_pos hm, if_neg (by rw [hl]; decide)]
theorem kb_rk_e (hm : m k = false) (hl : v k = l k) : kb_rk v m l (k + 1) = kb_rk v m l k := by
  show (if _ then _ else _) = _
  rw [if_neg (by rw [hm]; decide), if_pos hl]
theorem kb_rk_1 (hm : m k = false) (hv : ¬ v k = l k) (hl : l k = true) : kb_rk v m l (k + 1) = kb_w m k := by
  show (if _ then _ else _) = _
  rw [if_neg (by rw [hm]; decide), if_neg hv, if_pos hl]
theorem kb_rk_0 (hm : m k = false) (hv : ¬ v k = l k) (hl : l k = false) : kb_rk v m l (k + 1) = 0 := by
  show (if _ then _ else _) = _
  rw [if_neg (by rw [hm]; decide), if_neg hv, if_neg (by rw [hl]; decide)]
end
theorem kb_rk_le (v m l : Nat → Bool) : ∀ k, kb_rk v m l k ≤ kb_w m k
  | 0 => Nat.le_refl 1
  | k + 1 => by
    have ih := kb_rk_le v m l k
    have hp := kb_w_pos m k
    cases hm : m k with
    | true =>
      rw [kb_w_t hm]
      cases hl : l k with
      | true =>
        rw [kb_rk_m1 hm hl]
        omega
      | false =>
        rw [kb_rk_m0 hm hl]
        omega
    | false =>
      rw [kb_w_f hm]
      by_cases hv : v k = l k
      · rw [kb_rk_e hm hv]
        exact ih
      · cases hl : l k with
        | true =>
          rw [kb_rk_1 hm hv hl]
          exact Nat.le_refl _
        | false =>
          rw [kb_rk_0 hm hv hl]
          omega
theorem kb_rk_full (v m l : Nat → Bool) (h : ∀ k, k < 6 → l k = true) : ∀ k, k ≤ 6 → kb_rk v m l k = kb_w m k
  | 0, _ => rfl
  | k + 1, hk => by
    have ih := kb_rk_full v m l h k (by omega)
    have hl := h k (by omega)
    cases hm : m k with
    | true => rw [kb_w_t hm, kb_rk_m1 hm hl, ih]
    | false =>
      rw [kb_w_f hm]
      by_cases hv : v k = l k
      · rw [kb_rk_e hm hv, ih]
      · rw [kb_rk_1 hm hv hl]
theorem kb_mod2 (x k : Nat) : x % 2 ^ (k + 1) = x % 2 ^ k + 2 ^ k * (x.testBit k).toNat := by
  rw [Nat.mod_pow_succ, Nat.toNat_testBit]
theorem kb_rk_lt (v m lb : Nat → Bool) (l g : Nat) (hl : ∀ k, k < 6 → l.testBit k = lb k) (hg : ∀ k, k < 6 → g.testBit k = (v k || m k)) : ∀ k, k ≤ 6 → l % 2 ^ k < g % 2 ^ k → kb_rk v m lb k < kb_w m k
  | 0, _, h => by
    rw [Nat.pow_zero, Nat.mod_one, Nat.mod_one] at h
    exact absurd h (by omega)
  | k + 1, hk, h => by
    have ih := kb_rk_lt v m lb l g hl hg k (by omega)
    have hp := kb_w_pos m k
    have hle := kb_rk_le v m lb k
    have h1 : l % 2 ^ k < 2 ^ k := Nat.mod_lt _ (Nat.pow_pos (by omega))
    have h2 : g % 2 ^ k < 2 ^ k := Nat.mod_lt _ (Nat.pow_pos (by omega))
    rw [kb_mod2, kb_mod2, hl k (by omega), hg k (by omega)] at h
    generalize l % 2 ^ k = p at *
    generalize g % 2 ^ k = q at *
    generalize 2 ^ k = d at *
    cases hm : m k with
    | true =>
      rw [kb_w_t hm]
      cases hb : lb k with
      | true =>
        rw [kb_rk_m1 hm hb]
        rw [hm, hb, Bool.or_true] at h
        have := ih (by omega)
        omega
      | false =>
        rw [kb_rk_m0 hm hb]
        omega
    | false =>
      rw [kb_w_f hm]
      rw [hm, Bool.or_false] at h
      by_cases hv : v k = lb k
      · rw [kb_rk_e hm hv]
        rw [hv] at h
        exact ih (by omega)
      · cases hb : lb k with
        | true =>
          have hv0 : v k = false := by
            rw [hb] at hv
            cases e : v k with
            | true => exact absurd e hv
            | false => rfl
          rw [hb, hv0, show (true : Bool).toNat = 1 from rfl, show (false : Bool).toNat = 0 from rfl, Nat.mul_one, Nat.mul_zero] at h
          exact absurd h (by omega)
        | false =>
          rw [kb_rk_0 hm hv hb]
          exact hp
end
section
/-! ===== the registers ===== -/
def kb_all (a1 a2 : Nat → Int32) : Prop := ∀ r, r < 6 → kb_ok (a1 r) (a2 r)
theorem kb_all_upd {a1 a2 : Nat → Int32} {v m : Int32} (c : Nat) (h : kb_all a1 a2) (hk : kb_ok v m) : kb_all (upd a1 c v) (upd a2 c m) := by
  intro r hr
  by_cases e : r = c
  · rw [e, pk_us, pk_us]
    exact hk
  · rw [pk_un e, pk_un e]
    exact h r hr
theorem kb_ok_0 : kb_ok 0 0 := ⟨kb_six_0, kb_six_0, fun i => by rw [kb_0, Bool.false_and]⟩
theorem kb_ok_set (p q : Int32) : kb_ok ((p &&& 63) &&& (q ^^^ (-1))) (q &&& 63) := by
  refine ⟨kb_six_and (kb_six_and' kb_six_63), kb_six_and' kb_six_63, fun i => ?_⟩
  rcases Nat.lt_or_ge i 32 with hi | hi
  · rw [kb_and, kb_and, kb_and, kb_not _ hi]
    generalize kb_bt p i = a
    generalize kb_bt q i = b
    generalize kb_bt 63 i = c
    revert a b c
    decide
  · rw [kb_big hi, Bool.false_and]
theorem kb_shl (s : Int32) : ∃ k : Nat, ∀ (x : Int32) (i : Nat), i < 32 → kb_bt (x <<< s) i = (decide (k ≤ i) && kb_bt x (i - k)) := by
  refine ⟨(s.toBitVec.smod 32).toNat, fun x i hi => ?_⟩
  unfold kb_bt
  rw [Int32.toBitVec_shiftLeft]
  show (x.toBitVec <<< (s.toBitVec.smod 32).toNat).getLsbD i = _
  rw [BitVec.getLsbD_shiftLeft]
  generalize (s.toBitVec.smod 32).toNat = n
  rcases Nat.lt_or_ge i n with h | h
  · simp [h, Nat.not_le.mpr h]
  · simp [hi, h, Nat.not_lt.mpr h]
theorem kb_shr (s : Int32) : ∃ k : Nat, ∀ (x : Int32) (i : Nat), i < 32 → kb_bt (x >>> s) i = if k + i < 32 then kb_bt x (k + i) else kb_bt x 31 := by
  refine ⟨(s.toBitVec.smod 32).toNat, fun x i hi => ?_⟩
  unfold kb_bt
  rw [Int32.toBitVec_shiftRight]
  show (x.toBitVec.sshiftRight (s.toBitVec.smod 32).toNat).getLsbD i = _
  rw [BitVec.getLsbD_sshiftRight, BitVec.msb_eq_getLsbD_last]
  simp [hi]
theorem kb_ok_shl {v m : Int32} (s : Int32) (h : kb_ok v m) : kb_ok ((v <<< s) &&& 63) ((m <<< s) &&& 63) := by
  obtain ⟨k, hk⟩ := kb_shl s
  refine ⟨kb_six_and' kb_six_63, kb_six_and' kb_six_63, fun i => ?_⟩
  rcases Nat.lt_or_ge i 32 with hi | hi
  · have e := h.2.2 (i - k)
    rw [kb_and, kb_and, hk v i hi, hk m i hi]
    revert e
    generalize kb_bt v (i - k) = a
    generalize kb_bt m (i - k) = b
    generalize kb_bt 63 i = c
    generalize decide (k ≤ i) = d
    revert a b c d
    decide
  · rw [kb_big hi, Bool.false_and]
theorem kb_ok_shr {v m : Int32} (s : Int32) (h : kb_ok v m) : kb_ok (v >>> s) (m >>> s) := by
  obtain ⟨k, hk⟩ := kb_shr s
  have six : ∀ x : Int32, kb_six x → kb_six (x >>> s) := fun x hx i h6 => by
    rcases Nat.lt_or_ge i 32 with hi | hi
    · rw [hk x i hi]
      split
      · exact hx _ (by omega)
      · exact hx _ (by omega)
    · exact kb_big hi
  refine ⟨six v h.1, six m h.2.1, fun i => ?_⟩
  rcases Nat.lt_or_ge i 32 with hi | hi
  · rw [hk v i hi, hk m i hi]
    split
    · exact h.2.2 _
    · exact h.2.2 _
  · rw [kb_big hi, Bool.false_and]
/-! ===== the small methods ===== -/
theorem kb_isReg {post : Int32 → Prop} {r : Nat} (hr : r < 6) (h : post 1) : wpX_isRegister post () (nI r) :=
  pk_lt r 0 (fun z => absurd z (by omega)) (fun _ => pk_lt 5 r (fun z => absurd z (by omega)) (fun _ => h))
section
variable {f0 f1 : Int32} {a1 a2 : Nat → Int32}
theorem kb_value {post : Int32 → Prop} {r : Nat} (hr : r < 6) (h : post (a1 r)) : wpX_value post (f0, f1, a1, a2) (nI r) := by
  unfold wpX_value
  dsimp only
  refine kb_isReg hr (br_f (by decide) ⟨pk_in r 6 hr, ?_⟩)
  rw [nI_clamp (by omega)]
  exact h
theorem kb_mask {post : Int32 → Prop} {r : Nat} (hr : r < 6) (h : post (a2 r)) : wpX_mask post (f0, f1, a1, a2) (nI r) := by
  unfold wpX_mask
  dsimp only
  refine kb_isReg hr (br_f (by decide) ⟨pk_in r 6 hr, ?_⟩)
  rw [nI_clamp (by omega)]
  exact h
theorem kb_keep {post : St1 → Prop} {r : Nat} (hr : r < 6) (h : post (f0, f1, upd a1 r f0, upd a2 r f1)) : wpX_keep post (f0, f1, a1, a2) (nI r) := by
  unfold wpX_keep
  dsimp only
  rw [nI_clamp (by omega)]
  exact ⟨pk_in r 6 hr, nm_e ⟨pk_in r 6 hr, nm_e h⟩⟩
theorem kb_greatest {post : Int32 → Prop} {r : Nat} (hr : r < 6) (h : post (a1 r ||| a2 r)) : wpX_greatest post (f0, f1, a1, a2) (nI r) := by
  unfold wpX_greatest
  dsimp only
  rw [nI_clamp (by omega)]
  exact ⟨pk_in r 6 hr, pk_in r 6 hr, h⟩
theorem kb_set {post : Int32 → St1 → Prop} {p q : Int32} {r : Nat} (hr : r < 6) (hall : kb_all a1 a2) (H : ∀ s g0 g1 b1 b2, kb_all b1 b2 → post s (g0, g1, b1, b2)) : wpX_set post (f0, f1, a1, a2) (nI r) p q := by
  unfold wpX_set
  dsimp only
  rw [nI_clamp (by omega)]
  exact kb_isReg hr (br_f (by decide) ⟨pk_in r 6 hr, nm_e ⟨pk_in r 6 hr, nm_e (H _ _ _ _ _ (kb_all_upd r hall (kb_ok_set p q)))⟩⟩)
theorem kb_shift {post : Int32 → St1 → Prop} {s : Int32} {c a : Nat} (hc : c < 6) (ha : a < 6) (hall : kb_all a1 a2) (H : ∀ s g0 g1 b1 b2, kb_all b1 b2 → post s (g0, g1, b1, b2)) : wpX_shift post (f0, f1, a1, a2) (nI c) (nI a) s := by
  unfold wpX_shift
  dsimp only
  refine kb_isReg hc (br_f (by decide) (kb_isReg ha (br_f (by decide) (br_c (fun _ => H _ _ _ _ _ hall) (fun _ => br_c (fun _ => br_c (fun z => ⟨pk_in a 6 ha, ?_⟩) (fun z => ⟨pk_in a 6 ha, ?_⟩)) (fun _ => H _ _ _ _ _ hall))))))
  · unfold wX_shift_56 wX_shift_87
    rw [nI_clamp (show a < 2 ^ 31 by omega)]
    exact br_t z ⟨pk_in a 6 ha, kb_keep hc (H _ _ _ _ _ (kb_all_upd c hall (kb_ok_shr _ (hall a ha))))⟩
  · unfold wX_shift_56 wX_shift_87
    rw [nI_clamp (show a < 2 ^ 31 by omega)]
    exact br_f z ⟨pk_in a 6 ha, kb_keep hc (H _ _ _ _ _ (kb_all_upd c hall (kb_ok_shl _ (hall a ha))))⟩
/-! ===== combine ===== -/
theorem kb_wadd {post : St1 → Prop} {a b : Nat} (ha : a < 6) (hb : b < 6) (h : ∀ V M : Int32, M = ((((a1 a + a1 b) ^^^ (a1 a + a1 b + a2 a + a2 b)) ||| a2 a) ||| a2 b) &&& 63 → V = ((a1 a + a1 b) &&& (M ^^^ (-1))) &&& 63 → post (V, M, a1, a2)) : wpX_add post (f0, f1, a1, a2) (nI a) (nI b) := by
  unfold wpX_add
  dsimp only
  simp only [nI_clamp (show a < 2 ^ 31 by omega), nI_clamp (show b < 2 ^ 31 by omega)]
  exact ⟨pk_in a 6 ha, pk_in b 6 hb, nm_e ⟨pk_in a 6 ha, pk_in b 6 hb, nm_e ⟨pk_in a 6 ha, pk_in b 6 hb, fun M eM V eV => h V M eM eV⟩⟩⟩
theorem kb_wsub {post : St1 → Prop} {a b : Nat} (ha : a < 6) (hb : b < 6) (h : ∀ V M : Int32, M = ((((a1 a - a1 b + a2 a) ^^^ (a1 a - a1 b - a2 b)) ||| a2 a) ||| a2 b) &&& 63 → V = ((a1 a - a1 b) &&& (M ^^^ (-1))) &&& 63 → post (V, M, a1, a2)) : wpX_subtract post (f0, f1, a1, a2) (nI a) (nI b) := by
  unfold wpX_subtract
  dsimp only
  simp only [nI_clamp (show a < 2 ^ 31 by omega), nI_clamp (show b < 2 ^ 31 by omega)]
  exact ⟨pk_in a 6 ha, pk_in b 6 hb, nm_e ⟨pk_in a 6 ha, nm_e ⟨pk_in b 6 hb, nm_e ⟨pk_in a 6 ha, pk_in b 6 hb, fun M eM V eV => h V M eM eV⟩⟩⟩⟩
theorem kb_wbit {post : St1 → Prop} {k a b : Nat} (hk : k < 6) (ha : a < 6) (hb : b < 6)
    (h2 : k = 2 → ∀ V M : Int32, V = a1 a &&& a1 b → M = ((a1 a ||| a2 a) &&& (a1 b ||| a2 b)) &&& (V ^^^ (-1)) → post (V, M, a1, a2))
    (h3 : k = 3 → ∀ V M : Int32, V = a1 a ||| a1 b → M = (a2 a ||| a2 b) &&& (V ^^^ (-1)) → post (V, M, a1, a2))
    (h4 : k ≠ 2 → k ≠ 3 → ∀ V M : Int32, M = a2 a ||| a2 b → V = (a1 a ^^^ a1 b) &&& (M ^^^ (-1)) → post (V, M, a1, a2)) : wpX_bitwise post (f0, f1, a1, a2) (nI k) (nI a) (nI b) := by
  unfold wpX_bitwise
  dsimp only
  simp only [nI_clamp (show a < 2 ^ 31 by omega), nI_clamp (show b < 2 ^ 31 by omega)]
  exact pk_eq k 2 (fun e => ⟨pk_in a 6 ha, pk_in b 6 hb, fun V eV => ⟨pk_in a 6 ha, pk_in a 6 ha, pk_in b 6 hb, pk_in b 6 hb, fun M eM => h2 e V M eV eM⟩⟩)
    (fun e2 => pk_eq k 3 (fun e => ⟨pk_in a 6 ha, pk_in b 6 hb, fun V eV => ⟨pk_in a 6 ha, pk_in b 6 hb, fun M eM => h3 e V M eV eM⟩⟩)
      (fun e3 => ⟨pk_in a 6 ha, pk_in b 6 hb, fun M eM => ⟨pk_in a 6 ha, pk_in b 6 hb, fun V eV => h4 e2 e3 V M eM eV⟩⟩))
theorem kb_combine {post : Int32 → St1 → Prop} {c k a b : Nat} (hc : c < 6) (hk : k < 6) (ha : a < 6) (hb : b < 6) (hall : kb_all a1 a2) (H : ∀ V M, kb_exact k (a1 a) (a2 a) (a1 b) (a2 b) V M → post 0 (V, M, upd a1 c V, upd a2 c M)) : wpX_combine post (f0, f1, a1, a2) (nI c) (nI k) (nI a) (nI b) := by
  unfold wpX_combine
  dsimp only
  refine kb_isReg hc (br_f (by decide) (kb_isReg ha (br_f (by decide) (kb_isReg hb (br_f (by decide) (pk_lt k 0 (fun z => absurd z (by omega)) (fun _ => pk_le k 6 (fun _ => pk_eq k 6 (fun z => absurd z (by omega)) (fun _ => ?_)) (fun z => absurd z (by omega)))))))))
  have fin : ∀ V M, kb_exact k (a1 a) (a2 a) (a1 b) (a2 b) V M → wX_combine_218 post (nI c) V M a1 a2 := fun V M h => kb_keep hc (H V M h)
  have ka := hall a ha
  have kb := hall b hb
  unfold wX_combine_79
  refine pk_eq k 0 (fun e => kb_wadd ha hb (fun V M hM hV => fin V M ?_)) (fun e0 => pk_eq k 1 (fun e => kb_wsub ha hb (fun V M hM hV => fin V M ?_)) (fun e1 => pk_lt 4 k (fun z => pk_eq k 5 (fun e => ?_) (fun e => absurd z (by omega))) (fun z => kb_wbit hk ha hb (fun e V M hV hM => fin V M ?_) (fun e V M hV hM => fin V M ?_) (fun e2 e3 V M hM hV => fin V M ?_))))
  · subst e
    exact kb_exact_of (by omega) (kb_ex_add ka kb hM hV)
  · subst e
    exact kb_exact_of (by omega) (kb_ex_sub ka kb hM hV)
  · subst e
    simp only [nI_clamp (show a < 2 ^ 31 by omega), nI_clamp (show b < 2 ^ 31 by omega)]
    exact ⟨pk_in a 6 ha, pk_in b 6 hb, pk_in a 6 ha, pk_in b 6 hb, fun M eM => ⟨pk_in a 6 ha, fun V eV => fin V M (kb_exact_5 ka kb eM eV)⟩⟩
  · subst e
    exact kb_exact_of (by omega) (kb_ex_and ka kb hV hM)
  · subst e
    exact kb_exact_of (by omega) (kb_ex_or ka kb hV hM)
  · have e : k = 4 := by omega
    subst e
    exact kb_exact_of (by omega) (kb_ex_xor ka kb hM hV)
end
end
section
/-! ===== one place of a set ===== -/
theorem kb_clr {k : Nat} (hk : k < 32) (x : Int32) (j : Nat) : kb_bt (x &&& (((1 : Int32) <<< (nI k &&& 31)) ^^^ (-1))) j = (kb_bt x j && !decide (k = j)) := by
  rcases Nat.lt_or_ge j 32 with hj | hj
  · rw [kb_and, kb_not _ hj, kb_bit hk]
  · rw [kb_big hj, kb_big hj, Bool.false_and]
theorem kb_tst {k : Nat} (hk : k < 32) (x : Int32) : (x &&& ((1 : Int32) <<< (nI k &&& 31))) = 0 ↔ kb_bt x k = false := by
  constructor
  · intro h
    have e : kb_bt (x &&& ((1 : Int32) <<< (nI k &&& 31))) k = false := by rw [h, kb_0]
    rw [kb_and, kb_bit hk, decide_eq_true (rfl : k = k), Bool.and_true] at e
    exact e
  · intro h
    refine kb_ext (fun i hi => ?_)
    rw [kb_and, kb_bit hk, kb_0]
    by_cases z : k = i
    · rw [← z, h, Bool.false_and]
    · rw [decide_eq_false z, Bool.and_false]
theorem kb_bf {x : Bool} (h : ¬ x = false) : x = true := by
  revert h
  cases x
  · exact fun h => absurd rfl h
  · exact fun _ => rfl
theorem kb_bn {x : Bool} (h : ¬ x = true) : x = false := by
  revert h
  cases x
  · exact fun _ => rfl
  · exact fun h => absurd rfl h
theorem kb_six_nn {x : Int32} (h : kb_six x) : ¬ x < 0 := by
  obtain ⟨n, hn, rfl⟩ := kb_six_of h
  exact nI_pos (by omega)
theorem kb_six_0le {x : Int32} (h : kb_six x) : 0 ≤ x := by
  obtain ⟨n, hn, rfl⟩ := kb_six_of h
  exact nI_pos' (by omega)
theorem kb_six_64 {x : Int32} (h : kb_six x) : ¬ 64 ≤ x := by
  obtain ⟨n, hn, rfl⟩ := kb_six_of h
  exact nI_ge (b := 64) hn (by decide)
theorem kb_six_le {x : Int32} (h : kb_six x) : x ≤ 63 := by
  obtain ⟨n, hn, rfl⟩ := kb_six_of h
  exact nI_le (b := 63) (by omega) (by decide)
theorem kb_six_nlt {x : Int32} (h : kb_six x) : ¬ 63 < x := by
  obtain ⟨n, hn, rfl⟩ := kb_six_of h
  exact nI_nlt (a := 63) (by omega) (by decide)
theorem kb_six_sub {x y : Int32} (h : kb_six y) (hs : ∀ i, kb_bt x i = true → kb_bt y i = true) : kb_six x := fun i hi =>
  kb_bn (fun e => by
    have h1 := hs i e
    rw [h i hi] at h1
    exact absurd h1 (by decide))
theorem kb_ok_clr {v m : Int32} {k : Nat} (hk : k < 6) (h : kb_ok v m) : kb_ok v (m &&& (((1 : Int32) <<< (nI k &&& 31)) ^^^ (-1))) := by
  refine ⟨h.1, kb_six_and h.2.1, fun i => ?_⟩
  have e := h.2.2 i
  rw [kb_clr (by omega)]
  revert e
  generalize kb_bt v i = a
  generalize kb_bt m i = b
  generalize decide (k = i) = c
  revert a b c
  decide
theorem kb_ok_put {v m : Int32} {k : Nat} (hk : k < 6) (h : kb_ok v m) : kb_ok (v ||| ((1 : Int32) <<< (nI k &&& 31))) (m &&& (((1 : Int32) <<< (nI k &&& 31)) ^^^ (-1))) := by
  refine ⟨kb_six_or h.1 (kb_six_bit hk), kb_six_and h.2.1, fun i => ?_⟩
  have e := h.2.2 i
  rw [kb_clr (by omega), kb_or, kb_bit (by omega)]
  revert e
  generalize kb_bt v i = a
  generalize kb_bt m i = b
  generalize decide (k = i) = c
  revert a b c
  decide
theorem kb_put_or {v m : Int32} {k : Nat} (hk : k < 6) (hm : kb_bt (v ||| m) k = true) : (v ||| ((1 : Int32) <<< (nI k &&& 31))) ||| (m &&& (((1 : Int32) <<< (nI k &&& 31)) ^^^ (-1))) = v ||| m := by
  refine kb_ext (fun i _ => ?_)
  rw [kb_or, kb_clr (by omega), kb_or, kb_or, kb_bit (by omega)]
  by_cases z : k = i
  · rw [kb_or] at hm
    rw [← z, hm, decide_eq_true (rfl : k = k), Bool.or_true, Bool.true_or]
  · rw [decide_eq_false z]
    generalize kb_bt v i = a
    generalize kb_bt m i = b
    revert a b
    decide
/-! ===== leastFrom ===== -/
def kb_lf (v m fr r : Int32) : Prop := (¬ fr ≤ (v ||| m) ∧ r = 64) ∨ (fr ≤ (v ||| m) ∧ ∃ p : Int32, r = v ||| p ∧ (∀ i, kb_bt p i = true → kb_bt m i = true) ∧ (fr = 0 → kb_six v → kb_six m → p = 0))
theorem kb_least {post : Int32 → Prop} {v m fr : Int32} (h : ∀ r, kb_lf v m fr r → post r) : wpX_leastFrom post () v m fr := by
  unfold wpX_leastFrom
  refine br_c (fun hc => ⟨7, ?_⟩) (fun hc => h 64 (Or.inl ⟨hc, rfl⟩))
  have L : wX_leastFrom_15 post v fr 7 m (nI 6 + (-1)) := by
    refine pk_loopD (fun n i s => wX_leastFrom_15 post v fr n s (nI i + (-1))) (fun i s => i ≤ 6 ∧ (∀ j, kb_bt s j = true → kb_bt m j = true) ∧ (fr = 0 → kb_six v → kb_six m → ∀ j, i ≤ j → kb_bt s j = false)) ?_ ?_ 6 m ⟨Nat.le_refl 6, fun _ z => z, fun _ _ s2 => s2⟩
    · intro n s hI
      show wX_leastFrom_15 post v fr (n + 1) s (nI 0 + (-1))
      exact br_t (by decide) (h _ (Or.inr ⟨hc, s, rfl, hI.2.1, fun e s1 s2 => kb_ext (fun i _ => by rw [hI.2.2 e s1 s2 i (by omega), kb_0])⟩))
    · intro n i s hI ih
      show wX_leastFrom_15 post v fr (n + 1) s (nI (i + 1) + (-1))
      obtain ⟨hi, hs, hz⟩ := hI
      rw [pk_m1]
      refine br_f (nI_pos (by omega)) (nm_e (br_c (fun z => nm_e (ih s ⟨by omega, hs, fun e s1 s2 j hj => ?_⟩)) (fun z => nm_e (ih _ ⟨by omega, fun j hj => ?_, fun e s1 s2 j hj => ?_⟩))))
      · rw [e] at z
        exact absurd z (kb_six_nn (kb_six_or s1 (kb_six_and (kb_six_sub s2 hs))))
      · rw [kb_clr (by omega)] at hj
        refine hs j ?_
        revert hj
        generalize kb_bt s j = a
        generalize decide (i = j) = b
        revert a b
        decide
      · rw [kb_clr (by omega)]
        by_cases g : i = j
        · rw [decide_eq_true g]
          generalize kb_bt s j = a
          revert a
          decide
        · rw [hz e s1 s2 j (by omega), Bool.false_and]
  have e5 : nI 6 + (-1) = 5 := by decide
  rw [e5] at L
  exact L
theorem kb_lf0 {v m r : Int32} (sv : kb_six v) (sm : kb_six m) (h : kb_lf v m 0 r) : r = v := by
  rcases h with ⟨h, _⟩ | ⟨_, p, e, _, hp⟩
  · exact absurd (kb_six_0le (kb_six_or sv sm)) h
  · rw [e, hp rfl sv sm]
    exact kb_ext (fun i _ => by rw [kb_or, kb_0, Bool.or_false])
theorem kb_lf_six {v m fr r : Int32} (sv : kb_six v) (sm : kb_six m) (hf : fr ≤ (v ||| m)) (h : kb_lf v m fr r) : kb_six r := by
  rcases h with ⟨h, _⟩ | ⟨_, p, e, hs, _⟩
  · exact absurd hf h
  · rw [e]
    exact kb_six_or sv (kb_six_sub sm hs)
/-! ===== narrowed ===== -/
section
variable {post : Int32 → St1 → Prop} {J : Int32 → Int32 → Int32 → Prop} {x3 x4 x5 x6 x7 x8 nv nm : Int32} {a1 a2 : Nat → Int32}
theorem kb_n11 (h : J (x7 + 1) nv nm) : wX_narrowed_162 post J x3 x4 x5 x6 x7 x8 1 1 nv nm a1 a2 :=
  br_f (by decide) (br_f (by decide) (br_f (by decide) (br_f (by decide) (nm_e h))))
theorem kb_n10 (h : J (x7 + 1) nv (nm &&& (x8 ^^^ (-1)))) : wX_narrowed_162 post J x3 x4 x5 x6 x7 x8 1 0 nv nm a1 a2 :=
  br_f (by decide) (br_t rfl (br_t rfl (nm_e h)))
theorem kb_n01 (h : J (x7 + 1) (nv ||| x8) (nm &&& (x8 ^^^ (-1)))) : wX_narrowed_162 post J x3 x4 x5 x6 x7 x8 0 1 nv nm a1 a2 :=
  br_t rfl (br_f (by decide) (br_t rfl (nm_e (nm_e h))))
theorem kb_n00 (h : J (x7 + 1) nv (nm &&& (x8 ^^^ (-1)))) : wX_narrowed_162 post J x3 x4 x5 x6 x7 x8 0 0 nv nm a1 a2 :=
  br_t rfl (br_t rfl (nm_e h))
theorem kb_n142 {q zf : Int32} (H1 : (¬ 64 ≤ q ∧ ¬ x3 < q) → wX_narrowed_162 post J x3 x4 x5 x6 x7 x8 zf 1 nv nm a1 a2) (H0 : ¬ (¬ 64 ≤ q ∧ ¬ x3 < q) → wX_narrowed_162 post J x3 x4 x5 x6 x7 x8 zf 0 nv nm a1 a2) : wX_narrowed_142 post J x3 x4 x5 x6 x7 x8 q zf nv nm a1 a2 :=
  br_c (fun a => H0 (fun z => z.1 a)) (fun a => br_c (fun b => H0 (fun z => z.2 b)) (fun b => H1 ⟨a, b⟩))
end
theorem kb_nloop {post : Int32 → St1 → Prop} {hi v m fr : Int32} {a1 a2 : Nat → Int32} (I : Nat → Int32 → Int32 → Prop) (h0 : I 0 v m)
    (hfin : ∀ nv nm, I 6 nv nm → post 1 (nv, nm, a1, a2))
    (hskip : ∀ k nv nm, k < 6 → I k nv nm → kb_bt m k = false → I (k + 1) nv nm)
    (hstep : ∀ k nv nm r s, k < 6 → I k nv nm → kb_bt m k = true → kb_lf v (m &&& (((1 : Int32) <<< (nI k &&& 31)) ^^^ (-1))) fr r → kb_lf (v ||| ((1 : Int32) <<< (nI k &&& 31))) (m &&& (((1 : Int32) <<< (nI k &&& 31)) ^^^ (-1))) fr s →
      ((¬ 64 ≤ r ∧ ¬ hi < r) → (¬ 64 ≤ s ∧ ¬ hi < s) → I (k + 1) nv nm) ∧
      ((¬ 64 ≤ r ∧ ¬ hi < r) → ¬ (¬ 64 ≤ s ∧ ¬ hi < s) → I (k + 1) nv (nm &&& (((1 : Int32) <<< (nI k &&& 31)) ^^^ (-1)))) ∧
      (¬ (¬ 64 ≤ r ∧ ¬ hi < r) → (¬ 64 ≤ s ∧ ¬ hi < s) → I (k + 1) (nv ||| ((1 : Int32) <<< (nI k &&& 31))) (nm &&& (((1 : Int32) <<< (nI k &&& 31)) ^^^ (-1)))) ∧
      (¬ (¬ 64 ≤ r ∧ ¬ hi < r) → ¬ (¬ 64 ≤ s ∧ ¬ hi < s) → I (k + 1) nv (nm &&& (((1 : Int32) <<< (nI k &&& 31)) ^^^ (-1))))) :
    ∃ fu, wX_narrowed_68 post hi v m fr a1 a2 fu 0 v m := by
  refine pk_loop (fun n k (s : Int32 × Int32) => wX_narrowed_68 post hi v m fr a1 a2 n (nI k) s.1 s.2) (fun k s => I k s.1 s.2) 6 0 (v, m) (by omega) h0 ?_ ?_
  · intro n s h
    exact pk_le 6 6 (fun _ => hfin s.1 s.2 h) (fun z => absurd z (by omega))
  · intro n k s hk h ih
    have ih' : ∀ nv nm, I (k + 1) nv nm → wX_narrowed_68 post hi v m fr a1 a2 n (nI k + 1) nv nm := fun nv nm g => by
      rw [nI_1]
      exact ih (nv, nm) g
    show wX_narrowed_68 post hi v m fr a1 a2 (n + 1) (nI k) s.1 s.2
    refine pk_le 6 k (fun z => absurd z (by omega)) (fun _ => nm_e (br_c (fun z => nm_e (ih' _ _ (hskip k _ _ hk h ((kb_tst (by omega) m).mp z)))) (fun z => ?_)))
    have hm : kb_bt m k = true := kb_bf (fun e => z ((kb_tst (by omega) m).mpr e))
    refine kb_least (fun r hr => kb_least (fun q hq => ?_))
    obtain ⟨g11, g10, g01, g00⟩ := hstep k s.1 s.2 r q hk h hm hr hq
    have Z0 : ¬ (¬ 64 ≤ r ∧ ¬ hi < r) → wX_narrowed_142 post (wX_narrowed_68 post hi v m fr a1 a2 n) hi v m fr (nI k) ((1 : Int32) <<< (nI k &&& 31)) q 0 s.1 s.2 a1 a2 := fun c => kb_n142 (fun d => kb_n01 (ih' _ _ (g01 c d))) (fun d => kb_n00 (ih' _ _ (g00 c d)))
    exact br_c (fun c => Z0 (fun z => z.1 c)) (fun c => br_c (fun d => Z0 (fun z => z.2 d)) (fun d => kb_n142 (fun e => kb_n11 (ih' _ _ (g11 ⟨c, d⟩ e))) (fun e => kb_n10 (ih' _ _ (g10 ⟨c, d⟩ e)))))
section
variable {f0 f1 : Int32} {a1 a2 : Nat → Int32}
theorem kb_narrowed {post : Int32 → St1 → Prop} {lo hi : Int32} {r : Nat} (hr : r < 6) (hlo : 0 ≤ lo)
    (H : ∀ q z, kb_lf (a1 r) (a2 r) lo q → (z = hi ∧ hi ≤ 63) ∨ (z = 63 ∧ ¬ hi ≤ 63) → (q ≤ z → ∃ fu, wX_narrowed_68 post hi (a1 r) (a2 r) lo a1 a2 fu 0 (a1 r) (a2 r)) ∧ (¬ q ≤ z → post 0 (f0, f1, a1, a2))) :
    wpX_narrowed post (f0, f1, a1, a2) (nI r) lo hi := by
  unfold wpX_narrowed
  dsimp only
  rw [nI_clamp (by omega)]
  refine ⟨pk_in r 6 hr, nm_e ⟨pk_in r 6 hr, nm_e (br_t hlo ?_)⟩⟩
  unfold wX_narrowed_25
  exact kb_least (fun q hq => br_c (fun a => H q hi hq (Or.inl ⟨rfl, a⟩)) (fun a => H q 63 hq (Or.inr ⟨rfl, a⟩)))
theorem kb_narrow {post : Int32 → St1 → Prop} {lo hi : Int32} {r : Nat} (hr : r < 6) (hlo : 0 ≤ lo) (hall : kb_all a1 a2) (H : ∀ s g0 g1 b1 b2, kb_all b1 b2 → post s (g0, g1, b1, b2)) : wpX_narrow post (f0, f1, a1, a2) (nI r) lo hi := by
  unfold wpX_narrow
  dsimp only
  refine kb_isReg hr (br_f (by decide) (kb_narrowed hr hlo (fun q z _ _ => ⟨fun _ => kb_nloop (fun _ nv nm => kb_ok nv nm) (hall r hr) (fun nv nm h => ?_) (fun _ _ _ _ h _ => h) (fun k nv nm _ _ hk h _ _ _ => ⟨fun _ _ => h, fun _ _ => kb_ok_clr hk h, fun _ _ => kb_ok_put hk h, fun _ _ => kb_ok_clr hk h⟩), fun _ => br_t rfl (H _ _ _ _ _ hall)⟩)))
  exact br_f (by decide) (kb_keep hr (H _ _ _ _ _ (kb_all_upd r hall h)))
/-! ===== supposeOrder at distance 1 ===== -/
theorem kb_top {w g : Nat} (hw : w < 64) (hg : g < 64) : nI g - 1 ≤ 63 ∧ (nI w ≤ nI g - 1 ↔ w < g) := by
  cases g with
  | zero =>
    have e : nI 0 - 1 = (-1 : Int32) := by decide
    rw [e]
    refine ⟨by decide, fun h => ?_, fun h => absurd h (by omega)⟩
    have h1 := Int32.le_iff_toInt_le.mp h
    rw [nI_toInt (by omega), show (-1 : Int32).toInt = -1 by decide] at h1
    exact absurd h1 (by omega)
  | succ g =>
    rw [nI_pred]
    exact ⟨nI_le (b := 63) (by omega) (by decide), by rw [nI_leI (by omega) (by omega)]; omega⟩
theorem kb_order {post : Int32 → St1 → Prop} {a b : Nat} (ha : a < 6) (hb : b < 6) (hall : kb_all a1 a2)
    (H0 : post (-2) (f0, f1, a1, a2))
    (H1 : ∀ g0 g1 ma vb mb, kb_ok (a1 a) ma → kb_ok vb mb → vb ||| mb = a1 b ||| a2 b → ∀ w g, w < g → g < 64 → a1 a = nI w → a1 b ||| a2 b = nI g → post 0 (g0, g1, upd (upd a1 b vb) a (a1 a), upd (upd a2 b mb) a ma)) :
    wpX_supposeOrder post (f0, f1, a1, a2) (nI a) (nI b) 1 := by
  have ka := hall a ha
  have kb := hall b hb
  obtain ⟨w, hw, ew⟩ := kb_six_of ka.1
  obtain ⟨g, hg, eg⟩ := kb_six_of (kb_six_or kb.1 kb.2.1)
  have T := kb_top hw hg
  unfold wpX_supposeOrder
  dsimp only
  simp only [nI_clamp (show a < 2 ^ 31 by omega), nI_clamp (show b < 2 ^ 31 by omega)]
  refine kb_greatest hb (nm_e ⟨pk_in a 6 ha, nm_e (kb_narrowed ha (by decide) (fun q z hq hz => ?_))⟩)
  have eq : q = a1 a := kb_lf0 ka.1 ka.2.1 hq
  have ez : z = nI g - 1 := by
    rcases hz with hz | hz
    · rw [hz.1, eg]
    · exact absurd (by rw [eg]; exact T.1) hz.2
  refine ⟨fun hle => ?_, fun _ => br_t rfl H0⟩
  rw [eq, ez, ew] at hle
  have hwg : w < g := T.2.mp hle
  refine kb_nloop (fun _ nv nm => kb_ok nv nm ∧ nv = a1 a) ⟨ka, rfl⟩ (fun nv nm hI => ?_) (fun _ _ _ _ h _ => h) (fun k nv nm r s hk h hm hr hs => ?_)
  · obtain ⟨hI, rfl⟩ := hI
    refine br_f (by decide) (kb_narrowed hb (by rw [ew, nI_1]; exact nI_pos' (by omega)) (fun q z hq hz => ?_))
    have hfr : a1 a + 1 ≤ (a1 b ||| a2 b) := by
      rw [ew, nI_1, eg]
      exact nI_le (by omega) (by omega)
    have ez : z = 63 := by
      rcases hz with hz | hz
      · exact hz.1
      · exact hz.1
    have sq : kb_six q := kb_lf_six kb.1 kb.2.1 hfr hq
    refine ⟨fun _ => ?_, fun h => absurd (by rw [ez]; exact kb_six_le sq) h⟩
    refine kb_nloop (fun _ nv nm => kb_ok nv nm ∧ nv ||| nm = a1 b ||| a2 b) ⟨kb, rfl⟩ (fun nv nm hI2 => ?_) (fun _ _ _ _ h _ => h) (fun k nv nm r s hk h hm hr hs => ?_)
    · exact kb_keep hb ⟨pk_in a 6 ha, nm_e ⟨pk_in a 6 ha, nm_e (H1 _ _ _ _ _ hI hI2.1 hI2.2 w g hwg hg ew eg)⟩⟩
    · have hvm : kb_bt (a1 b ||| a2 b) k = true := by rw [kb_or, hm, Bool.or_true]
      have ss : kb_six s := kb_lf_six (kb_six_or kb.1 (kb_six_bit hk)) (kb_six_and kb.2.1) (by rw [kb_put_or hk hvm]; exact hfr) hs
      have Zs : ¬ (64 : Int32) ≤ s ∧ ¬ (63 : Int32) < s := ⟨kb_six_64 ss, kb_six_nlt ss⟩
      refine ⟨fun _ _ => h, fun _ z => absurd Zs z, fun _ _ => ⟨kb_ok_put hk h.1, ?_⟩, fun _ z => absurd Zs z⟩
      rw [kb_put_or hk (by rw [h.2]; exact hvm), h.2]
  · have er : r = a1 a := kb_lf0 ka.1 (kb_six_and ka.2.1) hr
    have Zr : ¬ (64 : Int32) ≤ r ∧ ¬ (a1 b ||| a2 b) - 1 < r := by
      rw [er]
      refine ⟨kb_six_64 ka.1, ?_⟩
      rw [ew, eg]
      exact Int32.not_lt.mpr hle
    exact ⟨fun _ _ => h, fun _ _ => ⟨kb_ok_clr hk h.1, h.2⟩, fun z _ => absurd Zr z, fun z _ => absurd Zr z⟩
theorem kb_suppose {post : Int32 → St1 → Prop} {a b : Nat} (ha : a < 6) (hb : b < 6) (hall : kb_all a1 a2)
    (H0 : ∀ q, ¬ q = 0 → post q (f0, f1, a1, a2))
    (H1 : a ≠ b → ∀ g0 g1 ma vb mb, kb_ok (a1 a) ma → kb_ok vb mb → vb ||| mb = a1 b ||| a2 b → ∀ w g, w < g → g < 64 → a1 a = nI w → a1 b ||| a2 b = nI g → post 0 (g0, g1, upd (upd a1 b vb) a (a1 a), upd (upd a2 b mb) a ma)) :
    wpX_suppose post (f0, f1, a1, a2) (nI a) 1 (nI b) := by
  unfold wpX_suppose
  dsimp only
  refine kb_isReg ha (br_f (by decide) (kb_isReg hb (br_f (by decide) (br_f (by decide) (br_f (by decide) (pk_eq a b (fun _ => H0 _ (by decide)) (fun e => br_f (by decide) (br_t rfl (br_t rfl ?_)))))))))
  unfold wX_suppose_100
  exact kb_order ha hb hall (H0 _ (by decide)) (H1 e)
end
end
section
/-! ===== one place read off ===== -/
theorem kb_s31 : ∀ n, n < 32 → ((nI n &&& 31).toBitVec.smod 32).toNat = n := by decide +kernel
theorem kb_sh1 {i : Nat} (hi : i < 31) (x : Int32) : (x >>> (nI i &&& 31)) &&& 1 = nI (kb_bt x i).toNat := by
  have e0 : kb_bt (x >>> (nI i &&& 31)) 0 = kb_bt x i := by
    unfold kb_bt
    rw [Int32.toBitVec_shiftRight]
    show (x.toBitVec.sshiftRight ((nI i &&& 31).toBitVec.smod 32).toNat).getLsbD 0 = _
    rw [kb_s31 i (by omega), BitVec.getLsbD_sshiftRight, Nat.add_zero, if_pos (by omega)]
    simp
  have e1 : nI (kb_bt x i).toNat = if kb_bt x i = true then 1 else 0 := by
    cases kb_bt x i <;> rfl
  rw [e1]
  refine kb_ext (fun j hj => ?_)
  rw [kb_and, kb_1]
  by_cases z : j = 0
  · rw [z, e0, decide_eq_true (rfl : (0 : Nat) = 0), Bool.and_true]
    cases h : kb_bt x i with
    | true => rw [if_pos rfl, kb_1]; rfl
    | false => rw [if_neg (by decide), kb_0]
  · rw [decide_eq_false z, Bool.and_false]
    cases h : kb_bt x i with
    | true => rw [if_pos rfl, kb_1, decide_eq_false z]
    | false => rw [if_neg (by decide), kb_0]
theorem kb_t0 {i : Nat} (hi : i < 31) (x : Int32) : ((x >>> (nI i &&& 31)) &&& 1) = 0 ↔ kb_bt x i = false := by
  rw [kb_sh1 hi]
  cases kb_bt x i <;> decide
theorem kb_t1 {i : Nat} (hi : i < 31) (x : Int32) : ((x >>> (nI i &&& 31)) &&& 1) = 1 ↔ kb_bt x i = true := by
  rw [kb_sh1 hi]
  cases kb_bt x i <;> decide
theorem kb_lowV : ∀ k, k < 6 → ∀ j, j < 32 → kb_bt (((1 : Int32) <<< (nI k &&& 31)) - 1) j = decide (j < k) := by decide +kernel
theorem kb_low {k : Nat} (hk : k < 6) (x : Int32) (j : Nat) : kb_bt (x &&& (((1 : Int32) <<< (nI k &&& 31)) - 1)) j = (kb_bt x j && decide (j < k)) := by
  rcases Nat.lt_or_ge j 32 with hj | hj
  · rw [kb_and, kb_lowV k hk j hj]
  · rw [kb_big hj, kb_big hj, Bool.false_and]
theorem kb_pw : ∀ p, p < 7 → (1 : Int32) <<< (nI p &&& 31) = nI (2 ^ p) := by decide +kernel
/-! ===== bits, rank ===== -/
theorem kb_bits {post : Int32 → Prop} {x : Int32} (h : post (nI (kb_pc (kb_bt x) 6))) : wpX_bits post () x :=
  pk_loop (fun n i s => wX_bits_4 post x n (nI s) (nI i)) (fun i s => s = kb_pc (kb_bt x) i) 6 0 0 (by omega) rfl
    (fun n s e => pk_le 6 6 (fun _ => by rw [e]; exact h) (fun z => absurd z (by omega)))
    (fun n i s hi e ih => pk_le 6 i (fun z => absurd z (by omega)) (fun _ => nm_r (show nI s + ((x >>> (nI i &&& 31)) &&& 1) = nI (s + (kb_bt x i).toNat) by rw [kb_sh1 (by omega), nI_add]) (nm_r (nI_1 i) (ih _ (by rw [e]; rfl)))))
section
variable {f0 f1 : Int32} {a1 a2 : Nat → Int32} {post : Int32 → Prop} {J : Int32 → Int32 → Prop} {x2 x3 x5 : Int32}
theorem kb_r68_0 {b i : Nat} (hb : b < 6) (hi : i < 6) (m1 : kb_bt (a2 b) i = true → J x3 (nI i + (-1))) (me : kb_bt (a2 b) i = false → kb_bt (a1 b) i = false → J x3 (nI i + (-1))) (mn : kb_bt (a2 b) i = false → ¬ kb_bt (a1 b) i = false → post x3) : wX_rank_68 post J (nI b) x2 x3 (nI i) x5 0 f0 f1 a1 a2 := by
  unfold wX_rank_68
  rw [nI_clamp (by omega)]
  refine ⟨pk_in b 6 hb, br_c (fun hm => ⟨pk_in b 6 hb, br_t rfl ?_⟩) (fun hm => br_t rfl (nm_r (Int32.add_zero _) (nm_e (m1 (kb_bf (fun e => hm ((kb_t0 (by omega) _).mpr e)))))))⟩
  have hm' := (kb_t0 (by omega) _).mp hm
  unfold wX_rank_122
  exact br_c (fun hv => nm_e (me hm' ((kb_t0 (by omega) _).mp hv))) (fun hv => br_t rfl (mn hm' (fun e => hv ((kb_t0 (by omega) _).mpr e))))
theorem kb_r68_1 {b i : Nat} (hb : b < 6) (hi : i < 6) (m1 : kb_bt (a2 b) i = true → J (x3 + x5) (nI i + (-1))) (me : kb_bt (a2 b) i = false → kb_bt (a1 b) i = true → J x3 (nI i + (-1))) (mn : kb_bt (a2 b) i = false → ¬ kb_bt (a1 b) i = true → post (x3 + x5)) : wX_rank_68 post J (nI b) x2 x3 (nI i) x5 1 f0 f1 a1 a2 := by
  unfold wX_rank_68
  rw [nI_clamp (by omega)]
  refine ⟨pk_in b 6 hb, br_c (fun hm => ⟨pk_in b 6 hb, br_f (by decide) ?_⟩) (fun hm => br_f (by decide) (nm_e (nm_e (m1 (kb_bf (fun e => hm ((kb_t0 (by omega) _).mpr e)))))))⟩
  have hm' := (kb_t0 (by omega) _).mp hm
  unfold wX_rank_122
  exact br_c (fun hv => nm_e (me hm' ((kb_t1 (by omega) _).mp hv))) (fun hv => br_f (by decide) (mn hm' (fun e => hv ((kb_t1 (by omega) _).mpr e))))
theorem kb_rank {b l : Nat} (hb : b < 6) (hl : l < 64) (h : post (nI (kb_rk (kb_bt (a1 b)) (kb_bt (a2 b)) (kb_bt (nI l)) 6))) : wpX_rank post (f0, f1, a1, a2) (nI b) (nI l) := by
  unfold wpX_rank
  dsimp only
  refine pk_le 0 l (fun _ => pk_le l 63 (fun _ => ⟨7, ?_⟩) (fun z => absurd z (by omega))) (fun z => absurd z (by omega))
  have L : wX_rank_29 post (nI b) (nI l) f0 f1 a1 a2 7 (nI 0) (nI 6 + (-1)) := by
    refine pk_loopD (fun n i s => wX_rank_29 post (nI b) (nI l) f0 f1 a1 a2 n (nI s) (nI i + (-1))) (fun i s => i ≤ 6 ∧ s + kb_rk (kb_bt (a1 b)) (kb_bt (a2 b)) (kb_bt (nI l)) i = kb_rk (kb_bt (a1 b)) (kb_bt (a2 b)) (kb_bt (nI l)) 6) ?_ ?_ 6 0 ⟨Nat.le_refl 6, Nat.zero_add _⟩
    · intro n s hI
      show wX_rank_29 post (nI b) (nI l) f0 f1 a1 a2 (n + 1) (nI s) (nI 0 + (-1))
      refine br_t (by decide) ?_
      rw [nI_1, show s + 1 = _ from hI.2]
      exact h
    · intro n i s hI ih
      show wX_rank_29 post (nI b) (nI l) f0 f1 a1 a2 (n + 1) (nI s) (nI (i + 1) + (-1))
      obtain ⟨hi, hT⟩ := hI
      rw [pk_m1]
      refine br_f (nI_pos (by omega)) ⟨pk_in b 6 hb, kb_bits ?_⟩
      rw [nI_clamp (show b < 2 ^ 31 by omega), kb_pc_cut (kb_low (by omega) (a2 b)) 6, show min 6 i = i by omega]
      refine nm_r (e' := nI (kb_w (kb_bt (a2 b)) i)) (kb_pw _ (by have := kb_pc_le (kb_bt (a2 b)) i; omega)) ?_
      refine br_c (fun hz => ?_) (fun hz => ?_)
      · have hl0 : kb_bt (nI l) i = false := (kb_t0 (by omega) _).mp hz
        refine kb_r68_0 hb (by omega) (fun hm => ?_) (fun hm hv => ?_) (fun hm hv => ?_)
        · refine ih s ⟨by omega, ?_⟩
          rw [kb_rk_m0 hm hl0] at hT
          omega
        · refine ih s ⟨by omega, ?_⟩
          rw [kb_rk_e hm (by rw [hv, hl0])] at hT
          exact hT
        · rw [kb_rk_0 hm (by rw [hl0]; exact hv) hl0] at hT
          rw [show s = _ from hT]
          exact h
      · have hl1 : kb_bt (nI l) i = true := kb_bf (fun e => hz ((kb_t0 (by omega) _).mpr e))
        refine kb_r68_1 hb (by omega) (fun hm => ?_) (fun hm hv => ?_) (fun hm hv => ?_)
        · rw [nI_add]
          refine ih _ ⟨by omega, ?_⟩
          rw [kb_rk_m1 hm hl1] at hT
          omega
        · refine ih s ⟨by omega, ?_⟩
          rw [kb_rk_e hm (by rw [hv, hl1])] at hT
          exact hT
        · rw [kb_rk_1 hm (by rw [hl1]; exact hv) hl1] at hT
          rw [nI_add, hT]
          exact h
  have e5 : nI 6 + (-1) = 5 := by decide
  rw [e5] at L
  exact L
theorem kb_63b : ∀ k, k < 6 → kb_bt (nI 63) k = true := by decide +kernel
theorem kb_count {b w g : Nat} (hb : b < 6) (hwg : w < g) (hg : g < 64) (hk : kb_ok (a1 b) (a2 b)) (eg : a1 b ||| a2 b = nI g) (h : ∀ t : Nat, 0 < t → t < 2 ^ 31 → post (nI t)) : wpX_count post (f0, f1, a1, a2) (nI b) (nI w + 1) 63 := by
  unfold wpX_count
  dsimp only
  rw [nI_1, nI_pred]
  refine kb_isReg hb (br_f (by decide) (pk_le (w + 1) 63 (fun _ => kb_rank (l := 63) hb (by omega) (pk_lt 0 (w + 1) (fun _ => kb_rank hb (by omega) ?_) (fun z => absurd z (by omega)))) (fun z => absurd z (by omega))))
  have e63 := kb_rk_full (kb_bt (a1 b)) (kb_bt (a2 b)) (kb_bt (nI 63)) kb_63b 6 (by omega)
  have hlt : kb_rk (kb_bt (a1 b)) (kb_bt (a2 b)) (kb_bt (nI w)) 6 < kb_w (kb_bt (a2 b)) 6 := by
    refine kb_rk_lt _ _ _ w g (fun k hk => (kb_nI (by omega)).symm) (fun k hk => ?_) 6 (by omega) ?_
    · rw [← kb_or, eg, kb_nI (by omega)]
    · rw [Nat.mod_eq_of_lt (show w < 2 ^ 6 by omega), Nat.mod_eq_of_lt (show g < 2 ^ 6 by omega)]
      exact hwg
  have hle : kb_w (kb_bt (a2 b)) 6 ≤ 2 ^ 6 := Nat.pow_le_pow_right (by omega) (kb_pc_le _ 6)
  rw [e63, pk_sub (by omega)]
  exact h _ (by omega) (by omega)
end
theorem kb_leastM {post : Int32 → Prop} {f0 f1 : Int32} {a1 a2 : Nat → Int32} {r : Nat} (hr : r < 6) (hk : kb_ok (a1 r) (a2 r)) (h : post (a1 r)) : wpX_least post (f0, f1, a1, a2) (nI r) 0 := by
  unfold wpX_least
  dsimp only
  rw [nI_clamp (by omega)]
  refine kb_isReg hr (br_f (by decide) ⟨pk_in r 6 hr, pk_in r 6 hr, kb_least (fun q hq => ?_)⟩)
  rw [kb_lf0 hk.1 hk.2.1 hq]
  exact h
theorem kb_less {post : Int32 → St1 → Prop} {f0 f1 : Int32} {a1 a2 : Nat → Int32} {a b : Nat} (ha : a < 6) (hb : b < 6) (hall : kb_all a1 a2) (H : ∀ g0 g1 b1 b2, kb_all b1 b2 → post 1 (g0, g1, b1, b2)) : wpL_less post (f0, f1, a1, a2) (nI a) (nI b) := by
  unfold wpL_less
  dsimp only
  refine kb_suppose ha hb hall (fun q hq => br_f hq (H _ _ _ _ hall)) (fun hab g0 g1 ma vb mb k1 k2 ev w g hwg hg ew eg => br_t rfl ?_)
  have A1a : upd (upd a1 b vb) a (a1 a) a = a1 a := pk_us
  have A2a : upd (upd a2 b mb) a ma a = ma := pk_us
  have A1b : upd (upd a1 b vb) a (a1 a) b = vb := by rw [pk_un (fun e => hab e.symm), pk_us]
  have A2b : upd (upd a2 b mb) a ma b = mb := by rw [pk_un (fun e => hab e.symm), pk_us]
  have hall' : kb_all (upd (upd a1 b vb) a (a1 a)) (upd (upd a2 b mb) a ma) := kb_all_upd a (kb_all_upd b hall k2) k1
  revert A1a A2a A1b A2b hall'
  generalize upd (upd a1 b vb) a (a1 a) = A1
  generalize upd (upd a2 b mb) a ma = A2
  intro A1a A2a A1b A2b hall'
  refine kb_leastM ha (hall' a ha) (kb_value hb (kb_mask hb (nm_e ?_)))
  have e1 : A1 b ||| A2 b = nI g := by rw [A1b, A2b, ev, eg]
  dsimp only
  rw [e1, A1a, ew]
  refine pk_le 64 w (fun z => absurd z (by omega)) (fun _ => pk_le g w (fun z => absurd z (by omega)) (fun _ => kb_count hb hwg hg (hall' b hb) e1 (fun t ht0 ht => br_f (nI_nle ht0 ht) (H _ _ _ _ hall'))))
end
section
/-! ===== the law's double loop over a combine ===== -/
/-- the answers of the pairs ahead of (x, y) -/
def kb_seen (k : Nat) (va ma vb mb : Int32) (x y : Nat) (z : Int32) : Prop := ∃ x' y' : Nat, x' < 64 ∧ y' < 64 ∧ (x' < x ∨ (x' = x ∧ y' < y)) ∧ kb_mem (nI x') va ma ∧ kb_mem (nI y') vb mb ∧ kb_P k (nI x') (nI y') z
def kb_I0 (S : Int32 → Prop) (f d : Int32) : Prop := f = -1 ∧ d = 0 ∧ ∀ z, ¬ S z
def kb_I1 (v m : Int32) (S : Int32 → Prop) (f d : Int32) : Prop := kb_six f ∧ kb_mem f v m ∧ (∀ i, i < 32 → kb_bt d i = true → kb_bt m i = true) ∧ ∀ z, S z → ∀ i, i < 32 → kb_bt z i ≠ kb_bt f i → kb_bt d i = true
def kb_I (v m : Int32) (S : Int32 → Prop) (f d : Int32) : Prop := kb_I0 S f d ∨ kb_I1 v m S f d
theorem kb_I1_mono {v m f d : Int32} {S S' : Int32 → Prop} (hs : ∀ z, S' z → S z) (h : kb_I1 v m S f d) : kb_I1 v m S' f d := ⟨h.1, h.2.1, h.2.2.1, fun z hz => h.2.2.2 z (hs z hz)⟩
theorem kb_I_mono {v m f d : Int32} {S S' : Int32 → Prop} (hs : ∀ z, S' z → S z) (h : kb_I v m S f d) : kb_I v m S' f d := by
  rcases h with h | h
  · exact Or.inl ⟨h.1, h.2.1, fun z hz => h.2.2 z (hs z hz)⟩
  · exact Or.inr (kb_I1_mono hs h)
theorem kb_I1_first {v m f d r : Int32} {S : Int32 → Prop} (h : kb_I0 S f d) (sr : kb_six r) (hr : kb_mem r v m) : kb_I1 v m S r d := by
  refine ⟨sr, hr, fun i _ e => ?_, fun z hz => absurd hz (h.2.2 z)⟩
  rw [h.2.1, kb_0] at e
  exact absurd e (by decide)
theorem kb_I1_add {v m f d z : Int32} {S : Int32 → Prop} (h : kb_I1 v m S f d) (hz : kb_mem z v m) : kb_I1 v m (fun t => S t ∨ t = z) f (d ||| (z ^^^ f)) := by
  refine ⟨h.1, h.2.1, fun i hi e => ?_, fun t ht i hi hn => ?_⟩
  · have e1 := kb_memE h.2.1 hi
    have e2 := kb_memE hz hi
    have e3 := h.2.2.1 i hi
    rw [kb_or, kb_xor] at e
    rw [← e1] at e2
    revert e e2 e3
    clear e1
    generalize kb_bt d i = a
    generalize kb_bt z i = b
    generalize kb_bt f i = c
    generalize kb_bt m i = g
    revert a b c g
    decide
  · rw [kb_or, kb_xor]
    rcases ht with ht | ht
    · rw [h.2.2.2 t ht i hi hn, Bool.true_or]
    · rw [ht] at hn
      revert hn
      generalize kb_bt d i = a
      generalize kb_bt z i = b
      generalize kb_bt f i = c
      revert a b c
      decide
theorem kb_result {post : Int32 → Prop} {k : Nat} {x y : Int32} (hk : k < 6) (h : post (kb_res k x y)) : wpL_result post () (nI k) x y :=
  pk_eq k 0 (fun e => by rw [kb_res, if_pos e] at h; exact h)
    (fun e0 => pk_eq k 1 (fun e => by rw [kb_res, if_neg e0, if_pos e] at h; exact h)
      (fun e1 => pk_eq k 2 (fun e => by rw [kb_res, if_neg e0, if_neg e1, if_pos e] at h; exact h)
        (fun e2 => pk_eq k 3 (fun e => by rw [kb_res, if_neg e0, if_neg e1, if_neg e2, if_pos e] at h; exact h)
          (fun e3 => pk_eq k 4 (fun e => by rw [kb_res, if_neg e0, if_neg e1, if_neg e2, if_neg e3, if_pos e] at h; exact h)
            (fun e4 => by rw [kb_res, if_neg e0, if_neg e1, if_neg e2, if_neg e3, if_neg e4] at h; exact h)))))
section
variable {post : Int32 → St1 → Prop} {k : Nat} {va ma vb mb v m g0 g1 : Int32} {A1 A2 : Nat → Int32}
theorem kb_130 {J67 J77 : Int32 → Int32 → Int32 → Prop} {i j : Nat} {d z0 : Int32} (hk : k < 6) (hex : kb_exact k va ma vb mb v m) (hi : i < 64) (hj : j < 64) (hx : kb_mem (nI i) va ma) (hy : kb_mem (nI j) vb mb)
    (hI : kb_I1 v m (kb_seen k va ma vb mb i j) z0 d) (hJ : ∀ f e, kb_I1 v m (kb_seen k va ma vb mb i (j + 1)) f e → J77 f e (nI j + 1)) :
    wL_combined_130 post J67 J77 (nI k) va ma vb mb v m d (nI i) (nI j) (kb_res k (nI i) (nI j)) z0 g0 g1 A1 A2 := by
  have hp : kb_pair va ma vb mb (nI i) (nI j) := ⟨kb_six_nI hi, kb_six_nI hj, hx, hy⟩
  have hr := (hex.2.1 _ _ _ hp (Or.inl rfl)).2
  have I2 := kb_I1_add hI hr
  have sub : ∀ z, kb_seen k va ma vb mb i (j + 1) z → (kb_seen k va ma vb mb i j z ∨ z = kb_res k (nI i) (nI j)) ∨ (k = 5 ∧ z = nI j) := by
    rintro z ⟨x', y', h1, h2, h3, h4, h5, h6⟩
    by_cases c : x' < i ∨ (x' = i ∧ y' < j)
    · exact Or.inl (Or.inl ⟨x', y', h1, h2, c, h4, h5, h6⟩)
    · have ex : x' = i := by omega
      have ey : y' = j := by omega
      subst ex ey
      rcases h6 with h6 | h6
      · exact Or.inl (Or.inr h6)
      · exact Or.inr h6
  unfold wL_combined_130
  refine nm_e (br_t hr (pk_eq k 5 (fun e => nm_e (br_t ?_ (nm_e (hJ _ _ ?_)))) (fun e => nm_e (hJ _ _ ?_))))
  · exact (hex.2.1 _ _ _ hp (Or.inr ⟨e, rfl⟩)).2
  · refine kb_I1_mono (fun z hz => ?_) (kb_I1_add I2 (hex.2.1 _ _ _ hp (Or.inr ⟨e, rfl⟩)).2)
    rcases sub z hz with h | h
    · exact Or.inl h
    · exact Or.inr h.2
  · refine kb_I1_mono (fun z hz => ?_) I2
    rcases sub z hz with h | h
    · exact h
    · exact absurd h.1 e
theorem kb_77 {J67 : Int32 → Int32 → Int32 → Prop} {i : Nat} {f d : Int32} (hk : k < 6) (hex : kb_exact k va ma vb mb v m) (hi : i < 64) (hI : kb_I v m (kb_seen k va ma vb mb i 0) f d)
    (hJ : ∀ f e, kb_I v m (kb_seen k va ma vb mb (i + 1) 0) f e → J67 f e (nI i + 1)) :
    ∃ fu, wL_combined_77 post J67 (nI k) va ma vb mb v m (nI i) g0 g1 A1 A2 fu f d 0 := by
  refine pk_loop (fun n j (s : Int32 × Int32) => wL_combined_77 post J67 (nI k) va ma vb mb v m (nI i) g0 g1 A1 A2 n s.1 s.2 (nI j)) (fun j s => kb_I v m (kb_seen k va ma vb mb i j) s.1 s.2) 64 0 (f, d) (by omega) hI ?_ ?_
  · intro n s h
    refine pk_le 64 64 (fun _ => nm_e (hJ _ _ (kb_I_mono (fun z hz => ?_) h))) (fun z => absurd z (by omega))
    obtain ⟨x', y', h1, h2, h3, h4⟩ := hz
    exact ⟨x', y', h1, h2, by omega, h4⟩
  · intro n j s hj h ih
    have ih' : ∀ f e, kb_I v m (kb_seen k va ma vb mb i (j + 1)) f e → wL_combined_77 post J67 (nI k) va ma vb mb v m (nI i) g0 g1 A1 A2 n f e (nI j + 1) := fun f e g => by
      rw [nI_1]
      exact ih (f, e) g
    have skip : ¬ (kb_mem (nI i) va ma ∧ kb_mem (nI j) vb mb) → kb_I v m (kb_seen k va ma vb mb i (j + 1)) s.1 s.2 := fun hn => kb_I_mono (fun z hz => by
      obtain ⟨x', y', h1, h2, h3, h4, h5, h6⟩ := hz
      refine ⟨x', y', h1, h2, ?_, h4, h5, h6⟩
      by_cases c : x' = i ∧ y' = j
      · rw [c.1] at h4
        rw [c.2] at h5
        exact absurd ⟨h4, h5⟩ hn
      · omega) h
    show wL_combined_77 post J67 (nI k) va ma vb mb v m (nI i) g0 g1 A1 A2 (n + 1) s.1 s.2 (nI j)
    refine pk_le 64 j (fun z => absurd z (by omega)) (fun _ => br_c (fun hx => br_c (fun hy => kb_result hk ?_) (fun hy => nm_e (ih' _ _ (skip (fun z => hy z.2))))) (fun hx => nm_e (ih' _ _ (skip (fun z => hx z.1)))))
    have hr := hex.2.1 _ _ _ ⟨kb_six_nI hi, kb_six_nI hj, hx, hy⟩ (Or.inl rfl)
    rcases h with h | h
    · refine br_f ?_ (kb_130 hk hex hi hj hx hy (kb_I1_first h hr.1 hr.2) (fun f e g => ih' f e (Or.inr g)))
      rw [h.1]
      decide
    · exact br_t (kb_six_0le h.1) (kb_130 hk hex hi hj hx hy h (fun f e g => ih' f e (Or.inr g)))
theorem kb_fin {f d : Int32} (hex : kb_exact k va ma vb mb v m) (hI : kb_I v m (kb_seen k va ma vb mb 64 0) f d) : d = m := by
  have seen : ∀ x y z, kb_pair va ma vb mb x y → kb_P k x y z → kb_seen k va ma vb mb 64 0 z := by
    intro x y z hp hz
    obtain ⟨nx, hnx, ex⟩ := kb_six_of hp.1
    obtain ⟨ny, hny, ey⟩ := kb_six_of hp.2.1
    subst ex ey
    exact ⟨nx, ny, hnx, hny, Or.inl hnx, hp.2.2.1, hp.2.2.2, hz⟩
  refine kb_ext (fun i hi => ?_)
  cases hm : kb_bt m i with
  | true =>
    obtain ⟨x, y, z, x', y', z', p1, q1, p2, q2, hne⟩ := hex.2.2 i hi hm
    have s1 := seen x y z p1 q1
    have s2 := seen x' y' z' p2 q2
    rcases hI with h | h
    · exact absurd s1 (h.2.2 z)
    · by_cases c : kb_bt z i = kb_bt f i
      · exact h.2.2.2 z' s2 i hi (fun e => hne (c.trans e.symm))
      · exact h.2.2.2 z s1 i hi c
  | false =>
    rcases hI with h | h
    · rw [h.2.1, kb_0]
    · refine kb_bn (fun e => ?_)
      have := h.2.2.1 i hi e
      rw [hm] at this
      exact absurd this (by decide)
theorem kb_67 (hk : k < 6) (hex : kb_exact k va ma vb mb v m) (H : post 1 (g0, g1, A1, A2)) :
    ∃ fu, wL_combined_67 post (nI k) va ma vb mb v m g0 g1 A1 A2 fu (-1) 0 0 := by
  refine pk_loop (fun n i (s : Int32 × Int32) => wL_combined_67 post (nI k) va ma vb mb v m g0 g1 A1 A2 n s.1 s.2 (nI i)) (fun i s => kb_I v m (kb_seen k va ma vb mb i 0) s.1 s.2) 64 0 (-1, 0) (by omega) (Or.inl ⟨rfl, rfl, ?_⟩) ?_ ?_
  · rintro z ⟨x', y', h1, h2, h3, h4⟩
    omega
  · intro n s h
    exact pk_le 64 64 (fun _ => br_t (kb_fin hex h) H) (fun z => absurd z (by omega))
  · intro n i s hi h ih
    refine pk_le 64 i (fun z => absurd z (by omega)) (fun _ => kb_77 hk hex hi h (fun f e g => ?_))
    rw [nI_1]
    exact ih (f, e) g
end
theorem kb_combined {post : Int32 → St1 → Prop} {f0 f1 : Int32} {a1 a2 : Nat → Int32} {c k a b : Nat} (hc : c < 6) (hk : k < 6) (ha : a < 6) (hb : b < 6) (hall : kb_all a1 a2) (H : ∀ g0 g1 b1 b2, kb_all b1 b2 → post 1 (g0, g1, b1, b2)) : wpL_combined post (f0, f1, a1, a2) (nI c) (nI k) (nI a) (nI b) := by
  unfold wpL_combined
  dsimp only
  refine kb_value ha (kb_mask ha (kb_value hb (kb_mask hb (kb_combine hc hk ha hb hall (fun V M hex => br_t rfl (kb_value hc (kb_mask hc ?_)))))))
  dsimp only
  rw [pk_us, pk_us]
  exact kb_67 hk hex (H _ _ _ _ (kb_all_upd c hall hex.1))
end
section
/-! ===== the law's loop ===== -/
def kb_L (L : Nat) (x : Int32) (_ _ : Int32) (a1 a2 : Nat → Int32) : Prop := ∃ j : Nat, j ≤ L ∧ x = nI j ∧ kb_all a1 a2
theorem kb_m6r (x : Int32) : ∃ r : Nat, r < 6 ∧ (x &&& 255) - (x &&& 255) / 6 * 6 = nI r := by
  obtain ⟨j, hj, e⟩ := pk_andE x (m := 255) 8 (by decide)
  refine ⟨j % 6, Nat.mod_lt _ (by omega), ?_⟩
  rw [e]
  exact pk_rem (d := 6) (by omega) (by omega) (by omega)
theorem kb_and0 (x : Int32) : 0 ≤ x &&& 31 := by
  obtain ⟨j, hj, e⟩ := pk_andE x (m := 31) 5 (by decide)
  rw [e]
  exact nI_pos' (by omega)
theorem i_vc (xs : Nat → Int32) (L : Nat) (hL : L ≤ 260) : wpL_law (fun r => r = 1) L xs := by
  refine ⟨2, 12, by decide, by decide, ?_⟩
  refine ⟨by decide, by decide, by decide, by decide, ?_⟩
  refine lp5 (wL_law_10 (fun r => r = 1) L xs (1 + 2) (4 + 12)) (kb_L L) (fun x _ _ _ _ => 300 - x.toNatClampNeg) ?_ 0 0 0 (fun _ => 0) (fun _ => 0) ⟨0, by omega, rfl, fun _ _ => kb_ok_0⟩
  rintro n x2 f0 f1 a1 a2 ⟨j, hj, rfl, hall⟩ hn
  have next : j + 4 ≤ L → ∀ g0 g1 b1 b2, kb_all b1 b2 → wL_law_10 (fun r => r = 1) L xs (1 + 2) (4 + 12) n (nI j + 4) g0 g1 b1 b2 := fun h g0 g1 b1 b2 hb => by
    rw [show nI j + 4 = nI (j + 4) from nI_add j 4]
    refine hn _ _ _ _ _ ⟨j + 4, h, rfl, hb⟩ ?_
    show 300 - (nI (j + 4)).toNatClampNeg < 300 - (nI j).toNatClampNeg
    rw [nI_clamp (by omega), nI_clamp (by omega)]
    omega
  refine pk_lt L (j + 4) (fun _ => rfl) (fun h => ⟨pk_in j L (by omega), nm_e ⟨pk_in (j + 1) L (by omega) (nI_add j 1), by decide, fun x4 e4 => ⟨pk_in (j + 2) L (by omega) (nI_add j 2), by decide, fun x5 e5 => ⟨pk_in (j + 3) L (by omega) (nI_add j 3), nm_e ?_⟩⟩⟩⟩) rfl (nI_add j 4)
  obtain ⟨a, ha, ea⟩ := kb_m6r (xs (nI j + 1).toNatClampNeg)
  obtain ⟨b, hb, eb⟩ := kb_m6r (xs (nI j + 2).toNatClampNeg)
  obtain ⟨c, hc, ec⟩ := kb_m6r (xs (nI j + 3).toNatClampNeg)
  obtain ⟨k, hk, ek⟩ := pk_andE (xs (nI j).toNatClampNeg) (m := 15) 4 (by decide)
  have e4' : x4 = nI a := e4.trans ea
  have e5' : x5 = nI b := e5.trans eb
  subst e4' e5'
  rw [ek, ec]
  refine pk_lt 5 k (fun z5 => pk_eq k 6 (fun _ => ?_) (fun z6 => pk_eq k 7 (fun _ => ?_) (fun z7 => pk_lt 13 k (fun _ => ?_) (fun z13 => ⟨by decide, ?_⟩)))) (fun _ => ⟨pk_in (j + 2) L (by omega) (nI_add j 2), ?_⟩)
  · exact kb_narrow ha (kb_and0 _) hall (fun _ g0 g1 b1 b2 hb => nm_e (next h g0 g1 b1 b2 hb))
  · exact kb_shift ha hb hall (fun _ g0 g1 b1 b2 hb => nm_e (next h g0 g1 b1 b2 hb))
  · exact kb_less ha hb hall (fun g0 g1 b1 b2 hb => br_f (by decide) (nm_e (next h g0 g1 b1 b2 hb)))
  · rw [show nI k - 8 = nI (k - 8) from pk_sub (b := 8) (by omega)]
    exact kb_combined hc (by omega) ha hb hall (fun g0 g1 b1 b2 hb => br_f (by decide) (nm_e (next h g0 g1 b1 b2 hb)))
  · exact kb_set ha hall (fun _ g0 g1 b1 b2 hb => nm_e (next h g0 g1 b1 b2 hb))
end
