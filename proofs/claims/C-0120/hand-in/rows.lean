section
theorem pk_us {f : Nat → Int32} {k : Nat} {x : Int32} : upd f k x k = x := if_pos rfl
theorem pk_un {f : Nat → Int32} {k j : Nat} {x : Int32} (h : j ≠ k) : upd f k x j = f j := if_neg h
theorem pk_sub {a b : Nat} (h : b ≤ a) : nI a - nI b = nI (a - b) := by
  obtain ⟨c, rfl⟩ : ∃ c, a = c + b := ⟨a - b, by omega⟩
  rw [← nI_add, Int32.add_sub_cancel, Nat.add_sub_cancel]
theorem pk_m1 (n : Nat) : nI (n + 1) + (-1) = nI n := by
  rw [← nI_1, Int32.add_assoc, show (1 : Int32) + (-1) = 0 from rfl, Int32.add_zero]
theorem pk_tn {n : Nat} (h : n < 2 ^ 32) : (nI n).toBitVec.toNat = n := Nat.mod_eq_of_lt h
theorem pk_and (x : Int32) {m : Int32} (k : Nat) (hm : m.toBitVec.toNat = 2 ^ k - 1) : x &&& m = nI (x.toBitVec.toNat % 2 ^ k) := by
  apply Int32.toBitVec_inj.mp
  apply BitVec.eq_of_toNat_eq
  rw [Int32.toBitVec_and, BitVec.toNat_and, hm, Nat.and_two_pow_sub_one_eq_mod]
  show _ = (BitVec.ofNat 32 _).toNat
  rw [BitVec.toNat_ofNat]
  exact (Nat.mod_eq_of_lt (Nat.lt_of_le_of_lt (Nat.mod_le _ _) x.toBitVec.isLt)).symm
theorem pk_andE (x : Int32) {m : Int32} (k : Nat) (hm : m.toBitVec.toNat = 2 ^ k - 1) : ∃ j : Nat, j < 2 ^ k ∧ x &&& m = nI j := ⟨_, Nat.mod_lt _ (Nat.two_pow_pos k), pk_and x k hm⟩
theorem pk_andIn (x : Int32) {m : Int32} (k : Nat) (hm : m.toBitVec.toNat = 2 ^ k - 1) (hk : k ≤ 30) : vp_in (x &&& m) (2 ^ k) := by
  obtain ⟨j, hj, e⟩ := pk_andE x k hm
  rw [e]
  exact vp_in_nI hj (Nat.lt_of_le_of_lt (Nat.pow_le_pow_right (by decide) hk) (by decide))
theorem pk_shl (a s : Int32) (k : Nat) (hs : (s.toBitVec.smod 32).toNat = k) : (a <<< s).toBitVec.toNat = a.toBitVec.toNat * 2 ^ k % 2 ^ 32 := by
  show (a.toBitVec <<< (s.toBitVec.smod 32).toNat).toNat = _
  rw [hs, BitVec.toNat_shiftLeft, Nat.shiftLeft_eq]
theorem pk_least (P : Nat → Prop) (h : ∃ k, P k) : ∃ k, P k ∧ ∀ j, j < k → ¬ P j := by
  obtain ⟨k, hk⟩ := h
  induction k using Nat.strongRecOn with
  | ind k ih =>
    by_cases e : ∃ j, j < k ∧ P j
    · obtain ⟨j, hj, pj⟩ := e
      exact ih j hj pj
    · exact ⟨k, hk, fun j hj pj => e ⟨j, hj, pj⟩⟩
def bt (x : Int32) (i : Nat) : Bool := x.toBitVec.getLsbD i
theorem b_ext {x y : Int32} (h : ∀ i, i < 32 → bt x i = bt y i) : x = y := Int32.toBitVec_inj.mp (BitVec.eq_of_getLsbD_eq (fun i hi => h i hi))
theorem b_or (x y : Int32) (i : Nat) : bt (x ||| y) i = (bt x i || bt y i) := by unfold bt; rw [Int32.toBitVec_or, BitVec.getLsbD_or]
theorem b_and (x y : Int32) (i : Nat) : bt (x &&& y) i = (bt x i && bt y i) := by unfold bt; rw [Int32.toBitVec_and, BitVec.getLsbD_and]
theorem b_xor (x y : Int32) (i : Nat) : bt (x ^^^ y) i = (bt x i ^^ bt y i) := by unfold bt; rw [Int32.toBitVec_xor, BitVec.getLsbD_xor]
theorem b_big {x : Int32} {i : Nat} (h : 32 ≤ i) : bt x i = false := BitVec.getLsbD_of_ge _ _ h
theorem b_m1 : ∀ i, i < 32 → bt (-1) i = true := by decide +kernel
theorem b_0 (i : Nat) : bt 0 i = false := BitVec.getLsbD_zero
theorem s_l : ∀ n, n < 32 → ((nI n &&& 31).toBitVec.smod 32).toNat = n := by decide +kernel
theorem b_shl (n : Nat) (hn : n < 32) (x : Int32) {i : Nat} (hi : i < 32) : bt (x <<< (nI n &&& 31)) i = (decide (n ≤ i) && bt x (i - n)) := by
  unfold bt
  rw [Int32.toBitVec_shiftLeft]
  show (x.toBitVec <<< ((nI n &&& 31).toBitVec.smod 32).toNat).getLsbD i = _
  rw [s_l n hn, BitVec.getLsbD_shiftLeft]
  rcases Nat.lt_or_ge i n with h | h
  · simp [h, Nat.not_le.mpr h]
  · simp [hi, h, Nat.not_lt.mpr h]
theorem b_sshr (n : Nat) (hn : n < 32) (x : Int32) {i : Nat} (hi : i < 32) : bt (x >>> (nI n &&& 31)) i = if n + i < 32 then bt x (n + i) else bt x 31 := by
  unfold bt
  rw [Int32.toBitVec_shiftRight]
  show (x.toBitVec.sshiftRight ((nI n &&& 31).toBitVec.smod 32).toNat).getLsbD i = _
  rw [s_l n hn, BitVec.getLsbD_sshiftRight, BitVec.msb_eq_getLsbD_last]
  simp [hi]
theorem zb_1 : ∀ i, i < 32 → bt 1 i = decide (i = 0) := by decide +kernel
theorem zb_bit (x : Int32) {n : Nat} (hn : n < 32) : (x >>> (nI n &&& 31)) &&& 1 = if bt x n = true then 1 else 0 := by
  apply b_ext
  intro i hi
  rw [b_and, b_sshr n hn x hi, zb_1 i hi]
  by_cases h : i = 0
  · subst h
    rw [Nat.add_zero, if_pos hn]
    cases e : bt x n
    · rw [if_neg (by decide), b_0]; rfl
    · rw [if_pos rfl, zb_1 0 (by decide)]; rfl
  · rw [decide_eq_false h, Bool.and_false]
    cases e : bt x n
    · rw [if_neg (by decide), b_0]
    · rw [if_pos rfl, zb_1 i hi, decide_eq_false h]
theorem zb_on {x : Int32} {n : Nat} (hn : n < 32) (h : bt x n = true) : (x >>> (nI n &&& 31)) &&& 1 = 1 := by rw [zb_bit x hn, if_pos h]
theorem zb_off {x : Int32} {n : Nat} (hn : n < 32) (h : ¬ bt x n = true) : (x >>> (nI n &&& 31)) &&& 1 = 0 := by rw [zb_bit x hn, if_neg h]
theorem zb_non {x : Int32} {n : Nat} (hn : n < 32) (h : ¬ bt x n = true) : ¬ (x >>> (nI n &&& 31)) &&& 1 = 1 := by rw [zb_off hn h]; decide
theorem zb_one {n : Nat} (hn : n < 32) (i : Nat) : bt ((1 : Int32) <<< (nI n &&& 31)) i = decide (i = n) := by
  rcases Nat.lt_or_ge i 32 with h | h
  · rw [b_shl n hn 1 h, zb_1 (i - n) (by omega)]
    by_cases e : i = n
    · subst e
      simp
    · rw [decide_eq_false e]
      by_cases g : n ≤ i
      · rw [decide_eq_false (p := i - n = 0) (by omega), Bool.and_false]
      · rw [decide_eq_false g, Bool.false_and]
  · rw [b_big h, decide_eq_false (by omega)]
theorem zb_or1 (x : Int32) {n : Nat} (hn : n < 32) (i : Nat) : bt (x ||| ((1 : Int32) <<< (nI n &&& 31))) i = (bt x i || decide (i = n)) := by rw [b_or, zb_one hn]
theorem zb_clr (x : Int32) {n : Nat} (hn : n < 32) (i : Nat) : bt (x &&& (((1 : Int32) <<< (nI n &&& 31)) ^^^ (-1))) i = (bt x i && !decide (i = n)) := by
  rcases Nat.lt_or_ge i 32 with h | h
  · rw [b_and, b_xor, zb_one hn, b_m1 i h]
    cases bt x i <;> cases decide (i = n) <;> rfl
  · rw [b_big h, b_big h, Bool.false_and]
theorem zb_lt {x : Int32} {i : Nat} (h : bt x i = true) : i < 32 := by
  rcases Nat.lt_or_ge i 32 with g | g
  · exact g
  · rw [b_big g] at h; exact absurd h (by decide)
theorem zb_full : ∀ i, i < 20 → bt 1048575 i = true := by decide +kernel
/-- one below a count: minus one at nought -/
def zd_ : Nat → Int32
  | 0 => -1
  | j + 1 => nI j
theorem zd_m (j : Nat) : nI j + (-1) = zd_ j := by
  cases j with
  | zero => decide +kernel
  | succ j => exact pk_m1 j
theorem zd_p (j : Nat) : nI j - 1 = zd_ j := by
  cases j with
  | zero => decide +kernel
  | succ j => exact nI_pred j
theorem zd_0 : zd_ 0 < 0 := by decide
theorem zd_n {j : Nat} (h : j < 2 ^ 31) : ¬ zd_ (j + 1) < 0 := nI_pos h
theorem zd_ne {a : Nat} (h : a < 20) : nI a ≠ -1 := by
  intro e
  have h1 := nI_toInt (n := a) (by omega)
  rw [e, show (-1 : Int32).toInt = -1 from by decide] at h1
  omega
theorem zd_inj {a b : Nat} (ha : a < 20) (hb : b < 20) (e : nI a = nI b) : a = b := (nI_eq (by omega) (by omega)).mp e
theorem zd_cl {a : Nat} (ha : a < 20) : (nI a).toNatClampNeg = a := nI_clamp (by omega)
theorem zd_in {a : Nat} (ha : a < 20) : vp_in (nI a) 20 := vp_in_nI ha (by decide)
theorem zd_in4 {a : Nat} (ha : a < 4) : vp_in (nI a) 4 := vp_in_nI ha (by decide)
theorem zd_15 (x : Int32) : vp_in (x &&& 15) 16 := pk_andIn x (m := 15) 4 (by decide) (by decide)
end
section
/-- a tile: operation, cost, four operands, constant, inside -/
abbrev zt_T : Type := Int32 × Int32 × Int32 × Int32 × Int32 × Int32 × Int32 × Int32
/-- a node of the component: its kind and its operands, all below it -/
def zg_nx (n : Nat) (K l r t c : Int32) : Prop :=
  (∃ j : Nat, j ≤ 9 ∧ K = nI j) ∧ (K = 0 ∨ K = 1 → l = -1) ∧ (K = 1 → vp_in c 6) ∧ (¬ K = 0 → ¬ K = 1 → ∃ a : Nat, a < n ∧ l = nI a) ∧ (K = 2 ∨ K = 3 ∨ K = 4 ∨ K = 8 ∨ K = 9 → ∃ b : Nat, b < n ∧ r = nI b) ∧ (K = 9 → ∃ e : Nat, e < n ∧ t = nI e) ∧ (K = 6 → ∃ k : Nat, k < 32 ∧ c = nI k)
def zg_g (N : Nat) (kd lf rt th cn : Nat → Int32) : Prop := ∀ m, m < N → zg_nx m (kd m) (lf m) (rt m) (th m) (cn m)
/-- what a node is worth by what its operands are worth -/
def zg_so (K l r t c : Int32) (inp mem v : Nat → Int32) (m : Nat) : Prop :=
  (K = 0 → v m = c) ∧ (K = 1 → v m = inp c.toNatClampNeg) ∧ (K = 2 → v m = v l.toNatClampNeg + v r.toNatClampNeg) ∧ (K = 3 → v m = v l.toNatClampNeg - v r.toNatClampNeg) ∧ (K = 4 → v m = v l.toNatClampNeg * v r.toNatClampNeg) ∧ (K = 5 → v m = -(v l.toNatClampNeg)) ∧ (K = 6 → v m = v l.toNatClampNeg <<< (c &&& 31)) ∧ (K = 7 → v m = mem (v l.toNatClampNeg &&& 15).toNatClampNeg) ∧ (K = 8 → v m = if v r.toNatClampNeg ≤ v l.toNatClampNeg then 0 else 1) ∧ (K = 9 → v m = if v l.toNatClampNeg = 0 then v t.toNatClampNeg else v r.toNatClampNeg)
def zg_sol (N : Nat) (kd lf rt th cn inp mem v : Nat → Int32) : Prop := ∀ m, m < N → zg_so (kd m) (lf m) (rt m) (th m) (cn m) inp mem v m
/-- what the machine's operation o gives -/
def zx_ (o k x y z w : Int32) (inp mem : Nat → Int32) : Int32 :=
  if o = 0 then k else if o = 1 then inp k.toNatClampNeg else if o = 2 then x + y else if o = 3 then x - y else if o = 4 then x * y else if o = 5 then -x else if o = 6 then x <<< (k &&& 31) else if o = 7 then mem (x &&& 15).toNatClampNeg else if o = 8 then (if y ≤ x then 0 else 1) else if o = 9 then (if x = 0 then z else y) else if o = 10 then x + k else if o = 11 then (x <<< (k &&& 31)) + y else if o = 12 then (x * y) + z else if o = 13 then z - (x * y) else if o = 14 then x * k else if o = 15 then -(x * y) else if o = 16 then mem ((x + k) &&& 15).toNatClampNeg else if o = 17 then mem ((x + y) &&& 15).toNatClampNeg else if o = 18 then mem (k &&& 15).toNatClampNeg else if o = 19 then (if k ≤ x then 0 else 1) else if o = 20 then (if x ≤ k then 0 else 1) else (if y ≤ x then w else z)

section
variable {k x y z w : Int32} {inp mem : Nat → Int32}
theorem zx_0 : zx_ 0 k x y z w inp mem = k := by unfold zx_; rw [if_pos rfl]
theorem zx_1 : zx_ 1 k x y z w inp mem = inp k.toNatClampNeg := by unfold zx_; rw [if_neg (by decide), if_pos rfl]
theorem zx_2 : zx_ 2 k x y z w inp mem = x + y := by unfold zx_; rw [if_neg (by decide), if_neg (by decide), if_pos rfl]
theorem zx_3 : zx_ 3 k x y z w inp mem = x - y := by unfold zx_; rw [if_neg (by decide), if_neg (by decide), if_neg (by decide), if_pos rfl]
theorem zx_4 : zx_ 4 k x y z w inp mem = x * y := by unfold zx_; rw [if_neg (by decide), if_neg (by decide), if_neg (by decide), if_neg (by decide), if_pos rfl]
theorem zx_5 : zx_ 5 k x y z w inp mem = -x := by unfold zx_; rw [if_neg (by decide), if_neg (by decide), if_neg (by decide), if_neg (by decide), if_neg (by decide), if_pos rfl]
theorem zx_6 : zx_ 6 k x y z w inp mem = x <<< (k &&& 31) := by unfold zx_; rw [if_neg (by decide), if_neg (by decide), if_neg (by decide), if_neg (by decide), if_neg (by decide), if_neg (by decide), if_pos rfl]
theorem zx_7 : zx_ 7 k x y z w inp mem = mem (x &&& 15).toNatClampNeg := by unfold zx_; rw [if_neg (by decide), if_neg (by decide), if_neg (by decide), if_neg (by decide), if_neg (by decide), if_neg (by decide), if_neg (by decide), if_pos rfl]
theorem zx_8 : zx_ 8 k x y z w inp mem = (if y ≤ x then 0 else 1) := by unfold zx_; rw [if_neg (by decide), if_neg (by decide), if_neg (by decide), if_neg (by decide), if_neg (by decide), if_neg (by decide), if_neg (by decide), if_neg (by decide), if_pos rfl]
theorem zx_9 : zx_ 9 k x y z w inp mem = (if x = 0 then z else y) := by unfold zx_; rw [if_neg (by decide), if_neg (by decide), if_neg (by decide), if_neg (by decide), if_neg (by decide), if_neg (by decide), if_neg (by decide), if_neg (by decide), if_neg (by decide), if_pos rfl]
theorem zx_10 : zx_ 10 k x y z w inp mem = x + k := by unfold zx_; rw [if_neg (by decide), if_neg (by decide), if_neg (by decide), if_neg (by decide), if_neg (by decide), if_neg (by decide), if_neg (by decide), if_neg (by decide), if_neg (by decide), if_neg (by decide), if_pos rfl]
theorem zx_11 : zx_ 11 k x y z w inp mem = (x <<< (k &&& 31)) + y := by unfold zx_; rw [if_neg (by decide), if_neg (by decide), if_neg (by decide), if_neg (by decide), if_neg (by decide), if_neg (by decide), if_neg (by decide), if_neg (by decide), if_neg (by decide), if_neg (by decide), if_neg (by decide), if_pos rfl]
theorem zx_12 : zx_ 12 k x y z w inp mem = (x * y) + z := by unfold zx_; rw [if_neg (by decide), if_neg (by decide), if_neg (by decide), if_neg (by decide), if_neg (by decide), if_neg (by decide), if_neg (by decide), if_neg (by decide), if_neg (by decide), if_neg (by decide), if_neg (by decide), if_neg (by decide), if_pos rfl]
theorem zx_13 : zx_ 13 k x y z w inp mem = z - (x * y) := by unfold zx_; rw [if_neg (by decide), if_neg (by decide), if_neg (by decide), if_neg (by decide), if_neg (by decide), if_neg (by decide), if_neg (by decide), if_neg (by decide), if_neg (by decide), if_neg (by decide), if_neg (by decide), if_neg (by decide), if_neg (by decide), if_pos rfl]
theorem zx_14 : zx_ 14 k x y z w inp mem = x * k := by unfold zx_; rw [if_neg (by decide), if_neg (by decide), if_neg (by decide), if_neg (by decide), if_neg (by decide), if_neg (by decide), if_neg (by decide), if_neg (by decide), if_neg (by decide), if_neg (by decide), if_neg (by decide), if_neg (by decide), if_neg (by decide), if_neg (by decide), if_pos rfl]
theorem zx_15 : zx_ 15 k x y z w inp mem = -(x * y) := by unfold zx_; rw [if_neg (by decide), if_neg (by decide), if_neg (by decide), if_neg (by decide), if_neg (by decide), if_neg (by decide), if_neg (by decide), if_neg (by decide), if_neg (by decide), if_neg (by decide), if_neg (by decide), if_neg (by decide), if_neg (by decide), if_neg (by decide), if_neg (by decide), if_pos rfl]
theorem zx_16 : zx_ 16 k x y z w inp mem = mem ((x + k) &&& 15).toNatClampNeg := by unfold zx_; rw [if_neg (by decide), if_neg (by decide), if_neg (by decide), if_neg (by decide), if_neg (by decide), if_neg (by decide), if_neg (by decide), if_neg (by decide), if_neg (by decide), if_neg (by decide), if_neg (by decide), if_neg (by decide), if_neg (by decide), if_neg (by decide), if_neg (by decide), if_neg (by decide), if_pos rfl]
theorem zx_17 : zx_ 17 k x y z w inp mem = mem ((x + y) &&& 15).toNatClampNeg := by unfold zx_; rw [if_neg (by decide), if_neg (by decide), if_neg (by decide), if_neg (by decide), if_neg (by decide), if_neg (by decide), if_neg (by decide), if_neg (by decide), if_neg (by decide), if_neg (by decide), if_neg (by decide), if_neg (by decide), if_neg (by decide), if_neg (by decide), if_neg (by decide), if_neg (by decide), if_neg (by decide), if_pos rfl]
theorem zx_18 : zx_ 18 k x y z w inp mem = mem (k &&& 15).toNatClampNeg := by unfold zx_; rw [if_neg (by decide), if_neg (by decide), if_neg (by decide), if_neg (by decide), if_neg (by decide), if_neg (by decide), if_neg (by decide), if_neg (by decide), if_neg (by decide), if_neg (by decide), if_neg (by decide), if_neg (by decide), if_neg (by decide), if_neg (by decide), if_neg (by decide), if_neg (by decide), if_neg (by decide), if_neg (by decide), if_pos rfl]
theorem zx_19 : zx_ 19 k x y z w inp mem = (if k ≤ x then 0 else 1) := by unfold zx_; rw [if_neg (by decide), if_neg (by decide), if_neg (by decide), if_neg (by decide), if_neg (by decide), if_neg (by decide), if_neg (by decide), if_neg (by decide), if_neg (by decide), if_neg (by decide), if_neg (by decide), if_neg (by decide), if_neg (by decide), if_neg (by decide), if_neg (by decide), if_neg (by decide), if_neg (by decide), if_neg (by decide), if_neg (by decide), if_pos rfl]
theorem zx_20 : zx_ 20 k x y z w inp mem = (if x ≤ k then 0 else 1) := by unfold zx_; rw [if_neg (by decide), if_neg (by decide), if_neg (by decide), if_neg (by decide), if_neg (by decide), if_neg (by decide), if_neg (by decide), if_neg (by decide), if_neg (by decide), if_neg (by decide), if_neg (by decide), if_neg (by decide), if_neg (by decide), if_neg (by decide), if_neg (by decide), if_neg (by decide), if_neg (by decide), if_neg (by decide), if_neg (by decide), if_neg (by decide), if_pos rfl]
theorem zx_21 : zx_ 21 k x y z w inp mem = (if y ≤ x then w else z) := by unfold zx_; rw [if_neg (by decide), if_neg (by decide), if_neg (by decide), if_neg (by decide), if_neg (by decide), if_neg (by decide), if_neg (by decide), if_neg (by decide), if_neg (by decide), if_neg (by decide), if_neg (by decide), if_neg (by decide), if_neg (by decide), if_neg (by decide), if_neg (by decide), if_neg (by decide), if_neg (by decide), if_neg (by decide), if_neg (by decide), if_neg (by decide), if_neg (by decide)]
end
/-- an operand: none, or a node below n -/
def zt_on (n : Nat) (x : Int32) : Prop := x = -1 ∨ ∃ a : Nat, a < n ∧ x = nI a
def zt_ov (v : Nat → Int32) (p x : Int32) : Prop := ∀ a : Nat, a < 20 → p = nI a → x = v a
/-- a right tile of node n -/
def zt_f (N : Nat) (kd lf rt th cn : Nat → Int32) (n : Nat) (T : zt_T) : Prop :=
  zt_on n T.2.2.1 ∧ zt_on n T.2.2.2.1 ∧ zt_on n T.2.2.2.2.1 ∧ zt_on n T.2.2.2.2.2.1 ∧ (∃ j : Nat, j ≤ 21 ∧ T.1 = nI j) ∧ (T.1 = 1 → vp_in T.2.2.2.2.2.2.1 6) ∧ ∀ inp mem v : Nat → Int32, zg_sol N kd lf rt th cn inp mem v → ∀ x y z w : Int32, zt_ov v T.2.2.1 x → zt_ov v T.2.2.2.1 y → zt_ov v T.2.2.2.2.1 z → zt_ov v T.2.2.2.2.2.1 w → zx_ T.1 T.2.2.2.2.2.2.1 x y z w inp mem = v n
theorem zf_m {n : Nat} : zt_on n (-1) := Or.inl rfl
theorem zf_i {n a : Nat} (h : a < n) : zt_on n (nI a) := Or.inr ⟨a, h, rfl⟩
theorem zf_e {n a : Nat} {x : Int32} (h : a < n) (e : x = nI a) : zt_on n x := Or.inr ⟨a, h, e⟩
theorem zf_mulsh (x : Int32) {j : Nat} (hj : j < 32) : x * ((1 : Int32) <<< (nI j &&& 31)) = x <<< (nI j &&& 31) := by
  apply Int32.toBitVec_inj.mp
  apply BitVec.eq_of_toNat_eq
  rw [Int32.toBitVec_mul, BitVec.toNat_mul, pk_shl 1 _ j (s_l j hj), pk_shl x _ j (s_l j hj), Nat.mul_mod_mod, show (1 : Int32).toBitVec.toNat = 1 from by decide, Nat.one_mul]
theorem zf_shsh (x : Int32) {a b : Nat} (h : a + b < 32) : (x <<< (nI a &&& 31)) <<< (nI b &&& 31) = x <<< (nI (a + b) &&& 31) := by
  apply b_ext
  intro i hi
  rw [b_shl b (by omega) _ hi, b_shl (a + b) h _ hi]
  by_cases hb : b ≤ i
  · rw [b_shl a (by omega) _ (by omega), decide_eq_true hb, Bool.true_and, show i - b - a = i - (a + b) from by omega]
    by_cases ha : a ≤ i - b
    · rw [decide_eq_true ha, decide_eq_true (p := a + b ≤ i) (by omega)]
    · rw [decide_eq_false ha, decide_eq_false (p := a + b ≤ i) (by omega), Bool.false_and]
  · rw [decide_eq_false hb, decide_eq_false (p := a + b ≤ i) (by omega), Bool.false_and, Bool.false_and]
section
variable {N : Nat} {kd lf rt th cn inp mem v : Nat → Int32} {m a b e : Nat}
theorem zg_k (G : zg_g N kd lf rt th cn) (hm : m < N) : ∃ j : Nat, j ≤ 9 ∧ kd m = nI j := (G m hm).1
theorem zg_l {K : Int32} (G : zg_g N kd lf rt th cn) (hm : m < N) (hK : kd m = K) (h0 : ¬ K = 0) (h1 : ¬ K = 1) : ∃ a : Nat, a < m ∧ lf m = nI a := by
  subst hK
  exact (G m hm).2.2.2.1 h0 h1
theorem zg_r {K : Int32} (G : zg_g N kd lf rt th cn) (hm : m < N) (hK : kd m = K) (h : K = 2 ∨ K = 3 ∨ K = 4 ∨ K = 8 ∨ K = 9) : ∃ b : Nat, b < m ∧ rt m = nI b := by
  subst hK
  exact (G m hm).2.2.2.2.1 h
theorem zg_t (G : zg_g N kd lf rt th cn) (hm : m < N) (hK : kd m = 9) : ∃ e : Nat, e < m ∧ th m = nI e := (G m hm).2.2.2.2.2.1 hK
theorem zg_c (G : zg_g N kd lf rt th cn) (hm : m < N) (hK : kd m = 6) : ∃ k : Nat, k < 32 ∧ cn m = nI k := (G m hm).2.2.2.2.2.2 hK
theorem zg_v0 (S : zg_sol N kd lf rt th cn inp mem v) (hm : m < N) (hk : kd m = 0) : v m = cn m := (S m hm).1 hk
theorem zg_v1 (S : zg_sol N kd lf rt th cn inp mem v) (hm : m < N) (hk : kd m = 1) : v m = inp (cn m).toNatClampNeg := (S m hm).2.1 hk
theorem zg_v2 (S : zg_sol N kd lf rt th cn inp mem v) (hm : m < N) (hk : kd m = 2) (ha : a < 20) (hb : b < 20) (el : lf m = nI a) (er : rt m = nI b) : v m = v a + v b := by
  have h := (S m hm).2.2.1 hk
  rw [el, er, zd_cl ha, zd_cl hb] at h
  exact h
theorem zg_v3 (S : zg_sol N kd lf rt th cn inp mem v) (hm : m < N) (hk : kd m = 3) (ha : a < 20) (hb : b < 20) (el : lf m = nI a) (er : rt m = nI b) : v m = v a - v b := by
  have h := (S m hm).2.2.2.1 hk
  rw [el, er, zd_cl ha, zd_cl hb] at h
  exact h
theorem zg_v4 (S : zg_sol N kd lf rt th cn inp mem v) (hm : m < N) (hk : kd m = 4) (ha : a < 20) (hb : b < 20) (el : lf m = nI a) (er : rt m = nI b) : v m = v a * v b := by
  have h := (S m hm).2.2.2.2.1 hk
  rw [el, er, zd_cl ha, zd_cl hb] at h
  exact h
theorem zg_v8 (S : zg_sol N kd lf rt th cn inp mem v) (hm : m < N) (hk : kd m = 8) (ha : a < 20) (hb : b < 20) (el : lf m = nI a) (er : rt m = nI b) : v m = if v b ≤ v a then 0 else 1 := by
  have h := (S m hm).2.2.2.2.2.2.2.2.1 hk
  rw [el, er, zd_cl ha, zd_cl hb] at h
  exact h
theorem zg_v5 (S : zg_sol N kd lf rt th cn inp mem v) (hm : m < N) (hk : kd m = 5) (ha : a < 20) (el : lf m = nI a) : v m = -(v a) := by
  have h := (S m hm).2.2.2.2.2.1 hk
  rw [el, zd_cl ha] at h
  exact h
theorem zg_v6 (S : zg_sol N kd lf rt th cn inp mem v) (hm : m < N) (hk : kd m = 6) (ha : a < 20) (el : lf m = nI a) : v m = v a <<< (cn m &&& 31) := by
  have h := (S m hm).2.2.2.2.2.2.1 hk
  rw [el, zd_cl ha] at h
  exact h
theorem zg_v7 (S : zg_sol N kd lf rt th cn inp mem v) (hm : m < N) (hk : kd m = 7) (ha : a < 20) (el : lf m = nI a) : v m = mem (v a &&& 15).toNatClampNeg := by
  have h := (S m hm).2.2.2.2.2.2.2.1 hk
  rw [el, zd_cl ha] at h
  exact h
theorem zg_v9 (S : zg_sol N kd lf rt th cn inp mem v) (hm : m < N) (hk : kd m = 9) (ha : a < 20) (hb : b < 20) (he : e < 20) (el : lf m = nI a) (er : rt m = nI b) (et : th m = nI e) : v m = if v a = 0 then v e else v b := by
  have h := (S m hm).2.2.2.2.2.2.2.2.2 hk
  rw [el, er, et, zd_cl ha, zd_cl hb, zd_cl he] at h
  exact h
end
section
variable {N : Nat} {kd lf rt th cn : Nat → Int32} {n a b c d e i o x0 : Nat} {co ins : Int32}
theorem zf_num (hN : N ≤ 20) (hn : n < N) (hk : kd n = 0) (el : lf n = -1) : zt_f N kd lf rt th cn n (kd n, co, lf n, -1, -1, -1, cn n, ins) :=
  ⟨Or.inl el, zf_m, zf_m, zf_m, ⟨0, by decide, hk⟩, fun h => absurd (hk.symm.trans (h : kd n = 1)) (by decide), fun inp mem v S x y z w hx hy hz hw => by
    show zx_ (kd n) (cn n) x y z w inp mem = v n
    rw [hk, zx_0, zg_v0 S hn hk]⟩
theorem zf_inp (hN : N ≤ 20) (hn : n < N) (hk : kd n = 1) (el : lf n = -1) (hc : vp_in (cn n) 6) : zt_f N kd lf rt th cn n (kd n, co, lf n, -1, -1, -1, cn n, ins) :=
  ⟨Or.inl el, zf_m, zf_m, zf_m, ⟨1, by decide, hk⟩, fun _ => hc, fun inp mem v S x y z w hx hy hz hw => by
    show zx_ (kd n) (cn n) x y z w inp mem = v n
    rw [hk, zx_1, zg_v1 S hn hk]⟩
theorem zf_neg (hN : N ≤ 20) (hn : n < N) (hk : kd n = 5) (ha : a < n) (el : lf n = nI a) : zt_f N kd lf rt th cn n (kd n, co, lf n, -1, -1, -1, cn n, ins) :=
  ⟨zf_e ha el, zf_m, zf_m, zf_m, ⟨5, by decide, hk⟩, fun h => absurd (hk.symm.trans (h : kd n = 1)) (by decide), fun inp mem v S x y z w hx hy hz hw => by
    show zx_ (kd n) (cn n) x y z w inp mem = v n
    rw [hk, zx_5, zg_v5 S hn hk (by omega) el, hx a (by omega) el]⟩
theorem zf_shi (hN : N ≤ 20) (hn : n < N) (hk : kd n = 6) (ha : a < n) (el : lf n = nI a) : zt_f N kd lf rt th cn n (kd n, co, lf n, -1, -1, -1, cn n, ins) :=
  ⟨zf_e ha el, zf_m, zf_m, zf_m, ⟨6, by decide, hk⟩, fun h => absurd (hk.symm.trans (h : kd n = 1)) (by decide), fun inp mem v S x y z w hx hy hz hw => by
    show zx_ (kd n) (cn n) x y z w inp mem = v n
    rw [hk, zx_6, zg_v6 S hn hk (by omega) el, hx a (by omega) el]⟩
theorem zf_ngm (hN : N ≤ 20) (hn : n < N) (hk : kd n = 5) (hi : i < n) (e0 : lf n = nI i) (hki : kd i = 4) (hc : c < i) (hd : d < i) (el : lf i = nI c) (er : rt i = nI d) : zt_f N kd lf rt th cn n (15, co, lf i, rt i, -1, -1, 0, ins) :=
  ⟨zf_e (by omega) el, zf_e (by omega) er, zf_m, zf_m, ⟨15, by decide, rfl⟩, fun h => absurd h (show ¬ (15 : Int32) = 1 by decide), fun inp mem v S x y z w hx hy hz hw => by
    show zx_ 15 0 x y z w inp mem = v n
    rw [zx_15, zg_v5 S hn hk (by omega) e0, zg_v4 S (by omega) hki (by omega) (by omega) el er, hx c (by omega) el, hy d (by omega) er]⟩
theorem zf_ngs (hN : N ≤ 20) (hn : n < N) (hk : kd n = 5) (hi : i < n) (e0 : lf n = nI i) (hki : kd i = 3) (hc : c < i) (hd : d < i) (el : lf i = nI c) (er : rt i = nI d) : zt_f N kd lf rt th cn n (3, co, rt i, lf i, -1, -1, 0, ins) :=
  ⟨zf_e (by omega) er, zf_e (by omega) el, zf_m, zf_m, ⟨3, by decide, rfl⟩, fun h => absurd h (show ¬ (3 : Int32) = 1 by decide), fun inp mem v S x y z w hx hy hz hw => by
    show zx_ 3 0 x y z w inp mem = v n
    rw [zx_3, zg_v5 S hn hk (by omega) e0, zg_v3 S (by omega) hki (by omega) (by omega) el er, hx d (by omega) er, hy c (by omega) el]
    grind⟩
theorem zf_shs (hN : N ≤ 20) (hn : n < N) {p q : Nat} (hk : kd n = 6) (hi : i < n) (e0 : lf n = nI i) (hki : kd i = 6) (hc : c < i) (el : lf i = nI c) (ep : cn i = nI p) (eq : cn n = nI q) (hp : p < 32) (hq : q < 32) (hs : ¬ 32 ≤ cn i + cn n) : zt_f N kd lf rt th cn n (6, co, lf i, -1, -1, -1, cn i + cn n, ins) :=
  ⟨zf_e (by omega) el, zf_m, zf_m, zf_m, ⟨6, by decide, rfl⟩, fun h => absurd h (show ¬ (6 : Int32) = 1 by decide), fun inp mem v S x y z w hx hy hz hw => by
    show zx_ 6 (cn i + cn n) x y z w inp mem = v n
    have h : p + q < 32 := by
      rw [ep, eq, nI_add] at hs
      exact Nat.lt_of_not_le (fun z => hs (nI_le (a := 32) (b := p + q) z (by omega)))
    rw [zx_6, zg_v6 S hn hk (by omega) e0, zg_v6 S (by omega) hki (by omega) el, hx c (by omega) el, ep, eq, nI_add, zf_shsh _ h]⟩
theorem zf_add (hN : N ≤ 20) (hn : n < N) (hk : kd n = 2) (ha : a < n) (hb : b < n) (el : lf n = nI a) (er : rt n = nI b) : zt_f N kd lf rt th cn n (2, co, nI a, nI b, -1, -1, 0, ins) :=
  ⟨zf_i ha, zf_i hb, zf_m, zf_m, ⟨2, by decide, rfl⟩, fun h => absurd h (show ¬ (2 : Int32) = 1 by decide), fun inp mem v S x y z w hx hy hz hw => by
    show zx_ 2 0 x y z w inp mem = v n
    rw [zx_2, zg_v2 S hn hk (by omega) (by omega) el er, hx a (by omega) rfl, hy b (by omega) rfl]⟩
theorem zf_adc (hN : N ≤ 20) (hn : n < N) (hi : i < n) (ho : o < n) (H : ∀ inp mem v : Nat → Int32, zg_sol N kd lf rt th cn inp mem v → v n = v i + v o) (hki : kd i = 0) : zt_f N kd lf rt th cn n (10, co, nI o, -1, -1, -1, cn i, ins) :=
  ⟨zf_i ho, zf_m, zf_m, zf_m, ⟨10, by decide, rfl⟩, fun h => absurd h (show ¬ (10 : Int32) = 1 by decide), fun inp mem v S x y z w hx hy hz hw => by
    show zx_ 10 (cn i) x y z w inp mem = v n
    rw [zx_10, H inp mem v S, zg_v0 S (by omega) hki, hx o (by omega) rfl, Int32.add_comm]⟩
theorem zf_adm (hN : N ≤ 20) (hn : n < N) (hi : i < n) (ho : o < n) (H : ∀ inp mem v : Nat → Int32, zg_sol N kd lf rt th cn inp mem v → v n = v i + v o) (hki : kd i = 4) (hc : c < i) (hd : d < i) (el : lf i = nI c) (er : rt i = nI d) : zt_f N kd lf rt th cn n (12, co, lf i, rt i, nI o, -1, 0, ins) :=
  ⟨zf_e (by omega) el, zf_e (by omega) er, zf_i ho, zf_m, ⟨12, by decide, rfl⟩, fun h => absurd h (show ¬ (12 : Int32) = 1 by decide), fun inp mem v S x y z w hx hy hz hw => by
    show zx_ 12 0 x y z w inp mem = v n
    rw [zx_12, H inp mem v S, zg_v4 S (by omega) hki (by omega) (by omega) el er, hx c (by omega) el, hy d (by omega) er, hz o (by omega) rfl]⟩
theorem zf_ads (hN : N ≤ 20) (hn : n < N) (hi : i < n) (ho : o < n) (H : ∀ inp mem v : Nat → Int32, zg_sol N kd lf rt th cn inp mem v → v n = v i + v o) (hki : kd i = 6) (hc : c < i) (el : lf i = nI c) : zt_f N kd lf rt th cn n (11, co, lf i, nI o, -1, -1, cn i, ins) :=
  ⟨zf_e (by omega) el, zf_i ho, zf_m, zf_m, ⟨11, by decide, rfl⟩, fun h => absurd h (show ¬ (11 : Int32) = 1 by decide), fun inp mem v S x y z w hx hy hz hw => by
    show zx_ 11 (cn i) x y z w inp mem = v n
    rw [zx_11, H inp mem v S, zg_v6 S (by omega) hki (by omega) el, hx c (by omega) el, hy o (by omega) rfl]⟩
theorem zf_sub (hN : N ≤ 20) (hn : n < N) (hk : kd n = 3) (ha : a < n) (hb : b < n) (el : lf n = nI a) (er : rt n = nI b) : zt_f N kd lf rt th cn n (3, co, nI a, nI b, -1, -1, 0, ins) :=
  ⟨zf_i ha, zf_i hb, zf_m, zf_m, ⟨3, by decide, rfl⟩, fun h => absurd h (show ¬ (3 : Int32) = 1 by decide), fun inp mem v S x y z w hx hy hz hw => by
    show zx_ 3 0 x y z w inp mem = v n
    rw [zx_3, zg_v3 S hn hk (by omega) (by omega) el er, hx a (by omega) rfl, hy b (by omega) rfl]⟩
theorem zf_sbc (hN : N ≤ 20) (hn : n < N) (hk : kd n = 3) (ha : a < n) (hb : b < n) (el : lf n = nI a) (er : rt n = nI b) (hki : kd b = 0) : zt_f N kd lf rt th cn n (10, co, nI a, -1, -1, -1, -(cn b), ins) :=
  ⟨zf_i ha, zf_m, zf_m, zf_m, ⟨10, by decide, rfl⟩, fun h => absurd h (show ¬ (10 : Int32) = 1 by decide), fun inp mem v S x y z w hx hy hz hw => by
    show zx_ 10 (-(cn b)) x y z w inp mem = v n
    rw [zx_10, zg_v3 S hn hk (by omega) (by omega) el er, zg_v0 S (m := b) (by omega) hki, hx a (by omega) rfl]
    grind⟩
theorem zf_sbm (hN : N ≤ 20) (hn : n < N) (hk : kd n = 3) (ha : a < n) (hi : i < n) (e0 : lf n = nI a) (e1 : rt n = nI i) (hki : kd i = 4) (hc : c < i) (hd : d < i) (el : lf i = nI c) (er : rt i = nI d) : zt_f N kd lf rt th cn n (13, co, lf i, rt i, nI a, -1, 0, ins) :=
  ⟨zf_e (by omega) el, zf_e (by omega) er, zf_i ha, zf_m, ⟨13, by decide, rfl⟩, fun h => absurd h (show ¬ (13 : Int32) = 1 by decide), fun inp mem v S x y z w hx hy hz hw => by
    show zx_ 13 0 x y z w inp mem = v n
    rw [zx_13, zg_v3 S hn hk (by omega) (by omega) e0 e1, zg_v4 S (by omega) hki (by omega) (by omega) el er, hx c (by omega) el, hy d (by omega) er, hz a (by omega) rfl]⟩
theorem zf_mul (hN : N ≤ 20) (hn : n < N) (hk : kd n = 4) (ha : a < n) (hb : b < n) (el : lf n = nI a) (er : rt n = nI b) : zt_f N kd lf rt th cn n (4, co, nI a, nI b, -1, -1, 0, ins) :=
  ⟨zf_i ha, zf_i hb, zf_m, zf_m, ⟨4, by decide, rfl⟩, fun h => absurd h (show ¬ (4 : Int32) = 1 by decide), fun inp mem v S x y z w hx hy hz hw => by
    show zx_ 4 0 x y z w inp mem = v n
    rw [zx_4, zg_v4 S hn hk (by omega) (by omega) el er, hx a (by omega) rfl, hy b (by omega) rfl]⟩
theorem zf_muc (hN : N ≤ 20) (hn : n < N) (hi : i < n) (ho : o < n) (H : ∀ inp mem v : Nat → Int32, zg_sol N kd lf rt th cn inp mem v → v n = v i * v o) (hki : kd i = 0) : zt_f N kd lf rt th cn n (14, co, nI o, -1, -1, -1, cn i, ins) :=
  ⟨zf_i ho, zf_m, zf_m, zf_m, ⟨14, by decide, rfl⟩, fun h => absurd h (show ¬ (14 : Int32) = 1 by decide), fun inp mem v S x y z w hx hy hz hw => by
    show zx_ 14 (cn i) x y z w inp mem = v n
    rw [zx_14, H inp mem v S, zg_v0 S (by omega) hki, hx o (by omega) rfl, Int32.mul_comm]⟩
theorem zf_mus (hN : N ≤ 20) (hn : n < N) (hi : i < n) (ho : o < n) (H : ∀ inp mem v : Nat → Int32, zg_sol N kd lf rt th cn inp mem v → v n = v i * v o) (hki : kd i = 0) {j : Nat} (hj : j < 32) (ej : cn i = (1 : Int32) <<< (nI j &&& 31)) : zt_f N kd lf rt th cn n (6, co, nI o, -1, -1, -1, nI j, ins) :=
  ⟨zf_i ho, zf_m, zf_m, zf_m, ⟨6, by decide, rfl⟩, fun h => absurd h (show ¬ (6 : Int32) = 1 by decide), fun inp mem v S x y z w hx hy hz hw => by
    show zx_ 6 (nI j) x y z w inp mem = v n
    rw [zx_6, H inp mem v S, zg_v0 S (by omega) hki, hx o (by omega) rfl, ej, Int32.mul_comm, zf_mulsh _ hj]⟩
theorem zf_fet (hN : N ≤ 20) (hn : n < N) (hk : kd n = 7) (ha : a < n) (el : lf n = nI a) : zt_f N kd lf rt th cn n (7, co, nI a, -1, -1, -1, 0, ins) :=
  ⟨zf_i ha, zf_m, zf_m, zf_m, ⟨7, by decide, rfl⟩, fun h => absurd h (show ¬ (7 : Int32) = 1 by decide), fun inp mem v S x y z w hx hy hz hw => by
    show zx_ 7 0 x y z w inp mem = v n
    rw [zx_7, zg_v7 S hn hk (by omega) el, hx a (by omega) rfl]⟩
theorem zf_fea (hN : N ≤ 20) (hn : n < N) (hk : kd n = 7) (ha : a < n) (el : lf n = nI a) (hki : kd a = 0) : zt_f N kd lf rt th cn n (18, co, -1, -1, -1, -1, cn a, ins) :=
  ⟨zf_m, zf_m, zf_m, zf_m, ⟨18, by decide, rfl⟩, fun h => absurd h (show ¬ (18 : Int32) = 1 by decide), fun inp mem v S x y z w hx hy hz hw => by
    show zx_ 18 (cn a) x y z w inp mem = v n
    rw [zx_18, zg_v7 S hn hk (by omega) el, zg_v0 S (m := a) (by omega) hki]⟩
theorem zf_fex (hN : N ≤ 20) (hn : n < N) (hk : kd n = 7) (hi : i < n) (e0 : lf n = nI i) (hki : kd i = 2) (hc : c < i) (hd : d < i) (el : lf i = nI c) (er : rt i = nI d) : zt_f N kd lf rt th cn n (17, co, nI c, nI d, -1, -1, 0, ins) :=
  ⟨zf_i (by omega), zf_i (by omega), zf_m, zf_m, ⟨17, by decide, rfl⟩, fun h => absurd h (show ¬ (17 : Int32) = 1 by decide), fun inp mem v S x y z w hx hy hz hw => by
    show zx_ 17 0 x y z w inp mem = v n
    rw [zx_17, zg_v7 S hn hk (by omega) e0, zg_v2 S (by omega) hki (by omega) (by omega) el er, hx c (by omega) rfl, hy d (by omega) rfl]⟩
theorem zf_feo (hN : N ≤ 20) (hn : n < N) (hk : kd n = 7) (hi : i < n) (e0 : lf n = nI i) (hki : kd i = 2) (hc : c < i) (hd : d < i) (el : lf i = nI c) (er : rt i = nI d) (hkd : kd d = 0) : zt_f N kd lf rt th cn n (16, co, nI c, -1, -1, -1, cn d, ins) :=
  ⟨zf_i (by omega), zf_m, zf_m, zf_m, ⟨16, by decide, rfl⟩, fun h => absurd h (show ¬ (16 : Int32) = 1 by decide), fun inp mem v S x y z w hx hy hz hw => by
    show zx_ 16 (cn d) x y z w inp mem = v n
    rw [zx_16, zg_v7 S hn hk (by omega) e0, zg_v2 S (by omega) hki (by omega) (by omega) el er, zg_v0 S (m := d) (by omega) hkd, hx c (by omega) rfl]⟩
theorem zf_fep (hN : N ≤ 20) (hn : n < N) (hk : kd n = 7) (hi : i < n) (e0 : lf n = nI i) (hki : kd i = 2) (hc : c < i) (hd : d < i) (el : lf i = nI c) (er : rt i = nI d) (hkc : kd c = 0) : zt_f N kd lf rt th cn n (16, co, nI d, -1, -1, -1, cn c, ins) :=
  ⟨zf_i (by omega), zf_m, zf_m, zf_m, ⟨16, by decide, rfl⟩, fun h => absurd h (show ¬ (16 : Int32) = 1 by decide), fun inp mem v S x y z w hx hy hz hw => by
    show zx_ 16 (cn c) x y z w inp mem = v n
    rw [zx_16, zg_v7 S hn hk (by omega) e0, zg_v2 S (by omega) hki (by omega) (by omega) el er, zg_v0 S (m := c) (by omega) hkc, hx d (by omega) rfl, Int32.add_comm]⟩
theorem zf_les (hN : N ≤ 20) (hn : n < N) (hk : kd n = 8) (ha : a < n) (hb : b < n) (el : lf n = nI a) (er : rt n = nI b) : zt_f N kd lf rt th cn n (8, co, nI a, nI b, -1, -1, 0, ins) :=
  ⟨zf_i ha, zf_i hb, zf_m, zf_m, ⟨8, by decide, rfl⟩, fun h => absurd h (show ¬ (8 : Int32) = 1 by decide), fun inp mem v S x y z w hx hy hz hw => by
    show zx_ 8 0 x y z w inp mem = v n
    rw [zx_8, zg_v8 S hn hk (by omega) (by omega) el er, hx a (by omega) rfl, hy b (by omega) rfl]⟩
theorem zf_lec (hN : N ≤ 20) (hn : n < N) (hk : kd n = 8) (ha : a < n) (hb : b < n) (el : lf n = nI a) (er : rt n = nI b) (hki : kd b = 0) : zt_f N kd lf rt th cn n (19, co, nI a, -1, -1, -1, cn b, ins) :=
  ⟨zf_i ha, zf_m, zf_m, zf_m, ⟨19, by decide, rfl⟩, fun h => absurd h (show ¬ (19 : Int32) = 1 by decide), fun inp mem v S x y z w hx hy hz hw => by
    show zx_ 19 (cn b) x y z w inp mem = v n
    rw [zx_19, zg_v8 S hn hk (by omega) (by omega) el er, zg_v0 S (m := b) (by omega) hki, hx a (by omega) rfl]⟩
theorem zf_cle (hN : N ≤ 20) (hn : n < N) (hk : kd n = 8) (ha : a < n) (hb : b < n) (el : lf n = nI a) (er : rt n = nI b) (hki : kd a = 0) : zt_f N kd lf rt th cn n (20, co, nI b, -1, -1, -1, cn a, ins) :=
  ⟨zf_i hb, zf_m, zf_m, zf_m, ⟨20, by decide, rfl⟩, fun h => absurd h (show ¬ (20 : Int32) = 1 by decide), fun inp mem v S x y z w hx hy hz hw => by
    show zx_ 20 (cn a) x y z w inp mem = v n
    rw [zx_20, zg_v8 S hn hk (by omega) (by omega) el er, zg_v0 S (m := a) (by omega) hki, hx b (by omega) rfl]⟩
theorem zf_pic (hN : N ≤ 20) (hn : n < N) (hk : kd n = 9) (ha : a < n) (hb : b < n) (he : e < n) (el : lf n = nI a) (er : rt n = nI b) (et : th n = nI e) : zt_f N kd lf rt th cn n (9, co, nI a, rt n, th n, -1, 0, ins) :=
  ⟨zf_i ha, zf_e hb er, zf_e he et, zf_m, ⟨9, by decide, rfl⟩, fun h => absurd h (show ¬ (9 : Int32) = 1 by decide), fun inp mem v S x y z w hx hy hz hw => by
    show zx_ 9 0 x y z w inp mem = v n
    rw [zx_9, zg_v9 S hn hk (by omega) (by omega) (by omega) el er et, hx a (by omega) rfl, hy b (by omega) er, hz e (by omega) et]⟩
theorem zf_pil (hN : N ≤ 20) (hn : n < N) (hk : kd n = 9) (hi : i < n) (hb : b < n) (he : e < n) (e0 : lf n = nI i) (e1 : rt n = nI b) (et : th n = nI e) (hki : kd i = 8) (hc : c < i) (hd : d < i) (el : lf i = nI c) (er : rt i = nI d) : zt_f N kd lf rt th cn n (21, co, lf i, rt i, rt n, th n, 0, ins) :=
  ⟨zf_e (by omega) el, zf_e (by omega) er, zf_e hb e1, zf_e he et, ⟨21, by decide, rfl⟩, fun h => absurd h (show ¬ (21 : Int32) = 1 by decide), fun inp mem v S x y z w hx hy hz hw => by
    show zx_ 21 0 x y z w inp mem = v n
    rw [zx_21, zg_v9 S hn hk (by omega) (by omega) (by omega) e0 e1 et, zg_v8 S (by omega) hki (by omega) (by omega) el er, hx c (by omega) el, hy d (by omega) er, hz b (by omega) e1, hw e (by omega) et]
    by_cases h : v d ≤ v c
    · rw [if_pos h, if_pos h, if_pos rfl]
    · rw [if_neg h, if_neg h, if_neg (by decide)]⟩
end
end
section
/-! the tile of a node: what its walk gives, for all posts and all the rest of the state -/
def zt_w (kd lf rt th cn : Nat → Int32) (W : (Int32 → SX → Prop) → SX → Prop) (T : zt_T) : Prop := ∀ {post : Int32 → SX → Prop} {f_count f_results f_writes f_knownSet f_tileOp f_tileCost f_tileP f_tileQ f_tileR f_tileS f_tileConst f_tileInside f_ready f_fixed f_kept f_length : Int32} {a_writeTo a_writeOf a_input a_memory a_outcome a_bestTile a_bestCost a_op a_dest a_p a_q a_r a_s a_k a_registerOf a_lastUse a_register : Nat → Int32}, post 1 (f_count, f_results, f_writes, f_knownSet, T.1, T.2.1, T.2.2.1, T.2.2.2.1, T.2.2.2.2.1, T.2.2.2.2.2.1, T.2.2.2.2.2.2.1, T.2.2.2.2.2.2.2, f_ready, f_fixed, f_kept, f_length, kd, lf, rt, th, cn, a_writeTo, a_writeOf, a_input, a_memory, a_outcome, a_bestTile, a_bestCost, a_op, a_dest, a_p, a_q, a_r, a_s, a_k, a_registerOf, a_lastUse, a_register) → W post (f_count, f_results, f_writes, f_knownSet, f_tileOp, f_tileCost, f_tileP, f_tileQ, f_tileR, f_tileS, f_tileConst, f_tileInside, f_ready, f_fixed, f_kept, f_length, kd, lf, rt, th, cn, a_writeTo, a_writeOf, a_input, a_memory, a_outcome, a_bestTile, a_bestCost, a_op, a_dest, a_p, a_q, a_r, a_s, a_k, a_registerOf, a_lastUse, a_register)
def zt_z (kd lf rt th cn : Nat → Int32) (W : (Int32 → SX → Prop) → SX → Prop) : Prop := ∀ {post : Int32 → SX → Prop} {f_count f_results f_writes f_knownSet f_tileOp f_tileCost f_tileP f_tileQ f_tileR f_tileS f_tileConst f_tileInside f_ready f_fixed f_kept f_length : Int32} {a_writeTo a_writeOf a_input a_memory a_outcome a_bestTile a_bestCost a_op a_dest a_p a_q a_r a_s a_k a_registerOf a_lastUse a_register : Nat → Int32}, post 0 (f_count, f_results, f_writes, f_knownSet, f_tileOp, f_tileCost, f_tileP, f_tileQ, f_tileR, f_tileS, f_tileConst, f_tileInside, f_ready, f_fixed, f_kept, f_length, kd, lf, rt, th, cn, a_writeTo, a_writeOf, a_input, a_memory, a_outcome, a_bestTile, a_bestCost, a_op, a_dest, a_p, a_q, a_r, a_s, a_k, a_registerOf, a_lastUse, a_register) → W post (f_count, f_results, f_writes, f_knownSet, f_tileOp, f_tileCost, f_tileP, f_tileQ, f_tileR, f_tileS, f_tileConst, f_tileInside, f_ready, f_fixed, f_kept, f_length, kd, lf, rt, th, cn, a_writeTo, a_writeOf, a_input, a_memory, a_outcome, a_bestTile, a_bestCost, a_op, a_dest, a_p, a_q, a_r, a_s, a_k, a_registerOf, a_lastUse, a_register)
def zt_a (N : Nat) (kd lf rt th cn : Nat → Int32) (n : Nat) (t : Int32) (W : (Int32 → SX → Prop) → SX → Prop) : Prop := (¬ t = 0 ∧ zt_z kd lf rt th cn W) ∨ ∃ T : zt_T, zt_f N kd lf rt th cn n T ∧ zt_w kd lf rt th cn W T
def zt_m (kd lf rt th cn : Nat → Int32) (W W' : (Int32 → SX → Prop) → SX → Prop) : Prop := ∀ {post : Int32 → SX → Prop} {f_count f_results f_writes f_knownSet f_tileOp f_tileCost f_tileP f_tileQ f_tileR f_tileS f_tileConst f_tileInside f_ready f_fixed f_kept f_length : Int32} {a_writeTo a_writeOf a_input a_memory a_outcome a_bestTile a_bestCost a_op a_dest a_p a_q a_r a_s a_k a_registerOf a_lastUse a_register : Nat → Int32}, W post (f_count, f_results, f_writes, f_knownSet, f_tileOp, f_tileCost, f_tileP, f_tileQ, f_tileR, f_tileS, f_tileConst, f_tileInside, f_ready, f_fixed, f_kept, f_length, kd, lf, rt, th, cn, a_writeTo, a_writeOf, a_input, a_memory, a_outcome, a_bestTile, a_bestCost, a_op, a_dest, a_p, a_q, a_r, a_s, a_k, a_registerOf, a_lastUse, a_register) → W' post (f_count, f_results, f_writes, f_knownSet, f_tileOp, f_tileCost, f_tileP, f_tileQ, f_tileR, f_tileS, f_tileConst, f_tileInside, f_ready, f_fixed, f_kept, f_length, kd, lf, rt, th, cn, a_writeTo, a_writeOf, a_input, a_memory, a_outcome, a_bestTile, a_bestCost, a_op, a_dest, a_p, a_q, a_r, a_s, a_k, a_registerOf, a_lastUse, a_register)
theorem zt_mp {N : Nat} {kd lf rt th cn : Nat → Int32} {n : Nat} {t : Int32} {W W' : (Int32 → SX → Prop) → SX → Prop} (h : zt_a N kd lf rt th cn n t W) (m : zt_m kd lf rt th cn W W') : zt_a N kd lf rt th cn n t W' := by
  rcases h with ⟨h0, h⟩ | ⟨T, f, h⟩
  · refine Or.inl ⟨h0, ?_⟩
    intro post f_count f_results f_writes f_knownSet f_tileOp f_tileCost f_tileP f_tileQ f_tileR f_tileS f_tileConst f_tileInside f_ready f_fixed f_kept f_length a_writeTo a_writeOf a_input a_memory a_outcome a_bestTile a_bestCost a_op a_dest a_p a_q a_r a_s a_k a_registerOf a_lastUse a_register hp
    exact m (h hp)
  · refine Or.inr ⟨T, f, ?_⟩
    intro post f_count f_results f_writes f_knownSet f_tileOp f_tileCost f_tileP f_tileQ f_tileR f_tileS f_tileConst f_tileInside f_ready f_fixed f_kept f_length a_writeTo a_writeOf a_input a_memory a_outcome a_bestTile a_bestCost a_op a_dest a_p a_q a_r a_s a_k a_registerOf a_lastUse a_register hp
    exact m (h hp)
section
variable {N : Nat} {kd lf rt th cn : Nat → Int32} {n a b c d e i o : Nat} {t : Int32}
theorem zt_a138 (hN : N ≤ 20) (hn : n < N) (G : zg_g N kd lf rt th cn) (hi : i < n) (ho : o < n) (H : ∀ inp mem v : Nat → Int32, zg_sol N kd lf rt th cn inp mem v → v n = v i + v o) (h0 : ¬ t = 0) : zt_a N kd lf rt th cn n t (fun post u => wX_addTile_138 post t (nI i) (nI o) u.1 u.2.1 u.2.2.1 u.2.2.2.1 u.2.2.2.2.1 u.2.2.2.2.2.1 u.2.2.2.2.2.2.1 u.2.2.2.2.2.2.2.1 u.2.2.2.2.2.2.2.2.1 u.2.2.2.2.2.2.2.2.2.1 u.2.2.2.2.2.2.2.2.2.2.1 u.2.2.2.2.2.2.2.2.2.2.2.1 u.2.2.2.2.2.2.2.2.2.2.2.2.1 u.2.2.2.2.2.2.2.2.2.2.2.2.2.1 u.2.2.2.2.2.2.2.2.2.2.2.2.2.2.1 u.2.2.2.2.2.2.2.2.2.2.2.2.2.2.2.1 u.2.2.2.2.2.2.2.2.2.2.2.2.2.2.2.2.1 u.2.2.2.2.2.2.2.2.2.2.2.2.2.2.2.2.2.1 u.2.2.2.2.2.2.2.2.2.2.2.2.2.2.2.2.2.2.1 u.2.2.2.2.2.2.2.2.2.2.2.2.2.2.2.2.2.2.2.1 u.2.2.2.2.2.2.2.2.2.2.2.2.2.2.2.2.2.2.2.2.1 u.2.2.2.2.2.2.2.2.2.2.2.2.2.2.2.2.2.2.2.2.2.1 u.2.2.2.2.2.2.2.2.2.2.2.2.2.2.2.2.2.2.2.2.2.2.1 u.2.2.2.2.2.2.2.2.2.2.2.2.2.2.2.2.2.2.2.2.2.2.2.1 u.2.2.2.2.2.2.2.2.2.2.2.2.2.2.2.2.2.2.2.2.2.2.2.2.1 u.2.2.2.2.2.2.2.2.2.2.2.2.2.2.2.2.2.2.2.2.2.2.2.2.2.1 u.2.2.2.2.2.2.2.2.2.2.2.2.2.2.2.2.2.2.2.2.2.2.2.2.2.2.1 u.2.2.2.2.2.2.2.2.2.2.2.2.2.2.2.2.2.2.2.2.2.2.2.2.2.2.2.1 u.2.2.2.2.2.2.2.2.2.2.2.2.2.2.2.2.2.2.2.2.2.2.2.2.2.2.2.2.1 u.2.2.2.2.2.2.2.2.2.2.2.2.2.2.2.2.2.2.2.2.2.2.2.2.2.2.2.2.2.1 u.2.2.2.2.2.2.2.2.2.2.2.2.2.2.2.2.2.2.2.2.2.2.2.2.2.2.2.2.2.2.1 u.2.2.2.2.2.2.2.2.2.2.2.2.2.2.2.2.2.2.2.2.2.2.2.2.2.2.2.2.2.2.2.1 u.2.2.2.2.2.2.2.2.2.2.2.2.2.2.2.2.2.2.2.2.2.2.2.2.2.2.2.2.2.2.2.2.1 u.2.2.2.2.2.2.2.2.2.2.2.2.2.2.2.2.2.2.2.2.2.2.2.2.2.2.2.2.2.2.2.2.2.1 u.2.2.2.2.2.2.2.2.2.2.2.2.2.2.2.2.2.2.2.2.2.2.2.2.2.2.2.2.2.2.2.2.2.2.1 u.2.2.2.2.2.2.2.2.2.2.2.2.2.2.2.2.2.2.2.2.2.2.2.2.2.2.2.2.2.2.2.2.2.2.2.1 u.2.2.2.2.2.2.2.2.2.2.2.2.2.2.2.2.2.2.2.2.2.2.2.2.2.2.2.2.2.2.2.2.2.2.2.2.1 u.2.2.2.2.2.2.2.2.2.2.2.2.2.2.2.2.2.2.2.2.2.2.2.2.2.2.2.2.2.2.2.2.2.2.2.2.2) := by
  have cl := zd_cl (a := i) (by omega)
  have zi := zd_in (a := i) (by omega)
  by_cases h1 : t ≤ 4
  · refine Or.inl ⟨h0, ?_⟩
    intro post f_count f_results f_writes f_knownSet f_tileOp f_tileCost f_tileP f_tileQ f_tileR f_tileS f_tileConst f_tileInside f_ready f_fixed f_kept f_length a_writeTo a_writeOf a_input a_memory a_outcome a_bestTile a_bestCost a_op a_dest a_p a_q a_r a_s a_k a_registerOf a_lastUse a_register hp
    exact br_t h1 hp
  by_cases h2 : 7 ≤ t
  · refine Or.inl ⟨h0, ?_⟩
    intro post f_count f_results f_writes f_knownSet f_tileOp f_tileCost f_tileP f_tileQ f_tileR f_tileS f_tileConst f_tileInside f_ready f_fixed f_kept f_length a_writeTo a_writeOf a_input a_memory a_outcome a_bestTile a_bestCost a_op a_dest a_p a_q a_r a_s a_k a_registerOf a_lastUse a_register hp
    exact br_f h1 (br_t h2 hp)
  by_cases h3 : kd i = 6
  · have h3' : kd (nI i).toNatClampNeg = 6 := by rw [cl]; exact h3
    obtain ⟨c, hc, el⟩ := zg_l G (by omega) h3 (by decide) (by decide)
    refine Or.inr ⟨(11, 1, lf (nI i).toNatClampNeg, nI o, -1, -1, cn (nI i).toNatClampNeg, (1 : Int32) <<< (nI i &&& 31)), ?_, ?_⟩
    · rw [cl]
      exact zf_ads hN hn hi ho H h3 hc el
    · intro post f_count f_results f_writes f_knownSet f_tileOp f_tileCost f_tileP f_tileQ f_tileR f_tileS f_tileConst f_tileInside f_ready f_fixed f_kept f_length a_writeTo a_writeOf a_input a_memory a_outcome a_bestTile a_bestCost a_op a_dest a_p a_q a_r a_s a_k a_registerOf a_lastUse a_register hp
      exact br_f h1 (br_f h2 ⟨zi, br_t h3' ⟨zi, zi, And.intro narrow_b1 hp⟩⟩)
  · have h3' : ¬ kd (nI i).toNatClampNeg = 6 := by rw [cl]; exact h3
    refine Or.inl ⟨h0, ?_⟩
    intro post f_count f_results f_writes f_knownSet f_tileOp f_tileCost f_tileP f_tileQ f_tileR f_tileS f_tileConst f_tileInside f_ready f_fixed f_kept f_length a_writeTo a_writeOf a_input a_memory a_outcome a_bestTile a_bestCost a_op a_dest a_p a_q a_r a_s a_k a_registerOf a_lastUse a_register hp
    exact br_f h1 (br_f h2 ⟨zi, br_f h3' hp⟩)
theorem zt_a80 (hN : N ≤ 20) (hn : n < N) (G : zg_g N kd lf rt th cn) (hi : i < n) (ho : o < n) (H : ∀ inp mem v : Nat → Int32, zg_sol N kd lf rt th cn inp mem v → v n = v i + v o) (h0 : ¬ t = 0) : zt_a N kd lf rt th cn n t (fun post u => wX_addTile_80 post t (nI i) (nI o) u.1 u.2.1 u.2.2.1 u.2.2.2.1 u.2.2.2.2.1 u.2.2.2.2.2.1 u.2.2.2.2.2.2.1 u.2.2.2.2.2.2.2.1 u.2.2.2.2.2.2.2.2.1 u.2.2.2.2.2.2.2.2.2.1 u.2.2.2.2.2.2.2.2.2.2.1 u.2.2.2.2.2.2.2.2.2.2.2.1 u.2.2.2.2.2.2.2.2.2.2.2.2.1 u.2.2.2.2.2.2.2.2.2.2.2.2.2.1 u.2.2.2.2.2.2.2.2.2.2.2.2.2.2.1 u.2.2.2.2.2.2.2.2.2.2.2.2.2.2.2.1 u.2.2.2.2.2.2.2.2.2.2.2.2.2.2.2.2.1 u.2.2.2.2.2.2.2.2.2.2.2.2.2.2.2.2.2.1 u.2.2.2.2.2.2.2.2.2.2.2.2.2.2.2.2.2.2.1 u.2.2.2.2.2.2.2.2.2.2.2.2.2.2.2.2.2.2.2.1 u.2.2.2.2.2.2.2.2.2.2.2.2.2.2.2.2.2.2.2.2.1 u.2.2.2.2.2.2.2.2.2.2.2.2.2.2.2.2.2.2.2.2.2.1 u.2.2.2.2.2.2.2.2.2.2.2.2.2.2.2.2.2.2.2.2.2.2.1 u.2.2.2.2.2.2.2.2.2.2.2.2.2.2.2.2.2.2.2.2.2.2.2.1 u.2.2.2.2.2.2.2.2.2.2.2.2.2.2.2.2.2.2.2.2.2.2.2.2.1 u.2.2.2.2.2.2.2.2.2.2.2.2.2.2.2.2.2.2.2.2.2.2.2.2.2.1 u.2.2.2.2.2.2.2.2.2.2.2.2.2.2.2.2.2.2.2.2.2.2.2.2.2.2.1 u.2.2.2.2.2.2.2.2.2.2.2.2.2.2.2.2.2.2.2.2.2.2.2.2.2.2.2.1 u.2.2.2.2.2.2.2.2.2.2.2.2.2.2.2.2.2.2.2.2.2.2.2.2.2.2.2.2.1 u.2.2.2.2.2.2.2.2.2.2.2.2.2.2.2.2.2.2.2.2.2.2.2.2.2.2.2.2.2.1 u.2.2.2.2.2.2.2.2.2.2.2.2.2.2.2.2.2.2.2.2.2.2.2.2.2.2.2.2.2.2.1 u.2.2.2.2.2.2.2.2.2.2.2.2.2.2.2.2.2.2.2.2.2.2.2.2.2.2.2.2.2.2.2.1 u.2.2.2.2.2.2.2.2.2.2.2.2.2.2.2.2.2.2.2.2.2.2.2.2.2.2.2.2.2.2.2.2.1 u.2.2.2.2.2.2.2.2.2.2.2.2.2.2.2.2.2.2.2.2.2.2.2.2.2.2.2.2.2.2.2.2.2.1 u.2.2.2.2.2.2.2.2.2.2.2.2.2.2.2.2.2.2.2.2.2.2.2.2.2.2.2.2.2.2.2.2.2.2.1 u.2.2.2.2.2.2.2.2.2.2.2.2.2.2.2.2.2.2.2.2.2.2.2.2.2.2.2.2.2.2.2.2.2.2.2.1 u.2.2.2.2.2.2.2.2.2.2.2.2.2.2.2.2.2.2.2.2.2.2.2.2.2.2.2.2.2.2.2.2.2.2.2.2.1 u.2.2.2.2.2.2.2.2.2.2.2.2.2.2.2.2.2.2.2.2.2.2.2.2.2.2.2.2.2.2.2.2.2.2.2.2.2) := by
  have cl := zd_cl (a := i) (by omega)
  have zi := zd_in (a := i) (by omega)
  have B := zt_a138 (t := t) hN hn G hi ho H
  by_cases h1 : t ≤ 2
  · refine zt_mp (B h0) ?_
    intro post f_count f_results f_writes f_knownSet f_tileOp f_tileCost f_tileP f_tileQ f_tileR f_tileS f_tileConst f_tileInside f_ready f_fixed f_kept f_length a_writeTo a_writeOf a_input a_memory a_outcome a_bestTile a_bestCost a_op a_dest a_p a_q a_r a_s a_k a_registerOf a_lastUse a_register hp
    exact br_t h1 hp
  by_cases h2 : 5 ≤ t
  · refine zt_mp (B h0) ?_
    intro post f_count f_results f_writes f_knownSet f_tileOp f_tileCost f_tileP f_tileQ f_tileR f_tileS f_tileConst f_tileInside f_ready f_fixed f_kept f_length a_writeTo a_writeOf a_input a_memory a_outcome a_bestTile a_bestCost a_op a_dest a_p a_q a_r a_s a_k a_registerOf a_lastUse a_register hp
    exact br_f h1 (br_t h2 hp)
  by_cases h3 : kd i = 4
  · have h3' : kd (nI i).toNatClampNeg = 4 := by rw [cl]; exact h3
    obtain ⟨c, hc, el⟩ := zg_l G (by omega) h3 (by decide) (by decide)
    obtain ⟨d, hd, er⟩ := zg_r G (by omega) h3 (by decide)
    refine Or.inr ⟨(12, 3, lf (nI i).toNatClampNeg, rt (nI i).toNatClampNeg, nI o, -1, 0, (1 : Int32) <<< (nI i &&& 31)), ?_, ?_⟩
    · rw [cl]
      exact zf_adm hN hn hi ho H h3 hc hd el er
    · intro post f_count f_results f_writes f_knownSet f_tileOp f_tileCost f_tileP f_tileQ f_tileR f_tileS f_tileConst f_tileInside f_ready f_fixed f_kept f_length a_writeTo a_writeOf a_input a_memory a_outcome a_bestTile a_bestCost a_op a_dest a_p a_q a_r a_s a_k a_registerOf a_lastUse a_register hp
      exact br_f h1 (br_f h2 ⟨zi, br_t h3' ⟨zi, zi, And.intro narrow_b1 hp⟩⟩)
  · have h3' : ¬ kd (nI i).toNatClampNeg = 4 := by rw [cl]; exact h3
    refine zt_mp (B h0) ?_
    intro post f_count f_results f_writes f_knownSet f_tileOp f_tileCost f_tileP f_tileQ f_tileR f_tileS f_tileConst f_tileInside f_ready f_fixed f_kept f_length a_writeTo a_writeOf a_input a_memory a_outcome a_bestTile a_bestCost a_op a_dest a_p a_q a_r a_s a_k a_registerOf a_lastUse a_register hp
    exact br_f h1 (br_f h2 ⟨zi, br_f h3' hp⟩)
theorem zt_a41 (hN : N ≤ 20) (hn : n < N) (G : zg_g N kd lf rt th cn) (hi : i < n) (ho : o < n) (H : ∀ inp mem v : Nat → Int32, zg_sol N kd lf rt th cn inp mem v → v n = v i + v o) (h0 : ¬ t = 0) : zt_a N kd lf rt th cn n t (fun post u => wX_addTile_41 post t (nI i) (nI o) u.1 u.2.1 u.2.2.1 u.2.2.2.1 u.2.2.2.2.1 u.2.2.2.2.2.1 u.2.2.2.2.2.2.1 u.2.2.2.2.2.2.2.1 u.2.2.2.2.2.2.2.2.1 u.2.2.2.2.2.2.2.2.2.1 u.2.2.2.2.2.2.2.2.2.2.1 u.2.2.2.2.2.2.2.2.2.2.2.1 u.2.2.2.2.2.2.2.2.2.2.2.2.1 u.2.2.2.2.2.2.2.2.2.2.2.2.2.1 u.2.2.2.2.2.2.2.2.2.2.2.2.2.2.1 u.2.2.2.2.2.2.2.2.2.2.2.2.2.2.2.1 u.2.2.2.2.2.2.2.2.2.2.2.2.2.2.2.2.1 u.2.2.2.2.2.2.2.2.2.2.2.2.2.2.2.2.2.1 u.2.2.2.2.2.2.2.2.2.2.2.2.2.2.2.2.2.2.1 u.2.2.2.2.2.2.2.2.2.2.2.2.2.2.2.2.2.2.2.1 u.2.2.2.2.2.2.2.2.2.2.2.2.2.2.2.2.2.2.2.2.1 u.2.2.2.2.2.2.2.2.2.2.2.2.2.2.2.2.2.2.2.2.2.1 u.2.2.2.2.2.2.2.2.2.2.2.2.2.2.2.2.2.2.2.2.2.2.1 u.2.2.2.2.2.2.2.2.2.2.2.2.2.2.2.2.2.2.2.2.2.2.2.1 u.2.2.2.2.2.2.2.2.2.2.2.2.2.2.2.2.2.2.2.2.2.2.2.2.1 u.2.2.2.2.2.2.2.2.2.2.2.2.2.2.2.2.2.2.2.2.2.2.2.2.2.1 u.2.2.2.2.2.2.2.2.2.2.2.2.2.2.2.2.2.2.2.2.2.2.2.2.2.2.1 u.2.2.2.2.2.2.2.2.2.2.2.2.2.2.2.2.2.2.2.2.2.2.2.2.2.2.2.1 u.2.2.2.2.2.2.2.2.2.2.2.2.2.2.2.2.2.2.2.2.2.2.2.2.2.2.2.2.1 u.2.2.2.2.2.2.2.2.2.2.2.2.2.2.2.2.2.2.2.2.2.2.2.2.2.2.2.2.2.1 u.2.2.2.2.2.2.2.2.2.2.2.2.2.2.2.2.2.2.2.2.2.2.2.2.2.2.2.2.2.2.1 u.2.2.2.2.2.2.2.2.2.2.2.2.2.2.2.2.2.2.2.2.2.2.2.2.2.2.2.2.2.2.2.1 u.2.2.2.2.2.2.2.2.2.2.2.2.2.2.2.2.2.2.2.2.2.2.2.2.2.2.2.2.2.2.2.2.1 u.2.2.2.2.2.2.2.2.2.2.2.2.2.2.2.2.2.2.2.2.2.2.2.2.2.2.2.2.2.2.2.2.2.1 u.2.2.2.2.2.2.2.2.2.2.2.2.2.2.2.2.2.2.2.2.2.2.2.2.2.2.2.2.2.2.2.2.2.2.1 u.2.2.2.2.2.2.2.2.2.2.2.2.2.2.2.2.2.2.2.2.2.2.2.2.2.2.2.2.2.2.2.2.2.2.2.1 u.2.2.2.2.2.2.2.2.2.2.2.2.2.2.2.2.2.2.2.2.2.2.2.2.2.2.2.2.2.2.2.2.2.2.2.2.1 u.2.2.2.2.2.2.2.2.2.2.2.2.2.2.2.2.2.2.2.2.2.2.2.2.2.2.2.2.2.2.2.2.2.2.2.2.2) := by
  have cl := zd_cl (a := i) (by omega)
  have zi := zd_in (a := i) (by omega)
  have B := zt_a80 (t := t) hN hn G hi ho H
  by_cases h1 : 3 ≤ t
  · refine zt_mp (B h0) ?_
    intro post f_count f_results f_writes f_knownSet f_tileOp f_tileCost f_tileP f_tileQ f_tileR f_tileS f_tileConst f_tileInside f_ready f_fixed f_kept f_length a_writeTo a_writeOf a_input a_memory a_outcome a_bestTile a_bestCost a_op a_dest a_p a_q a_r a_s a_k a_registerOf a_lastUse a_register hp
    exact br_t h1 hp
  by_cases h3 : kd i = 0
  · have h3' : kd (nI i).toNatClampNeg = 0 := by rw [cl]; exact h3
    refine Or.inr ⟨(10, 1, nI o, -1, -1, -1, cn (nI i).toNatClampNeg, (1 : Int32) <<< (nI i &&& 31)), ?_, ?_⟩
    · rw [cl]
      exact zf_adc hN hn hi ho H h3
    · intro post f_count f_results f_writes f_knownSet f_tileOp f_tileCost f_tileP f_tileQ f_tileR f_tileS f_tileConst f_tileInside f_ready f_fixed f_kept f_length a_writeTo a_writeOf a_input a_memory a_outcome a_bestTile a_bestCost a_op a_dest a_p a_q a_r a_s a_k a_registerOf a_lastUse a_register hp
      exact br_f h1 ⟨zi, br_t h3' ⟨zi, And.intro narrow_b1 hp⟩⟩
  · have h3' : ¬ kd (nI i).toNatClampNeg = 0 := by rw [cl]; exact h3
    refine zt_mp (B h0) ?_
    intro post f_count f_results f_writes f_knownSet f_tileOp f_tileCost f_tileP f_tileQ f_tileR f_tileS f_tileConst f_tileInside f_ready f_fixed f_kept f_length a_writeTo a_writeOf a_input a_memory a_outcome a_bestTile a_bestCost a_op a_dest a_p a_q a_r a_s a_k a_registerOf a_lastUse a_register hp
    exact br_f h1 ⟨zi, br_f h3' hp⟩
theorem zt_add (hN : N ≤ 20) (hn : n < N) (G : zg_g N kd lf rt th cn) (hk : kd n = 2) (ha : a < n) (hb : b < n) (el : lf n = nI a) (er : rt n = nI b) : zt_a N kd lf rt th cn n t (fun post u => wpX_addTile post u (nI a) (nI b) t) := by
  by_cases h0 : t = 0
  · refine Or.inr ⟨(2, 1, nI a, nI b, -1, -1, 0, 0), zf_add hN hn hk ha hb el er, ?_⟩
    intro post f_count f_results f_writes f_knownSet f_tileOp f_tileCost f_tileP f_tileQ f_tileR f_tileS f_tileConst f_tileInside f_ready f_fixed f_kept f_length a_writeTo a_writeOf a_input a_memory a_outcome a_bestTile a_bestCost a_op a_dest a_p a_q a_r a_s a_k a_registerOf a_lastUse a_register hp
    exact br_t h0 (And.intro narrow_b1 hp)
  by_cases h1 : (t &&& 1) = 1
  · refine zt_mp (zt_a41 (t := t) (i := a) (o := b) hN hn G ha hb (fun inp mem v S => zg_v2 S hn hk (by omega) (by omega) el er) h0) ?_
    intro post f_count f_results f_writes f_knownSet f_tileOp f_tileCost f_tileP f_tileQ f_tileR f_tileS f_tileConst f_tileInside f_ready f_fixed f_kept f_length a_writeTo a_writeOf a_input a_memory a_outcome a_bestTile a_bestCost a_op a_dest a_p a_q a_r a_s a_k a_registerOf a_lastUse a_register hp
    exact br_f h0 (br_t h1 (br_t h1 hp))
  · refine zt_mp (zt_a41 (t := t) (i := b) (o := a) hN hn G hb ha (fun inp mem v S => (zg_v2 S hn hk (by omega) (by omega) el er).trans (Int32.add_comm _ _)) h0) ?_
    intro post f_count f_results f_writes f_knownSet f_tileOp f_tileCost f_tileP f_tileQ f_tileR f_tileS f_tileConst f_tileInside f_ready f_fixed f_kept f_length a_writeTo a_writeOf a_input a_memory a_outcome a_bestTile a_bestCost a_op a_dest a_p a_q a_r a_s a_k a_registerOf a_lastUse a_register hp
    exact br_f h0 (br_f h1 (br_f h1 hp))
theorem zt_s49 (hN : N ≤ 20) (hn : n < N) (G : zg_g N kd lf rt th cn) (hk : kd n = 3) (ha : a < n) (hb : b < n) (el : lf n = nI a) (er : rt n = nI b) (h0 : ¬ t = 0) : zt_a N kd lf rt th cn n t (fun post u => wX_subTile_49 post (nI a) (nI b) t u.1 u.2.1 u.2.2.1 u.2.2.2.1 u.2.2.2.2.1 u.2.2.2.2.2.1 u.2.2.2.2.2.2.1 u.2.2.2.2.2.2.2.1 u.2.2.2.2.2.2.2.2.1 u.2.2.2.2.2.2.2.2.2.1 u.2.2.2.2.2.2.2.2.2.2.1 u.2.2.2.2.2.2.2.2.2.2.2.1 u.2.2.2.2.2.2.2.2.2.2.2.2.1 u.2.2.2.2.2.2.2.2.2.2.2.2.2.1 u.2.2.2.2.2.2.2.2.2.2.2.2.2.2.1 u.2.2.2.2.2.2.2.2.2.2.2.2.2.2.2.1 u.2.2.2.2.2.2.2.2.2.2.2.2.2.2.2.2.1 u.2.2.2.2.2.2.2.2.2.2.2.2.2.2.2.2.2.1 u.2.2.2.2.2.2.2.2.2.2.2.2.2.2.2.2.2.2.1 u.2.2.2.2.2.2.2.2.2.2.2.2.2.2.2.2.2.2.2.1 u.2.2.2.2.2.2.2.2.2.2.2.2.2.2.2.2.2.2.2.2.1 u.2.2.2.2.2.2.2.2.2.2.2.2.2.2.2.2.2.2.2.2.2.1 u.2.2.2.2.2.2.2.2.2.2.2.2.2.2.2.2.2.2.2.2.2.2.1 u.2.2.2.2.2.2.2.2.2.2.2.2.2.2.2.2.2.2.2.2.2.2.2.1 u.2.2.2.2.2.2.2.2.2.2.2.2.2.2.2.2.2.2.2.2.2.2.2.2.1 u.2.2.2.2.2.2.2.2.2.2.2.2.2.2.2.2.2.2.2.2.2.2.2.2.2.1 u.2.2.2.2.2.2.2.2.2.2.2.2.2.2.2.2.2.2.2.2.2.2.2.2.2.2.1 u.2.2.2.2.2.2.2.2.2.2.2.2.2.2.2.2.2.2.2.2.2.2.2.2.2.2.2.1 u.2.2.2.2.2.2.2.2.2.2.2.2.2.2.2.2.2.2.2.2.2.2.2.2.2.2.2.2.1 u.2.2.2.2.2.2.2.2.2.2.2.2.2.2.2.2.2.2.2.2.2.2.2.2.2.2.2.2.2.1 u.2.2.2.2.2.2.2.2.2.2.2.2.2.2.2.2.2.2.2.2.2.2.2.2.2.2.2.2.2.2.1 u.2.2.2.2.2.2.2.2.2.2.2.2.2.2.2.2.2.2.2.2.2.2.2.2.2.2.2.2.2.2.2.1 u.2.2.2.2.2.2.2.2.2.2.2.2.2.2.2.2.2.2.2.2.2.2.2.2.2.2.2.2.2.2.2.2.1 u.2.2.2.2.2.2.2.2.2.2.2.2.2.2.2.2.2.2.2.2.2.2.2.2.2.2.2.2.2.2.2.2.2.1 u.2.2.2.2.2.2.2.2.2.2.2.2.2.2.2.2.2.2.2.2.2.2.2.2.2.2.2.2.2.2.2.2.2.2.1 u.2.2.2.2.2.2.2.2.2.2.2.2.2.2.2.2.2.2.2.2.2.2.2.2.2.2.2.2.2.2.2.2.2.2.2.1 u.2.2.2.2.2.2.2.2.2.2.2.2.2.2.2.2.2.2.2.2.2.2.2.2.2.2.2.2.2.2.2.2.2.2.2.2.1 u.2.2.2.2.2.2.2.2.2.2.2.2.2.2.2.2.2.2.2.2.2.2.2.2.2.2.2.2.2.2.2.2.2.2.2.2.2) := by
  have cl := zd_cl (a := b) (by omega)
  have zi := zd_in (a := b) (by omega)
  by_cases h1 : t = 2
  · by_cases h3 : kd b = 4
    · have h3' : kd (nI b).toNatClampNeg = 4 := by rw [cl]; exact h3
      obtain ⟨c, hc, el'⟩ := zg_l G (by omega) h3 (by decide) (by decide)
      obtain ⟨d, hd, er'⟩ := zg_r G (by omega) h3 (by decide)
      refine Or.inr ⟨(13, 3, lf (nI b).toNatClampNeg, rt (nI b).toNatClampNeg, nI a, -1, 0, (1 : Int32) <<< (nI b &&& 31)), ?_, ?_⟩
      · rw [cl]
        exact zf_sbm hN hn hk ha hb el er h3 hc hd el' er'
      · intro post f_count f_results f_writes f_knownSet f_tileOp f_tileCost f_tileP f_tileQ f_tileR f_tileS f_tileConst f_tileInside f_ready f_fixed f_kept f_length a_writeTo a_writeOf a_input a_memory a_outcome a_bestTile a_bestCost a_op a_dest a_p a_q a_r a_s a_k a_registerOf a_lastUse a_register hp
        exact br_t h1 ⟨zi, br_t h3' ⟨zi, zi, And.intro narrow_b1 hp⟩⟩
    · have h3' : ¬ kd (nI b).toNatClampNeg = 4 := by rw [cl]; exact h3
      refine Or.inl ⟨h0, ?_⟩
      intro post f_count f_results f_writes f_knownSet f_tileOp f_tileCost f_tileP f_tileQ f_tileR f_tileS f_tileConst f_tileInside f_ready f_fixed f_kept f_length a_writeTo a_writeOf a_input a_memory a_outcome a_bestTile a_bestCost a_op a_dest a_p a_q a_r a_s a_k a_registerOf a_lastUse a_register hp
      exact br_t h1 ⟨zi, br_f h3' hp⟩
  · refine Or.inl ⟨h0, ?_⟩
    intro post f_count f_results f_writes f_knownSet f_tileOp f_tileCost f_tileP f_tileQ f_tileR f_tileS f_tileConst f_tileInside f_ready f_fixed f_kept f_length a_writeTo a_writeOf a_input a_memory a_outcome a_bestTile a_bestCost a_op a_dest a_p a_q a_r a_s a_k a_registerOf a_lastUse a_register hp
    exact br_f h1 hp
theorem zt_sub (hN : N ≤ 20) (hn : n < N) (G : zg_g N kd lf rt th cn) (hk : kd n = 3) (ha : a < n) (hb : b < n) (el : lf n = nI a) (er : rt n = nI b) : zt_a N kd lf rt th cn n t (fun post u => wpX_subTile post u (nI a) (nI b) t) := by
  have cl := zd_cl (a := b) (by omega)
  have zi := zd_in (a := b) (by omega)
  have B := zt_s49 (t := t) hN hn G hk ha hb el er
  by_cases h0 : t = 0
  · refine Or.inr ⟨(3, 1, nI a, nI b, -1, -1, 0, 0), zf_sub hN hn hk ha hb el er, ?_⟩
    intro post f_count f_results f_writes f_knownSet f_tileOp f_tileCost f_tileP f_tileQ f_tileR f_tileS f_tileConst f_tileInside f_ready f_fixed f_kept f_length a_writeTo a_writeOf a_input a_memory a_outcome a_bestTile a_bestCost a_op a_dest a_p a_q a_r a_s a_k a_registerOf a_lastUse a_register hp
    exact br_t h0 (And.intro narrow_b1 hp)
  by_cases h1 : t = 1
  · by_cases h3 : kd b = 0
    · have h3' : kd (nI b).toNatClampNeg = 0 := by rw [cl]; exact h3
      refine Or.inr ⟨(10, 1, nI a, -1, -1, -1, -(cn (nI b).toNatClampNeg), (1 : Int32) <<< (nI b &&& 31)), ?_, ?_⟩
      · rw [cl]
        exact zf_sbc hN hn hk ha hb el er h3
      · intro post f_count f_results f_writes f_knownSet f_tileOp f_tileCost f_tileP f_tileQ f_tileR f_tileS f_tileConst f_tileInside f_ready f_fixed f_kept f_length a_writeTo a_writeOf a_input a_memory a_outcome a_bestTile a_bestCost a_op a_dest a_p a_q a_r a_s a_k a_registerOf a_lastUse a_register hp
        exact br_f h0 (br_t h1 ⟨zi, br_t h3' ⟨zi, And.intro narrow_b1 hp⟩⟩)
    · have h3' : ¬ kd (nI b).toNatClampNeg = 0 := by rw [cl]; exact h3
      refine zt_mp (B h0) ?_
      intro post f_count f_results f_writes f_knownSet f_tileOp f_tileCost f_tileP f_tileQ f_tileR f_tileS f_tileConst f_tileInside f_ready f_fixed f_kept f_length a_writeTo a_writeOf a_input a_memory a_outcome a_bestTile a_bestCost a_op a_dest a_p a_q a_r a_s a_k a_registerOf a_lastUse a_register hp
      exact br_f h0 (br_t h1 ⟨zi, br_f h3' hp⟩)
  · refine zt_mp (B h0) ?_
    intro post f_count f_results f_writes f_knownSet f_tileOp f_tileCost f_tileP f_tileQ f_tileR f_tileS f_tileConst f_tileInside f_ready f_fixed f_kept f_length a_writeTo a_writeOf a_input a_memory a_outcome a_bestTile a_bestCost a_op a_dest a_p a_q a_r a_s a_k a_registerOf a_lastUse a_register hp
    exact br_f h0 (br_f h1 hp)
theorem zt_po {f : Int32 → Prop} {f_count f_results f_writes f_knownSet f_tileOp f_tileCost f_tileP f_tileQ f_tileR f_tileS f_tileConst f_tileInside f_ready f_fixed f_kept f_length : Int32} {a_kind a_left a_right a_third a_constant a_writeTo a_writeOf a_input a_memory a_outcome a_bestTile a_bestCost a_op a_dest a_p a_q a_r a_s a_k a_registerOf a_lastUse a_register : Nat → Int32} {x : Int32} (h0 : f (-1)) (h : ∀ j : Nat, j < 31 → x = (1 : Int32) <<< (nI j &&& 31) → f (nI j)) : ∀ d j : Nat, j + d = 31 → wX_powerOf_2 f x f_count f_results f_writes f_knownSet f_tileOp f_tileCost f_tileP f_tileQ f_tileR f_tileS f_tileConst f_tileInside f_ready f_fixed f_kept f_length a_kind a_left a_right a_third a_constant a_writeTo a_writeOf a_input a_memory a_outcome a_bestTile a_bestCost a_op a_dest a_p a_q a_r a_s a_k a_registerOf a_lastUse a_register (d + 1) (nI j) := by
  intro d
  induction d with
  | zero =>
    intro j hj
    exact br_t (nI_le (a := 31) (by omega) (by omega)) h0
  | succ d ih =>
    intro j hj
    refine br_f (nI_ge (b := 31) (by omega) (by omega)) (br_c (fun z => h j (by omega) z) (fun _ => nm_r (nI_1 j) (ih (j + 1) (by omega))))
theorem zt_pq {f : Int32 → Prop} {f_count f_results f_writes f_knownSet f_tileOp f_tileCost f_tileP f_tileQ f_tileR f_tileS f_tileConst f_tileInside f_ready f_fixed f_kept f_length : Int32} {a_kind a_left a_right a_third a_constant a_writeTo a_writeOf a_input a_memory a_outcome a_bestTile a_bestCost a_op a_dest a_p a_q a_r a_s a_k a_registerOf a_lastUse a_register : Nat → Int32} {x : Int32} {q : Nat} (hq : q < 31) (eq : x = (1 : Int32) <<< (nI q &&& 31)) (lq : ∀ j : Nat, j < q → ¬ x = (1 : Int32) <<< (nI j &&& 31)) (h : f (nI q)) : ∀ d j : Nat, j + d = 31 → j ≤ q → wX_powerOf_2 f x f_count f_results f_writes f_knownSet f_tileOp f_tileCost f_tileP f_tileQ f_tileR f_tileS f_tileConst f_tileInside f_ready f_fixed f_kept f_length a_kind a_left a_right a_third a_constant a_writeTo a_writeOf a_input a_memory a_outcome a_bestTile a_bestCost a_op a_dest a_p a_q a_r a_s a_k a_registerOf a_lastUse a_register (d + 1) (nI j) := by
  intro d
  induction d with
  | zero =>
    intro j hj hl
    omega
  | succ d ih =>
    intro j hj hl
    refine br_f (nI_ge (b := 31) (by omega) (by omega)) ?_
    by_cases z : j = q
    · subst z
      exact br_t eq h
    · exact br_f (lq j (by omega)) (nm_r (nI_1 j) (ih (j + 1) (by omega) (by omega)))
theorem zt_m41 (hN : N ≤ 20) (hn : n < N) (G : zg_g N kd lf rt th cn) (hi : i < n) (ho : o < n) (H : ∀ inp mem v : Nat → Int32, zg_sol N kd lf rt th cn inp mem v → v n = v i * v o) (h0 : ¬ t = 0) : zt_a N kd lf rt th cn n t (fun post u => wX_mulTile_41 post t (nI i) (nI o) u.1 u.2.1 u.2.2.1 u.2.2.2.1 u.2.2.2.2.1 u.2.2.2.2.2.1 u.2.2.2.2.2.2.1 u.2.2.2.2.2.2.2.1 u.2.2.2.2.2.2.2.2.1 u.2.2.2.2.2.2.2.2.2.1 u.2.2.2.2.2.2.2.2.2.2.1 u.2.2.2.2.2.2.2.2.2.2.2.1 u.2.2.2.2.2.2.2.2.2.2.2.2.1 u.2.2.2.2.2.2.2.2.2.2.2.2.2.1 u.2.2.2.2.2.2.2.2.2.2.2.2.2.2.1 u.2.2.2.2.2.2.2.2.2.2.2.2.2.2.2.1 u.2.2.2.2.2.2.2.2.2.2.2.2.2.2.2.2.1 u.2.2.2.2.2.2.2.2.2.2.2.2.2.2.2.2.2.1 u.2.2.2.2.2.2.2.2.2.2.2.2.2.2.2.2.2.2.1 u.2.2.2.2.2.2.2.2.2.2.2.2.2.2.2.2.2.2.2.1 u.2.2.2.2.2.2.2.2.2.2.2.2.2.2.2.2.2.2.2.2.1 u.2.2.2.2.2.2.2.2.2.2.2.2.2.2.2.2.2.2.2.2.2.1 u.2.2.2.2.2.2.2.2.2.2.2.2.2.2.2.2.2.2.2.2.2.2.1 u.2.2.2.2.2.2.2.2.2.2.2.2.2.2.2.2.2.2.2.2.2.2.2.1 u.2.2.2.2.2.2.2.2.2.2.2.2.2.2.2.2.2.2.2.2.2.2.2.2.1 u.2.2.2.2.2.2.2.2.2.2.2.2.2.2.2.2.2.2.2.2.2.2.2.2.2.1 u.2.2.2.2.2.2.2.2.2.2.2.2.2.2.2.2.2.2.2.2.2.2.2.2.2.2.1 u.2.2.2.2.2.2.2.2.2.2.2.2.2.2.2.2.2.2.2.2.2.2.2.2.2.2.2.1 u.2.2.2.2.2.2.2.2.2.2.2.2.2.2.2.2.2.2.2.2.2.2.2.2.2.2.2.2.1 u.2.2.2.2.2.2.2.2.2.2.2.2.2.2.2.2.2.2.2.2.2.2.2.2.2.2.2.2.2.1 u.2.2.2.2.2.2.2.2.2.2.2.2.2.2.2.2.2.2.2.2.2.2.2.2.2.2.2.2.2.2.1 u.2.2.2.2.2.2.2.2.2.2.2.2.2.2.2.2.2.2.2.2.2.2.2.2.2.2.2.2.2.2.2.1 u.2.2.2.2.2.2.2.2.2.2.2.2.2.2.2.2.2.2.2.2.2.2.2.2.2.2.2.2.2.2.2.2.1 u.2.2.2.2.2.2.2.2.2.2.2.2.2.2.2.2.2.2.2.2.2.2.2.2.2.2.2.2.2.2.2.2.2.1 u.2.2.2.2.2.2.2.2.2.2.2.2.2.2.2.2.2.2.2.2.2.2.2.2.2.2.2.2.2.2.2.2.2.2.1 u.2.2.2.2.2.2.2.2.2.2.2.2.2.2.2.2.2.2.2.2.2.2.2.2.2.2.2.2.2.2.2.2.2.2.2.1 u.2.2.2.2.2.2.2.2.2.2.2.2.2.2.2.2.2.2.2.2.2.2.2.2.2.2.2.2.2.2.2.2.2.2.2.2.1 u.2.2.2.2.2.2.2.2.2.2.2.2.2.2.2.2.2.2.2.2.2.2.2.2.2.2.2.2.2.2.2.2.2.2.2.2.2) := by
  have cl := zd_cl (a := i) (by omega)
  have zi := zd_in (a := i) (by omega)
  by_cases h1 : 4 < t
  · refine Or.inl ⟨h0, ?_⟩
    intro post f_count f_results f_writes f_knownSet f_tileOp f_tileCost f_tileP f_tileQ f_tileR f_tileS f_tileConst f_tileInside f_ready f_fixed f_kept f_length a_writeTo a_writeOf a_input a_memory a_outcome a_bestTile a_bestCost a_op a_dest a_p a_q a_r a_s a_k a_registerOf a_lastUse a_register hp
    exact br_t h1 hp
  by_cases h3 : kd i = 0
  · have h3' : kd (nI i).toNatClampNeg = 0 := by rw [cl]; exact h3
    by_cases h2 : 3 ≤ t
    · by_cases hq : ∃ j : Nat, j < 31 ∧ cn (nI i).toNatClampNeg = (1 : Int32) <<< (nI j &&& 31)
      · obtain ⟨q, ⟨hq, eq⟩, lq⟩ := pk_least _ hq
        refine Or.inr ⟨(6, 1, nI o, -1, -1, -1, nI q, (1 : Int32) <<< (nI i &&& 31)), zf_mus hN hn hi ho H h3 (j := q) (by omega) (by rw [cl] at eq; exact eq), ?_⟩
        intro post f_count f_results f_writes f_knownSet f_tileOp f_tileCost f_tileP f_tileQ f_tileR f_tileS f_tileConst f_tileInside f_ready f_fixed f_kept f_length a_writeTo a_writeOf a_input a_memory a_outcome a_bestTile a_bestCost a_op a_dest a_p a_q a_r a_s a_k a_registerOf a_lastUse a_register hp
        refine br_f h1 ⟨zi, br_t h3' (br_t h2 ⟨zi, Exists.intro 32 ?_⟩)⟩
        exact zt_pq hq eq (fun j hj z => lq j hj ⟨by omega, z⟩) (br_t (nI_pos' (by omega)) (And.intro narrow_b1 hp)) 31 0 (by omega) (by omega)
      · refine Or.inl ⟨h0, ?_⟩
        intro post f_count f_results f_writes f_knownSet f_tileOp f_tileCost f_tileP f_tileQ f_tileR f_tileS f_tileConst f_tileInside f_ready f_fixed f_kept f_length a_writeTo a_writeOf a_input a_memory a_outcome a_bestTile a_bestCost a_op a_dest a_p a_q a_r a_s a_k a_registerOf a_lastUse a_register hp
        refine br_f h1 ⟨zi, br_t h3' (br_t h2 ⟨zi, Exists.intro 32 ?_⟩)⟩
        exact zt_po (br_f (by decide) hp) (fun j hj z => absurd ⟨j, hj, z⟩ hq) 31 0 (by omega)
    · refine Or.inr ⟨(14, 2, nI o, -1, -1, -1, cn (nI i).toNatClampNeg, (1 : Int32) <<< (nI i &&& 31)), ?_, ?_⟩
      · rw [cl]
        exact zf_muc hN hn hi ho H h3
      · intro post f_count f_results f_writes f_knownSet f_tileOp f_tileCost f_tileP f_tileQ f_tileR f_tileS f_tileConst f_tileInside f_ready f_fixed f_kept f_length a_writeTo a_writeOf a_input a_memory a_outcome a_bestTile a_bestCost a_op a_dest a_p a_q a_r a_s a_k a_registerOf a_lastUse a_register hp
        exact br_f h1 ⟨zi, br_t h3' (br_f h2 ⟨zi, And.intro narrow_b1 hp⟩)⟩
  · have h3' : ¬ kd (nI i).toNatClampNeg = 0 := by rw [cl]; exact h3
    refine Or.inl ⟨h0, ?_⟩
    intro post f_count f_results f_writes f_knownSet f_tileOp f_tileCost f_tileP f_tileQ f_tileR f_tileS f_tileConst f_tileInside f_ready f_fixed f_kept f_length a_writeTo a_writeOf a_input a_memory a_outcome a_bestTile a_bestCost a_op a_dest a_p a_q a_r a_s a_k a_registerOf a_lastUse a_register hp
    exact br_f h1 ⟨zi, br_f h3' hp⟩
theorem zt_mul (hN : N ≤ 20) (hn : n < N) (G : zg_g N kd lf rt th cn) (hk : kd n = 4) (ha : a < n) (hb : b < n) (el : lf n = nI a) (er : rt n = nI b) : zt_a N kd lf rt th cn n t (fun post u => wpX_mulTile post u (nI a) (nI b) t) := by
  by_cases h0 : t = 0
  · refine Or.inr ⟨(4, 3, nI a, nI b, -1, -1, 0, 0), zf_mul hN hn hk ha hb el er, ?_⟩
    intro post f_count f_results f_writes f_knownSet f_tileOp f_tileCost f_tileP f_tileQ f_tileR f_tileS f_tileConst f_tileInside f_ready f_fixed f_kept f_length a_writeTo a_writeOf a_input a_memory a_outcome a_bestTile a_bestCost a_op a_dest a_p a_q a_r a_s a_k a_registerOf a_lastUse a_register hp
    exact br_t h0 (And.intro narrow_b1 hp)
  by_cases h1 : (t &&& 1) = 1
  · refine zt_mp (zt_m41 (t := t) (i := a) (o := b) hN hn G ha hb (fun inp mem v S => zg_v4 S hn hk (by omega) (by omega) el er) h0) ?_
    intro post f_count f_results f_writes f_knownSet f_tileOp f_tileCost f_tileP f_tileQ f_tileR f_tileS f_tileConst f_tileInside f_ready f_fixed f_kept f_length a_writeTo a_writeOf a_input a_memory a_outcome a_bestTile a_bestCost a_op a_dest a_p a_q a_r a_s a_k a_registerOf a_lastUse a_register hp
    exact br_f h0 (br_t h1 (br_t h1 hp))
  · refine zt_mp (zt_m41 (t := t) (i := b) (o := a) hN hn G hb ha (fun inp mem v S => (zg_v4 S hn hk (by omega) (by omega) el er).trans (Int32.mul_comm _ _)) h0) ?_
    intro post f_count f_results f_writes f_knownSet f_tileOp f_tileCost f_tileP f_tileQ f_tileR f_tileS f_tileConst f_tileInside f_ready f_fixed f_kept f_length a_writeTo a_writeOf a_input a_memory a_outcome a_bestTile a_bestCost a_op a_dest a_p a_q a_r a_s a_k a_registerOf a_lastUse a_register hp
    exact br_f h0 (br_f h1 (br_f h1 hp))
theorem zt_f136 (hN : N ≤ 20) (hn : n < N) (G : zg_g N kd lf rt th cn) (hk : kd n = 7) (hi : i < n) (e0 : lf n = nI i) (hki : kd i = 2) (hc : c < i) (hd : d < i) (el : lf i = nI c) (er : rt i = nI d) (h0 : ¬ t = 0) : zt_a N kd lf rt th cn n t (fun post u => wX_fetchTile_136 post (nI i) t (nI c) (nI d) u.1 u.2.1 u.2.2.1 u.2.2.2.1 u.2.2.2.2.1 u.2.2.2.2.2.1 u.2.2.2.2.2.2.1 u.2.2.2.2.2.2.2.1 u.2.2.2.2.2.2.2.2.1 u.2.2.2.2.2.2.2.2.2.1 u.2.2.2.2.2.2.2.2.2.2.1 u.2.2.2.2.2.2.2.2.2.2.2.1 u.2.2.2.2.2.2.2.2.2.2.2.2.1 u.2.2.2.2.2.2.2.2.2.2.2.2.2.1 u.2.2.2.2.2.2.2.2.2.2.2.2.2.2.1 u.2.2.2.2.2.2.2.2.2.2.2.2.2.2.2.1 u.2.2.2.2.2.2.2.2.2.2.2.2.2.2.2.2.1 u.2.2.2.2.2.2.2.2.2.2.2.2.2.2.2.2.2.1 u.2.2.2.2.2.2.2.2.2.2.2.2.2.2.2.2.2.2.1 u.2.2.2.2.2.2.2.2.2.2.2.2.2.2.2.2.2.2.2.1 u.2.2.2.2.2.2.2.2.2.2.2.2.2.2.2.2.2.2.2.2.1 u.2.2.2.2.2.2.2.2.2.2.2.2.2.2.2.2.2.2.2.2.2.1 u.2.2.2.2.2.2.2.2.2.2.2.2.2.2.2.2.2.2.2.2.2.2.1 u.2.2.2.2.2.2.2.2.2.2.2.2.2.2.2.2.2.2.2.2.2.2.2.1 u.2.2.2.2.2.2.2.2.2.2.2.2.2.2.2.2.2.2.2.2.2.2.2.2.1 u.2.2.2.2.2.2.2.2.2.2.2.2.2.2.2.2.2.2.2.2.2.2.2.2.2.1 u.2.2.2.2.2.2.2.2.2.2.2.2.2.2.2.2.2.2.2.2.2.2.2.2.2.2.1 u.2.2.2.2.2.2.2.2.2.2.2.2.2.2.2.2.2.2.2.2.2.2.2.2.2.2.2.1 u.2.2.2.2.2.2.2.2.2.2.2.2.2.2.2.2.2.2.2.2.2.2.2.2.2.2.2.2.1 u.2.2.2.2.2.2.2.2.2.2.2.2.2.2.2.2.2.2.2.2.2.2.2.2.2.2.2.2.2.1 u.2.2.2.2.2.2.2.2.2.2.2.2.2.2.2.2.2.2.2.2.2.2.2.2.2.2.2.2.2.2.1 u.2.2.2.2.2.2.2.2.2.2.2.2.2.2.2.2.2.2.2.2.2.2.2.2.2.2.2.2.2.2.2.1 u.2.2.2.2.2.2.2.2.2.2.2.2.2.2.2.2.2.2.2.2.2.2.2.2.2.2.2.2.2.2.2.2.1 u.2.2.2.2.2.2.2.2.2.2.2.2.2.2.2.2.2.2.2.2.2.2.2.2.2.2.2.2.2.2.2.2.2.1 u.2.2.2.2.2.2.2.2.2.2.2.2.2.2.2.2.2.2.2.2.2.2.2.2.2.2.2.2.2.2.2.2.2.2.1 u.2.2.2.2.2.2.2.2.2.2.2.2.2.2.2.2.2.2.2.2.2.2.2.2.2.2.2.2.2.2.2.2.2.2.2.1 u.2.2.2.2.2.2.2.2.2.2.2.2.2.2.2.2.2.2.2.2.2.2.2.2.2.2.2.2.2.2.2.2.2.2.2.2.1 u.2.2.2.2.2.2.2.2.2.2.2.2.2.2.2.2.2.2.2.2.2.2.2.2.2.2.2.2.2.2.2.2.2.2.2.2.2) := by
  have cl := zd_cl (a := c) (by omega)
  have zi := zd_in (a := c) (by omega)
  by_cases h1 : t = 4
  · by_cases h3 : kd c = 0
    · have h3' : kd (nI c).toNatClampNeg = 0 := by rw [cl]; exact h3
      refine Or.inr ⟨(16, 2, nI d, -1, -1, -1, cn (nI c).toNatClampNeg, ((1 : Int32) <<< (nI i &&& 31)) ||| ((1 : Int32) <<< (nI c &&& 31))), ?_, ?_⟩
      · rw [cl]
        exact zf_fep hN hn hk hi e0 hki hc hd el er h3
      · intro post f_count f_results f_writes f_knownSet f_tileOp f_tileCost f_tileP f_tileQ f_tileR f_tileS f_tileConst f_tileInside f_ready f_fixed f_kept f_length a_writeTo a_writeOf a_input a_memory a_outcome a_bestTile a_bestCost a_op a_dest a_p a_q a_r a_s a_k a_registerOf a_lastUse a_register hp
        exact br_t h1 ⟨zi, br_t h3' ⟨zi, And.intro narrow_b1 hp⟩⟩
    · have h3' : ¬ kd (nI c).toNatClampNeg = 0 := by rw [cl]; exact h3
      refine Or.inl ⟨h0, ?_⟩
      intro post f_count f_results f_writes f_knownSet f_tileOp f_tileCost f_tileP f_tileQ f_tileR f_tileS f_tileConst f_tileInside f_ready f_fixed f_kept f_length a_writeTo a_writeOf a_input a_memory a_outcome a_bestTile a_bestCost a_op a_dest a_p a_q a_r a_s a_k a_registerOf a_lastUse a_register hp
      exact br_t h1 ⟨zi, br_f h3' hp⟩
  · refine Or.inl ⟨h0, ?_⟩
    intro post f_count f_results f_writes f_knownSet f_tileOp f_tileCost f_tileP f_tileQ f_tileR f_tileS f_tileConst f_tileInside f_ready f_fixed f_kept f_length a_writeTo a_writeOf a_input a_memory a_outcome a_bestTile a_bestCost a_op a_dest a_p a_q a_r a_s a_k a_registerOf a_lastUse a_register hp
    exact br_f h1 hp
theorem zt_f49 (hN : N ≤ 20) (hn : n < N) (G : zg_g N kd lf rt th cn) (hk : kd n = 7) (hi : i < n) (e0 : lf n = nI i) (h0 : ¬ t = 0) : zt_a N kd lf rt th cn n t (fun post u => wX_fetchTile_49 post (nI i) t u.1 u.2.1 u.2.2.1 u.2.2.2.1 u.2.2.2.2.1 u.2.2.2.2.2.1 u.2.2.2.2.2.2.1 u.2.2.2.2.2.2.2.1 u.2.2.2.2.2.2.2.2.1 u.2.2.2.2.2.2.2.2.2.1 u.2.2.2.2.2.2.2.2.2.2.1 u.2.2.2.2.2.2.2.2.2.2.2.1 u.2.2.2.2.2.2.2.2.2.2.2.2.1 u.2.2.2.2.2.2.2.2.2.2.2.2.2.1 u.2.2.2.2.2.2.2.2.2.2.2.2.2.2.1 u.2.2.2.2.2.2.2.2.2.2.2.2.2.2.2.1 u.2.2.2.2.2.2.2.2.2.2.2.2.2.2.2.2.1 u.2.2.2.2.2.2.2.2.2.2.2.2.2.2.2.2.2.1 u.2.2.2.2.2.2.2.2.2.2.2.2.2.2.2.2.2.2.1 u.2.2.2.2.2.2.2.2.2.2.2.2.2.2.2.2.2.2.2.1 u.2.2.2.2.2.2.2.2.2.2.2.2.2.2.2.2.2.2.2.2.1 u.2.2.2.2.2.2.2.2.2.2.2.2.2.2.2.2.2.2.2.2.2.1 u.2.2.2.2.2.2.2.2.2.2.2.2.2.2.2.2.2.2.2.2.2.2.1 u.2.2.2.2.2.2.2.2.2.2.2.2.2.2.2.2.2.2.2.2.2.2.2.1 u.2.2.2.2.2.2.2.2.2.2.2.2.2.2.2.2.2.2.2.2.2.2.2.2.1 u.2.2.2.2.2.2.2.2.2.2.2.2.2.2.2.2.2.2.2.2.2.2.2.2.2.1 u.2.2.2.2.2.2.2.2.2.2.2.2.2.2.2.2.2.2.2.2.2.2.2.2.2.2.1 u.2.2.2.2.2.2.2.2.2.2.2.2.2.2.2.2.2.2.2.2.2.2.2.2.2.2.2.1 u.2.2.2.2.2.2.2.2.2.2.2.2.2.2.2.2.2.2.2.2.2.2.2.2.2.2.2.2.1 u.2.2.2.2.2.2.2.2.2.2.2.2.2.2.2.2.2.2.2.2.2.2.2.2.2.2.2.2.2.1 u.2.2.2.2.2.2.2.2.2.2.2.2.2.2.2.2.2.2.2.2.2.2.2.2.2.2.2.2.2.2.1 u.2.2.2.2.2.2.2.2.2.2.2.2.2.2.2.2.2.2.2.2.2.2.2.2.2.2.2.2.2.2.2.1 u.2.2.2.2.2.2.2.2.2.2.2.2.2.2.2.2.2.2.2.2.2.2.2.2.2.2.2.2.2.2.2.2.1 u.2.2.2.2.2.2.2.2.2.2.2.2.2.2.2.2.2.2.2.2.2.2.2.2.2.2.2.2.2.2.2.2.2.1 u.2.2.2.2.2.2.2.2.2.2.2.2.2.2.2.2.2.2.2.2.2.2.2.2.2.2.2.2.2.2.2.2.2.2.1 u.2.2.2.2.2.2.2.2.2.2.2.2.2.2.2.2.2.2.2.2.2.2.2.2.2.2.2.2.2.2.2.2.2.2.2.1 u.2.2.2.2.2.2.2.2.2.2.2.2.2.2.2.2.2.2.2.2.2.2.2.2.2.2.2.2.2.2.2.2.2.2.2.2.1 u.2.2.2.2.2.2.2.2.2.2.2.2.2.2.2.2.2.2.2.2.2.2.2.2.2.2.2.2.2.2.2.2.2.2.2.2.2) := by
  have cl := zd_cl (a := i) (by omega)
  have zi := zd_in (a := i) (by omega)
  by_cases h3 : kd i = 2
  · have h3' : kd (nI i).toNatClampNeg = 2 := by rw [cl]; exact h3
    obtain ⟨c, hc, el⟩ := zg_l G (by omega) h3 (by decide) (by decide)
    obtain ⟨d, hd, er⟩ := zg_r G (by omega) h3 (by decide)
    have el' : lf (nI i).toNatClampNeg = nI c := by rw [cl]; exact el
    have er' : rt (nI i).toNatClampNeg = nI d := by rw [cl]; exact er
    have cd := zd_cl (a := d) (by omega)
    have zd := zd_in (a := d) (by omega)
    have B := zt_f136 (t := t) hN hn G hk hi e0 h3 hc hd el er
    by_cases h1 : t = 2
    · refine Or.inr ⟨(17, 2, nI c, nI d, -1, -1, 0, (1 : Int32) <<< (nI i &&& 31)), zf_fex hN hn hk hi e0 h3 hc hd el er, ?_⟩
      intro post f_count f_results f_writes f_knownSet f_tileOp f_tileCost f_tileP f_tileQ f_tileR f_tileS f_tileConst f_tileInside f_ready f_fixed f_kept f_length a_writeTo a_writeOf a_input a_memory a_outcome a_bestTile a_bestCost a_op a_dest a_p a_q a_r a_s a_k a_registerOf a_lastUse a_register hp
      exact And.intro zi (br_t h3' ⟨zi, nm_r el' ⟨zi, nm_r er' (br_t h1 (And.intro narrow_b1 hp))⟩⟩)
    by_cases h2 : t = 3
    · by_cases h4 : kd d = 0
      · have h4' : kd (nI d).toNatClampNeg = 0 := by rw [cd]; exact h4
        refine Or.inr ⟨(16, 2, nI c, -1, -1, -1, cn (nI d).toNatClampNeg, ((1 : Int32) <<< (nI i &&& 31)) ||| ((1 : Int32) <<< (nI d &&& 31))), ?_, ?_⟩
        · rw [cd]
          exact zf_feo hN hn hk hi e0 h3 hc hd el er h4
        · intro post f_count f_results f_writes f_knownSet f_tileOp f_tileCost f_tileP f_tileQ f_tileR f_tileS f_tileConst f_tileInside f_ready f_fixed f_kept f_length a_writeTo a_writeOf a_input a_memory a_outcome a_bestTile a_bestCost a_op a_dest a_p a_q a_r a_s a_k a_registerOf a_lastUse a_register hp
          exact And.intro zi (br_t h3' ⟨zi, nm_r el' ⟨zi, nm_r er' (br_f h1 (br_t h2 ⟨zd, br_t h4' ⟨zd, And.intro narrow_b1 hp⟩⟩))⟩⟩)
      · have h4' : ¬ kd (nI d).toNatClampNeg = 0 := by rw [cd]; exact h4
        refine zt_mp (B h0) ?_
        intro post f_count f_results f_writes f_knownSet f_tileOp f_tileCost f_tileP f_tileQ f_tileR f_tileS f_tileConst f_tileInside f_ready f_fixed f_kept f_length a_writeTo a_writeOf a_input a_memory a_outcome a_bestTile a_bestCost a_op a_dest a_p a_q a_r a_s a_k a_registerOf a_lastUse a_register hp
        exact And.intro zi (br_t h3' ⟨zi, nm_r el' ⟨zi, nm_r er' (br_f h1 (br_t h2 ⟨zd, br_f h4' hp⟩))⟩⟩)
    · refine zt_mp (B h0) ?_
      intro post f_count f_results f_writes f_knownSet f_tileOp f_tileCost f_tileP f_tileQ f_tileR f_tileS f_tileConst f_tileInside f_ready f_fixed f_kept f_length a_writeTo a_writeOf a_input a_memory a_outcome a_bestTile a_bestCost a_op a_dest a_p a_q a_r a_s a_k a_registerOf a_lastUse a_register hp
      exact And.intro zi (br_t h3' ⟨zi, nm_r el' ⟨zi, nm_r er' (br_f h1 (br_f h2 hp))⟩⟩)
  · have h3' : ¬ kd (nI i).toNatClampNeg = 2 := by rw [cl]; exact h3
    refine Or.inl ⟨h0, ?_⟩
    intro post f_count f_results f_writes f_knownSet f_tileOp f_tileCost f_tileP f_tileQ f_tileR f_tileS f_tileConst f_tileInside f_ready f_fixed f_kept f_length a_writeTo a_writeOf a_input a_memory a_outcome a_bestTile a_bestCost a_op a_dest a_p a_q a_r a_s a_k a_registerOf a_lastUse a_register hp
    exact And.intro zi (br_f h3' hp)
theorem zt_fet (hN : N ≤ 20) (hn : n < N) (G : zg_g N kd lf rt th cn) (hk : kd n = 7) (ha : a < n) (el : lf n = nI a) : zt_a N kd lf rt th cn n t (fun post u => wpX_fetchTile post u (nI a) t) := by
  have cl := zd_cl (a := a) (by omega)
  have zi := zd_in (a := a) (by omega)
  have B := zt_f49 (t := t) hN hn G hk ha el
  by_cases h0 : t = 0
  · refine Or.inr ⟨(7, 2, nI a, -1, -1, -1, 0, 0), zf_fet hN hn hk ha el, ?_⟩
    intro post f_count f_results f_writes f_knownSet f_tileOp f_tileCost f_tileP f_tileQ f_tileR f_tileS f_tileConst f_tileInside f_ready f_fixed f_kept f_length a_writeTo a_writeOf a_input a_memory a_outcome a_bestTile a_bestCost a_op a_dest a_p a_q a_r a_s a_k a_registerOf a_lastUse a_register hp
    exact br_t h0 (And.intro narrow_b1 hp)
  by_cases h1 : t = 1
  · by_cases h3 : kd a = 0
    · have h3' : kd (nI a).toNatClampNeg = 0 := by rw [cl]; exact h3
      refine Or.inr ⟨(18, 2, -1, -1, -1, -1, cn (nI a).toNatClampNeg, (1 : Int32) <<< (nI a &&& 31)), ?_, ?_⟩
      · rw [cl]
        exact zf_fea hN hn hk ha el h3
      · intro post f_count f_results f_writes f_knownSet f_tileOp f_tileCost f_tileP f_tileQ f_tileR f_tileS f_tileConst f_tileInside f_ready f_fixed f_kept f_length a_writeTo a_writeOf a_input a_memory a_outcome a_bestTile a_bestCost a_op a_dest a_p a_q a_r a_s a_k a_registerOf a_lastUse a_register hp
        exact br_f h0 (br_t h1 ⟨zi, br_t h3' ⟨zi, And.intro narrow_b1 hp⟩⟩)
    · have h3' : ¬ kd (nI a).toNatClampNeg = 0 := by rw [cl]; exact h3
      refine zt_mp (B h0) ?_
      intro post f_count f_results f_writes f_knownSet f_tileOp f_tileCost f_tileP f_tileQ f_tileR f_tileS f_tileConst f_tileInside f_ready f_fixed f_kept f_length a_writeTo a_writeOf a_input a_memory a_outcome a_bestTile a_bestCost a_op a_dest a_p a_q a_r a_s a_k a_registerOf a_lastUse a_register hp
      exact br_f h0 (br_t h1 ⟨zi, br_f h3' hp⟩)
  · refine zt_mp (B h0) ?_
    intro post f_count f_results f_writes f_knownSet f_tileOp f_tileCost f_tileP f_tileQ f_tileR f_tileS f_tileConst f_tileInside f_ready f_fixed f_kept f_length a_writeTo a_writeOf a_input a_memory a_outcome a_bestTile a_bestCost a_op a_dest a_p a_q a_r a_s a_k a_registerOf a_lastUse a_register hp
    exact br_f h0 (br_f h1 hp)
theorem zt_l49 (hN : N ≤ 20) (hn : n < N) (G : zg_g N kd lf rt th cn) (hk : kd n = 8) (ha : a < n) (hb : b < n) (el : lf n = nI a) (er : rt n = nI b) (h0 : ¬ t = 0) : zt_a N kd lf rt th cn n t (fun post u => wX_lessTile_49 post (nI a) (nI b) t u.1 u.2.1 u.2.2.1 u.2.2.2.1 u.2.2.2.2.1 u.2.2.2.2.2.1 u.2.2.2.2.2.2.1 u.2.2.2.2.2.2.2.1 u.2.2.2.2.2.2.2.2.1 u.2.2.2.2.2.2.2.2.2.1 u.2.2.2.2.2.2.2.2.2.2.1 u.2.2.2.2.2.2.2.2.2.2.2.1 u.2.2.2.2.2.2.2.2.2.2.2.2.1 u.2.2.2.2.2.2.2.2.2.2.2.2.2.1 u.2.2.2.2.2.2.2.2.2.2.2.2.2.2.1 u.2.2.2.2.2.2.2.2.2.2.2.2.2.2.2.1 u.2.2.2.2.2.2.2.2.2.2.2.2.2.2.2.2.1 u.2.2.2.2.2.2.2.2.2.2.2.2.2.2.2.2.2.1 u.2.2.2.2.2.2.2.2.2.2.2.2.2.2.2.2.2.2.1 u.2.2.2.2.2.2.2.2.2.2.2.2.2.2.2.2.2.2.2.1 u.2.2.2.2.2.2.2.2.2.2.2.2.2.2.2.2.2.2.2.2.1 u.2.2.2.2.2.2.2.2.2.2.2.2.2.2.2.2.2.2.2.2.2.1 u.2.2.2.2.2.2.2.2.2.2.2.2.2.2.2.2.2.2.2.2.2.2.1 u.2.2.2.2.2.2.2.2.2.2.2.2.2.2.2.2.2.2.2.2.2.2.2.1 u.2.2.2.2.2.2.2.2.2.2.2.2.2.2.2.2.2.2.2.2.2.2.2.2.1 u.2.2.2.2.2.2.2.2.2.2.2.2.2.2.2.2.2.2.2.2.2.2.2.2.2.1 u.2.2.2.2.2.2.2.2.2.2.2.2.2.2.2.2.2.2.2.2.2.2.2.2.2.2.1 u.2.2.2.2.2.2.2.2.2.2.2.2.2.2.2.2.2.2.2.2.2.2.2.2.2.2.2.1 u.2.2.2.2.2.2.2.2.2.2.2.2.2.2.2.2.2.2.2.2.2.2.2.2.2.2.2.2.1 u.2.2.2.2.2.2.2.2.2.2.2.2.2.2.2.2.2.2.2.2.2.2.2.2.2.2.2.2.2.1 u.2.2.2.2.2.2.2.2.2.2.2.2.2.2.2.2.2.2.2.2.2.2.2.2.2.2.2.2.2.2.1 u.2.2.2.2.2.2.2.2.2.2.2.2.2.2.2.2.2.2.2.2.2.2.2.2.2.2.2.2.2.2.2.1 u.2.2.2.2.2.2.2.2.2.2.2.2.2.2.2.2.2.2.2.2.2.2.2.2.2.2.2.2.2.2.2.2.1 u.2.2.2.2.2.2.2.2.2.2.2.2.2.2.2.2.2.2.2.2.2.2.2.2.2.2.2.2.2.2.2.2.2.1 u.2.2.2.2.2.2.2.2.2.2.2.2.2.2.2.2.2.2.2.2.2.2.2.2.2.2.2.2.2.2.2.2.2.2.1 u.2.2.2.2.2.2.2.2.2.2.2.2.2.2.2.2.2.2.2.2.2.2.2.2.2.2.2.2.2.2.2.2.2.2.2.1 u.2.2.2.2.2.2.2.2.2.2.2.2.2.2.2.2.2.2.2.2.2.2.2.2.2.2.2.2.2.2.2.2.2.2.2.2.1 u.2.2.2.2.2.2.2.2.2.2.2.2.2.2.2.2.2.2.2.2.2.2.2.2.2.2.2.2.2.2.2.2.2.2.2.2.2) := by
  have cl := zd_cl (a := a) (by omega)
  have zi := zd_in (a := a) (by omega)
  by_cases h1 : t = 2
  · by_cases h3 : kd a = 0
    · have h3' : kd (nI a).toNatClampNeg = 0 := by rw [cl]; exact h3
      refine Or.inr ⟨(20, 1, nI b, -1, -1, -1, cn (nI a).toNatClampNeg, (1 : Int32) <<< (nI a &&& 31)), ?_, ?_⟩
      · rw [cl]
        exact zf_cle hN hn hk ha hb el er h3
      · intro post f_count f_results f_writes f_knownSet f_tileOp f_tileCost f_tileP f_tileQ f_tileR f_tileS f_tileConst f_tileInside f_ready f_fixed f_kept f_length a_writeTo a_writeOf a_input a_memory a_outcome a_bestTile a_bestCost a_op a_dest a_p a_q a_r a_s a_k a_registerOf a_lastUse a_register hp
        exact br_t h1 ⟨zi, br_t h3' ⟨zi, And.intro narrow_b1 hp⟩⟩
    · have h3' : ¬ kd (nI a).toNatClampNeg = 0 := by rw [cl]; exact h3
      refine Or.inl ⟨h0, ?_⟩
      intro post f_count f_results f_writes f_knownSet f_tileOp f_tileCost f_tileP f_tileQ f_tileR f_tileS f_tileConst f_tileInside f_ready f_fixed f_kept f_length a_writeTo a_writeOf a_input a_memory a_outcome a_bestTile a_bestCost a_op a_dest a_p a_q a_r a_s a_k a_registerOf a_lastUse a_register hp
      exact br_t h1 ⟨zi, br_f h3' hp⟩
  · refine Or.inl ⟨h0, ?_⟩
    intro post f_count f_results f_writes f_knownSet f_tileOp f_tileCost f_tileP f_tileQ f_tileR f_tileS f_tileConst f_tileInside f_ready f_fixed f_kept f_length a_writeTo a_writeOf a_input a_memory a_outcome a_bestTile a_bestCost a_op a_dest a_p a_q a_r a_s a_k a_registerOf a_lastUse a_register hp
    exact br_f h1 hp
theorem zt_les (hN : N ≤ 20) (hn : n < N) (G : zg_g N kd lf rt th cn) (hk : kd n = 8) (ha : a < n) (hb : b < n) (el : lf n = nI a) (er : rt n = nI b) : zt_a N kd lf rt th cn n t (fun post u => wpX_lessTile post u (nI a) (nI b) t) := by
  have cl := zd_cl (a := b) (by omega)
  have zi := zd_in (a := b) (by omega)
  have B := zt_l49 (t := t) hN hn G hk ha hb el er
  by_cases h0 : t = 0
  · refine Or.inr ⟨(8, 1, nI a, nI b, -1, -1, 0, 0), zf_les hN hn hk ha hb el er, ?_⟩
    intro post f_count f_results f_writes f_knownSet f_tileOp f_tileCost f_tileP f_tileQ f_tileR f_tileS f_tileConst f_tileInside f_ready f_fixed f_kept f_length a_writeTo a_writeOf a_input a_memory a_outcome a_bestTile a_bestCost a_op a_dest a_p a_q a_r a_s a_k a_registerOf a_lastUse a_register hp
    exact br_t h0 (And.intro narrow_b1 hp)
  by_cases h1 : t = 1
  · by_cases h3 : kd b = 0
    · have h3' : kd (nI b).toNatClampNeg = 0 := by rw [cl]; exact h3
      refine Or.inr ⟨(19, 1, nI a, -1, -1, -1, cn (nI b).toNatClampNeg, (1 : Int32) <<< (nI b &&& 31)), ?_, ?_⟩
      · rw [cl]
        exact zf_lec hN hn hk ha hb el er h3
      · intro post f_count f_results f_writes f_knownSet f_tileOp f_tileCost f_tileP f_tileQ f_tileR f_tileS f_tileConst f_tileInside f_ready f_fixed f_kept f_length a_writeTo a_writeOf a_input a_memory a_outcome a_bestTile a_bestCost a_op a_dest a_p a_q a_r a_s a_k a_registerOf a_lastUse a_register hp
        exact br_f h0 (br_t h1 ⟨zi, br_t h3' ⟨zi, And.intro narrow_b1 hp⟩⟩)
    · have h3' : ¬ kd (nI b).toNatClampNeg = 0 := by rw [cl]; exact h3
      refine zt_mp (B h0) ?_
      intro post f_count f_results f_writes f_knownSet f_tileOp f_tileCost f_tileP f_tileQ f_tileR f_tileS f_tileConst f_tileInside f_ready f_fixed f_kept f_length a_writeTo a_writeOf a_input a_memory a_outcome a_bestTile a_bestCost a_op a_dest a_p a_q a_r a_s a_k a_registerOf a_lastUse a_register hp
      exact br_f h0 (br_t h1 ⟨zi, br_f h3' hp⟩)
  · refine zt_mp (B h0) ?_
    intro post f_count f_results f_writes f_knownSet f_tileOp f_tileCost f_tileP f_tileQ f_tileR f_tileS f_tileConst f_tileInside f_ready f_fixed f_kept f_length a_writeTo a_writeOf a_input a_memory a_outcome a_bestTile a_bestCost a_op a_dest a_p a_q a_r a_s a_k a_registerOf a_lastUse a_register hp
    exact br_f h0 (br_f h1 hp)
theorem zt_pic (hN : N ≤ 20) (hn : n < N) (G : zg_g N kd lf rt th cn) (hk : kd n = 9) : zt_a N kd lf rt th cn n t (fun post u => wpX_pickTile post u (nI n) t) := by
  have cn' := zd_cl (a := n) (by omega)
  have zn := zd_in (a := n) (by omega)
  obtain ⟨i, hi, e0⟩ := zg_l G hn hk (by decide) (by decide)
  obtain ⟨b, hb, e1⟩ := zg_r G hn hk (by decide)
  obtain ⟨e, he, et⟩ := zg_t G hn hk
  have e0' : lf (nI n).toNatClampNeg = nI i := by rw [cn']; exact e0
  have cl := zd_cl (a := i) (by omega)
  have zi := zd_in (a := i) (by omega)
  by_cases h0 : t = 0
  · refine Or.inr ⟨(9, 2, nI i, rt (nI n).toNatClampNeg, th (nI n).toNatClampNeg, -1, 0, 0), ?_, ?_⟩
    · rw [cn']
      exact zf_pic hN hn hk hi hb he e0 e1 et
    · intro post f_count f_results f_writes f_knownSet f_tileOp f_tileCost f_tileP f_tileQ f_tileR f_tileS f_tileConst f_tileInside f_ready f_fixed f_kept f_length a_writeTo a_writeOf a_input a_memory a_outcome a_bestTile a_bestCost a_op a_dest a_p a_q a_r a_s a_k a_registerOf a_lastUse a_register hp
      exact And.intro zn (nm_r e0' (br_t h0 ⟨zn, And.intro zn (nm_e (And.intro narrow_b1 hp))⟩))
  by_cases h1 : t = 1
  · by_cases h3 : kd i = 8
    · have h3' : kd (nI i).toNatClampNeg = 8 := by rw [cl]; exact h3
      obtain ⟨c, hc, el⟩ := zg_l G (by omega) h3 (by decide) (by decide)
      obtain ⟨d, hd, er⟩ := zg_r G (by omega) h3 (by decide)
      refine Or.inr ⟨(21, 2, lf (nI i).toNatClampNeg, rt (nI i).toNatClampNeg, rt (nI n).toNatClampNeg, th (nI n).toNatClampNeg, 0, (1 : Int32) <<< (nI i &&& 31)), ?_, ?_⟩
      · rw [cn', cl]
        exact zf_pil hN hn hk hi hb he e0 e1 et h3 hc hd el er
      · intro post f_count f_results f_writes f_knownSet f_tileOp f_tileCost f_tileP f_tileQ f_tileR f_tileS f_tileConst f_tileInside f_ready f_fixed f_kept f_length a_writeTo a_writeOf a_input a_memory a_outcome a_bestTile a_bestCost a_op a_dest a_p a_q a_r a_s a_k a_registerOf a_lastUse a_register hp
        exact And.intro zn (nm_r e0' (br_f h0 (br_t h1 (br_f (nI_pos (by omega)) ⟨zi, br_t h3' (br_f (by decide) ⟨zi, zi, And.intro zn (nm_e ⟨zn, nm_e (And.intro narrow_b1 hp)⟩)⟩)⟩))))
    · have h3' : ¬ kd (nI i).toNatClampNeg = 8 := by rw [cl]; exact h3
      refine Or.inl ⟨h0, ?_⟩
      intro post f_count f_results f_writes f_knownSet f_tileOp f_tileCost f_tileP f_tileQ f_tileR f_tileS f_tileConst f_tileInside f_ready f_fixed f_kept f_length a_writeTo a_writeOf a_input a_memory a_outcome a_bestTile a_bestCost a_op a_dest a_p a_q a_r a_s a_k a_registerOf a_lastUse a_register hp
      exact And.intro zn (nm_r e0' (br_f h0 (br_t h1 (br_f (nI_pos (by omega)) ⟨zi, br_f h3' (br_t rfl hp)⟩))))
  · refine Or.inl ⟨h0, ?_⟩
    intro post f_count f_results f_writes f_knownSet f_tileOp f_tileCost f_tileP f_tileQ f_tileR f_tileS f_tileConst f_tileInside f_ready f_fixed f_kept f_length a_writeTo a_writeOf a_input a_memory a_outcome a_bestTile a_bestCost a_op a_dest a_p a_q a_r a_s a_k a_registerOf a_lastUse a_register hp
    exact And.intro zn (nm_r e0' (br_f h0 (br_f h1 hp)))
theorem zt_one0 (hN : N ≤ 20) (hn : n < N) (G : zg_g N kd lf rt th cn) {x co ins : Int32} (hk : kd n = 0 ∨ kd n = 1 ∨ kd n = 5 ∨ kd n = 6) (ex : lf n = x) : zt_f N kd lf rt th cn n (kd n, co, x, -1, -1, -1, cn n, ins) := by
  subst ex
  rcases hk with hk | hk | hk | hk
  · exact zf_num hN hn hk ((G n hn).2.1 (Or.inl hk))
  · exact zf_inp hN hn hk ((G n hn).2.1 (Or.inr hk)) ((G n hn).2.2.1 hk)
  · obtain ⟨a, ha, el⟩ := zg_l G hn hk (by decide) (by decide)
    exact zf_neg hN hn hk ha el
  · obtain ⟨a, ha, el⟩ := zg_l G hn hk (by decide) (by decide)
    exact zf_shi hN hn hk ha el
theorem zt_one (hN : N ≤ 20) (hn : n < N) (G : zg_g N kd lf rt th cn) {x : Int32} (hk : kd n = 0 ∨ kd n = 1 ∨ kd n = 5 ∨ kd n = 6) (ex : lf n = x) : zt_a N kd lf rt th cn n t (fun post u => wpX_oneTile post u (nI n) x t) := by
  have cn' := zd_cl (a := n) (by omega)
  have zn := zd_in (a := n) (by omega)
  by_cases h0 : t = 0
  · refine Or.inr ⟨(kd (nI n).toNatClampNeg, 1, x, -1, -1, -1, cn (nI n).toNatClampNeg, 0), ?_, ?_⟩
    · rw [cn']
      exact zt_one0 hN hn G hk ex
    · intro post f_count f_results f_writes f_knownSet f_tileOp f_tileCost f_tileP f_tileQ f_tileR f_tileS f_tileConst f_tileInside f_ready f_fixed f_kept f_length a_writeTo a_writeOf a_input a_memory a_outcome a_bestTile a_bestCost a_op a_dest a_p a_q a_r a_s a_k a_registerOf a_lastUse a_register hp
      exact br_t h0 ⟨zn, zn, And.intro narrow_b1 hp⟩
  by_cases h5 : kd n = 5
  · have h5' : kd (nI n).toNatClampNeg = 5 := by rw [cn']; exact h5
    have h6' : ¬ kd (nI n).toNatClampNeg = 6 := by rw [h5']; decide
    obtain ⟨a, ha, el⟩ := zg_l G hn h5 (by decide) (by decide)
    rw [el] at ex
    subst ex
    have cl := zd_cl (a := a) (by omega)
    have za := zd_in (a := a) (by omega)
    by_cases h1 : t = 1
    · have h2 : ¬ t = 2 := by rw [h1]; decide
      by_cases h4 : kd a = 4
      · have h4' : kd (nI a).toNatClampNeg = 4 := by rw [cl]; exact h4
        obtain ⟨c, hc, el'⟩ := zg_l G (by omega) h4 (by decide) (by decide)
        obtain ⟨d, hd, er'⟩ := zg_r G (by omega) h4 (by decide)
        refine Or.inr ⟨(15, 3, lf (nI a).toNatClampNeg, rt (nI a).toNatClampNeg, -1, -1, 0, (1 : Int32) <<< (nI a &&& 31)), ?_, ?_⟩
        · rw [cl]
          exact zf_ngm hN hn h5 ha el h4 hc hd el' er'
        · intro post f_count f_results f_writes f_knownSet f_tileOp f_tileCost f_tileP f_tileQ f_tileR f_tileS f_tileConst f_tileInside f_ready f_fixed f_kept f_length a_writeTo a_writeOf a_input a_memory a_outcome a_bestTile a_bestCost a_op a_dest a_p a_q a_r a_s a_k a_registerOf a_lastUse a_register hp
          exact br_f h0 ⟨zn, br_t h5' (br_t h1 ⟨za, br_t h4' ⟨za, za, And.intro narrow_b1 hp⟩⟩)⟩
      · have h4' : ¬ kd (nI a).toNatClampNeg = 4 := by rw [cl]; exact h4
        refine Or.inl ⟨h0, ?_⟩
        intro post f_count f_results f_writes f_knownSet f_tileOp f_tileCost f_tileP f_tileQ f_tileR f_tileS f_tileConst f_tileInside f_ready f_fixed f_kept f_length a_writeTo a_writeOf a_input a_memory a_outcome a_bestTile a_bestCost a_op a_dest a_p a_q a_r a_s a_k a_registerOf a_lastUse a_register hp
        exact br_f h0 ⟨zn, br_t h5' (br_t h1 ⟨za, br_f h4' (And.intro zn (br_t h5' (br_f h2 (And.intro zn (br_f h6' hp)))))⟩)⟩
    by_cases h2 : t = 2
    · by_cases h3 : kd a = 3
      · have h3' : kd (nI a).toNatClampNeg = 3 := by rw [cl]; exact h3
        obtain ⟨c, hc, el'⟩ := zg_l G (by omega) h3 (by decide) (by decide)
        obtain ⟨d, hd, er'⟩ := zg_r G (by omega) h3 (by decide)
        refine Or.inr ⟨(3, 1, rt (nI a).toNatClampNeg, lf (nI a).toNatClampNeg, -1, -1, 0, (1 : Int32) <<< (nI a &&& 31)), ?_, ?_⟩
        · rw [cl]
          exact zf_ngs hN hn h5 ha el h3 hc hd el' er'
        · intro post f_count f_results f_writes f_knownSet f_tileOp f_tileCost f_tileP f_tileQ f_tileR f_tileS f_tileConst f_tileInside f_ready f_fixed f_kept f_length a_writeTo a_writeOf a_input a_memory a_outcome a_bestTile a_bestCost a_op a_dest a_p a_q a_r a_s a_k a_registerOf a_lastUse a_register hp
          exact br_f h0 ⟨zn, br_t h5' (br_f h1 (And.intro zn (br_t h5' (br_t h2 ⟨za, br_t h3' ⟨za, za, And.intro narrow_b1 hp⟩⟩))))⟩
      · have h3' : ¬ kd (nI a).toNatClampNeg = 3 := by rw [cl]; exact h3
        refine Or.inl ⟨h0, ?_⟩
        intro post f_count f_results f_writes f_knownSet f_tileOp f_tileCost f_tileP f_tileQ f_tileR f_tileS f_tileConst f_tileInside f_ready f_fixed f_kept f_length a_writeTo a_writeOf a_input a_memory a_outcome a_bestTile a_bestCost a_op a_dest a_p a_q a_r a_s a_k a_registerOf a_lastUse a_register hp
        exact br_f h0 ⟨zn, br_t h5' (br_f h1 (And.intro zn (br_t h5' (br_t h2 ⟨za, br_f h3' (And.intro zn (br_f h6' hp))⟩))))⟩
    · refine Or.inl ⟨h0, ?_⟩
      intro post f_count f_results f_writes f_knownSet f_tileOp f_tileCost f_tileP f_tileQ f_tileR f_tileS f_tileConst f_tileInside f_ready f_fixed f_kept f_length a_writeTo a_writeOf a_input a_memory a_outcome a_bestTile a_bestCost a_op a_dest a_p a_q a_r a_s a_k a_registerOf a_lastUse a_register hp
      exact br_f h0 ⟨zn, br_t h5' (br_f h1 (And.intro zn (br_t h5' (br_f h2 (And.intro zn (br_f h6' hp))))))⟩
  · have h5' : ¬ kd (nI n).toNatClampNeg = 5 := by rw [cn']; exact h5
    by_cases h6 : kd n = 6
    · have h6' : kd (nI n).toNatClampNeg = 6 := by rw [cn']; exact h6
      obtain ⟨a, ha, el⟩ := zg_l G hn h6 (by decide) (by decide)
      rw [el] at ex
      subst ex
      have cl := zd_cl (a := a) (by omega)
      have za := zd_in (a := a) (by omega)
      by_cases h1 : t = 1
      · by_cases h4 : kd a = 6
        · have h4' : kd (nI a).toNatClampNeg = 6 := by rw [cl]; exact h4
          by_cases h7 : 32 ≤ cn (nI a).toNatClampNeg + cn (nI n).toNatClampNeg
          · refine Or.inl ⟨h0, ?_⟩
            intro post f_count f_results f_writes f_knownSet f_tileOp f_tileCost f_tileP f_tileQ f_tileR f_tileS f_tileConst f_tileInside f_ready f_fixed f_kept f_length a_writeTo a_writeOf a_input a_memory a_outcome a_bestTile a_bestCost a_op a_dest a_p a_q a_r a_s a_k a_registerOf a_lastUse a_register hp
            exact br_f h0 ⟨zn, br_f h5' (And.intro zn (br_f h5' (And.intro zn (br_t h6' (br_t h1 ⟨za, br_t h4' ⟨za, zn, br_t h7 hp⟩⟩)))))⟩
          · obtain ⟨c, hc, el'⟩ := zg_l G (by omega) h4 (by decide) (by decide)
            obtain ⟨p, hp', ep⟩ := zg_c G (by omega) h4
            obtain ⟨q, hq', eq⟩ := zg_c G hn h6
            refine Or.inr ⟨(6, 1, lf (nI a).toNatClampNeg, -1, -1, -1, cn (nI a).toNatClampNeg + cn (nI n).toNatClampNeg, (1 : Int32) <<< (nI a &&& 31)), ?_, ?_⟩
            · rw [cl, cn'] at h7
              rw [cl, cn']
              exact zf_shs hN hn h6 ha el h4 hc el' ep eq hp' hq' h7
            · intro post f_count f_results f_writes f_knownSet f_tileOp f_tileCost f_tileP f_tileQ f_tileR f_tileS f_tileConst f_tileInside f_ready f_fixed f_kept f_length a_writeTo a_writeOf a_input a_memory a_outcome a_bestTile a_bestCost a_op a_dest a_p a_q a_r a_s a_k a_registerOf a_lastUse a_register hp
              exact br_f h0 ⟨zn, br_f h5' (And.intro zn (br_f h5' (And.intro zn (br_t h6' (br_t h1 ⟨za, br_t h4' ⟨za, zn, br_f h7 ⟨za, za, zn, And.intro narrow_b1 hp⟩⟩⟩)))))⟩
        · have h4' : ¬ kd (nI a).toNatClampNeg = 6 := by rw [cl]; exact h4
          refine Or.inl ⟨h0, ?_⟩
          intro post f_count f_results f_writes f_knownSet f_tileOp f_tileCost f_tileP f_tileQ f_tileR f_tileS f_tileConst f_tileInside f_ready f_fixed f_kept f_length a_writeTo a_writeOf a_input a_memory a_outcome a_bestTile a_bestCost a_op a_dest a_p a_q a_r a_s a_k a_registerOf a_lastUse a_register hp
          exact br_f h0 ⟨zn, br_f h5' (And.intro zn (br_f h5' (And.intro zn (br_t h6' (br_t h1 ⟨za, br_f h4' hp⟩)))))⟩
      · refine Or.inl ⟨h0, ?_⟩
        intro post f_count f_results f_writes f_knownSet f_tileOp f_tileCost f_tileP f_tileQ f_tileR f_tileS f_tileConst f_tileInside f_ready f_fixed f_kept f_length a_writeTo a_writeOf a_input a_memory a_outcome a_bestTile a_bestCost a_op a_dest a_p a_q a_r a_s a_k a_registerOf a_lastUse a_register hp
        exact br_f h0 ⟨zn, br_f h5' (And.intro zn (br_f h5' (And.intro zn (br_t h6' (br_f h1 hp)))))⟩
    · have h6' : ¬ kd (nI n).toNatClampNeg = 6 := by rw [cn']; exact h6
      refine Or.inl ⟨h0, ?_⟩
      intro post f_count f_results f_writes f_knownSet f_tileOp f_tileCost f_tileP f_tileQ f_tileR f_tileS f_tileConst f_tileInside f_ready f_fixed f_kept f_length a_writeTo a_writeOf a_input a_memory a_outcome a_bestTile a_bestCost a_op a_dest a_p a_q a_r a_s a_k a_registerOf a_lastUse a_register hp
      exact br_f h0 ⟨zn, br_f h5' (And.intro zn (br_f h5' (And.intro zn (br_f h6' hp))))⟩
theorem zt_rest {x : Int32} {j : Nat} (hj : j ≤ 9) (ej : x = nI j) (j2 : ¬ x = 2) (j3 : ¬ x = 3) (j4 : ¬ x = 4) (j7 : ¬ x = 7) (j8 : ¬ x = 8) (j9 : ¬ x = 9) : x = 0 ∨ x = 1 ∨ x = 5 ∨ x = 6 := by
  have h : j = 0 ∨ j = 1 ∨ j = 2 ∨ j = 3 ∨ j = 4 ∨ j = 5 ∨ j = 6 ∨ j = 7 ∨ j = 8 ∨ j = 9 := by omega
  rcases h with h | h | h | h | h | h | h | h | h | h <;> subst h
  · exact Or.inl ej
  · exact Or.inr (Or.inl ej)
  · exact absurd ej j2
  · exact absurd ej j3
  · exact absurd ej j4
  · exact Or.inr (Or.inr (Or.inl ej))
  · exact Or.inr (Or.inr (Or.inr ej))
  · exact absurd ej j7
  · exact absurd ej j8
  · exact absurd ej j9
theorem zt_of (hN : N ≤ 20) (hn : n < N) (G : zg_g N kd lf rt th cn) (t : Int32) : zt_a N kd lf rt th cn n t (fun post u => wpX_tileOf post u (nI n) t) := by
  have cn' := zd_cl (a := n) (by omega)
  have zn := zd_in (a := n) (by omega)
  by_cases hk : kd n = 2
  · have k2 : kd (nI n).toNatClampNeg = 2 := by rw [cn']; exact hk
    obtain ⟨a, ha, el⟩ := zg_l G hn hk (by decide) (by decide)
    obtain ⟨b, hb, er⟩ := zg_r G hn hk (by decide)
    have e0' : lf (nI n).toNatClampNeg = nI a := by rw [cn']; exact el
    have e1' : rt (nI n).toNatClampNeg = nI b := by rw [cn']; exact er
    rcases zt_add (t := t) hN hn G hk ha hb el er with ⟨h0, h⟩ | ⟨T, f, h⟩
    · refine Or.inl ⟨h0, ?_⟩
      intro post f_count f_results f_writes f_knownSet f_tileOp f_tileCost f_tileP f_tileQ f_tileR f_tileS f_tileConst f_tileInside f_ready f_fixed f_kept f_length a_writeTo a_writeOf a_input a_memory a_outcome a_bestTile a_bestCost a_op a_dest a_p a_q a_r a_s a_k a_registerOf a_lastUse a_register hp
      exact And.intro zn (nm_r e0' ⟨zn, nm_r e1' ⟨zn, br_t k2 (h (And.intro narrow_b0 hp))⟩⟩)
    · refine Or.inr ⟨T, f, ?_⟩
      intro post f_count f_results f_writes f_knownSet f_tileOp f_tileCost f_tileP f_tileQ f_tileR f_tileS f_tileConst f_tileInside f_ready f_fixed f_kept f_length a_writeTo a_writeOf a_input a_memory a_outcome a_bestTile a_bestCost a_op a_dest a_p a_q a_r a_s a_k a_registerOf a_lastUse a_register hp
      exact And.intro zn (nm_r e0' ⟨zn, nm_r e1' ⟨zn, br_t k2 (h (And.intro narrow_b1 hp))⟩⟩)
  have k2 : ¬ kd (nI n).toNatClampNeg = 2 := by rw [cn']; exact hk
  have j2 := hk
  clear hk
  by_cases hk : kd n = 3
  · have k3 : kd (nI n).toNatClampNeg = 3 := by rw [cn']; exact hk
    have k2 : ¬ kd (nI n).toNatClampNeg = 2 := by rw [cn', hk]; decide
    obtain ⟨a, ha, el⟩ := zg_l G hn hk (by decide) (by decide)
    obtain ⟨b, hb, er⟩ := zg_r G hn hk (by decide)
    have e0' : lf (nI n).toNatClampNeg = nI a := by rw [cn']; exact el
    have e1' : rt (nI n).toNatClampNeg = nI b := by rw [cn']; exact er
    rcases zt_sub (t := t) hN hn G hk ha hb el er with ⟨h0, h⟩ | ⟨T, f, h⟩
    · refine Or.inl ⟨h0, ?_⟩
      intro post f_count f_results f_writes f_knownSet f_tileOp f_tileCost f_tileP f_tileQ f_tileR f_tileS f_tileConst f_tileInside f_ready f_fixed f_kept f_length a_writeTo a_writeOf a_input a_memory a_outcome a_bestTile a_bestCost a_op a_dest a_p a_q a_r a_s a_k a_registerOf a_lastUse a_register hp
      exact And.intro zn (nm_r e0' ⟨zn, nm_r e1' ⟨zn, br_f k2 ⟨zn, br_t k3 (h (And.intro narrow_b0 hp))⟩⟩⟩)
    · refine Or.inr ⟨T, f, ?_⟩
      intro post f_count f_results f_writes f_knownSet f_tileOp f_tileCost f_tileP f_tileQ f_tileR f_tileS f_tileConst f_tileInside f_ready f_fixed f_kept f_length a_writeTo a_writeOf a_input a_memory a_outcome a_bestTile a_bestCost a_op a_dest a_p a_q a_r a_s a_k a_registerOf a_lastUse a_register hp
      exact And.intro zn (nm_r e0' ⟨zn, nm_r e1' ⟨zn, br_f k2 ⟨zn, br_t k3 (h (And.intro narrow_b1 hp))⟩⟩⟩)
  have k3 : ¬ kd (nI n).toNatClampNeg = 3 := by rw [cn']; exact hk
  have j3 := hk
  clear hk
  by_cases hk : kd n = 4
  · have k4 : kd (nI n).toNatClampNeg = 4 := by rw [cn']; exact hk
    have k2 : ¬ kd (nI n).toNatClampNeg = 2 := by rw [cn', hk]; decide
    have k3 : ¬ kd (nI n).toNatClampNeg = 3 := by rw [cn', hk]; decide
    obtain ⟨a, ha, el⟩ := zg_l G hn hk (by decide) (by decide)
    obtain ⟨b, hb, er⟩ := zg_r G hn hk (by decide)
    have e0' : lf (nI n).toNatClampNeg = nI a := by rw [cn']; exact el
    have e1' : rt (nI n).toNatClampNeg = nI b := by rw [cn']; exact er
    rcases zt_mul (t := t) hN hn G hk ha hb el er with ⟨h0, h⟩ | ⟨T, f, h⟩
    · refine Or.inl ⟨h0, ?_⟩
      intro post f_count f_results f_writes f_knownSet f_tileOp f_tileCost f_tileP f_tileQ f_tileR f_tileS f_tileConst f_tileInside f_ready f_fixed f_kept f_length a_writeTo a_writeOf a_input a_memory a_outcome a_bestTile a_bestCost a_op a_dest a_p a_q a_r a_s a_k a_registerOf a_lastUse a_register hp
      exact And.intro zn (nm_r e0' ⟨zn, nm_r e1' ⟨zn, br_f k2 ⟨zn, br_f k3 ⟨zn, br_t k4 (h (And.intro narrow_b0 hp))⟩⟩⟩⟩)
    · refine Or.inr ⟨T, f, ?_⟩
      intro post f_count f_results f_writes f_knownSet f_tileOp f_tileCost f_tileP f_tileQ f_tileR f_tileS f_tileConst f_tileInside f_ready f_fixed f_kept f_length a_writeTo a_writeOf a_input a_memory a_outcome a_bestTile a_bestCost a_op a_dest a_p a_q a_r a_s a_k a_registerOf a_lastUse a_register hp
      exact And.intro zn (nm_r e0' ⟨zn, nm_r e1' ⟨zn, br_f k2 ⟨zn, br_f k3 ⟨zn, br_t k4 (h (And.intro narrow_b1 hp))⟩⟩⟩⟩)
  have k4 : ¬ kd (nI n).toNatClampNeg = 4 := by rw [cn']; exact hk
  have j4 := hk
  clear hk
  by_cases hk : kd n = 7
  · have k7 : kd (nI n).toNatClampNeg = 7 := by rw [cn']; exact hk
    have k2 : ¬ kd (nI n).toNatClampNeg = 2 := by rw [cn', hk]; decide
    have k3 : ¬ kd (nI n).toNatClampNeg = 3 := by rw [cn', hk]; decide
    have k4 : ¬ kd (nI n).toNatClampNeg = 4 := by rw [cn', hk]; decide
    obtain ⟨a, ha, el⟩ := zg_l G hn hk (by decide) (by decide)
    have e0' : lf (nI n).toNatClampNeg = nI a := by rw [cn']; exact el
    rcases zt_fet (t := t) hN hn G hk ha el with ⟨h0, h⟩ | ⟨T, f, h⟩
    · refine Or.inl ⟨h0, ?_⟩
      intro post f_count f_results f_writes f_knownSet f_tileOp f_tileCost f_tileP f_tileQ f_tileR f_tileS f_tileConst f_tileInside f_ready f_fixed f_kept f_length a_writeTo a_writeOf a_input a_memory a_outcome a_bestTile a_bestCost a_op a_dest a_p a_q a_r a_s a_k a_registerOf a_lastUse a_register hp
      exact And.intro zn (nm_r e0' ⟨zn, nm_e ⟨zn, br_f k2 ⟨zn, br_f k3 ⟨zn, br_f k4 ⟨zn, br_t k7 (h (And.intro narrow_b0 hp))⟩⟩⟩⟩⟩)
    · refine Or.inr ⟨T, f, ?_⟩
      intro post f_count f_results f_writes f_knownSet f_tileOp f_tileCost f_tileP f_tileQ f_tileR f_tileS f_tileConst f_tileInside f_ready f_fixed f_kept f_length a_writeTo a_writeOf a_input a_memory a_outcome a_bestTile a_bestCost a_op a_dest a_p a_q a_r a_s a_k a_registerOf a_lastUse a_register hp
      exact And.intro zn (nm_r e0' ⟨zn, nm_e ⟨zn, br_f k2 ⟨zn, br_f k3 ⟨zn, br_f k4 ⟨zn, br_t k7 (h (And.intro narrow_b1 hp))⟩⟩⟩⟩⟩)
  have k7 : ¬ kd (nI n).toNatClampNeg = 7 := by rw [cn']; exact hk
  have j7 := hk
  clear hk
  by_cases hk : kd n = 8
  · have k8 : kd (nI n).toNatClampNeg = 8 := by rw [cn']; exact hk
    have k2 : ¬ kd (nI n).toNatClampNeg = 2 := by rw [cn', hk]; decide
    have k3 : ¬ kd (nI n).toNatClampNeg = 3 := by rw [cn', hk]; decide
    have k4 : ¬ kd (nI n).toNatClampNeg = 4 := by rw [cn', hk]; decide
    have k7 : ¬ kd (nI n).toNatClampNeg = 7 := by rw [cn', hk]; decide
    obtain ⟨a, ha, el⟩ := zg_l G hn hk (by decide) (by decide)
    obtain ⟨b, hb, er⟩ := zg_r G hn hk (by decide)
    have e0' : lf (nI n).toNatClampNeg = nI a := by rw [cn']; exact el
    have e1' : rt (nI n).toNatClampNeg = nI b := by rw [cn']; exact er
    rcases zt_les (t := t) hN hn G hk ha hb el er with ⟨h0, h⟩ | ⟨T, f, h⟩
    · refine Or.inl ⟨h0, ?_⟩
      intro post f_count f_results f_writes f_knownSet f_tileOp f_tileCost f_tileP f_tileQ f_tileR f_tileS f_tileConst f_tileInside f_ready f_fixed f_kept f_length a_writeTo a_writeOf a_input a_memory a_outcome a_bestTile a_bestCost a_op a_dest a_p a_q a_r a_s a_k a_registerOf a_lastUse a_register hp
      exact And.intro zn (nm_r e0' ⟨zn, nm_r e1' ⟨zn, br_f k2 ⟨zn, br_f k3 ⟨zn, br_f k4 ⟨zn, br_f k7 ⟨zn, br_t k8 (h (And.intro narrow_b0 hp))⟩⟩⟩⟩⟩⟩)
    · refine Or.inr ⟨T, f, ?_⟩
      intro post f_count f_results f_writes f_knownSet f_tileOp f_tileCost f_tileP f_tileQ f_tileR f_tileS f_tileConst f_tileInside f_ready f_fixed f_kept f_length a_writeTo a_writeOf a_input a_memory a_outcome a_bestTile a_bestCost a_op a_dest a_p a_q a_r a_s a_k a_registerOf a_lastUse a_register hp
      exact And.intro zn (nm_r e0' ⟨zn, nm_r e1' ⟨zn, br_f k2 ⟨zn, br_f k3 ⟨zn, br_f k4 ⟨zn, br_f k7 ⟨zn, br_t k8 (h (And.intro narrow_b1 hp))⟩⟩⟩⟩⟩⟩)
  have k8 : ¬ kd (nI n).toNatClampNeg = 8 := by rw [cn']; exact hk
  have j8 := hk
  clear hk
  by_cases hk : kd n = 9
  · have k9 : kd (nI n).toNatClampNeg = 9 := by rw [cn']; exact hk
    have k2 : ¬ kd (nI n).toNatClampNeg = 2 := by rw [cn', hk]; decide
    have k3 : ¬ kd (nI n).toNatClampNeg = 3 := by rw [cn', hk]; decide
    have k4 : ¬ kd (nI n).toNatClampNeg = 4 := by rw [cn', hk]; decide
    have k7 : ¬ kd (nI n).toNatClampNeg = 7 := by rw [cn', hk]; decide
    have k8 : ¬ kd (nI n).toNatClampNeg = 8 := by rw [cn', hk]; decide
    rcases zt_pic (t := t) hN hn G hk with ⟨h0, h⟩ | ⟨T, f, h⟩
    · refine Or.inl ⟨h0, ?_⟩
      intro post f_count f_results f_writes f_knownSet f_tileOp f_tileCost f_tileP f_tileQ f_tileR f_tileS f_tileConst f_tileInside f_ready f_fixed f_kept f_length a_writeTo a_writeOf a_input a_memory a_outcome a_bestTile a_bestCost a_op a_dest a_p a_q a_r a_s a_k a_registerOf a_lastUse a_register hp
      exact And.intro zn (nm_e ⟨zn, nm_e ⟨zn, br_f k2 ⟨zn, br_f k3 ⟨zn, br_f k4 ⟨zn, br_f k7 ⟨zn, br_f k8 ⟨zn, br_t k9 (h (And.intro narrow_b0 hp))⟩⟩⟩⟩⟩⟩⟩)
    · refine Or.inr ⟨T, f, ?_⟩
      intro post f_count f_results f_writes f_knownSet f_tileOp f_tileCost f_tileP f_tileQ f_tileR f_tileS f_tileConst f_tileInside f_ready f_fixed f_kept f_length a_writeTo a_writeOf a_input a_memory a_outcome a_bestTile a_bestCost a_op a_dest a_p a_q a_r a_s a_k a_registerOf a_lastUse a_register hp
      exact And.intro zn (nm_e ⟨zn, nm_e ⟨zn, br_f k2 ⟨zn, br_f k3 ⟨zn, br_f k4 ⟨zn, br_f k7 ⟨zn, br_f k8 ⟨zn, br_t k9 (h (And.intro narrow_b1 hp))⟩⟩⟩⟩⟩⟩⟩)
  have k9 : ¬ kd (nI n).toNatClampNeg = 9 := by rw [cn']; exact hk
  have j9 := hk
  clear hk
  have hk : kd n = 0 ∨ kd n = 1 ∨ kd n = 5 ∨ kd n = 6 := by
    obtain ⟨j, hj, ej⟩ := zg_k G hn
    exact zt_rest hj ej j2 j3 j4 j7 j8 j9
  rcases zt_one (t := t) (x := lf (nI n).toNatClampNeg) hN hn G hk (by rw [cn']) with ⟨h0, h⟩ | ⟨T, f, h⟩
  · refine Or.inl ⟨h0, ?_⟩
    intro post f_count f_results f_writes f_knownSet f_tileOp f_tileCost f_tileP f_tileQ f_tileR f_tileS f_tileConst f_tileInside f_ready f_fixed f_kept f_length a_writeTo a_writeOf a_input a_memory a_outcome a_bestTile a_bestCost a_op a_dest a_p a_q a_r a_s a_k a_registerOf a_lastUse a_register hp
    exact And.intro zn (nm_e ⟨zn, nm_e ⟨zn, br_f k2 ⟨zn, br_f k3 ⟨zn, br_f k4 ⟨zn, br_f k7 ⟨zn, br_f k8 ⟨zn, br_f k9 (h (And.intro narrow_b0 hp))⟩⟩⟩⟩⟩⟩⟩)
  · refine Or.inr ⟨T, f, ?_⟩
    intro post f_count f_results f_writes f_knownSet f_tileOp f_tileCost f_tileP f_tileQ f_tileR f_tileS f_tileConst f_tileInside f_ready f_fixed f_kept f_length a_writeTo a_writeOf a_input a_memory a_outcome a_bestTile a_bestCost a_op a_dest a_p a_q a_r a_s a_k a_registerOf a_lastUse a_register hp
    exact And.intro zn (nm_e ⟨zn, nm_e ⟨zn, br_f k2 ⟨zn, br_f k3 ⟨zn, br_f k4 ⟨zn, br_f k7 ⟨zn, br_f k8 ⟨zn, br_f k9 (h (And.intro narrow_b1 hp))⟩⟩⟩⟩⟩⟩⟩)
/-- node n has tile t, and it is a right one -/
def zt_gd (N : Nat) (kd lf rt th cn : Nat → Int32) (n : Nat) (t : Int32) : Prop := ∃ T : zt_T, zt_f N kd lf rt th cn n T ∧ zt_w kd lf rt th cn (fun post u => wpX_tileOf post u (nI n) t) T
/-- the first tile of a node is always there -/
theorem zt_g0 (hN : N ≤ 20) (hn : n < N) (G : zg_g N kd lf rt th cn) : zt_gd N kd lf rt th cn n 0 := by
  rcases zt_of hN hn G 0 with h | h
  · exact absurd rfl h.1
  · exact h
end
end
section
/-! covering: choose, wanted, spread, uses, cover -/
def zc_wb (N : Nat) (res : Int32) (wt wo : Nat → Int32) (j : Nat) (w : Int32) : Prop :=
  (∀ m : Nat, bt res m = true → bt w m = true) ∧ (∀ i : Nat, i < j → ∀ a : Nat, a < 20 → wt i = nI a → bt w a = true) ∧ (∀ i : Nat, i < j → ∀ a : Nat, a < 20 → wo i = nI a → bt w a = true) ∧ (∀ m : Nat, bt w m = true → m < N)
def zc_wr (N W : Nat) (wt wo : Nat → Int32) : Prop := W ≤ 4 ∧ ∀ j : Nat, j < W → (∃ a : Nat, a < N ∧ wt j = nI a) ∧ ∃ b : Nat, b < N ∧ wo j = nI b
def zc_cl (kept : Int32) (T : zt_T) : Prop := ∀ a : Nat, a < 20 → (T.2.2.1 = nI a ∨ T.2.2.2.1 = nI a ∨ T.2.2.2.2.1 = nI a ∨ T.2.2.2.2.2.1 = nI a) → bt kept a = true
def zc_F (N : Nat) (kd lf rt th cn : Nat → Int32) (bT : Nat → Int32) (F : Nat → zt_T) : Prop := ∀ m : Nat, m < N → zt_f N kd lf rt th cn m (F m) ∧ zt_w kd lf rt th cn (fun post u => wpX_tileOf post u (nI m) (bT m)) (F m)
section
variable {N W : Nat} {kd lf rt th cn : Nat → Int32} {n : Nat} {f_count f_results f_writes f_knownSet f_tileOp f_tileCost f_tileP f_tileQ f_tileR f_tileS f_tileConst f_tileInside f_ready f_fixed f_kept f_length : Int32} {a_writeTo a_writeOf a_input a_memory a_outcome a_bestTile a_bestCost a_op a_dest a_p a_q a_r a_s a_k a_registerOf a_lastUse a_register : Nat → Int32}
theorem zc_ch {bT : Nat → Int32} (h : ∀ m : Nat, m < N → zt_gd N kd lf rt th cn m (bT m)) : ∃ F : Nat → zt_T, zc_F N kd lf rt th cn bT F := by
  have g : ∀ m : Nat, ∃ T : zt_T, m < N → zt_f N kd lf rt th cn m T ∧ zt_w kd lf rt th cn (fun post u => wpX_tileOf post u (nI m) (bT m)) T := by
    intro m
    by_cases hm : m < N
    · obtain ⟨T, hT⟩ := h m hm
      exact ⟨T, fun _ => hT⟩
    · exact ⟨(0, 0, 0, 0, 0, 0, 0, 0), fun z => absurd z hm⟩
  exact ⟨fun m => Classical.choose (g m), fun m hm => Classical.choose_spec (g m) hm⟩
theorem zc_co {P : Int32 → Prop} {p : Int32} (hn : n ≤ 20) (h : zt_on n p) (k : ∀ r : Int32, P r) : wpX_costOf P (f_count, f_results, f_writes, f_knownSet, f_tileOp, f_tileCost, f_tileP, f_tileQ, f_tileR, f_tileS, f_tileConst, f_tileInside, f_ready, f_fixed, f_kept, f_length, kd, lf, rt, th, cn, a_writeTo, a_writeOf, a_input, a_memory, a_outcome, a_bestTile, a_bestCost, a_op, a_dest, a_p, a_q, a_r, a_s, a_k, a_registerOf, a_lastUse, a_register) p := by
  rcases h with rfl | ⟨a, ha, rfl⟩
  · exact br_f (by decide) (k _)
  · exact br_t (nI_pos' (by omega)) ⟨zd_in (by omega), k _⟩
theorem zc_up {t : Int32} {x : Nat} (hx : x = n) (h : ∀ m : Nat, m < n → zt_gd N kd lf rt th cn m (a_bestTile m)) (hn : zt_gd N kd lf rt th cn n t) : ∀ m : Nat, m < n + 1 → zt_gd N kd lf rt th cn m (upd a_bestTile x t m) := by
  subst hx
  intro m hm
  by_cases e : m = x
  · subst e
    rw [pk_us]
    exact hn
  · rw [pk_un e]
    exact h m (by omega)
theorem zc_27 (hN : N ≤ 20) (hn : n < N) (G : zg_g N kd lf rt th cn) {post : SX → Prop} {J2 : Int32 → Int32 → Int32 → Int32 → Int32 → Int32 → Int32 → Int32 → Int32 → Int32 → Int32 → Int32 → Int32 → Int32 → Int32 → Int32 → Int32 → (Nat → Int32) → (Nat → Int32) → (Nat → Int32) → (Nat → Int32) → (Nat → Int32) → (Nat → Int32) → (Nat → Int32) → (Nat → Int32) → (Nat → Int32) → (Nat → Int32) → (Nat → Int32) → (Nat → Int32) → (Nat → Int32) → (Nat → Int32) → (Nat → Int32) → (Nat → Int32) → (Nat → Int32) → (Nat → Int32) → (Nat → Int32) → (Nat → Int32) → (Nat → Int32) → (Nat → Int32) → Prop} (hJ : ∀ {f_tileOp f_tileCost f_tileP f_tileQ f_tileR f_tileS f_tileConst f_tileInside : Int32} {a_bestTile a_bestCost : Nat → Int32}, (∀ m : Nat, m < n + 1 → zt_gd N kd lf rt th cn m (a_bestTile m)) → J2 (nI (n + 1)) f_count f_results f_writes f_knownSet f_tileOp f_tileCost f_tileP f_tileQ f_tileR f_tileS f_tileConst f_tileInside f_ready f_fixed f_kept f_length kd lf rt th cn a_writeTo a_writeOf a_input a_memory a_outcome a_bestTile a_bestCost a_op a_dest a_p a_q a_r a_s a_k a_registerOf a_lastUse a_register) : ∀ d t : Nat, t + d = 8 → ∀ {f_tileOp f_tileCost f_tileP f_tileQ f_tileR f_tileS f_tileConst f_tileInside : Int32} {a_bestTile a_bestCost : Nat → Int32}, (∀ m : Nat, m < n + 1 → zt_gd N kd lf rt th cn m (a_bestTile m)) → wX_choose_27 post J2 (nI n) (d + 1) (nI t) f_count f_results f_writes f_knownSet f_tileOp f_tileCost f_tileP f_tileQ f_tileR f_tileS f_tileConst f_tileInside f_ready f_fixed f_kept f_length kd lf rt th cn a_writeTo a_writeOf a_input a_memory a_outcome a_bestTile a_bestCost a_op a_dest a_p a_q a_r a_s a_k a_registerOf a_lastUse a_register := by
  have zn := zd_in (a := n) (by omega)
  intro d
  induction d with
  | zero =>
    intro t ht f_tileOp f_tileCost f_tileP f_tileQ f_tileR f_tileS f_tileConst f_tileInside a_bestTile a_bestCost hB
    exact br_t (nI_le (a := 8) (by omega) (by omega)) ⟨zn, br_c (fun _ => ⟨zn, nm_e (nm_r (nI_1 n) (hJ hB))⟩) (fun _ => ⟨zn, zn, nm_e (nm_r (nI_1 n) (hJ hB))⟩)⟩
  | succ d ih =>
    intro t ht f_tileOp f_tileCost f_tileP f_tileQ f_tileR f_tileS f_tileConst f_tileInside a_bestTile a_bestCost hB
    rcases zt_of hN hn G (nI t) with ⟨_, h⟩ | ⟨T, f, h⟩
    · refine br_f (nI_ge (b := 8) (by omega) (by omega)) (h ?_)
      exact br_t rfl (nm_r (nI_1 t) (ih (t + 1) (by omega) hB))
    · refine br_f (nI_ge (b := 8) (by omega) (by omega)) (h ?_)
      refine br_f (by decide) (br_c (fun _ => ?_) (fun _ => nm_r (nI_1 t) (ih (t + 1) (by omega) hB)))
      refine zc_co (n := n) (by omega) f.1 (fun r1 => zc_co (n := n) (by omega) f.2.1 (fun r2 => zc_co (n := n) (by omega) f.2.2.1 (fun r3 => zc_co (n := n) (by omega) f.2.2.2.1 (fun r4 => ?_))))
      refine nm_e ⟨zn, br_c (fun _ => nm_r (nI_1 t) (ih (t + 1) (by omega) hB)) (fun _ => ⟨zn, nm_e ⟨zn, nm_e (nm_r (nI_1 t) (ih (t + 1) (by omega) ?_))⟩⟩)⟩
      exact zc_up (zd_cl (by omega)) (fun m hm => hB m (by omega)) ⟨T, f, h⟩
theorem zc_2 (hN : N ≤ 20) (G : zg_g N kd lf rt th cn) {post : SX → Prop} (hp : ∀ {f_tileOp f_tileCost f_tileP f_tileQ f_tileR f_tileS f_tileConst f_tileInside : Int32} {a_bestTile a_bestCost : Nat → Int32}, (∀ m : Nat, m < N → zt_gd N kd lf rt th cn m (a_bestTile m)) → post (nI N, f_results, nI W, f_knownSet, f_tileOp, f_tileCost, f_tileP, f_tileQ, f_tileR, f_tileS, f_tileConst, f_tileInside, f_ready, f_fixed, f_kept, f_length, kd, lf, rt, th, cn, a_writeTo, a_writeOf, a_input, a_memory, a_outcome, a_bestTile, a_bestCost, a_op, a_dest, a_p, a_q, a_r, a_s, a_k, a_registerOf, a_lastUse, a_register)) : ∀ d n : Nat, n + d = N → ∀ {f_tileOp f_tileCost f_tileP f_tileQ f_tileR f_tileS f_tileConst f_tileInside : Int32} {a_bestTile a_bestCost : Nat → Int32}, (∀ m : Nat, m < n → zt_gd N kd lf rt th cn m (a_bestTile m)) → wX_choose_2 post (d + 1) (nI n) (nI N) f_results (nI W) f_knownSet f_tileOp f_tileCost f_tileP f_tileQ f_tileR f_tileS f_tileConst f_tileInside f_ready f_fixed f_kept f_length kd lf rt th cn a_writeTo a_writeOf a_input a_memory a_outcome a_bestTile a_bestCost a_op a_dest a_p a_q a_r a_s a_k a_registerOf a_lastUse a_register := by
  intro d
  induction d with
  | zero =>
    intro n hn f_tileOp f_tileCost f_tileP f_tileQ f_tileR f_tileS f_tileConst f_tileInside a_bestTile a_bestCost hB
    exact br_t (nI_le (by omega) (by omega)) (hp (fun m hm => hB m (by omega)))
  | succ d ih =>
    intro n hn f_tileOp f_tileCost f_tileP f_tileQ f_tileR f_tileS f_tileConst f_tileInside a_bestTile a_bestCost hB
    have zn := zd_in (a := n) (by omega)
    refine br_f (nI_ge (by omega) (by omega)) ⟨zn, nm_e ⟨zn, nm_e ⟨9, ?_⟩⟩⟩
    exact zc_27 hN (by omega) G (fun hB => ih (n + 1) (by omega) hB) 8 0 rfl (zc_up (zd_cl (by omega)) hB (zt_g0 hN (by omega) G))
theorem zc_choose (hN : N ≤ 20) (G : zg_g N kd lf rt th cn) {post : SX → Prop} (hp : ∀ {f_tileOp f_tileCost f_tileP f_tileQ f_tileR f_tileS f_tileConst f_tileInside : Int32} {a_bestTile a_bestCost : Nat → Int32}, (∀ m : Nat, m < N → zt_gd N kd lf rt th cn m (a_bestTile m)) → post (nI N, f_results, nI W, f_knownSet, f_tileOp, f_tileCost, f_tileP, f_tileQ, f_tileR, f_tileS, f_tileConst, f_tileInside, f_ready, f_fixed, f_kept, f_length, kd, lf, rt, th, cn, a_writeTo, a_writeOf, a_input, a_memory, a_outcome, a_bestTile, a_bestCost, a_op, a_dest, a_p, a_q, a_r, a_s, a_k, a_registerOf, a_lastUse, a_register)) : wpX_choose post (nI N, f_results, nI W, f_knownSet, f_tileOp, f_tileCost, f_tileP, f_tileQ, f_tileR, f_tileS, f_tileConst, f_tileInside, f_ready, f_fixed, f_kept, f_length, kd, lf, rt, th, cn, a_writeTo, a_writeOf, a_input, a_memory, a_outcome, a_bestTile, a_bestCost, a_op, a_dest, a_p, a_q, a_r, a_s, a_k, a_registerOf, a_lastUse, a_register) := Exists.intro (N + 1) (zc_2 hN G hp N 0 (by omega) (fun m h => absurd h (by omega)))
theorem zc_wbs {wt wo : Nat → Int32} {res x : Int32} {j a b : Nat} (hN : N ≤ 20) (h : zc_wb N res wt wo j x) (ha : a < N) (hb : b < N) (ea : wt j = nI a) (eb : wo j = nI b) : zc_wb N res wt wo (j + 1) ((x ||| ((1 : Int32) <<< (nI a &&& 31))) ||| ((1 : Int32) <<< (nI b &&& 31))) := by
  have e : ∀ i, bt ((x ||| ((1 : Int32) <<< (nI a &&& 31))) ||| ((1 : Int32) <<< (nI b &&& 31))) i = ((bt x i || decide (i = a)) || decide (i = b)) := fun i => by rw [zb_or1 _ (by omega), zb_or1 _ (by omega)]
  refine ⟨fun m hm => ?_, fun i hi c hc ec => ?_, fun i hi c hc ec => ?_, fun m hm => ?_⟩
  · rw [e, h.1 m hm]; rfl
  · rw [e]
    by_cases z : i = j
    · subst z
      rw [ea] at ec
      have := zd_inj (by omega) hc ec
      simp [this]
    · rw [h.2.1 i (by omega) c hc ec]; rfl
  · rw [e]
    by_cases z : i = j
    · subst z
      rw [eb] at ec
      have := zd_inj (by omega) hc ec
      simp [this]
    · rw [h.2.2.1 i (by omega) c hc ec]; rfl
  · rw [e] at hm
    simp only [Bool.or_eq_true, decide_eq_true_eq] at hm
    rcases hm with (hm | hm) | hm
    · exact h.2.2.2 m hm
    · omega
    · omega
theorem zc_w7 (hN : N ≤ 20) (HW : zc_wr N W a_writeTo a_writeOf) {post : Int32 → Prop} (hp : ∀ w : Int32, zc_wb N f_results a_writeTo a_writeOf W w → post w) : ∀ d j : Nat, j + d = W → ∀ x : Int32, zc_wb N f_results a_writeTo a_writeOf j x → wX_wanted_7 post (nI N) f_results (nI W) f_knownSet f_tileOp f_tileCost f_tileP f_tileQ f_tileR f_tileS f_tileConst f_tileInside f_ready f_fixed f_kept f_length kd lf rt th cn a_writeTo a_writeOf a_input a_memory a_outcome a_bestTile a_bestCost a_op a_dest a_p a_q a_r a_s a_k a_registerOf a_lastUse a_register (d + 1) x (nI j) := by
  have hW := HW.1
  intro d
  induction d with
  | zero =>
    intro j hj x hx
    have e : j = W := by omega
    subst e
    exact br_t (nI_le (by omega) (by omega)) (hp x hx)
  | succ d ih =>
    intro j hj x hx
    obtain ⟨⟨a, ha, ea⟩, b, hb, eb⟩ := HW.2 j (by omega)
    have zj := zd_in4 (a := j) (by omega)
    have cj : (nI j).toNatClampNeg = j := nI_clamp (by omega)
    refine br_f (nI_ge (by omega) (by omega)) ⟨zj, zj, nm_r (e' := (x ||| ((1 : Int32) <<< (nI a &&& 31))) ||| ((1 : Int32) <<< (nI b &&& 31))) (by rw [cj, ea, eb]) (nm_r (nI_1 j) (ih (j + 1) (by omega) _ (zc_wbs hN hx ha hb ea eb)))⟩
theorem zc_wanted (hN : N ≤ 20) (HW : zc_wr N W a_writeTo a_writeOf) (hR : ∀ m : Nat, bt f_results m = true → m < N) {post : Int32 → Prop} (hp : ∀ w : Int32, zc_wb N f_results a_writeTo a_writeOf W w → post w) : wpX_wanted post (nI N, f_results, nI W, f_knownSet, f_tileOp, f_tileCost, f_tileP, f_tileQ, f_tileR, f_tileS, f_tileConst, f_tileInside, f_ready, f_fixed, f_kept, f_length, kd, lf, rt, th, cn, a_writeTo, a_writeOf, a_input, a_memory, a_outcome, a_bestTile, a_bestCost, a_op, a_dest, a_p, a_q, a_r, a_s, a_k, a_registerOf, a_lastUse, a_register) := Exists.intro (W + 1) (zc_w7 hN HW hp W 0 (by omega) f_results ⟨fun _ h => h, fun i hi => absurd hi (by omega), fun i hi => absurd hi (by omega), hR⟩)
theorem zc_bo {P : Int32 → Prop} {p : Int32} (hn : n ≤ 20) (h : zt_on n p) (k : ∀ r : Int32, (∀ i : Nat, bt r i = true → i < n) → (∀ a : Nat, a < 20 → p = nI a → bt r a = true) → P r) : wpX_bitOf P (nI N, f_results, nI W, f_knownSet, f_tileOp, f_tileCost, f_tileP, f_tileQ, f_tileR, f_tileS, f_tileConst, f_tileInside, f_ready, f_fixed, f_kept, f_length, kd, lf, rt, th, cn, a_writeTo, a_writeOf, a_input, a_memory, a_outcome, a_bestTile, a_bestCost, a_op, a_dest, a_p, a_q, a_r, a_s, a_k, a_registerOf, a_lastUse, a_register) p := by
  rcases h with rfl | ⟨a, ha, rfl⟩
  · exact br_f (by decide) (k 0 (fun i h => absurd h (by rw [b_0]; decide)) (fun a ha e => absurd e.symm (zd_ne ha)))
  · refine br_t (nI_pos' (by omega)) (k _ (fun i h => ?_) (fun b hb e => ?_))
    · rw [zb_one (by omega)] at h
      have := of_decide_eq_true h
      omega
    · rw [zb_one (by omega), zd_inj (by omega) hb e]
      exact decide_eq_true rfl
theorem zc_kp {wt wo : Nat → Int32} {res kept r1 r2 r3 r4 : Int32} {j i : Nat} {F : Nat → zt_T} (hi : i < N) (h : zc_wb N res wt wo j kept) (hc : ∀ m : Nat, i + 1 ≤ m → bt kept m = true → zc_cl kept (F m)) (a1 : ∀ i' : Nat, bt r1 i' = true → i' < i) (a2 : ∀ i' : Nat, bt r2 i' = true → i' < i) (a3 : ∀ i' : Nat, bt r3 i' = true → i' < i) (a4 : ∀ i' : Nat, bt r4 i' = true → i' < i)
    (b1 : ∀ a : Nat, a < 20 → (F i).2.2.1 = nI a → bt r1 a = true) (b2 : ∀ a : Nat, a < 20 → (F i).2.2.2.1 = nI a → bt r2 a = true) (b3 : ∀ a : Nat, a < 20 → (F i).2.2.2.2.1 = nI a → bt r3 a = true) (b4 : ∀ a : Nat, a < 20 → (F i).2.2.2.2.2.1 = nI a → bt r4 a = true) :
    zc_wb N res wt wo j ((((kept ||| r1) ||| r2) ||| r3) ||| r4) ∧ ∀ m : Nat, i ≤ m → bt ((((kept ||| r1) ||| r2) ||| r3) ||| r4) m = true → zc_cl ((((kept ||| r1) ||| r2) ||| r3) ||| r4) (F m) := by
  have e : ∀ x, bt ((((kept ||| r1) ||| r2) ||| r3) ||| r4) x = ((((bt kept x || bt r1 x) || bt r2 x) || bt r3 x) || bt r4 x) := fun x => by rw [b_or, b_or, b_or, b_or]
  have up : ∀ x, bt kept x = true → bt ((((kept ||| r1) ||| r2) ||| r3) ||| r4) x = true := fun x hx => by rw [e, hx]; rfl
  have dn : ∀ x, bt ((((kept ||| r1) ||| r2) ||| r3) ||| r4) x = true → bt kept x = true ∨ x < i := by
    intro x hx
    rw [e] at hx
    simp only [Bool.or_eq_true] at hx
    rcases hx with (((hx | hx) | hx) | hx) | hx
    · exact Or.inl hx
    · exact Or.inr (a1 x hx)
    · exact Or.inr (a2 x hx)
    · exact Or.inr (a3 x hx)
    · exact Or.inr (a4 x hx)
  refine ⟨⟨fun m hm => up m (h.1 m hm), fun i' hi' a ha ea => up a (h.2.1 i' hi' a ha ea), fun i' hi' a ha ea => up a (h.2.2.1 i' hi' a ha ea), fun m hm => ?_⟩, fun m hm hb => ?_⟩
  · rcases dn m hm with z | z
    · exact h.2.2.2 m z
    · omega
  · by_cases z : m = i
    · subst z
      intro a ha ho
      rw [e]
      rcases ho with o | o | o | o
      · rw [b1 a ha o]; simp
      · rw [b2 a ha o]; simp
      · rw [b3 a ha o]; simp
      · rw [b4 a ha o]; simp
    · rcases dn m hb with y | y
      · exact fun a ha ho => up a (hc m (by omega) y a ha ho)
      · omega
theorem zc_17 (hN : N ≤ 20) {F : Nat → zt_T} (hF : zc_F N kd lf rt th cn a_bestTile F) {post : Int32 → SX → Prop} (hp : ∀ {r : Int32} {f_tileOp f_tileCost f_tileP f_tileQ f_tileR f_tileS f_tileConst f_tileInside f_kept : Int32}, zc_wb N f_results a_writeTo a_writeOf W f_kept → (∀ m : Nat, bt f_kept m = true → zc_cl f_kept (F m)) → post r (nI N, f_results, nI W, f_knownSet, f_tileOp, f_tileCost, f_tileP, f_tileQ, f_tileR, f_tileS, f_tileConst, f_tileInside, f_ready, f_fixed, f_kept, f_length, kd, lf, rt, th, cn, a_writeTo, a_writeOf, a_input, a_memory, a_outcome, a_bestTile, a_bestCost, a_op, a_dest, a_p, a_q, a_r, a_s, a_k, a_registerOf, a_lastUse, a_register)) : ∀ i : Nat, i ≤ N → ∀ {x1 : Int32} {f_tileOp f_tileCost f_tileP f_tileQ f_tileR f_tileS f_tileConst f_tileInside f_kept : Int32}, zc_wb N f_results a_writeTo a_writeOf W f_kept → (∀ m : Nat, i ≤ m → bt f_kept m = true → zc_cl f_kept (F m)) → wX_spread_17 post (i + 1) x1 (zd_ i) (nI N) f_results (nI W) f_knownSet f_tileOp f_tileCost f_tileP f_tileQ f_tileR f_tileS f_tileConst f_tileInside f_ready f_fixed f_kept f_length kd lf rt th cn a_writeTo a_writeOf a_input a_memory a_outcome a_bestTile a_bestCost a_op a_dest a_p a_q a_r a_s a_k a_registerOf a_lastUse a_register := by
  intro i
  induction i with
  | zero =>
    intro hi x1 f_tileOp f_tileCost f_tileP f_tileQ f_tileR f_tileS f_tileConst f_tileInside f_kept hw hc
    exact br_t zd_0 (hp hw (fun m h => hc m (Nat.zero_le _) h))
  | succ i ih =>
    intro hi x1 f_tileOp f_tileCost f_tileP f_tileQ f_tileR f_tileS f_tileConst f_tileInside f_kept hw hc
    by_cases hb : bt f_kept i = true
    · have h : zt_w kd lf rt th cn (fun post u => wpX_tileOf post u (nI i) (a_bestTile (nI i).toNatClampNeg)) (F i) := by
        rw [zd_cl (by omega)]
        exact (hF i (by omega)).2
      have f := (hF i (by omega)).1
      refine br_f (zd_n (by omega)) (br_t (zb_on (by omega) hb) (And.intro (zd_in (by omega)) (h ?_)))
      refine nm_e (zc_bo (n := i) (by omega) f.1 (fun r1 a1 b1 => zc_bo (n := i) (by omega) f.2.1 (fun r2 a2 b2 => zc_bo (n := i) (by omega) f.2.2.1 (fun r3 a3 b3 => zc_bo (n := i) (by omega) f.2.2.2.1 (fun r4 a4 b4 => ?_)))))
      have g := zc_kp (N := N) (by omega) hw hc a1 a2 a3 a4 b1 b2 b3 b4
      exact nm_e (nm_r (zd_m i) (ih (by omega) g.1 g.2))
    · refine br_f (zd_n (by omega)) (br_f (zb_non (by omega) hb) (nm_r (zd_m i) (ih (by omega) hw (fun m hm h => ?_))))
      by_cases z : m = i
      · subst z
        exact absurd h hb
      · exact hc m (by omega) h
theorem zc_spread (hN : N ≤ 20) (HW : zc_wr N W a_writeTo a_writeOf) (hR : ∀ m : Nat, bt f_results m = true → m < N) {F : Nat → zt_T} (hF : zc_F N kd lf rt th cn a_bestTile F) {post : Int32 → SX → Prop} (hp : ∀ {r : Int32} {f_tileOp f_tileCost f_tileP f_tileQ f_tileR f_tileS f_tileConst f_tileInside f_kept : Int32}, zc_wb N f_results a_writeTo a_writeOf W f_kept → (∀ m : Nat, bt f_kept m = true → zc_cl f_kept (F m)) → post r (nI N, f_results, nI W, f_knownSet, f_tileOp, f_tileCost, f_tileP, f_tileQ, f_tileR, f_tileS, f_tileConst, f_tileInside, f_ready, f_fixed, f_kept, f_length, kd, lf, rt, th, cn, a_writeTo, a_writeOf, a_input, a_memory, a_outcome, a_bestTile, a_bestCost, a_op, a_dest, a_p, a_q, a_r, a_s, a_k, a_registerOf, a_lastUse, a_register)) : wpX_spread post (nI N, f_results, nI W, f_knownSet, f_tileOp, f_tileCost, f_tileP, f_tileQ, f_tileR, f_tileS, f_tileConst, f_tileInside, f_ready, f_fixed, f_kept, f_length, kd, lf, rt, th, cn, a_writeTo, a_writeOf, a_input, a_memory, a_outcome, a_bestTile, a_bestCost, a_op, a_dest, a_p, a_q, a_r, a_s, a_k, a_registerOf, a_lastUse, a_register) := by
  refine zc_wanted hN HW hR (fun w hw => ?_)
  exact nm_r (zd_p N) (Exists.intro (N + 1) (zc_17 hN hF hp N (Nat.le_refl _) hw (fun m hm h => absurd (hw.2.2.2 m h) (by omega))))
theorem zc_u40 {post : Int32 → Prop} {J6 : Int32 → Int32 → Prop} {x1 x2 : Int32} (hn : n < 20) (hJ : ∀ y : Int32, J6 y (nI (n + 1))) : wX_uses_40 post J6 x1 x2 (nI n) (nI N) f_results (nI W) f_knownSet f_tileOp f_tileCost f_tileP f_tileQ f_tileR f_tileS f_tileConst f_tileInside f_ready f_fixed f_kept f_length kd lf rt th cn a_writeTo a_writeOf a_input a_memory a_outcome a_bestTile a_bestCost a_op a_dest a_p a_q a_r a_s a_k a_registerOf a_lastUse a_register :=
  And.intro (zd_in hn) (br_c (fun _ => nm_e (nm_r (nI_1 n) (hJ _))) (fun _ => nm_r (nI_1 n) (hJ _)))
theorem zc_u27 {post : Int32 → Prop} {J6 : Int32 → Int32 → Prop} {x1 x2 : Int32} (hn : n < 20) (hJ : ∀ y : Int32, J6 y (nI (n + 1))) : wX_uses_27 post J6 x1 x2 (nI n) (nI N) f_results (nI W) f_knownSet f_tileOp f_tileCost f_tileP f_tileQ f_tileR f_tileS f_tileConst f_tileInside f_ready f_fixed f_kept f_length kd lf rt th cn a_writeTo a_writeOf a_input a_memory a_outcome a_bestTile a_bestCost a_op a_dest a_p a_q a_r a_s a_k a_registerOf a_lastUse a_register :=
  And.intro (zd_in hn) (br_c (fun _ => nm_e (zc_u40 hn hJ)) (fun _ => zc_u40 hn hJ))
theorem zc_u6 (hN : N ≤ 20) (HW : zc_wr N W a_writeTo a_writeOf) (hR : ∀ m : Nat, bt f_results m = true → m < N) {post : Int32 → Prop} {x1 : Int32} (hp : ∀ r : Int32, post r) : ∀ d m : Nat, m + d = N → ∀ x2 : Int32, wX_uses_6 post x1 (nI N) f_results (nI W) f_knownSet f_tileOp f_tileCost f_tileP f_tileQ f_tileR f_tileS f_tileConst f_tileInside f_ready f_fixed f_kept f_length kd lf rt th cn a_writeTo a_writeOf a_input a_memory a_outcome a_bestTile a_bestCost a_op a_dest a_p a_q a_r a_s a_k a_registerOf a_lastUse a_register (d + 1) x2 (nI m) := by
  intro d
  induction d with
  | zero =>
    intro m hm x2
    exact br_t (nI_le (by omega) (by omega)) (zc_wanted hN HW hR (fun w _ => hp _))
  | succ d ih =>
    intro m hm x2
    exact br_f (nI_ge (by omega) (by omega)) ⟨zd_in (by omega), br_c (fun _ => nm_e (zc_u27 (by omega) (fun y => ih (m + 1) (by omega) y))) (fun _ => zc_u27 (by omega) (fun y => ih (m + 1) (by omega) y))⟩
theorem zc_uses (hN : N ≤ 20) (hn : n < N) (HW : zc_wr N W a_writeTo a_writeOf) (hR : ∀ m : Nat, bt f_results m = true → m < N) {post : Int32 → Prop} (hp : ∀ r : Int32, post r) : wpX_uses post (nI N, f_results, nI W, f_knownSet, f_tileOp, f_tileCost, f_tileP, f_tileQ, f_tileR, f_tileS, f_tileConst, f_tileInside, f_ready, f_fixed, f_kept, f_length, kd, lf, rt, th, cn, a_writeTo, a_writeOf, a_input, a_memory, a_outcome, a_bestTile, a_bestCost, a_op, a_dest, a_p, a_q, a_r, a_s, a_k, a_registerOf, a_lastUse, a_register) (nI n) :=
  nm_r (nI_1 n) (Exists.intro (N - (n + 1) + 1) (zc_u6 hN HW hR hp (N - (n + 1)) (n + 1) (by omega) 0))
theorem zc_21 (hN : N ≤ 20) (G : zg_g N kd lf rt th cn) (HW : zc_wr N W a_writeTo a_writeOf) (hR : ∀ m : Nat, bt f_results m = true → m < N) {post : SX → Prop} (hp : ∀ (F : Nat → zt_T) {f_tileOp f_tileCost f_tileP f_tileQ f_tileR f_tileS f_tileConst f_tileInside f_fixed f_kept : Int32} {a_bestTile a_bestCost : Nat → Int32}, zc_F N kd lf rt th cn a_bestTile F → zc_wb N f_results a_writeTo a_writeOf W f_kept → (∀ m : Nat, bt f_kept m = true → zc_cl f_kept (F m)) → post (nI N, f_results, nI W, f_knownSet, f_tileOp, f_tileCost, f_tileP, f_tileQ, f_tileR, f_tileS, f_tileConst, f_tileInside, f_ready, f_fixed, f_kept, f_length, kd, lf, rt, th, cn, a_writeTo, a_writeOf, a_input, a_memory, a_outcome, a_bestTile, a_bestCost, a_op, a_dest, a_p, a_q, a_r, a_s, a_k, a_registerOf, a_lastUse, a_register)) : ∀ i : Nat, i ≤ N → ∀ {x1 : Int32} {f_tileOp f_tileCost f_tileP f_tileQ f_tileR f_tileS f_tileConst f_tileInside f_fixed f_kept : Int32} {a_bestTile a_bestCost : Nat → Int32}, wX_cover_21 post (i + 1) x1 (zd_ i) (nI N) f_results (nI W) f_knownSet f_tileOp f_tileCost f_tileP f_tileQ f_tileR f_tileS f_tileConst f_tileInside f_ready f_fixed f_kept f_length kd lf rt th cn a_writeTo a_writeOf a_input a_memory a_outcome a_bestTile a_bestCost a_op a_dest a_p a_q a_r a_s a_k a_registerOf a_lastUse a_register := by
  intro i
  induction i with
  | zero =>
    intro hi x1 f_tileOp f_tileCost f_tileP f_tileQ f_tileR f_tileS f_tileConst f_tileInside f_fixed f_kept a_bestTile a_bestCost
    refine br_t zd_0 (zc_choose hN G ?_)
    intro f_tileOp f_tileCost f_tileP f_tileQ f_tileR f_tileS f_tileConst f_tileInside a_bestTile a_bestCost hB
    obtain ⟨F, hF⟩ := zc_ch hB
    exact zc_spread hN HW hR hF (fun hw hc => hp F hF hw hc)
  | succ i ih =>
    intro hi x1 f_tileOp f_tileCost f_tileP f_tileQ f_tileR f_tileS f_tileConst f_tileInside f_fixed f_kept a_bestTile a_bestCost
    refine br_f (zd_n (by omega)) (zc_uses hN (by omega) HW hR (fun r => br_c (fun _ => nm_r (zd_m i) (ih (by omega))) (fun _ => nm_e (zc_choose hN G ?_))))
    intro f_tileOp f_tileCost f_tileP f_tileQ f_tileR f_tileS f_tileConst f_tileInside a_bestTile a_bestCost hB
    obtain ⟨F, hF⟩ := zc_ch hB
    exact zc_spread hN HW hR hF (fun hw hc => br_c (fun _ => nm_e (nm_r (zd_m i) (ih (by omega)))) (fun _ => nm_r (zd_m i) (ih (by omega))))
theorem zc_cover (hN : N ≤ 20) (G : zg_g N kd lf rt th cn) (HW : zc_wr N W a_writeTo a_writeOf) (hR : ∀ m : Nat, bt f_results m = true → m < N) {post : SX → Prop} (hp : ∀ (F : Nat → zt_T) {f_tileOp f_tileCost f_tileP f_tileQ f_tileR f_tileS f_tileConst f_tileInside f_fixed f_kept : Int32} {a_bestTile a_bestCost : Nat → Int32}, zc_F N kd lf rt th cn a_bestTile F → zc_wb N f_results a_writeTo a_writeOf W f_kept → (∀ m : Nat, bt f_kept m = true → zc_cl f_kept (F m)) → post (nI N, f_results, nI W, f_knownSet, f_tileOp, f_tileCost, f_tileP, f_tileQ, f_tileR, f_tileS, f_tileConst, f_tileInside, f_ready, f_fixed, f_kept, f_length, kd, lf, rt, th, cn, a_writeTo, a_writeOf, a_input, a_memory, a_outcome, a_bestTile, a_bestCost, a_op, a_dest, a_p, a_q, a_r, a_s, a_k, a_registerOf, a_lastUse, a_register)) : wpX_cover post (nI N, f_results, nI W, f_knownSet, f_tileOp, f_tileCost, f_tileP, f_tileQ, f_tileR, f_tileS, f_tileConst, f_tileInside, f_ready, f_fixed, f_kept, f_length, kd, lf, rt, th, cn, a_writeTo, a_writeOf, a_input, a_memory, a_outcome, a_bestTile, a_bestCost, a_op, a_dest, a_p, a_q, a_r, a_s, a_k, a_registerOf, a_lastUse, a_register) := by
  refine zc_choose hN G ?_
  intro f_tileOp f_tileCost f_tileP f_tileQ f_tileR f_tileS f_tileConst f_tileInside a_bestTile a_bestCost hB
  obtain ⟨F, hF⟩ := zc_ch hB
  exact zc_spread hN HW hR hF (fun hw hc => nm_r (zd_p N) (Exists.intro (N + 1) (zc_21 hN G HW hR hp N (Nat.le_refl _))))
end
end
section
/-! the code: emit -/
def ze_us (T : zt_T) (m : Nat) : Prop := T.2.2.1 = nI m ∨ T.2.2.2.1 = nI m ∨ T.2.2.2.2.1 = nI m ∨ T.2.2.2.2.2.1 = nI m
def ze_nu (lu : Nat → Int32) (p L : Int32) : Nat → Int32 := if p < 0 then lu else upd lu p.toNatClampNeg L
def ze_at (T : zt_T) (m : Nat) (ds o p q r s k : Int32) : Prop := ds = nI m ∧ o = T.1 ∧ p = T.2.2.1 ∧ q = T.2.2.2.1 ∧ r = T.2.2.2.2.1 ∧ s = T.2.2.2.2.2.1 ∧ k = T.2.2.2.2.2.2.1
def ze_em (kept : Int32) (F : Nat → zt_T) (n L : Nat) (d : Nat → Nat) (op dest p q r s k lu : Nat → Int32) : Prop :=
  L ≤ n ∧ (∀ i : Nat, i < L → ze_at (F (d i)) (d i) (dest i) (op i) (p i) (q i) (r i) (s i) (k i) ∧ d i < n ∧ bt kept (d i) = true) ∧ (∀ i j : Nat, i < j → j < L → d i < d j) ∧ (∀ m : Nat, m < n → bt kept m = true → ∃ i : Nat, i < L ∧ d i = m) ∧ (∀ m : Nat, m < n → bt kept m = true → ∃ e : Nat, e < L ∧ lu m = nI e ∧ ∀ i : Nat, i < L → ze_us (F (d i)) m → i ≤ e)
theorem ze_nuv {lu : Nat → Int32} {p L : Int32} {n m : Nat} (hn : n ≤ 20) (hm : m < 20) (h : zt_on n p) : (p = nI m → ze_nu lu p L m = L) ∧ (¬ p = nI m → ze_nu lu p L m = lu m) := by
  rcases h with rfl | ⟨a, ha, rfl⟩
  · have e : ze_nu lu (-1) L = lu := if_pos (by decide)
    rw [e]
    exact ⟨fun z => absurd z.symm (zd_ne hm), fun _ => rfl⟩
  · have e : ze_nu lu (nI a) L = upd lu a L := by
      unfold ze_nu
      rw [if_neg (nI_pos (by omega)), zd_cl (by omega)]
    rw [e]
    refine ⟨fun z => ?_, fun z => ?_⟩
    · rw [zd_inj (by omega) hm z, pk_us]
    · exact pk_un (fun y => z (by rw [y]))
theorem ze_nu4 {lu : Nat → Int32} {T : zt_T} {L : Int32} {n m : Nat} (hn : n ≤ 20) (hm : m < 20) (h1 : zt_on n T.2.2.1) (h2 : zt_on n T.2.2.2.1) (h3 : zt_on n T.2.2.2.2.1) (h4 : zt_on n T.2.2.2.2.2.1) :
    (ze_us T m → ze_nu (ze_nu (ze_nu (ze_nu lu T.2.2.1 L) T.2.2.2.1 L) T.2.2.2.2.1 L) T.2.2.2.2.2.1 L m = L) ∧ (¬ ze_us T m → ze_nu (ze_nu (ze_nu (ze_nu lu T.2.2.1 L) T.2.2.2.1 L) T.2.2.2.2.1 L) T.2.2.2.2.2.1 L m = lu m) := by
  have g1 := ze_nuv (lu := lu) (L := L) hn hm h1
  have g2 := ze_nuv (lu := ze_nu lu T.2.2.1 L) (L := L) hn hm h2
  have g3 := ze_nuv (lu := ze_nu (ze_nu lu T.2.2.1 L) T.2.2.2.1 L) (L := L) hn hm h3
  have g4 := ze_nuv (lu := ze_nu (ze_nu (ze_nu lu T.2.2.1 L) T.2.2.2.1 L) T.2.2.2.2.1 L) (L := L) hn hm h4
  refine ⟨fun h => ?_, fun h => ?_⟩
  · by_cases k4 : T.2.2.2.2.2.1 = nI m
    · exact g4.1 k4
    rw [g4.2 k4]
    by_cases k3 : T.2.2.2.2.1 = nI m
    · exact g3.1 k3
    rw [g3.2 k3]
    by_cases k2 : T.2.2.2.1 = nI m
    · exact g2.1 k2
    rw [g2.2 k2]
    rcases h with h | h | h | h
    · exact g1.1 h
    · exact absurd h k2
    · exact absurd h k3
    · exact absurd h k4
  · rw [g4.2 (fun z => h (Or.inr (Or.inr (Or.inr z)))), g3.2 (fun z => h (Or.inr (Or.inr (Or.inl z)))), g2.2 (fun z => h (Or.inr (Or.inl z))), g1.2 (fun z => h (Or.inl z))]
theorem ze_sk {kept : Int32} {F : Nat → zt_T} {n L : Nat} {d : Nat → Nat} {op dest p q r s k lu : Nat → Int32} (hk : ¬ bt kept n = true) (h : ze_em kept F n L d op dest p q r s k lu) : ze_em kept F (n + 1) L d op dest p q r s k lu := by
  obtain ⟨h1, h2, h3, h4, h5⟩ := h
  have lt : ∀ m : Nat, m < n + 1 → bt kept m = true → m < n := fun m hm hb => by
    by_cases z : m = n
    · subst z
      exact absurd hb hk
    · omega
  exact ⟨by omega, fun i hi => ⟨(h2 i hi).1, Nat.lt_succ_of_lt (h2 i hi).2.1, (h2 i hi).2.2⟩, h3, fun m hm hb => h4 m (lt m hm hb) hb, fun m hm hb => h5 m (lt m hm hb) hb⟩
theorem ze_st {kept : Int32} {F : Nat → zt_T} {n L : Nat} {d : Nat → Nat} {op dest p q r s k lu : Nat → Int32} (hn : n < 20) (hk : bt kept n = true) (h1 : zt_on n (F n).2.2.1) (h2 : zt_on n (F n).2.2.2.1) (h3 : zt_on n (F n).2.2.2.2.1) (h4 : zt_on n (F n).2.2.2.2.2.1) (h : ze_em kept F n L d op dest p q r s k lu) :
    ze_em kept F (n + 1) (L + 1) (fun i => if i = L then n else d i) (upd op L (F n).1) (upd dest L (nI n)) (upd p L (F n).2.2.1) (upd q L (F n).2.2.2.1) (upd r L (F n).2.2.2.2.1) (upd s L (F n).2.2.2.2.2.1) (upd k L (F n).2.2.2.2.2.2.1)
      (upd (ze_nu (ze_nu (ze_nu (ze_nu lu (F n).2.2.1 (nI L)) (F n).2.2.2.1 (nI L)) (F n).2.2.2.2.1 (nI L)) (F n).2.2.2.2.2.1 (nI L)) n (nI L)) := by
  obtain ⟨k1, k2, k3, k4, k5⟩ := h
  refine ⟨by omega, fun i hi => ?_, fun i j hij hj => ?_, fun m hm hb => ?_, fun m hm hb => ?_⟩
  · by_cases z : i = L
    · subst z
      rw [pk_us, pk_us, pk_us, pk_us, pk_us, pk_us, pk_us]
      simp only [if_true]
      exact ⟨⟨rfl, rfl, rfl, rfl, rfl, rfl, rfl⟩, by omega, hk⟩
    · rw [pk_un z, pk_un z, pk_un z, pk_un z, pk_un z, pk_un z, pk_un z]
      simp only [if_neg z]
      have g := k2 i (by omega)
      exact ⟨g.1, by omega, g.2.2⟩
  · show (if i = L then n else d i) < (if j = L then n else d j)
    rw [if_neg (by omega)]
    by_cases z : j = L
    · rw [if_pos z]
      exact (k2 i (by omega)).2.1
    · rw [if_neg z]
      exact k3 i j hij (by omega)
  · by_cases z : m = n
    · exact ⟨L, by omega, by show (if L = L then n else d L) = m; rw [if_pos rfl, z]⟩
    · obtain ⟨i, hi, e⟩ := k4 m (by omega) hb
      exact ⟨i, by omega, by show (if i = L then n else d i) = m; rw [if_neg (by omega), e]⟩
  · by_cases z : m = n
    · subst z
      exact ⟨L, by omega, pk_us, fun i hi _ => by omega⟩
    · rw [pk_un z]
      have g := ze_nu4 (lu := lu) (T := F n) (L := nI L) (n := n) (m := m) (by omega) (by omega) h1 h2 h3 h4
      by_cases y : ze_us (F n) m
      · exact ⟨L, by omega, g.1 y, fun i hi _ => by omega⟩
      · obtain ⟨e, he, el, eu⟩ := k5 m (by omega) hb
        refine ⟨e, by omega, (g.2 y).trans el, fun i hi hu => ?_⟩
        have hu' : ze_us (F (if i = L then n else d i)) m := hu
        by_cases x : i = L
        · rw [if_pos x] at hu'
          exact absurd hu' y
        · rw [if_neg x] at hu'
          exact eu i (by omega) hu'
/-! what allot needs -/
def zl_sr (d u : Nat → Nat) (i : Nat) (x : Int32) : Prop := x = -1 ∨ ∃ j : Nat, j < i ∧ x = nI (d j) ∧ i ≤ u j
def zl_s (N L : Nat) (F : Nat → zt_T) (d u : Nat → Nat) (op dest k lu : Nat → Int32) : Prop :=
  L ≤ 20 ∧ (∀ i : Nat, i < L → d i < N ∧ dest i = nI (d i) ∧ lu (d i) = nI (u i) ∧ u i ≤ 1000 ∧ op i = (F (d i)).1 ∧ k i = (F (d i)).2.2.2.2.2.2.1) ∧ (∀ i j : Nat, i < j → j < L → d i < d j) ∧ (∀ i : Nat, i < L → zl_sr d u i (F (d i)).2.2.1 ∧ zl_sr d u i (F (d i)).2.2.2.1 ∧ zl_sr d u i (F (d i)).2.2.2.2.1 ∧ zl_sr d u i (F (d i)).2.2.2.2.2.1)
def zl_o (L W : Nat) (res : Int32) (wt wo : Nat → Int32) (d u : Nat → Nat) : Prop :=
  (∀ m : Nat, bt res m = true → ∃ i : Nat, i < L ∧ d i = m) ∧ (∀ j : Nat, j < W → ∃ i : Nat, i < L ∧ wt j = nI (d i) ∧ L ≤ u i) ∧ (∀ j : Nat, j < W → ∃ i : Nat, i < L ∧ wo j = nI (d i) ∧ L ≤ u i)
def zl_p (L : Nat) (F : Nat → zt_T) (d : Nat → Nat) (p q r s : Nat → Int32) (i : Nat) : Prop := ∀ j : Nat, i ≤ j → j < L → p j = (F (d j)).2.2.1 ∧ q j = (F (d j)).2.2.2.1 ∧ r j = (F (d j)).2.2.2.2.1 ∧ s j = (F (d j)).2.2.2.2.2.1
theorem ze_fin {N W L : Nat} {kept res w : Int32} {wt wo : Nat → Int32} {F : Nat → zt_T} {d : Nat → Nat} {op dest p q r s k lu lu' : Nat → Int32} (hN : N ≤ 20) (HW : zc_wr N W wt wo)
    (hF : ∀ m : Nat, m < N → zt_on m (F m).2.2.1 ∧ zt_on m (F m).2.2.2.1 ∧ zt_on m (F m).2.2.2.2.1 ∧ zt_on m (F m).2.2.2.2.2.1) (hc : ∀ m : Nat, bt kept m = true → zc_cl kept (F m)) (hK : zc_wb N res wt wo W kept) (hw : zc_wb N res wt wo W w)
    (h : ze_em kept F N L d op dest p q r s k lu) (hl : ∀ m : Nat, m < N → (bt w m = true → lu' m = nI 1000) ∧ (¬ bt w m = true → lu' m = lu m)) : ∃ u : Nat → Nat, zl_s N L F d u op dest k lu' ∧ zl_o L W res wt wo d u ∧ zl_p L F d p q r s 0 := by
  obtain ⟨k1, k2, k3, k4, k5⟩ := h
  have U : ∀ i : Nat, i < L → ∃ e : Nat, e ≤ 1000 ∧ lu' (d i) = nI e ∧ (∀ i' : Nat, i' < L → ze_us (F (d i')) (d i) → i' ≤ e) ∧ (bt w (d i) = true → e = 1000) := by
    intro i hi
    have g := k2 i hi
    by_cases z : bt w (d i) = true
    · exact ⟨1000, by omega, (hl (d i) g.2.1).1 z, fun i' hi' _ => by omega, fun _ => rfl⟩
    · obtain ⟨e, he, el, eu⟩ := k5 (d i) g.2.1 g.2.2
      exact ⟨e, by omega, ((hl (d i) g.2.1).2 z).trans el, eu, fun y => absurd y z⟩
  have V : ∀ i : Nat, ∃ e : Nat, i < L → e ≤ 1000 ∧ lu' (d i) = nI e ∧ (∀ i' : Nat, i' < L → ze_us (F (d i')) (d i) → i' ≤ e) ∧ (bt w (d i) = true → e = 1000) := by
    intro i
    by_cases hi : i < L
    · obtain ⟨e, he⟩ := U i hi
      exact ⟨e, fun _ => he⟩
    · exact ⟨0, fun z => absurd z hi⟩
  have X : ∃ u : Nat → Nat, ∀ i : Nat, i < L → u i ≤ 1000 ∧ lu' (d i) = nI (u i) ∧ (∀ i' : Nat, i' < L → ze_us (F (d i')) (d i) → i' ≤ u i) ∧ (bt w (d i) = true → u i = 1000) := ⟨fun i => Classical.choose (V i), fun i hi => Classical.choose_spec (V i) hi⟩
  obtain ⟨u, hu⟩ := X
  have src : ∀ i : Nat, i < L → ∀ x : Int32, zt_on (d i) x → (∀ m : Nat, x = nI m → ze_us (F (d i)) m) → zl_sr d u i x := by
    intro i hi x hx hs
    rcases hx with hx | ⟨a, ha, hx⟩
    · exact Or.inl hx
    · have g := k2 i hi
      have ka := hc (d i) g.2.2 a (by omega) (hs a hx)
      obtain ⟨j, hj, ej⟩ := k4 a (by omega) ka
      have hji : j < i := by
        rcases Nat.lt_or_ge j i with z | z
        · exact z
        · by_cases y : j = i
          · subst y; omega
          · have := k3 i j (by omega) hj
            omega
      refine Or.inr ⟨j, hji, by rw [ej]; exact hx, (hu j hj).2.2.1 i hi ?_⟩
      rw [ej]
      exact hs a hx
  have wr : ∀ a : Nat, a < N → bt kept a = true → bt w a = true → ∃ i : Nat, i < L ∧ d i = a ∧ L ≤ u i := by
    intro a ha hb hb'
    obtain ⟨i, hi, e⟩ := k4 a ha hb
    refine ⟨i, hi, e, ?_⟩
    rw [(hu i hi).2.2.2 (by rw [e]; exact hb')]
    omega
  refine ⟨u, ⟨by omega, fun i hi => ?_, k3, fun i hi => ?_⟩, ⟨fun m hm => ?_, fun j hj => ?_, fun j hj => ?_⟩, fun j _ hj => ?_⟩
  · have g := k2 i hi
    exact ⟨g.2.1, g.1.1, (hu i hi).2.1, (hu i hi).1, g.1.2.1, g.1.2.2.2.2.2.2⟩
  · have g := k2 i hi
    have o := hF (d i) g.2.1
    exact ⟨src i hi _ o.1 (fun m e => Or.inl e), src i hi _ o.2.1 (fun m e => Or.inr (Or.inl e)), src i hi _ o.2.2.1 (fun m e => Or.inr (Or.inr (Or.inl e))), src i hi _ o.2.2.2 (fun m e => Or.inr (Or.inr (Or.inr e)))⟩
  · exact k4 m (hK.2.2.2 m (hK.1 m hm)) (hK.1 m hm)
  · obtain ⟨⟨a, ha, ea⟩, _⟩ := HW.2 j hj
    obtain ⟨i, hi, e, l⟩ := wr a ha (hK.2.1 j hj a (by omega) ea) (hw.2.1 j hj a (by omega) ea)
    exact ⟨i, hi, by rw [e]; exact ea, l⟩
  · obtain ⟨_, a, ha, ea⟩ := HW.2 j hj
    obtain ⟨i, hi, e, l⟩ := wr a ha (hK.2.2.1 j hj a (by omega) ea) (hw.2.2.1 j hj a (by omega) ea)
    exact ⟨i, hi, by rw [e]; exact ea, l⟩
  · have g := (k2 j hj).1
    exact ⟨g.2.2.1, g.2.2.2.1, g.2.2.2.2.1, g.2.2.2.2.2.1⟩
section
variable {N W L : Nat} {kd lf rt th cn : Nat → Int32} {n : Nat} {F : Nat → zt_T} {f_count f_results f_writes f_knownSet f_tileOp f_tileCost f_tileP f_tileQ f_tileR f_tileS f_tileConst f_tileInside f_ready f_fixed f_kept f_length : Int32} {a_writeTo a_writeOf a_input a_memory a_outcome a_bestTile a_bestCost a_op a_dest a_p a_q a_r a_s a_k a_registerOf a_lastUse a_register : Nat → Int32}
theorem ze_note {post : SX → Prop} {p : Int32} (hn : n ≤ 20) (h : zt_on n p) (hp : post (nI N, f_results, nI W, f_knownSet, f_tileOp, f_tileCost, f_tileP, f_tileQ, f_tileR, f_tileS, f_tileConst, f_tileInside, f_ready, f_fixed, f_kept, f_length, kd, lf, rt, th, cn, a_writeTo, a_writeOf, a_input, a_memory, a_outcome, a_bestTile, a_bestCost, a_op, a_dest, a_p, a_q, a_r, a_s, a_k, a_registerOf, ze_nu a_lastUse p f_length, a_register)) : wpX_noteUse post (nI N, f_results, nI W, f_knownSet, f_tileOp, f_tileCost, f_tileP, f_tileQ, f_tileR, f_tileS, f_tileConst, f_tileInside, f_ready, f_fixed, f_kept, f_length, kd, lf, rt, th, cn, a_writeTo, a_writeOf, a_input, a_memory, a_outcome, a_bestTile, a_bestCost, a_op, a_dest, a_p, a_q, a_r, a_s, a_k, a_registerOf, a_lastUse, a_register) p := by
  rcases h with rfl | ⟨a, ha, rfl⟩
  · have e : ze_nu a_lastUse (-1) f_length = a_lastUse := if_pos (by decide)
    rw [e] at hp
    exact br_t (by decide) hp
  · have e : ze_nu a_lastUse (nI a) f_length = upd a_lastUse (nI a).toNatClampNeg f_length := if_neg (nI_pos (by omega))
    rw [e] at hp
    exact br_f (nI_pos (by omega)) ⟨zd_in (by omega), nm_e hp⟩
theorem ze_192 {post : SX → Prop} {w : Int32} {lu0 : Nat → Int32} (hN : N ≤ 20) (hp : ∀ {a_lastUse : Nat → Int32}, (∀ m : Nat, m < N → (bt w m = true → a_lastUse m = nI 1000) ∧ (¬ bt w m = true → a_lastUse m = lu0 m)) → post (nI N, f_results, nI W, f_knownSet, f_tileOp, f_tileCost, f_tileP, f_tileQ, f_tileR, f_tileS, f_tileConst, f_tileInside, f_ready, f_fixed, f_kept, f_length, kd, lf, rt, th, cn, a_writeTo, a_writeOf, a_input, a_memory, a_outcome, a_bestTile, a_bestCost, a_op, a_dest, a_p, a_q, a_r, a_s, a_k, a_registerOf, a_lastUse, a_register)) : ∀ d m : Nat, m + d = N → ∀ {a_lastUse : Nat → Int32}, (∀ i : Nat, (i < m → bt w i = true → a_lastUse i = nI 1000) ∧ (¬ (i < m ∧ bt w i = true) → a_lastUse i = lu0 i)) → wX_emit_192 post w (nI N) f_results (nI W) f_knownSet f_tileOp f_tileCost f_tileP f_tileQ f_tileR f_tileS f_tileConst f_tileInside f_ready f_fixed f_kept f_length (d + 1) (nI m) kd lf rt th cn a_writeTo a_writeOf a_input a_memory a_outcome a_bestTile a_bestCost a_op a_dest a_p a_q a_r a_s a_k a_registerOf a_lastUse a_register := by
  intro d
  induction d with
  | zero =>
    intro m hm a_lastUse h
    exact br_t (nI_le (by omega) (by omega)) (hp (fun i hi => ⟨fun z => (h i).1 (by omega) z, fun z => (h i).2 (fun y => z y.2)⟩))
  | succ d ih =>
    intro m hm a_lastUse h
    by_cases hb : bt w m = true
    · refine br_f (nI_ge (by omega) (by omega)) (br_t (zb_on (by omega) hb) ⟨zd_in (by omega), nm_r (e' := upd a_lastUse m (nI 1000)) (by rw [zd_cl (by omega)]; rfl) (nm_r (nI_1 m) (ih (m + 1) (by omega) (fun i => ?_)))⟩)
      by_cases z : i = m
      · subst z
        exact ⟨fun _ _ => pk_us, fun y => absurd ⟨by omega, hb⟩ y⟩
      · rw [pk_un z]
        exact ⟨fun a b => (h i).1 (by omega) b, fun y => (h i).2 (fun x => y ⟨by omega, x.2⟩)⟩
    · refine br_f (nI_ge (by omega) (by omega)) (br_f (zb_non (by omega) hb) (nm_r (nI_1 m) (ih (m + 1) (by omega) (fun i => ?_))))
      by_cases z : i = m
      · subst z
        exact ⟨fun _ y => absurd y hb, fun _ => (h i).2 (fun x => absurd x.2 hb)⟩
      · exact ⟨fun a b => (h i).1 (by omega) b, fun y => (h i).2 (fun x => y ⟨by omega, x.2⟩)⟩
theorem ze_7 (hN : N ≤ 20) (HW : zc_wr N W a_writeTo a_writeOf) (hR : ∀ m : Nat, bt f_results m = true → m < N) (hF : zc_F N kd lf rt th cn a_bestTile F) (hK : zc_wb N f_results a_writeTo a_writeOf W f_kept) (hc : ∀ m : Nat, bt f_kept m = true → zc_cl f_kept (F m)) {post : SX → Prop}
    (hp : ∀ (L : Nat) (d u : Nat → Nat) {f_tileOp f_tileCost f_tileP f_tileQ f_tileR f_tileS f_tileConst f_tileInside : Int32} {a_op a_dest a_p a_q a_r a_s a_k a_lastUse : Nat → Int32}, zl_s N L F d u a_op a_dest a_k a_lastUse → zl_o L W f_results a_writeTo a_writeOf d u → zl_p L F d a_p a_q a_r a_s 0 → post (nI N, f_results, nI W, f_knownSet, f_tileOp, f_tileCost, f_tileP, f_tileQ, f_tileR, f_tileS, f_tileConst, f_tileInside, f_ready, f_fixed, f_kept, nI L, kd, lf, rt, th, cn, a_writeTo, a_writeOf, a_input, a_memory, a_outcome, a_bestTile, a_bestCost, a_op, a_dest, a_p, a_q, a_r, a_s, a_k, a_registerOf, a_lastUse, a_register)) :
    ∀ d0 n : Nat, n + d0 = N → ∀ {L : Nat} {d : Nat → Nat} {f_tileOp f_tileCost f_tileP f_tileQ f_tileR f_tileS f_tileConst f_tileInside : Int32} {a_op a_dest a_p a_q a_r a_s a_k a_lastUse : Nat → Int32}, ze_em f_kept F n L d a_op a_dest a_p a_q a_r a_s a_k a_lastUse → wX_emit_7 post (d0 + 1) (nI n) (nI N) f_results (nI W) f_knownSet f_tileOp f_tileCost f_tileP f_tileQ f_tileR f_tileS f_tileConst f_tileInside f_ready f_fixed f_kept (nI L) kd lf rt th cn a_writeTo a_writeOf a_input a_memory a_outcome a_bestTile a_bestCost a_op a_dest a_p a_q a_r a_s a_k a_registerOf a_lastUse a_register := by
  intro d0
  induction d0 with
  | zero =>
    intro n hn L d f_tileOp f_tileCost f_tileP f_tileQ f_tileR f_tileS f_tileConst f_tileInside a_op a_dest a_p a_q a_r a_s a_k a_lastUse h
    have en : n = N := by omega
    subst en
    refine br_t (nI_le (by omega) (by omega)) (zc_wanted hN HW hR (fun w hw => Exists.intro (n + 1) ?_))
    refine ze_192 (lu0 := a_lastUse) hN ?_ n 0 (by omega) (fun i => ⟨fun z => absurd z (by omega), fun _ => rfl⟩)
    intro a_lastUse hl
    obtain ⟨u, g1, g2, g3⟩ := ze_fin hN HW (fun m hm => ⟨(hF m hm).1.1, (hF m hm).1.2.1, (hF m hm).1.2.2.1, (hF m hm).1.2.2.2.1⟩) hc hK hw h hl
    exact hp L d u g1 g2 g3
  | succ d0 ih =>
    intro n hn L d f_tileOp f_tileCost f_tileP f_tileQ f_tileR f_tileS f_tileConst f_tileInside a_op a_dest a_p a_q a_r a_s a_k a_lastUse h
    by_cases hb : bt f_kept n = true
    · have hw : zt_w kd lf rt th cn (fun post u => wpX_tileOf post u (nI n) (a_bestTile (nI n).toNatClampNeg)) (F n) := by
        rw [zd_cl (by omega)]
        exact (hF n (by omega)).2
      have f := (hF n (by omega)).1
      have hL : L < 20 := by have := h.1; omega
      have zL := zd_in hL
      have cL := zd_cl hL
      have g := ze_st (by omega) hb f.1 f.2.1 f.2.2.1 f.2.2.2.1 h
      refine br_f (nI_ge (by omega) (by omega)) (br_t (zb_on (by omega) hb) (And.intro (zd_in (by omega)) (hw ?_)))
      refine And.intro zL (nm_r (e' := upd a_op L (F n).1) (by rw [cL]) ⟨zL, nm_r (e' := upd a_dest L (nI n)) (by rw [cL]) ⟨zL, nm_r (e' := upd a_p L (F n).2.2.1) (by rw [cL]) ⟨zL, nm_r (e' := upd a_q L (F n).2.2.2.1) (by rw [cL]) ⟨zL, nm_r (e' := upd a_r L (F n).2.2.2.2.1) (by rw [cL]) ⟨zL, nm_r (e' := upd a_s L (F n).2.2.2.2.2.1) (by rw [cL]) ⟨zL, nm_r (e' := upd a_k L (F n).2.2.2.2.2.2.1) (by rw [cL]) ?_⟩⟩⟩⟩⟩⟩)
      refine ze_note (n := n) (by omega) f.1 ?_
      refine ze_note (n := n) (by omega) f.2.1 ?_
      refine ze_note (n := n) (by omega) f.2.2.1 ?_
      refine ze_note (n := n) (by omega) f.2.2.2.1 ?_
      refine And.intro (zd_in (by omega)) (nm_r (e' := upd (ze_nu (ze_nu (ze_nu (ze_nu a_lastUse (F n).2.2.1 (nI L)) (F n).2.2.2.1 (nI L)) (F n).2.2.2.2.1 (nI L)) (F n).2.2.2.2.2.1 (nI L)) n (nI L)) (by rw [zd_cl (a := n) (by omega)]) (nm_r (nI_1 L) (nm_r (nI_1 n) ?_)))
      exact ih (n + 1) (by omega) g
    · exact br_f (nI_ge (by omega) (by omega)) (br_f (zb_non (by omega) hb) (nm_r (nI_1 n) (ih (n + 1) (by omega) (ze_sk hb h))))
theorem ze_emit (hN : N ≤ 20) (HW : zc_wr N W a_writeTo a_writeOf) (hR : ∀ m : Nat, bt f_results m = true → m < N) (hF : zc_F N kd lf rt th cn a_bestTile F) (hK : zc_wb N f_results a_writeTo a_writeOf W f_kept) (hc : ∀ m : Nat, bt f_kept m = true → zc_cl f_kept (F m)) {post : SX → Prop}
    (hp : ∀ (L : Nat) (d u : Nat → Nat) {f_tileOp f_tileCost f_tileP f_tileQ f_tileR f_tileS f_tileConst f_tileInside : Int32} {a_op a_dest a_p a_q a_r a_s a_k a_lastUse : Nat → Int32}, zl_s N L F d u a_op a_dest a_k a_lastUse → zl_o L W f_results a_writeTo a_writeOf d u → zl_p L F d a_p a_q a_r a_s 0 → post (nI N, f_results, nI W, f_knownSet, f_tileOp, f_tileCost, f_tileP, f_tileQ, f_tileR, f_tileS, f_tileConst, f_tileInside, f_ready, f_fixed, f_kept, nI L, kd, lf, rt, th, cn, a_writeTo, a_writeOf, a_input, a_memory, a_outcome, a_bestTile, a_bestCost, a_op, a_dest, a_p, a_q, a_r, a_s, a_k, a_registerOf, a_lastUse, a_register)) : wpX_emit post (nI N, f_results, nI W, f_knownSet, f_tileOp, f_tileCost, f_tileP, f_tileQ, f_tileR, f_tileS, f_tileConst, f_tileInside, f_ready, f_fixed, f_kept, f_length, kd, lf, rt, th, cn, a_writeTo, a_writeOf, a_input, a_memory, a_outcome, a_bestTile, a_bestCost, a_op, a_dest, a_p, a_q, a_r, a_s, a_k, a_registerOf, a_lastUse, a_register) :=
  Exists.intro (N + 1) (ze_7 hN HW hR hF hK hc hp N 0 (by omega) (L := 0) (d := fun _ => 0) ⟨by omega, fun i hi => absurd hi (by omega), fun i j _ hj => absurd hj (by omega), fun m hm => absurd hm (by omega), fun m hm => absurd hm (by omega)⟩)
end
end
section
/-! registers: allot -/
def zl_pl (d u : Nat → Nat) (ro : Nat → Int32) (i : Nat) (x y : Int32) : Prop := (x = -1 ∧ vp_in y 20) ∨ ∃ j : Nat, j < i ∧ x = nI (d j) ∧ i ≤ u j ∧ y = ro (d j)
def zl_pp (F : Nat → zt_T) (d u : Nat → Nat) (ro p q r s : Nat → Int32) (j : Nat) : Prop := zl_pl d u ro j (F (d j)).2.2.1 (p j) ∧ zl_pl d u ro j (F (d j)).2.2.2.1 (q j) ∧ zl_pl d u ro j (F (d j)).2.2.2.2.1 (r j) ∧ zl_pl d u ro j (F (d j)).2.2.2.2.2.1 (s j)
def zl_ai (L : Nat) (F : Nat → zt_T) (d u : Nat → Nat) (i : Nat) (fr : Int32) (p q r s ro : Nat → Int32) : Prop :=
  (∀ j : Nat, j < i → ∃ c : Nat, c < 20 ∧ ro (d j) = nI c) ∧ (∀ k : Nat, i ≤ k → k < 20 → bt fr k = true) ∧ (∀ j : Nat, j < i → i ≤ u j → bt fr (ro (d j)).toNatClampNeg = false) ∧ (∀ j j' : Nat, j < j' → j' < i → j' < u j → ro (d j) ≠ ro (d j')) ∧ zl_p L F d p q r s i ∧ (∀ j : Nat, j < i → zl_pp F d u ro p q r s j)
theorem zl_plu {d u : Nat → Nat} {ro : Nat → Int32} {i j : Nat} {x y z : Int32} (hd : ∀ j' : Nat, j' < j → d j' ≠ d i) (h : zl_pl d u ro j x y) : zl_pl d u (upd ro (d i) z) j x y := by
  rcases h with h | ⟨j', hj, e, l, g⟩
  · exact Or.inl h
  · exact Or.inr ⟨j', hj, e, l, by rw [pk_un (hd j' hj)]; exact g⟩
theorem zl_st {N L : Nat} {F : Nat → zt_T} {d u : Nat → Nat} {op dest k lu p q r s ro : Nat → Int32} {i c : Nat} {fr back fr' y1 y2 y3 y4 : Int32} (S : zl_s N L F d u op dest k lu) (hi : i < L) (A : zl_ai L F d u i fr p q r s ro)
    (hb : ∀ e : Nat, bt back e = true → ∃ j : Nat, j < i ∧ u j = i ∧ ro (d j) = nI e) (hc : c ≤ i) (hbc : bt (fr ||| back) c = true)
    (hfr : (fr' = ((fr ||| back) &&& (((1 : Int32) <<< (nI c &&& 31)) ^^^ (-1))) ||| ((1 : Int32) <<< (nI c &&& 31)) ∧ u i = i) ∨ fr' = ((fr ||| back) &&& (((1 : Int32) <<< (nI c &&& 31)) ^^^ (-1))))
    (g1 : zl_pl d u ro i (F (d i)).2.2.1 y1) (g2 : zl_pl d u ro i (F (d i)).2.2.2.1 y2) (g3 : zl_pl d u ro i (F (d i)).2.2.2.2.1 y3) (g4 : zl_pl d u ro i (F (d i)).2.2.2.2.2.1 y4) :
    zl_ai L F d u (i + 1) fr' (upd p i y1) (upd q i y2) (upd r i y3) (upd s i y4) (upd ro (d i) (nI c)) := by
  obtain ⟨s1, s2, s3, s4⟩ := S
  obtain ⟨k1, k2, k3, k4, k5, k6⟩ := A
  have hd : ∀ j : Nat, j < i → d j ≠ d i := fun j hj => Nat.ne_of_lt (s3 j i hj hi)
  have ec : ∀ x : Nat, x ≠ c → bt fr' x = bt (fr ||| back) x := by
    intro x hx
    rcases hfr with ⟨e, _⟩ | e
    · rw [e, zb_or1 _ (by omega), zb_clr _ (by omega), decide_eq_false hx]
      cases bt (fr ||| back) x <;> rfl
    · rw [e, zb_clr _ (by omega), decide_eq_false hx]
      cases bt (fr ||| back) x <;> rfl
  have live : ∀ j : Nat, j < i → i + 1 ≤ u j → ∃ e : Nat, e < 20 ∧ ro (d j) = nI e ∧ bt (fr ||| back) e = false := by
    intro j hj hu
    obtain ⟨e, he, ee⟩ := k1 j hj
    refine ⟨e, he, ee, ?_⟩
    have h1 := k3 j hj (by omega)
    rw [ee, zd_cl he] at h1
    rw [b_or, h1, Bool.false_or]
    cases z : bt back e
    · rfl
    · obtain ⟨j2, h2, h3, h4⟩ := hb e z
      have ne : j ≠ j2 := by
        intro y
        subst y
        omega
      rcases Nat.lt_or_ge j j2 with y | y
      · exact absurd (ee.trans h4.symm) (k4 j j2 y h2 (by omega))
      · exact absurd (h4.trans ee.symm) (k4 j2 j (by omega) hj (by omega))
  have nc : ∀ j : Nat, j < i → i + 1 ≤ u j → ∃ e : Nat, e < 20 ∧ ro (d j) = nI e ∧ e ≠ c ∧ bt fr' e = false := by
    intro j hj hu
    obtain ⟨e, he, ee, hf⟩ := live j hj hu
    have ne : e ≠ c := by
      intro y
      subst y
      rw [hbc] at hf
      exact absurd hf (by decide)
    exact ⟨e, he, ee, ne, (ec e ne).trans hf⟩
  refine ⟨fun j hj => ?_, fun k hk hk2 => ?_, fun j hj hu => ?_, fun j j' hjj hj hu => ?_, fun j hj hjL => ?_, fun j hj => ?_⟩
  · by_cases z : j = i
    · subst z
      exact ⟨c, by omega, pk_us⟩
    · rw [pk_un (hd j (by omega))]
      exact k1 j (by omega)
  · rw [ec k (by omega), b_or, k2 k (by omega) hk2]
    rfl
  · by_cases z : j = i
    · subst z
      rw [pk_us, zd_cl (by omega)]
      rcases hfr with ⟨_, e⟩ | e
      · omega
      · rw [e, zb_clr _ (by omega)]
        simp
    · rw [pk_un (hd j (by omega))]
      obtain ⟨e, he, ee, ne, hf⟩ := nc j (by omega) hu
      rw [ee, zd_cl he]
      exact hf
  · have h1 := hd j (by omega)
    rw [pk_un h1]
    by_cases z : j' = i
    · subst z
      rw [pk_us]
      obtain ⟨e, he, ee, ne, hf⟩ := nc j (by omega) (by omega)
      rw [ee]
      exact fun y => ne (zd_inj he (by omega) y)
    · rw [pk_un (hd j' (by omega))]
      exact k4 j j' hjj (by omega) hu
  · have ne : j ≠ i := by omega
    rw [pk_un ne, pk_un ne, pk_un ne, pk_un ne]
    exact k5 j (by omega) hjL
  · by_cases z : j = i
    · subst z
      unfold zl_pp
      rw [pk_us, pk_us, pk_us, pk_us]
      exact ⟨zl_plu hd g1, zl_plu hd g2, zl_plu hd g3, zl_plu hd g4⟩
    · unfold zl_pp
      rw [pk_un z, pk_un z, pk_un z, pk_un z]
      have g := k6 j (by omega)
      have hd' : ∀ j' : Nat, j' < j → d j' ≠ d i := fun j' h => hd j' (by omega)
      exact ⟨zl_plu hd' g.1, zl_plu hd' g.2.1, zl_plu hd' g.2.2.1, zl_plu hd' g.2.2.2⟩
section
variable {N W L : Nat} {kd lf rt th cn : Nat → Int32} {n i : Nat} {F : Nat → zt_T} {d u : Nat → Nat} {f_count f_results f_writes f_knownSet f_tileOp f_tileCost f_tileP f_tileQ f_tileR f_tileS f_tileConst f_tileInside f_ready f_fixed f_kept f_length : Int32} {a_writeTo a_writeOf a_input a_memory a_outcome a_bestTile a_bestCost a_op a_dest a_p a_q a_r a_s a_k a_registerOf a_lastUse a_register : Nat → Int32}
theorem zl_l5 {post : Int32 → Prop} {set : Int32} {i0 : Nat} (h0 : i0 < 20) (hb : bt set i0 = true) (hp : ∀ c : Nat, c ≤ i0 → bt set c = true → post (nI c)) : ∀ i : Nat, i ≤ 20 → ∀ x : Int32, (i ≤ i0 → ∃ c : Nat, c ≤ i0 ∧ bt set c = true ∧ x = nI c) → wX_lowest_5 post set (nI N) f_results (nI W) f_knownSet f_tileOp f_tileCost f_tileP f_tileQ f_tileR f_tileS f_tileConst f_tileInside f_ready f_fixed f_kept f_length kd lf rt th cn a_writeTo a_writeOf a_input a_memory a_outcome a_bestTile a_bestCost a_op a_dest a_p a_q a_r a_s a_k a_registerOf a_lastUse a_register (i + 1) x (zd_ i) := by
  intro i
  induction i with
  | zero =>
    intro _ x h
    obtain ⟨c, hc, hbc, rfl⟩ := h (Nat.zero_le _)
    exact br_t zd_0 (hp c hc hbc)
  | succ i ih =>
    intro hi x h
    by_cases hz : bt set i = true
    · exact br_f (zd_n (by omega)) (br_t (zb_on (by omega) hz) (nm_r (zd_m i) (ih (by omega) (nI i) (fun l => ⟨i, l, hz, rfl⟩))))
    · refine br_f (zd_n (by omega)) (br_f (zb_non (by omega) hz) (nm_r (zd_m i) (ih (by omega) x (fun l => ?_))))
      refine h ?_
      by_cases y : i = i0
      · subst y
        exact absurd hb hz
      · omega
theorem zl_low {post : Int32 → Prop} {set : Int32} {i0 : Nat} (h0 : i0 < 20) (hb : bt set i0 = true) (hp : ∀ c : Nat, c ≤ i0 → bt set c = true → post (nI c)) : wpX_lowest post (nI N, f_results, nI W, f_knownSet, f_tileOp, f_tileCost, f_tileP, f_tileQ, f_tileR, f_tileS, f_tileConst, f_tileInside, f_ready, f_fixed, f_kept, f_length, kd, lf, rt, th, cn, a_writeTo, a_writeOf, a_input, a_memory, a_outcome, a_bestTile, a_bestCost, a_op, a_dest, a_p, a_q, a_r, a_s, a_k, a_registerOf, a_lastUse, a_register) set := Exists.intro 21 (zl_l5 h0 hb hp 20 (by omega) 0 (fun l => by omega))
theorem zl_fr {post : Int32 → Prop} {x : Int32} {op dest k : Nat → Int32} (S : zl_s N L F d u op dest k a_lastUse) (hN : N ≤ 20) (hi : i < L) (hr : ∀ j : Nat, j < i → ∃ c : Nat, c < 20 ∧ a_registerOf (d j) = nI c) (h : zl_sr d u i x) (hp : ∀ b : Int32, (∀ e : Nat, bt b e = true → ∃ j : Nat, j < i ∧ u j = i ∧ a_registerOf (d j) = nI e) → post b) : wpX_freed post (nI N, f_results, nI W, f_knownSet, f_tileOp, f_tileCost, f_tileP, f_tileQ, f_tileR, f_tileS, f_tileConst, f_tileInside, f_ready, f_fixed, f_kept, f_length, kd, lf, rt, th, cn, a_writeTo, a_writeOf, a_input, a_memory, a_outcome, a_bestTile, a_bestCost, a_op, a_dest, a_p, a_q, a_r, a_s, a_k, a_registerOf, a_lastUse, a_register) x (nI i) := by
  have z0 : post 0 := hp 0 (fun e h => absurd h (by rw [b_0]; decide))
  rcases h with rfl | ⟨j, hj, rfl, hu⟩
  · exact br_t (by decide) z0
  · have g := S.2.1 j (by omega)
    have hL := S.1
    obtain ⟨c, hc, ec⟩ := hr j hj
    have cd := zd_cl (a := d j) (by omega)
    refine br_f (nI_pos (by omega)) ⟨zd_in (by omega), br_c (fun e => ⟨zd_in (by omega), hp _ (fun e' he => ⟨j, hj, ?_, ?_⟩)⟩) (fun _ => z0)⟩
    · rw [cd, g.2.2.1] at e
      exact (nI_eq (by omega) (by omega)).mp e
    · rw [cd, ec, zb_one (by omega)] at he
      rw [ec, of_decide_eq_true he]
theorem zl_plc {post : Int32 → Prop} {x : Int32} {op dest k : Nat → Int32} (S : zl_s N L F d u op dest k a_lastUse) (hN : N ≤ 20) (hi : i < L) (h : zl_sr d u i x) (hp : ∀ y : Int32, zl_pl d u a_registerOf i x y → post y) : wpX_place post (nI N, f_results, nI W, f_knownSet, f_tileOp, f_tileCost, f_tileP, f_tileQ, f_tileR, f_tileS, f_tileConst, f_tileInside, f_ready, f_fixed, f_kept, f_length, kd, lf, rt, th, cn, a_writeTo, a_writeOf, a_input, a_memory, a_outcome, a_bestTile, a_bestCost, a_op, a_dest, a_p, a_q, a_r, a_s, a_k, a_registerOf, a_lastUse, a_register) x := by
  rcases h with rfl | ⟨j, hj, rfl, hu⟩
  · exact br_f (by decide) (hp 0 (Or.inl ⟨rfl, zd_in (a := 0) (by omega)⟩))
  · have g := S.2.1 j (by omega)
    exact br_t (nI_pos' (by omega)) ⟨zd_in (by omega), hp _ (Or.inr ⟨j, hj, rfl, hu, by rw [zd_cl (by omega)]⟩)⟩
theorem zl_5 (hN : N ≤ 20) (S : zl_s N L F d u a_op a_dest a_k a_lastUse) {post : SX → Prop} (hp : ∀ {fr : Int32} {a_p a_q a_r a_s a_registerOf : Nat → Int32}, zl_ai L F d u L fr a_p a_q a_r a_s a_registerOf → post (nI N, f_results, nI W, f_knownSet, f_tileOp, f_tileCost, f_tileP, f_tileQ, f_tileR, f_tileS, f_tileConst, f_tileInside, f_ready, f_fixed, f_kept, nI L, kd, lf, rt, th, cn, a_writeTo, a_writeOf, a_input, a_memory, a_outcome, a_bestTile, a_bestCost, a_op, a_dest, a_p, a_q, a_r, a_s, a_k, a_registerOf, a_lastUse, a_register)) :
    ∀ d0 i : Nat, i + d0 = L → ∀ {fr : Int32} {a_p a_q a_r a_s a_registerOf : Nat → Int32}, zl_ai L F d u i fr a_p a_q a_r a_s a_registerOf → wX_allot_5 post (nI N) f_results (nI W) f_knownSet f_tileOp f_tileCost f_tileP f_tileQ f_tileR f_tileS f_tileConst f_tileInside f_ready f_fixed f_kept (nI L) (d0 + 1) fr (nI i) kd lf rt th cn a_writeTo a_writeOf a_input a_memory a_outcome a_bestTile a_bestCost a_op a_dest a_p a_q a_r a_s a_k a_registerOf a_lastUse a_register := by
  have hL := S.1
  intro d0
  induction d0 with
  | zero =>
    intro i hi fr a_p a_q a_r a_s a_registerOf A
    have e : i = L := by omega
    subst e
    exact br_t (nI_le (by omega) (by omega)) (hp A)
  | succ d0 ih =>
    intro i hi fr a_p a_q a_r a_s a_registerOf A
    have hiL : i < L := by omega
    have zi := zd_in (a := i) (by omega)
    have ci := zd_cl (a := i) (by omega)
    have g := S.2.1 i hiL
    have o := S.2.2.2 i hiL
    have e5 := A.2.2.2.2.1 i (Nat.le_refl _) hiL
    have zd : vp_in (a_dest (nI i).toNatClampNeg) 20 := by
      rw [ci, g.2.1]
      exact zd_in (by omega)
    have cd : (a_dest (nI i).toNatClampNeg).toNatClampNeg = d i := by
      rw [ci, g.2.1]
      exact zd_cl (by omega)
    have xp : a_p (nI i).toNatClampNeg = (F (d i)).2.2.1 := by rw [ci]; exact e5.1
    have xq : a_q (nI i).toNatClampNeg = (F (d i)).2.2.2.1 := by rw [ci]; exact e5.2.1
    have xr : a_r (nI i).toNatClampNeg = (F (d i)).2.2.2.2.1 := by rw [ci]; exact e5.2.2.1
    have xs : a_s (nI i).toNatClampNeg = (F (d i)).2.2.2.2.2.1 := by rw [ci]; exact e5.2.2.2
    have sp : zl_sr d u i (a_p (nI i).toNatClampNeg) := by rw [xp]; exact o.1
    have sq : zl_sr d u i (a_q (nI i).toNatClampNeg) := by rw [xq]; exact o.2.1
    have sr : zl_sr d u i (a_r (nI i).toNatClampNeg) := by rw [xr]; exact o.2.2.1
    have ss : zl_sr d u i (a_s (nI i).toNatClampNeg) := by rw [xs]; exact o.2.2.2
    refine br_f (nI_ge (by omega) (by omega)) ⟨zi, ?_⟩
    refine zl_fr S hN hiL A.1 sp (fun b1 h1 => ⟨zi, ?_⟩)
    refine zl_fr S hN hiL A.1 sq (fun b2 h2 => ⟨zi, ?_⟩)
    refine zl_fr S hN hiL A.1 sr (fun b3 h3 => ⟨zi, ?_⟩)
    refine zl_fr S hN hiL A.1 ss (fun b4 h4 => nm_e ⟨zi, ?_⟩)
    refine zl_plc S hN hiL sp (fun y1 g1 => ⟨zi, nm_r (e' := upd a_p i y1) (by rw [ci]) ⟨zi, ?_⟩⟩)
    refine zl_plc S hN hiL sq (fun y2 g2 => ⟨zi, nm_r (e' := upd a_q i y2) (by rw [ci]) ⟨zi, ?_⟩⟩)
    refine zl_plc S hN hiL sr (fun y3 g3 => ⟨zi, nm_r (e' := upd a_r i y3) (by rw [ci]) ⟨zi, ?_⟩⟩)
    refine zl_plc S hN hiL ss (fun y4 g4 => ⟨zi, nm_r (e' := upd a_s i y4) (by rw [ci]) (nm_e ?_)⟩)
    rw [xp] at g1
    rw [xq] at g2
    rw [xr] at g3
    rw [xs] at g4
    have hb : ∀ e : Nat, bt (((b1 ||| b2) ||| b3) ||| b4) e = true → ∃ j : Nat, j < i ∧ u j = i ∧ a_registerOf (d j) = nI e := by
      intro e he
      rw [b_or, b_or, b_or] at he
      simp only [Bool.or_eq_true] at he
      rcases he with ((he | he) | he) | he
      · exact h1 e he
      · exact h2 e he
      · exact h3 e he
      · exact h4 e he
    refine zl_low (i0 := i) (by omega) (by rw [b_or, A.2.1 i (Nat.le_refl _) (by omega)]; rfl) (fun c hc hbc => ?_)
    refine nm_e ⟨zi, zd, nm_r (e' := upd a_registerOf (d i) (nI c)) (by rw [cd]) ⟨zi, zd, br_c (fun e => ?_) (fun e => ?_)⟩⟩
    · have eu : u i = i := by
        rw [cd, g.2.2.1] at e
        exact (nI_eq (by omega) (by omega)).mp e
      exact nm_e (nm_r (nI_1 i) (ih (i + 1) (by omega) (zl_st S hiL A hb hc hbc (Or.inl ⟨rfl, eu⟩) g1 g2 g3 g4)))
    · exact nm_r (nI_1 i) (ih (i + 1) (by omega) (zl_st S hiL A hb hc hbc (Or.inr rfl) g1 g2 g3 g4))
theorem zl_allot (hN : N ≤ 20) (S : zl_s N L F d u a_op a_dest a_k a_lastUse) (hP : zl_p L F d a_p a_q a_r a_s 0) {post : SX → Prop} (hp : ∀ {fr : Int32} {a_p a_q a_r a_s a_registerOf : Nat → Int32}, zl_ai L F d u L fr a_p a_q a_r a_s a_registerOf → post (nI N, f_results, nI W, f_knownSet, f_tileOp, f_tileCost, f_tileP, f_tileQ, f_tileR, f_tileS, f_tileConst, f_tileInside, f_ready, f_fixed, f_kept, nI L, kd, lf, rt, th, cn, a_writeTo, a_writeOf, a_input, a_memory, a_outcome, a_bestTile, a_bestCost, a_op, a_dest, a_p, a_q, a_r, a_s, a_k, a_registerOf, a_lastUse, a_register)) : wpX_allot post (nI N, f_results, nI W, f_knownSet, f_tileOp, f_tileCost, f_tileP, f_tileQ, f_tileR, f_tileS, f_tileConst, f_tileInside, f_ready, f_fixed, f_kept, nI L, kd, lf, rt, th, cn, a_writeTo, a_writeOf, a_input, a_memory, a_outcome, a_bestTile, a_bestCost, a_op, a_dest, a_p, a_q, a_r, a_s, a_k, a_registerOf, a_lastUse, a_register) :=
  Exists.intro (L + 1) (zl_5 hN S hp L 0 (by omega) ⟨fun j hj => absurd hj (by omega), fun k _ hk => zb_full k hk, fun j hj => absurd hj (by omega), fun j j' _ hj => absurd hj (by omega), hP, fun j hj => absurd hj (by omega)⟩)
end
/-! the code is right: what a run needs of it -/
def zr_ck (N W : Nat) (kd lf rt th cn : Nat → Int32) (res : Int32) (wt wo : Nat → Int32) (len : Int32) (op dest p q r s k ro : Nat → Int32) : Prop :=
  ∃ (L : Nat) (F : Nat → zt_T) (d u : Nat → Nat), len = nI L ∧ L ≤ 20 ∧ (∀ i : Nat, i < L → d i < N ∧ dest i = nI (d i) ∧ (∃ c : Nat, c < 20 ∧ ro (d i) = nI c) ∧ op i = (F (d i)).1 ∧ k i = (F (d i)).2.2.2.2.2.2.1 ∧ zt_f N kd lf rt th cn (d i) (F (d i)) ∧ zl_pp F d u ro p q r s i) ∧ (∀ i j : Nat, i < j → j < L → j < u i → ro (d i) ≠ ro (d j)) ∧ zl_o L W res wt wo d u
section
variable {N W : Nat} {kd lf rt th cn : Nat → Int32} {f_count f_results f_writes f_knownSet f_tileOp f_tileCost f_tileP f_tileQ f_tileR f_tileS f_tileConst f_tileInside f_ready f_fixed f_kept f_length : Int32} {a_writeTo a_writeOf a_input a_memory a_outcome a_bestTile a_bestCost a_op a_dest a_p a_q a_r a_s a_k a_registerOf a_lastUse a_register : Nat → Int32}
theorem zr_build (hN : N ≤ 20) (G : zg_g N kd lf rt th cn) (HW : zc_wr N W a_writeTo a_writeOf) (hR : ∀ m : Nat, bt f_results m = true → m < N) (hc : f_ready = 0 ∨ zr_ck N W kd lf rt th cn f_results a_writeTo a_writeOf f_length a_op a_dest a_p a_q a_r a_s a_k a_registerOf) {post : SX → Prop}
    (hp : ∀ {f_tileOp f_tileCost f_tileP f_tileQ f_tileR f_tileS f_tileConst f_tileInside f_ready f_fixed f_kept f_length : Int32} {a_bestTile a_bestCost a_op a_dest a_p a_q a_r a_s a_k a_registerOf a_lastUse : Nat → Int32}, zr_ck N W kd lf rt th cn f_results a_writeTo a_writeOf f_length a_op a_dest a_p a_q a_r a_s a_k a_registerOf → post (nI N, f_results, nI W, f_knownSet, f_tileOp, f_tileCost, f_tileP, f_tileQ, f_tileR, f_tileS, f_tileConst, f_tileInside, f_ready, f_fixed, f_kept, f_length, kd, lf, rt, th, cn, a_writeTo, a_writeOf, a_input, a_memory, a_outcome, a_bestTile, a_bestCost, a_op, a_dest, a_p, a_q, a_r, a_s, a_k, a_registerOf, a_lastUse, a_register)) : wpX_build post (nI N, f_results, nI W, f_knownSet, f_tileOp, f_tileCost, f_tileP, f_tileQ, f_tileR, f_tileS, f_tileConst, f_tileInside, f_ready, f_fixed, f_kept, f_length, kd, lf, rt, th, cn, a_writeTo, a_writeOf, a_input, a_memory, a_outcome, a_bestTile, a_bestCost, a_op, a_dest, a_p, a_q, a_r, a_s, a_k, a_registerOf, a_lastUse, a_register) := by
  by_cases h0 : f_ready = 0
  · refine br_t h0 (zc_cover hN G HW hR ?_)
    intro F f_tileOp f_tileCost f_tileP f_tileQ f_tileR f_tileS f_tileConst f_tileInside f_fixed f_kept a_bestTile a_bestCost hF hK hcl
    refine ze_emit hN HW hR hF hK hcl ?_
    intro L d u f_tileOp f_tileCost f_tileP f_tileQ f_tileR f_tileS f_tileConst f_tileInside a_op a_dest a_p a_q a_r a_s a_k a_lastUse S O P
    refine zl_allot hN S P ?_
    intro fr a_p a_q a_r a_s a_registerOf A
    exact hp ⟨L, F, d, u, rfl, S.1, fun i hi => ⟨(S.2.1 i hi).1, (S.2.1 i hi).2.1, A.1 i hi, (S.2.1 i hi).2.2.2.2.1, (S.2.1 i hi).2.2.2.2.2, (hF (d i) (S.2.1 i hi).1).1, A.2.2.2.2.2 i hi⟩, A.2.2.2.1, O⟩
  · rcases hc with hc | hc
    · exact absurd hc h0
    · exact br_f h0 (hp hc)
end
end
section
/-! the machine -/
section
variable {N W : Nat} {kd lf rt th cn : Nat → Int32} {f_count f_results f_writes f_knownSet f_tileOp f_tileCost f_tileP f_tileQ f_tileR f_tileS f_tileConst f_tileInside f_ready f_fixed f_kept f_length : Int32} {a_writeTo a_writeOf a_input a_memory a_outcome a_bestTile a_bestCost a_op a_dest a_p a_q a_r a_s a_k a_registerOf a_lastUse a_register : Nat → Int32}
theorem zr_bas {post : Int32 → Prop} {o k x y z w : Int32} {j : Nat} (hj : j ≤ 9) (ho : o = nI j) (h1 : o = 1 → vp_in k 6) (hp : post (zx_ o k x y z w a_input a_memory)) : wpX_basic post (nI N, f_results, nI W, f_knownSet, f_tileOp, f_tileCost, f_tileP, f_tileQ, f_tileR, f_tileS, f_tileConst, f_tileInside, f_ready, f_fixed, f_kept, f_length, kd, lf, rt, th, cn, a_writeTo, a_writeOf, a_input, a_memory, a_outcome, a_bestTile, a_bestCost, a_op, a_dest, a_p, a_q, a_r, a_s, a_k, a_registerOf, a_lastUse, a_register) o x y z k := by
  have h : j = 0 ∨ j = 1 ∨ j = 2 ∨ j = 3 ∨ j = 4 ∨ j = 5 ∨ j = 6 ∨ j = 7 ∨ j = 8 ∨ j = 9 := by omega
  rcases h with h | h | h | h | h | h | h | h | h | h
  · subst h
    have e : o = 0 := ho
    subst e
    rw [zx_0] at hp
    exact br_f (by decide) (br_f (by decide) (br_t rfl hp))
  · subst h
    have e : o = 1 := ho
    subst e
    rw [zx_1] at hp
    exact br_f (by decide) (br_f (by decide) (br_f (by decide) (br_t rfl ⟨h1 rfl, hp⟩)))
  · subst h
    have e : o = 2 := ho
    subst e
    rw [zx_2] at hp
    exact br_f (by decide) (br_f (by decide) (br_f (by decide) (br_f (by decide) (br_t rfl hp))))
  · subst h
    have e : o = 3 := ho
    subst e
    rw [zx_3] at hp
    exact br_f (by decide) (br_f (by decide) (br_f (by decide) (br_f (by decide) (br_f (by decide) (br_t rfl hp)))))
  · subst h
    have e : o = 4 := ho
    subst e
    rw [zx_4] at hp
    exact br_f (by decide) (br_f (by decide) (br_f (by decide) (br_f (by decide) (br_f (by decide) (br_f (by decide) (br_t rfl hp))))))
  · subst h
    have e : o = 5 := ho
    subst e
    rw [zx_5] at hp
    exact br_f (by decide) (br_f (by decide) (br_f (by decide) (br_f (by decide) (br_f (by decide) (br_f (by decide) (br_f (by decide) (br_t rfl hp)))))))
  · subst h
    have e : o = 6 := ho
    subst e
    rw [zx_6] at hp
    exact br_f (by decide) (br_f (by decide) (br_f (by decide) (br_f (by decide) (br_f (by decide) (br_f (by decide) (br_f (by decide) (br_f (by decide) (br_t rfl hp))))))))
  · subst h
    have e : o = 7 := ho
    subst e
    rw [zx_7] at hp
    exact br_f (by decide) (br_f (by decide) (br_f (by decide) (br_f (by decide) (br_f (by decide) (br_f (by decide) (br_f (by decide) (br_f (by decide) (br_f (by decide) (br_t rfl ⟨zd_15 x, hp⟩)))))))))
  · subst h
    have e : o = 8 := ho
    subst e
    rw [zx_8] at hp
    by_cases g : y ≤ x
    · rw [if_pos g] at hp
      exact br_f (by decide) (br_f (by decide) (br_f (by decide) (br_f (by decide) (br_f (by decide) (br_f (by decide) (br_f (by decide) (br_f (by decide) (br_f (by decide) (br_f (by decide) (br_t rfl (br_t g hp)))))))))))
    · rw [if_neg g] at hp
      exact br_f (by decide) (br_f (by decide) (br_f (by decide) (br_f (by decide) (br_f (by decide) (br_f (by decide) (br_f (by decide) (br_f (by decide) (br_f (by decide) (br_f (by decide) (br_t rfl (br_f g hp)))))))))))
  · subst h
    have e : o = 9 := ho
    subst e
    rw [zx_9] at hp
    by_cases g : x = 0
    · rw [if_pos g] at hp
      exact br_f (by decide) (br_t (by decide) (br_t g hp))
    · rw [if_neg g] at hp
      exact br_f (by decide) (br_t (by decide) (br_f g hp))
theorem zr_joi {post : Int32 → Prop} {k x y z : Int32} {i j : Nat} (hi : i < 20) (hj : 10 ≤ j) (hj' : j ≤ 21) (ho : a_op i = nI j) (hk : a_k i = k) (hs : vp_in (a_s i) 20) (hp : post (zx_ (a_op i) k x y z (a_register (a_s i).toNatClampNeg) a_input a_memory)) : wpX_joined post (nI N, f_results, nI W, f_knownSet, f_tileOp, f_tileCost, f_tileP, f_tileQ, f_tileR, f_tileS, f_tileConst, f_tileInside, f_ready, f_fixed, f_kept, f_length, kd, lf, rt, th, cn, a_writeTo, a_writeOf, a_input, a_memory, a_outcome, a_bestTile, a_bestCost, a_op, a_dest, a_p, a_q, a_r, a_s, a_k, a_registerOf, a_lastUse, a_register) (nI i) x y z := by
  have ci := zd_cl hi
  have zi := zd_in hi
  have hk' : a_k (nI i).toNatClampNeg = k := by rw [ci]; exact hk
  have hs' : vp_in (a_s (nI i).toNatClampNeg) 20 := by rw [ci]; exact hs
  have h : j = 10 ∨ j = 11 ∨ j = 12 ∨ j = 13 ∨ j = 14 ∨ j = 15 ∨ j = 16 ∨ j = 17 ∨ j = 18 ∨ j = 19 ∨ j = 20 ∨ j = 21 := by omega
  rcases h with h | h | h | h | h | h | h | h | h | h | h | h
  · subst h
    have e : a_op i = 10 := ho
    have e' : a_op (nI i).toNatClampNeg = 10 := by rw [ci]; exact e
    rw [e, zx_10] at hp
    exact And.intro zi (nm_r hk' ⟨zi, nm_r e' (br_f (by decide) (br_f (by decide) (br_t rfl hp)))⟩)
  · subst h
    have e : a_op i = 11 := ho
    have e' : a_op (nI i).toNatClampNeg = 11 := by rw [ci]; exact e
    rw [e, zx_11] at hp
    exact And.intro zi (nm_r hk' ⟨zi, nm_r e' (br_f (by decide) (br_f (by decide) (br_f (by decide) (br_t rfl hp))))⟩)
  · subst h
    have e : a_op i = 12 := ho
    have e' : a_op (nI i).toNatClampNeg = 12 := by rw [ci]; exact e
    rw [e, zx_12] at hp
    exact And.intro zi (nm_r hk' ⟨zi, nm_r e' (br_f (by decide) (br_f (by decide) (br_f (by decide) (br_f (by decide) (br_t rfl hp)))))⟩)
  · subst h
    have e : a_op i = 13 := ho
    have e' : a_op (nI i).toNatClampNeg = 13 := by rw [ci]; exact e
    rw [e, zx_13] at hp
    exact And.intro zi (nm_r hk' ⟨zi, nm_r e' (br_f (by decide) (br_f (by decide) (br_f (by decide) (br_f (by decide) (br_f (by decide) (br_t rfl hp))))))⟩)
  · subst h
    have e : a_op i = 14 := ho
    have e' : a_op (nI i).toNatClampNeg = 14 := by rw [ci]; exact e
    rw [e, zx_14] at hp
    exact And.intro zi (nm_r hk' ⟨zi, nm_r e' (br_f (by decide) (br_f (by decide) (br_f (by decide) (br_f (by decide) (br_f (by decide) (br_f (by decide) (br_t rfl hp)))))))⟩)
  · subst h
    have e : a_op i = 15 := ho
    have e' : a_op (nI i).toNatClampNeg = 15 := by rw [ci]; exact e
    rw [e, zx_15] at hp
    exact And.intro zi (nm_r hk' ⟨zi, nm_r e' (br_f (by decide) (br_f (by decide) (br_f (by decide) (br_f (by decide) (br_f (by decide) (br_f (by decide) (br_f (by decide) (br_t rfl hp))))))))⟩)
  · subst h
    have e : a_op i = 16 := ho
    have e' : a_op (nI i).toNatClampNeg = 16 := by rw [ci]; exact e
    rw [e, zx_16] at hp
    exact And.intro zi (nm_r hk' ⟨zi, nm_r e' (br_f (by decide) (br_f (by decide) (br_f (by decide) (br_f (by decide) (br_f (by decide) (br_f (by decide) (br_f (by decide) (br_f (by decide) (br_t rfl ⟨zd_15 _, hp⟩)))))))))⟩)
  · subst h
    have e : a_op i = 17 := ho
    have e' : a_op (nI i).toNatClampNeg = 17 := by rw [ci]; exact e
    rw [e, zx_17] at hp
    exact And.intro zi (nm_r hk' ⟨zi, nm_r e' (br_f (by decide) (br_f (by decide) (br_f (by decide) (br_f (by decide) (br_f (by decide) (br_f (by decide) (br_f (by decide) (br_f (by decide) (br_f (by decide) (br_t rfl ⟨zd_15 _, hp⟩))))))))))⟩)
  · subst h
    have e : a_op i = 18 := ho
    have e' : a_op (nI i).toNatClampNeg = 18 := by rw [ci]; exact e
    rw [e, zx_18] at hp
    exact And.intro zi (nm_r hk' ⟨zi, nm_r e' (br_f (by decide) (br_f (by decide) (br_f (by decide) (br_f (by decide) (br_f (by decide) (br_f (by decide) (br_f (by decide) (br_f (by decide) (br_f (by decide) (br_f (by decide) (br_t rfl ⟨zd_15 _, hp⟩)))))))))))⟩)
  · subst h
    have e : a_op i = 19 := ho
    have e' : a_op (nI i).toNatClampNeg = 19 := by rw [ci]; exact e
    rw [e, zx_19] at hp
    by_cases g : k ≤ x
    · rw [if_pos g] at hp
      exact And.intro zi (nm_r hk' ⟨zi, nm_r e' (br_f (by decide) (br_f (by decide) (br_f (by decide) (br_f (by decide) (br_f (by decide) (br_f (by decide) (br_f (by decide) (br_f (by decide) (br_f (by decide) (br_f (by decide) (br_f (by decide) (br_t rfl (br_t g hp)))))))))))))⟩)
    · rw [if_neg g] at hp
      exact And.intro zi (nm_r hk' ⟨zi, nm_r e' (br_f (by decide) (br_f (by decide) (br_f (by decide) (br_f (by decide) (br_f (by decide) (br_f (by decide) (br_f (by decide) (br_f (by decide) (br_f (by decide) (br_f (by decide) (br_f (by decide) (br_t rfl (br_f g hp)))))))))))))⟩)
  · subst h
    have e : a_op i = 20 := ho
    have e' : a_op (nI i).toNatClampNeg = 20 := by rw [ci]; exact e
    rw [e, zx_20] at hp
    by_cases g : x ≤ k
    · rw [if_pos g] at hp
      exact And.intro zi (nm_r hk' ⟨zi, nm_r e' (br_f (by decide) (br_f (by decide) (br_f (by decide) (br_f (by decide) (br_f (by decide) (br_f (by decide) (br_f (by decide) (br_f (by decide) (br_f (by decide) (br_f (by decide) (br_f (by decide) (br_f (by decide) (br_t rfl (br_t g hp))))))))))))))⟩)
    · rw [if_neg g] at hp
      exact And.intro zi (nm_r hk' ⟨zi, nm_r e' (br_f (by decide) (br_f (by decide) (br_f (by decide) (br_f (by decide) (br_f (by decide) (br_f (by decide) (br_f (by decide) (br_f (by decide) (br_f (by decide) (br_f (by decide) (br_f (by decide) (br_f (by decide) (br_t rfl (br_f g hp))))))))))))))⟩)
  · subst h
    have e : a_op i = 21 := ho
    have e' : a_op (nI i).toNatClampNeg = 21 := by rw [ci]; exact e
    rw [e, zx_21] at hp
    by_cases g : y ≤ x
    · rw [if_pos g, ← ci] at hp
      exact And.intro zi (nm_r hk' ⟨zi, nm_r e' (br_f (by decide) (br_t (by decide) (br_t g ⟨zi, hs', hp⟩)))⟩)
    · rw [if_neg g] at hp
      exact And.intro zi (nm_r hk' ⟨zi, nm_r e' (br_f (by decide) (br_t (by decide) (br_f g hp)))⟩)
theorem zr_94 {post : Int32 → SX → Prop} {J6 : Int32 → (Nat → Int32) → (Nat → Int32) → (Nat → Int32) → (Nat → Int32) → (Nat → Int32) → (Nat → Int32) → (Nat → Int32) → (Nat → Int32) → (Nat → Int32) → (Nat → Int32) → (Nat → Int32) → (Nat → Int32) → (Nat → Int32) → (Nat → Int32) → (Nat → Int32) → (Nat → Int32) → (Nat → Int32) → (Nat → Int32) → (Nat → Int32) → (Nat → Int32) → (Nat → Int32) → (Nat → Int32) → Prop} {z0 : Int32} {i d c : Nat} (hi : i < 20) (hd : d < 20) (hc : c < 20) (ed : a_dest i = nI d) (ec : a_registerOf d = nI c) (hJ : J6 (nI (i + 1)) kd lf rt th cn a_writeTo a_writeOf a_input a_memory (upd a_outcome d z0) a_bestTile a_bestCost a_op a_dest a_p a_q a_r a_s a_k a_registerOf a_lastUse (upd a_register c z0)) : wX_run_94 post J6 (nI i) z0 (nI N) f_results (nI W) f_knownSet f_tileOp f_tileCost f_tileP f_tileQ f_tileR f_tileS f_tileConst f_tileInside f_ready f_fixed f_kept f_length kd lf rt th cn a_writeTo a_writeOf a_input a_memory a_outcome a_bestTile a_bestCost a_op a_dest a_p a_q a_r a_s a_k a_registerOf a_lastUse a_register := by
  have zi := zd_in hi
  have e1 : a_dest (nI i).toNatClampNeg = nI d := by rw [zd_cl hi]; exact ed
  have z1 : vp_in (a_dest (nI i).toNatClampNeg) 20 := by rw [e1]; exact zd_in hd
  have c1 : (a_dest (nI i).toNatClampNeg).toNatClampNeg = d := by rw [e1]; exact zd_cl hd
  have z2 : vp_in (a_registerOf (a_dest (nI i).toNatClampNeg).toNatClampNeg) 20 := by rw [c1, ec]; exact zd_in hc
  have c2 : (a_registerOf (a_dest (nI i).toNatClampNeg).toNatClampNeg).toNatClampNeg = c := by rw [c1, ec]; exact zd_cl hc
  exact And.intro zi ⟨z1, z2, nm_r (e' := upd a_register c z0) (by rw [c2]) ⟨zi, z1, nm_r (e' := upd a_outcome d z0) (by rw [c1]) (nm_r (nI_1 i) hJ)⟩⟩
theorem zr_ov {d u : Nat → Nat} {ro reg v : Nat → Int32} {i : Nat} {x y : Int32} (hd : ∀ j : Nat, j < i → d j < 20) (hg : ∀ j : Nat, j < i → i ≤ u j → reg (ro (d j)).toNatClampNeg = v (d j)) (h : zl_pl d u ro i x y) : zt_ov v x (reg y.toNatClampNeg) := by
  intro a ha e
  rcases h with ⟨h, _⟩ | ⟨j, hj, ex, hu, ey⟩
  · exact absurd (e.symm.trans h) (zd_ne ha)
  · rw [← zd_inj (hd j hj) ha (ex.symm.trans e), ey]
    exact hg j hj hu
theorem zr_pv {d u : Nat → Nat} {ro : Nat → Int32} {i : Nat} {x y : Int32} (hr : ∀ j : Nat, j < i → ∃ c : Nat, c < 20 ∧ ro (d j) = nI c) (h : zl_pl d u ro i x y) : vp_in y 20 := by
  rcases h with ⟨_, h⟩ | ⟨j, hj, ex, hu, ey⟩
  · exact h
  · obtain ⟨c, hc, e⟩ := hr j hj
    rw [ey, e]
    exact zd_in hc
theorem zr_6 (hN : N ≤ 20) {L : Nat} {F : Nat → zt_T} {d u : Nat → Nat} {v : Nat → Int32} (hL : L ≤ 20) (H3 : ∀ i : Nat, i < L → d i < N ∧ a_dest i = nI (d i) ∧ (∃ c : Nat, c < 20 ∧ a_registerOf (d i) = nI c) ∧ a_op i = (F (d i)).1 ∧ a_k i = (F (d i)).2.2.2.2.2.2.1 ∧ zt_f N kd lf rt th cn (d i) (F (d i)) ∧ zl_pp F d u a_registerOf a_p a_q a_r a_s i) (H4 : ∀ i j : Nat, i < j → j < L → j < u i → a_registerOf (d i) ≠ a_registerOf (d j))
    (S : zg_sol N kd lf rt th cn a_input a_memory v) {post : Int32 → SX → Prop} (hp : ∀ {a_outcome a_register : Nat → Int32}, (∀ j : Nat, j < L → a_outcome (d j) = v (d j)) → (∀ j : Nat, j < L → L ≤ u j → a_register (a_registerOf (d j)).toNatClampNeg = v (d j)) → ∃ n : Nat, wX_run_135 post (nI N) f_results (nI W) f_knownSet f_tileOp f_tileCost f_tileP f_tileQ f_tileR f_tileS f_tileConst f_tileInside f_ready f_fixed f_kept (nI L) n 0 kd lf rt th cn a_writeTo a_writeOf a_input a_memory a_outcome a_bestTile a_bestCost a_op a_dest a_p a_q a_r a_s a_k a_registerOf a_lastUse a_register) :
    ∀ d0 i : Nat, i + d0 = L → ∀ {a_outcome a_register : Nat → Int32}, (∀ j : Nat, j < i → a_outcome (d j) = v (d j)) → (∀ j : Nat, j < i → i ≤ u j → a_register (a_registerOf (d j)).toNatClampNeg = v (d j)) → wX_run_6 post (nI N) f_results (nI W) f_knownSet f_tileOp f_tileCost f_tileP f_tileQ f_tileR f_tileS f_tileConst f_tileInside f_ready f_fixed f_kept (nI L) (d0 + 1) (nI i) kd lf rt th cn a_writeTo a_writeOf a_input a_memory a_outcome a_bestTile a_bestCost a_op a_dest a_p a_q a_r a_s a_k a_registerOf a_lastUse a_register := by
  intro d0
  induction d0 with
  | zero =>
    intro i hi a_outcome a_register hO hG
    have e : i = L := by omega
    subst e
    exact br_t (nI_le (by omega) (by omega)) (hp hO hG)
  | succ d0 ih =>
    intro i hi a_outcome a_register hO hG
    have hiL : i < L := by omega
    have zi := zd_in (a := i) (by omega)
    have ci := zd_cl (a := i) (by omega)
    obtain ⟨hd, ed, ⟨c, hc, ec⟩, eo, ek, f, pp⟩ := H3 i hiL
    have hdj : ∀ j : Nat, j < i → d j < 20 := fun j hj => Nat.lt_of_lt_of_le (H3 j (by omega)).1 hN
    have hrj : ∀ j : Nat, j < i → ∃ c : Nat, c < 20 ∧ a_registerOf (d j) = nI c := fun j hj => (H3 j (by omega)).2.2.1
    have zp : vp_in (a_p (nI i).toNatClampNeg) 20 := by rw [ci]; exact zr_pv hrj pp.1
    have zq : vp_in (a_q (nI i).toNatClampNeg) 20 := by rw [ci]; exact zr_pv hrj pp.2.1
    have zr : vp_in (a_r (nI i).toNatClampNeg) 20 := by rw [ci]; exact zr_pv hrj pp.2.2.1
    have zs : vp_in (a_s i) 20 := zr_pv hrj pp.2.2.2
    have E := f.2.2.2.2.2.2 a_input a_memory v S _ _ _ _ (zr_ov hdj hG pp.1) (zr_ov hdj hG pp.2.1) (zr_ov hdj hG pp.2.2.1) (zr_ov hdj hG pp.2.2.2)
    rw [← eo, ← ek] at E
    obtain ⟨j, hj, ej⟩ := f.2.2.2.2.1
    have eoj : a_op i = nI j := eo.trans ej
    have eoj' : a_op (nI i).toNatClampNeg = nI j := by rw [ci]; exact eoj
    have ep : a_register (a_p (nI i).toNatClampNeg).toNatClampNeg = a_register (a_p i).toNatClampNeg := by rw [ci]
    have eq : a_register (a_q (nI i).toNatClampNeg).toNatClampNeg = a_register (a_q i).toNatClampNeg := by rw [ci]
    have er : a_register (a_r (nI i).toNatClampNeg).toNatClampNeg = a_register (a_r i).toNatClampNeg := by rw [ci]
    have K := ih (i + 1) (by omega) (a_outcome := upd a_outcome (d i) (v (d i))) (a_register := upd a_register c (v (d i)))
      (fun j hj => by
        by_cases z : d j = d i
        · rw [z, pk_us]
        · rw [pk_un z]
          refine hO j ?_
          by_cases y : j = i
          · subst y
            exact absurd rfl z
          · omega)
      (fun j hj hu => by
        by_cases y : j = i
        · subst y
          rw [ec, zd_cl hc, pk_us]
        · have ne := H4 j i (by omega) hiL (by omega)
          obtain ⟨e, he, ee⟩ := hrj j (by omega)
          rw [ee, zd_cl he, pk_un]
          · have g := hG j (by omega) (by omega)
            rw [ee, zd_cl he] at g
            exact g
          · intro w
            subst w
            exact ne (ee.trans ec.symm))
    refine br_f (nI_ge (by omega) (by omega)) ⟨zi, zp, nm_r ep ⟨zi, zq, nm_r eq ⟨zi, zr, nm_r er ⟨zi, ?_⟩⟩⟩⟩
    by_cases h9 : j ≤ 9
    · refine br_f (by rw [eoj']; exact nI_nlt (a := 9) h9 (by omega)) ⟨zi, zi, ?_⟩
      refine zr_bas (w := a_register (a_s i).toNatClampNeg) h9 eoj' (fun h => ?_) ?_
      · rw [ci, ek]
        refine f.2.2.2.2.2.1 ?_
        rw [← eo]
        rw [ci] at h
        exact h
      · rw [ci, E]
        exact zr_94 (by omega) (by omega) hc ed ec K
    · refine br_t (by rw [eoj']; exact nI_lt (a := 9) (by omega) (by omega)) ?_
      refine zr_joi (k := a_k i) (by omega) (by omega) hj eoj rfl zs ?_
      rw [E]
      exact zr_94 (by omega) (by omega) hc ed ec K
/-- the words behind the writes -/
def zr_mw (v wt wo mem : Nat → Int32) : Nat → Nat → Int32
  | 0 => mem
  | w + 1 => upd (zr_mw v wt wo mem w) (v (wt w).toNatClampNeg &&& 15).toNatClampNeg (v (wo w).toNatClampNeg)
def zr_cr (res : Int32) : Nat → Int32
  | 0 => 0
  | n + 1 => zr_cr res n + (if bt res n = true then 1 else 0)
theorem zr_203 (hN : N ≤ 20) {post : Int32 → SX → Prop} (hp : post (zr_cr f_results N) (nI N, f_results, nI W, f_knownSet, f_tileOp, f_tileCost, f_tileP, f_tileQ, f_tileR, f_tileS, f_tileConst, f_tileInside, f_ready, f_fixed, f_kept, f_length, kd, lf, rt, th, cn, a_writeTo, a_writeOf, a_input, a_memory, a_outcome, a_bestTile, a_bestCost, a_op, a_dest, a_p, a_q, a_r, a_s, a_k, a_registerOf, a_lastUse, a_register)) : ∀ d0 i : Nat, i + d0 = N → wX_run_203 post (nI N) f_results (nI W) f_knownSet f_tileOp f_tileCost f_tileP f_tileQ f_tileR f_tileS f_tileConst f_tileInside f_ready f_fixed f_kept f_length kd lf rt th cn a_writeTo a_writeOf a_input a_memory a_outcome a_bestTile a_bestCost a_op a_dest a_p a_q a_r a_s a_k a_registerOf a_lastUse a_register (d0 + 1) (zr_cr f_results i) (nI i) := by
  intro d0
  induction d0 with
  | zero =>
    intro i hi
    have e : i = N := by omega
    subst e
    exact br_t (nI_le (by omega) (by omega)) hp
  | succ d0 ih =>
    intro i hi
    exact br_f (nI_ge (by omega) (by omega)) (nm_r (e' := zr_cr f_results (i + 1)) (by rw [zb_bit _ (by omega)]; rfl) (nm_r (nI_1 i) (ih (i + 1) (by omega))))
theorem zr_135 (hW : W ≤ 4) {v mem0 : Nat → Int32} (hT : ∀ j : Nat, j < W → ∃ a c : Nat, a < 20 ∧ c < 20 ∧ a_writeTo j = nI a ∧ a_registerOf a = nI c ∧ a_register c = v a) (hO : ∀ j : Nat, j < W → ∃ a c : Nat, a < 20 ∧ c < 20 ∧ a_writeOf j = nI a ∧ a_registerOf a = nI c ∧ a_register c = v a) {post : Int32 → SX → Prop}
    (hp : ∃ n : Nat, wX_run_203 post (nI N) f_results (nI W) f_results f_tileOp f_tileCost f_tileP f_tileQ f_tileR f_tileS f_tileConst f_tileInside f_ready f_fixed f_kept f_length kd lf rt th cn a_writeTo a_writeOf a_input (zr_mw v a_writeTo a_writeOf mem0 W) a_outcome a_bestTile a_bestCost a_op a_dest a_p a_q a_r a_s a_k a_registerOf a_lastUse a_register n 0 0) : ∀ d0 w : Nat, w + d0 = W → wX_run_135 post (nI N) f_results (nI W) f_knownSet f_tileOp f_tileCost f_tileP f_tileQ f_tileR f_tileS f_tileConst f_tileInside f_ready f_fixed f_kept f_length (d0 + 1) (nI w) kd lf rt th cn a_writeTo a_writeOf a_input (zr_mw v a_writeTo a_writeOf mem0 w) a_outcome a_bestTile a_bestCost a_op a_dest a_p a_q a_r a_s a_k a_registerOf a_lastUse a_register := by
  intro d0
  induction d0 with
  | zero =>
    intro w hw
    have e : w = W := by omega
    subst e
    exact br_t (nI_le (by omega) (by omega)) hp
  | succ d0 ih =>
    intro w hw
    have zw := zd_in4 (a := w) (by omega)
    have cw := zd_cl (a := w) (by omega)
    obtain ⟨a, c, ha, hc, ea, ec, er⟩ := hT w (by omega)
    obtain ⟨a', c', ha', hc', ea', ec', er'⟩ := hO w (by omega)
    have c1 : (a_writeTo (nI w).toNatClampNeg).toNatClampNeg = a := by rw [cw, ea]; exact zd_cl ha
    have c2 : (a_writeOf (nI w).toNatClampNeg).toNatClampNeg = a' := by rw [cw, ea']; exact zd_cl ha'
    have z1 : vp_in (a_writeTo (nI w).toNatClampNeg) 20 := by rw [cw, ea]; exact zd_in ha
    have z2 : vp_in (a_writeOf (nI w).toNatClampNeg) 20 := by rw [cw, ea']; exact zd_in ha'
    have z3 : vp_in (a_registerOf (a_writeTo (nI w).toNatClampNeg).toNatClampNeg) 20 := by rw [c1, ec]; exact zd_in hc
    have z4 : vp_in (a_registerOf (a_writeOf (nI w).toNatClampNeg).toNatClampNeg) 20 := by rw [c2, ec']; exact zd_in hc'
    have e1 : a_register (a_registerOf (a_writeTo (nI w).toNatClampNeg).toNatClampNeg).toNatClampNeg = v a := by rw [c1, ec, zd_cl hc]; exact er
    have e2 : a_register (a_registerOf (a_writeOf (nI w).toNatClampNeg).toNatClampNeg).toNatClampNeg = v a' := by rw [c2, ec', zd_cl hc']; exact er'
    have e3 : upd (zr_mw v a_writeTo a_writeOf mem0 w) (v a &&& 15).toNatClampNeg (a_register (a_registerOf (a_writeOf (nI w).toNatClampNeg).toNatClampNeg).toNatClampNeg) = zr_mw v a_writeTo a_writeOf mem0 (w + 1) := by
      rw [e2]
      show _ = upd _ (v (a_writeTo w).toNatClampNeg &&& 15).toNatClampNeg (v (a_writeOf w).toNatClampNeg)
      rw [ea, ea', zd_cl ha, zd_cl ha']
    exact br_f (nI_ge (by omega) (by omega)) ⟨zw, z1, z3, nm_r e1 ⟨zw, z2, z4, zd_15 _, nm_r e3 (nm_r (nI_1 w) (ih (w + 1) (by omega)))⟩⟩
theorem zr_run (hN : N ≤ 20) (G : zg_g N kd lf rt th cn) (HW : zc_wr N W a_writeTo a_writeOf) (hR : ∀ m : Nat, bt f_results m = true → m < N) (hc : f_ready = 0 ∨ zr_ck N W kd lf rt th cn f_results a_writeTo a_writeOf f_length a_op a_dest a_p a_q a_r a_s a_k a_registerOf) {v : Nat → Int32} (S : zg_sol N kd lf rt th cn a_input a_memory v) {post : Int32 → SX → Prop}
    (hp : ∀ {f_tileOp f_tileCost f_tileP f_tileQ f_tileR f_tileS f_tileConst f_tileInside f_ready f_fixed f_kept f_length : Int32} {a_outcome a_bestTile a_bestCost a_op a_dest a_p a_q a_r a_s a_k a_registerOf a_lastUse a_register : Nat → Int32}, zr_ck N W kd lf rt th cn f_results a_writeTo a_writeOf f_length a_op a_dest a_p a_q a_r a_s a_k a_registerOf → (∀ m : Nat, bt f_results m = true → a_outcome m = v m) → post (zr_cr f_results N) (nI N, f_results, nI W, f_results, f_tileOp, f_tileCost, f_tileP, f_tileQ, f_tileR, f_tileS, f_tileConst, f_tileInside, f_ready, f_fixed, f_kept, f_length, kd, lf, rt, th, cn, a_writeTo, a_writeOf, a_input, zr_mw v a_writeTo a_writeOf a_memory W, a_outcome, a_bestTile, a_bestCost, a_op, a_dest, a_p, a_q, a_r, a_s, a_k, a_registerOf, a_lastUse, a_register)) : wpX_run post (nI N, f_results, nI W, f_knownSet, f_tileOp, f_tileCost, f_tileP, f_tileQ, f_tileR, f_tileS, f_tileConst, f_tileInside, f_ready, f_fixed, f_kept, f_length, kd, lf, rt, th, cn, a_writeTo, a_writeOf, a_input, a_memory, a_outcome, a_bestTile, a_bestCost, a_op, a_dest, a_p, a_q, a_r, a_s, a_k, a_registerOf, a_lastUse, a_register) := by
  unfold wpX_run
  dsimp only
  refine zr_build hN G HW hR hc ?_
  intro f_tileOp f_tileCost f_tileP f_tileQ f_tileR f_tileS f_tileConst f_tileInside f_ready f_fixed f_kept f_length a_bestTile a_bestCost a_op a_dest a_p a_q a_r a_s a_k a_registerOf a_lastUse ck
  have ck' := ck
  obtain ⟨L, F, d, u, el, hL, H3, H4, O⟩ := ck'
  subst el
  refine Exists.intro (L + 1) (zr_6 hN hL H3 H4 S ?_ L 0 (by omega) (fun j hj => absurd hj (by omega)) (fun j hj => absurd hj (by omega)))
  intro a_outcome a_register hO hG
  have reg : ∀ (i : Nat) (x : Int32), i < L → x = nI (d i) → L ≤ u i → ∃ a c : Nat, a < 20 ∧ c < 20 ∧ x = nI a ∧ a_registerOf a = nI c ∧ a_register c = v a := by
    intro i x hi ex hu
    have g := H3 i hi
    obtain ⟨c, hc, ec⟩ := g.2.2.1
    have e := hG i hi hu
    rw [ec, zd_cl hc] at e
    exact ⟨d i, c, by omega, hc, ex, ec, e⟩
  refine Exists.intro (W + 1) (zr_135 (mem0 := a_memory) (v := v) HW.1 (fun j hj => ?_) (fun j hj => ?_) (Exists.intro (N + 1) (zr_203 hN (hp ck (fun m hm => ?_)) N 0 (by omega))) W 0 (by omega))
  · obtain ⟨i, hi, e, hu⟩ := O.2.1 j hj
    exact reg i _ hi e hu
  · obtain ⟨i, hi, e, hu⟩ := O.2.2 j hj
    exact reg i _ hi e hu
  · obtain ⟨i, hi, e⟩ := O.1 m hm
    rw [← e]
    exact hO i hi
end
end
section
/-! the reference -/
def zg_ny (K l r t c f s y : Int32) : Prop := (K = 0 ∨ K = 1 → f = c) ∧ (¬ K = 0 → ¬ K = 1 → f = l) ∧ (K = 2 ∨ K = 3 ∨ K = 4 ∨ K = 8 ∨ K = 9 → s = r) ∧ (K = 6 → s = c) ∧ (K = 9 → y = t)
section
variable {K l r t c : Int32} {inp mem v v' : Nat → Int32} {m a b e : Nat}
theorem zg_s0 (hk : K = 0) (h : v m = c) : zg_so K l r t c inp mem v m := ⟨fun _ => h, fun z => absurd (hk.symm.trans z) (by decide), fun z => absurd (hk.symm.trans z) (by decide), fun z => absurd (hk.symm.trans z) (by decide), fun z => absurd (hk.symm.trans z) (by decide), fun z => absurd (hk.symm.trans z) (by decide), fun z => absurd (hk.symm.trans z) (by decide), fun z => absurd (hk.symm.trans z) (by decide), fun z => absurd (hk.symm.trans z) (by decide), fun z => absurd (hk.symm.trans z) (by decide)⟩
theorem zg_s1 (hk : K = 1) (h : v m = inp c.toNatClampNeg) : zg_so K l r t c inp mem v m := ⟨fun z => absurd (hk.symm.trans z) (by decide), fun _ => h, fun z => absurd (hk.symm.trans z) (by decide), fun z => absurd (hk.symm.trans z) (by decide), fun z => absurd (hk.symm.trans z) (by decide), fun z => absurd (hk.symm.trans z) (by decide), fun z => absurd (hk.symm.trans z) (by decide), fun z => absurd (hk.symm.trans z) (by decide), fun z => absurd (hk.symm.trans z) (by decide), fun z => absurd (hk.symm.trans z) (by decide)⟩
theorem zg_s2 (hk : K = 2) (h : v m = v l.toNatClampNeg + v r.toNatClampNeg) : zg_so K l r t c inp mem v m := ⟨fun z => absurd (hk.symm.trans z) (by decide), fun z => absurd (hk.symm.trans z) (by decide), fun _ => h, fun z => absurd (hk.symm.trans z) (by decide), fun z => absurd (hk.symm.trans z) (by decide), fun z => absurd (hk.symm.trans z) (by decide), fun z => absurd (hk.symm.trans z) (by decide), fun z => absurd (hk.symm.trans z) (by decide), fun z => absurd (hk.symm.trans z) (by decide), fun z => absurd (hk.symm.trans z) (by decide)⟩
theorem zg_s3 (hk : K = 3) (h : v m = v l.toNatClampNeg - v r.toNatClampNeg) : zg_so K l r t c inp mem v m := ⟨fun z => absurd (hk.symm.trans z) (by decide), fun z => absurd (hk.symm.trans z) (by decide), fun z => absurd (hk.symm.trans z) (by decide), fun _ => h, fun z => absurd (hk.symm.trans z) (by decide), fun z => absurd (hk.symm.trans z) (by decide), fun z => absurd (hk.symm.trans z) (by decide), fun z => absurd (hk.symm.trans z) (by decide), fun z => absurd (hk.symm.trans z) (by decide), fun z => absurd (hk.symm.trans z) (by decide)⟩
theorem zg_s4 (hk : K = 4) (h : v m = v l.toNatClampNeg * v r.toNatClampNeg) : zg_so K l r t c inp mem v m := ⟨fun z => absurd (hk.symm.trans z) (by decide), fun z => absurd (hk.symm.trans z) (by decide), fun z => absurd (hk.symm.trans z) (by decide), fun z => absurd (hk.symm.trans z) (by decide), fun _ => h, fun z => absurd (hk.symm.trans z) (by decide), fun z => absurd (hk.symm.trans z) (by decide), fun z => absurd (hk.symm.trans z) (by decide), fun z => absurd (hk.symm.trans z) (by decide), fun z => absurd (hk.symm.trans z) (by decide)⟩
theorem zg_s5 (hk : K = 5) (h : v m = -(v l.toNatClampNeg)) : zg_so K l r t c inp mem v m := ⟨fun z => absurd (hk.symm.trans z) (by decide), fun z => absurd (hk.symm.trans z) (by decide), fun z => absurd (hk.symm.trans z) (by decide), fun z => absurd (hk.symm.trans z) (by decide), fun z => absurd (hk.symm.trans z) (by decide), fun _ => h, fun z => absurd (hk.symm.trans z) (by decide), fun z => absurd (hk.symm.trans z) (by decide), fun z => absurd (hk.symm.trans z) (by decide), fun z => absurd (hk.symm.trans z) (by decide)⟩
theorem zg_s6 (hk : K = 6) (h : v m = v l.toNatClampNeg <<< (c &&& 31)) : zg_so K l r t c inp mem v m := ⟨fun z => absurd (hk.symm.trans z) (by decide), fun z => absurd (hk.symm.trans z) (by decide), fun z => absurd (hk.symm.trans z) (by decide), fun z => absurd (hk.symm.trans z) (by decide), fun z => absurd (hk.symm.trans z) (by decide), fun z => absurd (hk.symm.trans z) (by decide), fun _ => h, fun z => absurd (hk.symm.trans z) (by decide), fun z => absurd (hk.symm.trans z) (by decide), fun z => absurd (hk.symm.trans z) (by decide)⟩
theorem zg_s7 (hk : K = 7) (h : v m = mem (v l.toNatClampNeg &&& 15).toNatClampNeg) : zg_so K l r t c inp mem v m := ⟨fun z => absurd (hk.symm.trans z) (by decide), fun z => absurd (hk.symm.trans z) (by decide), fun z => absurd (hk.symm.trans z) (by decide), fun z => absurd (hk.symm.trans z) (by decide), fun z => absurd (hk.symm.trans z) (by decide), fun z => absurd (hk.symm.trans z) (by decide), fun z => absurd (hk.symm.trans z) (by decide), fun _ => h, fun z => absurd (hk.symm.trans z) (by decide), fun z => absurd (hk.symm.trans z) (by decide)⟩
theorem zg_s8 (hk : K = 8) (h : v m = if v r.toNatClampNeg ≤ v l.toNatClampNeg then 0 else 1) : zg_so K l r t c inp mem v m := ⟨fun z => absurd (hk.symm.trans z) (by decide), fun z => absurd (hk.symm.trans z) (by decide), fun z => absurd (hk.symm.trans z) (by decide), fun z => absurd (hk.symm.trans z) (by decide), fun z => absurd (hk.symm.trans z) (by decide), fun z => absurd (hk.symm.trans z) (by decide), fun z => absurd (hk.symm.trans z) (by decide), fun z => absurd (hk.symm.trans z) (by decide), fun _ => h, fun z => absurd (hk.symm.trans z) (by decide)⟩
theorem zg_s9 (hk : K = 9) (h : v m = if v l.toNatClampNeg = 0 then v t.toNatClampNeg else v r.toNatClampNeg) : zg_so K l r t c inp mem v m := ⟨fun z => absurd (hk.symm.trans z) (by decide), fun z => absurd (hk.symm.trans z) (by decide), fun z => absurd (hk.symm.trans z) (by decide), fun z => absurd (hk.symm.trans z) (by decide), fun z => absurd (hk.symm.trans z) (by decide), fun z => absurd (hk.symm.trans z) (by decide), fun z => absurd (hk.symm.trans z) (by decide), fun z => absurd (hk.symm.trans z) (by decide), fun z => absurd (hk.symm.trans z) (by decide), fun _ => h⟩
theorem zg_ext (hm : m < 20) (G : zg_nx m K l r t c) (H : ∀ a : Nat, a ≤ m → v' a = v a) (S : zg_so K l r t c inp mem v m) : zg_so K l r t c inp mem v' m := by
  refine ⟨?_, ?_, ?_, ?_, ?_, ?_, ?_, ?_, ?_, ?_⟩
  · intro h
    rw [H m (Nat.le_refl _), S.1 h]
  · intro h
    rw [H m (Nat.le_refl _), S.2.1 h]
  · intro h
    obtain ⟨a, ha, ea⟩ := G.2.2.2.1 (by rw [h]; decide) (by rw [h]; decide)
    have e1 : v' l.toNatClampNeg = v l.toNatClampNeg := H _ (by rw [ea, zd_cl (by omega)]; omega)
    obtain ⟨b, hb, eb⟩ := G.2.2.2.2.1 (by rw [h]; decide)
    have e2 : v' r.toNatClampNeg = v r.toNatClampNeg := H _ (by rw [eb, zd_cl (by omega)]; omega)
    rw [H m (Nat.le_refl _), S.2.2.1 h, e1, e2]
  · intro h
    obtain ⟨a, ha, ea⟩ := G.2.2.2.1 (by rw [h]; decide) (by rw [h]; decide)
    have e1 : v' l.toNatClampNeg = v l.toNatClampNeg := H _ (by rw [ea, zd_cl (by omega)]; omega)
    obtain ⟨b, hb, eb⟩ := G.2.2.2.2.1 (by rw [h]; decide)
    have e2 : v' r.toNatClampNeg = v r.toNatClampNeg := H _ (by rw [eb, zd_cl (by omega)]; omega)
    rw [H m (Nat.le_refl _), S.2.2.2.1 h, e1, e2]
  · intro h
    obtain ⟨a, ha, ea⟩ := G.2.2.2.1 (by rw [h]; decide) (by rw [h]; decide)
    have e1 : v' l.toNatClampNeg = v l.toNatClampNeg := H _ (by rw [ea, zd_cl (by omega)]; omega)
    obtain ⟨b, hb, eb⟩ := G.2.2.2.2.1 (by rw [h]; decide)
    have e2 : v' r.toNatClampNeg = v r.toNatClampNeg := H _ (by rw [eb, zd_cl (by omega)]; omega)
    rw [H m (Nat.le_refl _), S.2.2.2.2.1 h, e1, e2]
  · intro h
    obtain ⟨a, ha, ea⟩ := G.2.2.2.1 (by rw [h]; decide) (by rw [h]; decide)
    have e1 : v' l.toNatClampNeg = v l.toNatClampNeg := H _ (by rw [ea, zd_cl (by omega)]; omega)
    rw [H m (Nat.le_refl _), S.2.2.2.2.2.1 h, e1]
  · intro h
    obtain ⟨a, ha, ea⟩ := G.2.2.2.1 (by rw [h]; decide) (by rw [h]; decide)
    have e1 : v' l.toNatClampNeg = v l.toNatClampNeg := H _ (by rw [ea, zd_cl (by omega)]; omega)
    rw [H m (Nat.le_refl _), S.2.2.2.2.2.2.1 h, e1]
  · intro h
    obtain ⟨a, ha, ea⟩ := G.2.2.2.1 (by rw [h]; decide) (by rw [h]; decide)
    have e1 : v' l.toNatClampNeg = v l.toNatClampNeg := H _ (by rw [ea, zd_cl (by omega)]; omega)
    rw [H m (Nat.le_refl _), S.2.2.2.2.2.2.2.1 h, e1]
  · intro h
    obtain ⟨a, ha, ea⟩ := G.2.2.2.1 (by rw [h]; decide) (by rw [h]; decide)
    have e1 : v' l.toNatClampNeg = v l.toNatClampNeg := H _ (by rw [ea, zd_cl (by omega)]; omega)
    obtain ⟨b, hb, eb⟩ := G.2.2.2.2.1 (by rw [h]; decide)
    have e2 : v' r.toNatClampNeg = v r.toNatClampNeg := H _ (by rw [eb, zd_cl (by omega)]; omega)
    rw [H m (Nat.le_refl _), S.2.2.2.2.2.2.2.2.1 h, e1, e2]
  · intro h
    obtain ⟨a, ha, ea⟩ := G.2.2.2.1 (by rw [h]; decide) (by rw [h]; decide)
    have e1 : v' l.toNatClampNeg = v l.toNatClampNeg := H _ (by rw [ea, zd_cl (by omega)]; omega)
    obtain ⟨b, hb, eb⟩ := G.2.2.2.2.1 (by rw [h]; decide)
    have e2 : v' r.toNatClampNeg = v r.toNatClampNeg := H _ (by rw [eb, zd_cl (by omega)]; omega)
    obtain ⟨e, he, ee⟩ := G.2.2.2.2.2.1 h
    have e3 : v' t.toNatClampNeg = v t.toNatClampNeg := H _ (by rw [ee, zd_cl (by omega)]; omega)
    rw [H m (Nat.le_refl _), S.2.2.2.2.2.2.2.2.2 h, e1, e2, e3]
end
section
variable {N W : Nat} {kd lf rt th cn fi se ty : Nat → Int32} {n : Nat} {a_wanted a_writeTo a_writeFrom a_inputs a_words a_now a_known a_values : Nat → Int32}
theorem zy_n0 (hN : N ≤ 20) (hn : n < N) (G : zg_nx n (kd n) (lf n) (rt n) (th n) (cn n)) (Y : zg_ny (kd n) (lf n) (rt n) (th n) (cn n) (fi n) (se n) (ty n)) (hk : kd n = 0) : ∃ q : Int32, zg_so (kd n) (lf n) (rt n) (th n) (cn n) a_inputs a_words (upd a_now n q) n ∧ ∀ {post : Int32 → SY → Prop} {J2 : Int32 → (Nat → Int32) → (Nat → Int32) → (Nat → Int32) → (Nat → Int32) → (Nat → Int32) → (Nat → Int32) → (Nat → Int32) → (Nat → Int32) → (Nat → Int32) → (Nat → Int32) → (Nat → Int32) → (Nat → Int32) → Prop}, J2 (nI (n + 1)) kd fi se ty a_wanted a_writeTo a_writeFrom a_inputs a_words (upd a_now n q) a_known a_values → wY_run_41 post J2 (nI n) (nI N) (nI W) kd fi se ty a_wanted a_writeTo a_writeFrom a_inputs a_words a_now a_known a_values := by
  have cl := zd_cl (a := n) (by omega)
  have zn := zd_in (a := n) (by omega)
  have k0 : kd (nI n).toNatClampNeg = 0 := by rw [cl]; exact hk
  have e1 : fi n = cn n := Y.1 (Or.inl hk)
  refine ⟨fi (nI n).toNatClampNeg, zg_s0 hk (by rw [pk_us, cl, e1]), ?_⟩
  intro post J2 hJ
  refine br_f (by decide) ?_
  exact And.intro zn (br_t k0 ⟨zn, ⟨zn, nm_r (congrArg (fun z => upd a_now z (fi (nI n).toNatClampNeg)) cl) (nm_r (nI_1 n) hJ)⟩⟩)
theorem zy_n1 (hN : N ≤ 20) (hn : n < N) (G : zg_nx n (kd n) (lf n) (rt n) (th n) (cn n)) (Y : zg_ny (kd n) (lf n) (rt n) (th n) (cn n) (fi n) (se n) (ty n)) (hk : kd n = 1) : ∃ q : Int32, zg_so (kd n) (lf n) (rt n) (th n) (cn n) a_inputs a_words (upd a_now n q) n ∧ ∀ {post : Int32 → SY → Prop} {J2 : Int32 → (Nat → Int32) → (Nat → Int32) → (Nat → Int32) → (Nat → Int32) → (Nat → Int32) → (Nat → Int32) → (Nat → Int32) → (Nat → Int32) → (Nat → Int32) → (Nat → Int32) → (Nat → Int32) → (Nat → Int32) → Prop}, J2 (nI (n + 1)) kd fi se ty a_wanted a_writeTo a_writeFrom a_inputs a_words (upd a_now n q) a_known a_values → wY_run_41 post J2 (nI n) (nI N) (nI W) kd fi se ty a_wanted a_writeTo a_writeFrom a_inputs a_words a_now a_known a_values := by
  have cl := zd_cl (a := n) (by omega)
  have zn := zd_in (a := n) (by omega)
  have k0 : ¬ kd (nI n).toNatClampNeg = 0 := by rw [cl, hk]; decide
  have k1 : kd (nI n).toNatClampNeg = 1 := by rw [cl]; exact hk
  have e1 : fi n = cn n := Y.1 (Or.inr hk)
  have zf : vp_in (fi (nI n).toNatClampNeg) 6 := by rw [cl, e1]; exact G.2.2.1 hk
  refine ⟨a_inputs (fi (nI n).toNatClampNeg).toNatClampNeg, zg_s1 hk (by rw [pk_us, cl, e1]), ?_⟩
  intro post J2 hJ
  refine br_f (by decide) ?_
  exact And.intro zn (br_f k0 ⟨zn, br_t k1 ⟨zn, zf, ⟨zn, nm_r (congrArg (fun z => upd a_now z _) cl) (nm_r (nI_1 n) hJ)⟩⟩⟩)
theorem zy_n2 (hN : N ≤ 20) (hn : n < N) (G : zg_nx n (kd n) (lf n) (rt n) (th n) (cn n)) (Y : zg_ny (kd n) (lf n) (rt n) (th n) (cn n) (fi n) (se n) (ty n)) (hk : kd n = 2) : ∃ q : Int32, zg_so (kd n) (lf n) (rt n) (th n) (cn n) a_inputs a_words (upd a_now n q) n ∧ ∀ {post : Int32 → SY → Prop} {J2 : Int32 → (Nat → Int32) → (Nat → Int32) → (Nat → Int32) → (Nat → Int32) → (Nat → Int32) → (Nat → Int32) → (Nat → Int32) → (Nat → Int32) → (Nat → Int32) → (Nat → Int32) → (Nat → Int32) → (Nat → Int32) → Prop}, J2 (nI (n + 1)) kd fi se ty a_wanted a_writeTo a_writeFrom a_inputs a_words (upd a_now n q) a_known a_values → wY_run_45 post J2 (nI n) (nI N) (nI W) kd fi se ty a_wanted a_writeTo a_writeFrom a_inputs a_words a_now a_known a_values := by
  have cl := zd_cl (a := n) (by omega)
  have zn := zd_in (a := n) (by omega)
  have k2 : kd (nI n).toNatClampNeg = 2 := by rw [cl]; exact hk
  obtain ⟨a, ha, ea⟩ := G.2.2.2.1 (by rw [hk]; decide) (by rw [hk]; decide)
  have e1 : fi n = lf n := Y.2.1 (by rw [hk]; decide) (by rw [hk]; decide)
  have zf : vp_in (fi (nI n).toNatClampNeg) 20 := by rw [cl, e1, ea]; exact zd_in (by omega)
  have u1 : ∀ q : Int32, upd a_now n q (lf n).toNatClampNeg = a_now (fi (nI n).toNatClampNeg).toNatClampNeg := fun q => by rw [cl, e1, ea, zd_cl (by omega), pk_un (by omega)]
  obtain ⟨b, hb, eb⟩ := G.2.2.2.2.1 (by rw [hk]; decide)
  have e2 : se n = rt n := Y.2.2.1 (by rw [hk]; decide)
  have zs : vp_in (se (nI n).toNatClampNeg) 20 := by rw [cl, e2, eb]; exact zd_in (by omega)
  have u2 : ∀ q : Int32, upd a_now n q (rt n).toNatClampNeg = a_now (se (nI n).toNatClampNeg).toNatClampNeg := fun q => by rw [cl, e2, eb, zd_cl (by omega), pk_un (by omega)]
  refine ⟨a_now (fi (nI n).toNatClampNeg).toNatClampNeg + a_now (se (nI n).toNatClampNeg).toNatClampNeg, zg_s2 hk (by rw [pk_us, u1, u2]), ?_⟩
  intro post J2 hJ
  refine br_t rfl ?_
  exact And.intro zn ⟨zf, nm_e ⟨zn, zs, nm_e ⟨zn, br_t k2 ⟨zn, nm_r (congrArg (fun z => upd a_now z _) cl) (nm_r (nI_1 n) hJ)⟩⟩⟩⟩
theorem zy_n3 (hN : N ≤ 20) (hn : n < N) (G : zg_nx n (kd n) (lf n) (rt n) (th n) (cn n)) (Y : zg_ny (kd n) (lf n) (rt n) (th n) (cn n) (fi n) (se n) (ty n)) (hk : kd n = 3) : ∃ q : Int32, zg_so (kd n) (lf n) (rt n) (th n) (cn n) a_inputs a_words (upd a_now n q) n ∧ ∀ {post : Int32 → SY → Prop} {J2 : Int32 → (Nat → Int32) → (Nat → Int32) → (Nat → Int32) → (Nat → Int32) → (Nat → Int32) → (Nat → Int32) → (Nat → Int32) → (Nat → Int32) → (Nat → Int32) → (Nat → Int32) → (Nat → Int32) → (Nat → Int32) → Prop}, J2 (nI (n + 1)) kd fi se ty a_wanted a_writeTo a_writeFrom a_inputs a_words (upd a_now n q) a_known a_values → wY_run_45 post J2 (nI n) (nI N) (nI W) kd fi se ty a_wanted a_writeTo a_writeFrom a_inputs a_words a_now a_known a_values := by
  have cl := zd_cl (a := n) (by omega)
  have zn := zd_in (a := n) (by omega)
  have k2 : ¬ kd (nI n).toNatClampNeg = 2 := by rw [cl, hk]; decide
  have k3 : kd (nI n).toNatClampNeg = 3 := by rw [cl]; exact hk
  obtain ⟨a, ha, ea⟩ := G.2.2.2.1 (by rw [hk]; decide) (by rw [hk]; decide)
  have e1 : fi n = lf n := Y.2.1 (by rw [hk]; decide) (by rw [hk]; decide)
  have zf : vp_in (fi (nI n).toNatClampNeg) 20 := by rw [cl, e1, ea]; exact zd_in (by omega)
  have u1 : ∀ q : Int32, upd a_now n q (lf n).toNatClampNeg = a_now (fi (nI n).toNatClampNeg).toNatClampNeg := fun q => by rw [cl, e1, ea, zd_cl (by omega), pk_un (by omega)]
  obtain ⟨b, hb, eb⟩ := G.2.2.2.2.1 (by rw [hk]; decide)
  have e2 : se n = rt n := Y.2.2.1 (by rw [hk]; decide)
  have zs : vp_in (se (nI n).toNatClampNeg) 20 := by rw [cl, e2, eb]; exact zd_in (by omega)
  have u2 : ∀ q : Int32, upd a_now n q (rt n).toNatClampNeg = a_now (se (nI n).toNatClampNeg).toNatClampNeg := fun q => by rw [cl, e2, eb, zd_cl (by omega), pk_un (by omega)]
  refine ⟨a_now (fi (nI n).toNatClampNeg).toNatClampNeg - a_now (se (nI n).toNatClampNeg).toNatClampNeg, zg_s3 hk (by rw [pk_us, u1, u2]), ?_⟩
  intro post J2 hJ
  refine br_t rfl ?_
  exact And.intro zn ⟨zf, nm_e ⟨zn, zs, nm_e ⟨zn, br_f k2 ⟨zn, br_t k3 ⟨zn, nm_r (congrArg (fun z => upd a_now z _) cl) (nm_r (nI_1 n) hJ)⟩⟩⟩⟩⟩
theorem zy_n4 (hN : N ≤ 20) (hn : n < N) (G : zg_nx n (kd n) (lf n) (rt n) (th n) (cn n)) (Y : zg_ny (kd n) (lf n) (rt n) (th n) (cn n) (fi n) (se n) (ty n)) (hk : kd n = 4) : ∃ q : Int32, zg_so (kd n) (lf n) (rt n) (th n) (cn n) a_inputs a_words (upd a_now n q) n ∧ ∀ {post : Int32 → SY → Prop} {J2 : Int32 → (Nat → Int32) → (Nat → Int32) → (Nat → Int32) → (Nat → Int32) → (Nat → Int32) → (Nat → Int32) → (Nat → Int32) → (Nat → Int32) → (Nat → Int32) → (Nat → Int32) → (Nat → Int32) → (Nat → Int32) → Prop}, J2 (nI (n + 1)) kd fi se ty a_wanted a_writeTo a_writeFrom a_inputs a_words (upd a_now n q) a_known a_values → wY_run_45 post J2 (nI n) (nI N) (nI W) kd fi se ty a_wanted a_writeTo a_writeFrom a_inputs a_words a_now a_known a_values := by
  have cl := zd_cl (a := n) (by omega)
  have zn := zd_in (a := n) (by omega)
  have k2 : ¬ kd (nI n).toNatClampNeg = 2 := by rw [cl, hk]; decide
  have k3 : ¬ kd (nI n).toNatClampNeg = 3 := by rw [cl, hk]; decide
  have k4 : kd (nI n).toNatClampNeg = 4 := by rw [cl]; exact hk
  obtain ⟨a, ha, ea⟩ := G.2.2.2.1 (by rw [hk]; decide) (by rw [hk]; decide)
  have e1 : fi n = lf n := Y.2.1 (by rw [hk]; decide) (by rw [hk]; decide)
  have zf : vp_in (fi (nI n).toNatClampNeg) 20 := by rw [cl, e1, ea]; exact zd_in (by omega)
  have u1 : ∀ q : Int32, upd a_now n q (lf n).toNatClampNeg = a_now (fi (nI n).toNatClampNeg).toNatClampNeg := fun q => by rw [cl, e1, ea, zd_cl (by omega), pk_un (by omega)]
  obtain ⟨b, hb, eb⟩ := G.2.2.2.2.1 (by rw [hk]; decide)
  have e2 : se n = rt n := Y.2.2.1 (by rw [hk]; decide)
  have zs : vp_in (se (nI n).toNatClampNeg) 20 := by rw [cl, e2, eb]; exact zd_in (by omega)
  have u2 : ∀ q : Int32, upd a_now n q (rt n).toNatClampNeg = a_now (se (nI n).toNatClampNeg).toNatClampNeg := fun q => by rw [cl, e2, eb, zd_cl (by omega), pk_un (by omega)]
  refine ⟨a_now (fi (nI n).toNatClampNeg).toNatClampNeg * a_now (se (nI n).toNatClampNeg).toNatClampNeg, zg_s4 hk (by rw [pk_us, u1, u2]), ?_⟩
  intro post J2 hJ
  refine br_t rfl ?_
  exact And.intro zn ⟨zf, nm_e ⟨zn, zs, nm_e ⟨zn, br_f k2 ⟨zn, br_f k3 ⟨zn, br_t k4 ⟨zn, nm_r (congrArg (fun z => upd a_now z _) cl) (nm_r (nI_1 n) hJ)⟩⟩⟩⟩⟩⟩
theorem zy_n5 (hN : N ≤ 20) (hn : n < N) (G : zg_nx n (kd n) (lf n) (rt n) (th n) (cn n)) (Y : zg_ny (kd n) (lf n) (rt n) (th n) (cn n) (fi n) (se n) (ty n)) (hk : kd n = 5) : ∃ q : Int32, zg_so (kd n) (lf n) (rt n) (th n) (cn n) a_inputs a_words (upd a_now n q) n ∧ ∀ {post : Int32 → SY → Prop} {J2 : Int32 → (Nat → Int32) → (Nat → Int32) → (Nat → Int32) → (Nat → Int32) → (Nat → Int32) → (Nat → Int32) → (Nat → Int32) → (Nat → Int32) → (Nat → Int32) → (Nat → Int32) → (Nat → Int32) → (Nat → Int32) → Prop}, J2 (nI (n + 1)) kd fi se ty a_wanted a_writeTo a_writeFrom a_inputs a_words (upd a_now n q) a_known a_values → wY_run_41 post J2 (nI n) (nI N) (nI W) kd fi se ty a_wanted a_writeTo a_writeFrom a_inputs a_words a_now a_known a_values := by
  have cl := zd_cl (a := n) (by omega)
  have zn := zd_in (a := n) (by omega)
  have k0 : ¬ kd (nI n).toNatClampNeg = 0 := by rw [cl, hk]; decide
  have k1 : ¬ kd (nI n).toNatClampNeg = 1 := by rw [cl, hk]; decide
  have k5 : kd (nI n).toNatClampNeg = 5 := by rw [cl]; exact hk
  obtain ⟨a, ha, ea⟩ := G.2.2.2.1 (by rw [hk]; decide) (by rw [hk]; decide)
  have e1 : fi n = lf n := Y.2.1 (by rw [hk]; decide) (by rw [hk]; decide)
  have zf : vp_in (fi (nI n).toNatClampNeg) 20 := by rw [cl, e1, ea]; exact zd_in (by omega)
  have u1 : ∀ q : Int32, upd a_now n q (lf n).toNatClampNeg = a_now (fi (nI n).toNatClampNeg).toNatClampNeg := fun q => by rw [cl, e1, ea, zd_cl (by omega), pk_un (by omega)]
  refine ⟨0 - a_now (fi (nI n).toNatClampNeg).toNatClampNeg, zg_s5 hk (by rw [pk_us, u1, Int32.zero_sub]), ?_⟩
  intro post J2 hJ
  refine br_f (by decide) ?_
  exact And.intro zn (br_f k0 ⟨zn, br_f k1 ⟨zn, zf, nm_e ⟨zn, br_t k5 ⟨zn, nm_r (congrArg (fun z => upd a_now z _) cl) (nm_r (nI_1 n) hJ)⟩⟩⟩⟩)
theorem zy_n6 (hN : N ≤ 20) (hn : n < N) (G : zg_nx n (kd n) (lf n) (rt n) (th n) (cn n)) (Y : zg_ny (kd n) (lf n) (rt n) (th n) (cn n) (fi n) (se n) (ty n)) (hk : kd n = 6) : ∃ q : Int32, zg_so (kd n) (lf n) (rt n) (th n) (cn n) a_inputs a_words (upd a_now n q) n ∧ ∀ {post : Int32 → SY → Prop} {J2 : Int32 → (Nat → Int32) → (Nat → Int32) → (Nat → Int32) → (Nat → Int32) → (Nat → Int32) → (Nat → Int32) → (Nat → Int32) → (Nat → Int32) → (Nat → Int32) → (Nat → Int32) → (Nat → Int32) → (Nat → Int32) → Prop}, J2 (nI (n + 1)) kd fi se ty a_wanted a_writeTo a_writeFrom a_inputs a_words (upd a_now n q) a_known a_values → wY_run_41 post J2 (nI n) (nI N) (nI W) kd fi se ty a_wanted a_writeTo a_writeFrom a_inputs a_words a_now a_known a_values := by
  have cl := zd_cl (a := n) (by omega)
  have zn := zd_in (a := n) (by omega)
  have k0 : ¬ kd (nI n).toNatClampNeg = 0 := by rw [cl, hk]; decide
  have k1 : ¬ kd (nI n).toNatClampNeg = 1 := by rw [cl, hk]; decide
  have k5 : ¬ kd (nI n).toNatClampNeg = 5 := by rw [cl, hk]; decide
  have k6 : kd (nI n).toNatClampNeg = 6 := by rw [cl]; exact hk
  obtain ⟨a, ha, ea⟩ := G.2.2.2.1 (by rw [hk]; decide) (by rw [hk]; decide)
  have e1 : fi n = lf n := Y.2.1 (by rw [hk]; decide) (by rw [hk]; decide)
  have zf : vp_in (fi (nI n).toNatClampNeg) 20 := by rw [cl, e1, ea]; exact zd_in (by omega)
  have u1 : ∀ q : Int32, upd a_now n q (lf n).toNatClampNeg = a_now (fi (nI n).toNatClampNeg).toNatClampNeg := fun q => by rw [cl, e1, ea, zd_cl (by omega), pk_un (by omega)]
  have e2 : se n = cn n := Y.2.2.2.1 hk
  refine ⟨a_now (fi (nI n).toNatClampNeg).toNatClampNeg <<< (se (nI n).toNatClampNeg &&& 31), zg_s6 hk (by rw [pk_us, u1, cl, e2]), ?_⟩
  intro post J2 hJ
  refine br_f (by decide) ?_
  exact And.intro zn (br_f k0 ⟨zn, br_f k1 ⟨zn, zf, nm_e ⟨zn, br_f k5 ⟨zn, br_t k6 ⟨zn, ⟨zn, nm_r (congrArg (fun z => upd a_now z _) cl) (nm_r (nI_1 n) hJ)⟩⟩⟩⟩⟩⟩)
theorem zy_n7 (hN : N ≤ 20) (hn : n < N) (G : zg_nx n (kd n) (lf n) (rt n) (th n) (cn n)) (Y : zg_ny (kd n) (lf n) (rt n) (th n) (cn n) (fi n) (se n) (ty n)) (hk : kd n = 7) : ∃ q : Int32, zg_so (kd n) (lf n) (rt n) (th n) (cn n) a_inputs a_words (upd a_now n q) n ∧ ∀ {post : Int32 → SY → Prop} {J2 : Int32 → (Nat → Int32) → (Nat → Int32) → (Nat → Int32) → (Nat → Int32) → (Nat → Int32) → (Nat → Int32) → (Nat → Int32) → (Nat → Int32) → (Nat → Int32) → (Nat → Int32) → (Nat → Int32) → (Nat → Int32) → Prop}, J2 (nI (n + 1)) kd fi se ty a_wanted a_writeTo a_writeFrom a_inputs a_words (upd a_now n q) a_known a_values → wY_run_41 post J2 (nI n) (nI N) (nI W) kd fi se ty a_wanted a_writeTo a_writeFrom a_inputs a_words a_now a_known a_values := by
  have cl := zd_cl (a := n) (by omega)
  have zn := zd_in (a := n) (by omega)
  have k0 : ¬ kd (nI n).toNatClampNeg = 0 := by rw [cl, hk]; decide
  have k1 : ¬ kd (nI n).toNatClampNeg = 1 := by rw [cl, hk]; decide
  have k5 : ¬ kd (nI n).toNatClampNeg = 5 := by rw [cl, hk]; decide
  have k6 : ¬ kd (nI n).toNatClampNeg = 6 := by rw [cl, hk]; decide
  obtain ⟨a, ha, ea⟩ := G.2.2.2.1 (by rw [hk]; decide) (by rw [hk]; decide)
  have e1 : fi n = lf n := Y.2.1 (by rw [hk]; decide) (by rw [hk]; decide)
  have zf : vp_in (fi (nI n).toNatClampNeg) 20 := by rw [cl, e1, ea]; exact zd_in (by omega)
  have u1 : ∀ q : Int32, upd a_now n q (lf n).toNatClampNeg = a_now (fi (nI n).toNatClampNeg).toNatClampNeg := fun q => by rw [cl, e1, ea, zd_cl (by omega), pk_un (by omega)]
  refine ⟨a_words (a_now (fi (nI n).toNatClampNeg).toNatClampNeg &&& 15).toNatClampNeg, zg_s7 hk (by rw [pk_us, u1]), ?_⟩
  intro post J2 hJ
  refine br_f (by decide) ?_
  exact And.intro zn (br_f k0 ⟨zn, br_f k1 ⟨zn, zf, nm_e ⟨zn, br_f k5 ⟨zn, br_f k6 ⟨zd_15 _, ⟨zn, nm_r (congrArg (fun z => upd a_now z _) cl) (nm_r (nI_1 n) hJ)⟩⟩⟩⟩⟩⟩)
theorem zy_n8 (hN : N ≤ 20) (hn : n < N) (G : zg_nx n (kd n) (lf n) (rt n) (th n) (cn n)) (Y : zg_ny (kd n) (lf n) (rt n) (th n) (cn n) (fi n) (se n) (ty n)) (hk : kd n = 8) : ∃ q : Int32, zg_so (kd n) (lf n) (rt n) (th n) (cn n) a_inputs a_words (upd a_now n q) n ∧ ∀ {post : Int32 → SY → Prop} {J2 : Int32 → (Nat → Int32) → (Nat → Int32) → (Nat → Int32) → (Nat → Int32) → (Nat → Int32) → (Nat → Int32) → (Nat → Int32) → (Nat → Int32) → (Nat → Int32) → (Nat → Int32) → (Nat → Int32) → (Nat → Int32) → Prop}, J2 (nI (n + 1)) kd fi se ty a_wanted a_writeTo a_writeFrom a_inputs a_words (upd a_now n q) a_known a_values → wY_run_45 post J2 (nI n) (nI N) (nI W) kd fi se ty a_wanted a_writeTo a_writeFrom a_inputs a_words a_now a_known a_values := by
  have cl := zd_cl (a := n) (by omega)
  have zn := zd_in (a := n) (by omega)
  have k2 : ¬ kd (nI n).toNatClampNeg = 2 := by rw [cl, hk]; decide
  have k3 : ¬ kd (nI n).toNatClampNeg = 3 := by rw [cl, hk]; decide
  have k4 : ¬ kd (nI n).toNatClampNeg = 4 := by rw [cl, hk]; decide
  have k8 : kd (nI n).toNatClampNeg = 8 := by rw [cl]; exact hk
  obtain ⟨a, ha, ea⟩ := G.2.2.2.1 (by rw [hk]; decide) (by rw [hk]; decide)
  have e1 : fi n = lf n := Y.2.1 (by rw [hk]; decide) (by rw [hk]; decide)
  have zf : vp_in (fi (nI n).toNatClampNeg) 20 := by rw [cl, e1, ea]; exact zd_in (by omega)
  have u1 : ∀ q : Int32, upd a_now n q (lf n).toNatClampNeg = a_now (fi (nI n).toNatClampNeg).toNatClampNeg := fun q => by rw [cl, e1, ea, zd_cl (by omega), pk_un (by omega)]
  obtain ⟨b, hb, eb⟩ := G.2.2.2.2.1 (by rw [hk]; decide)
  have e2 : se n = rt n := Y.2.2.1 (by rw [hk]; decide)
  have zs : vp_in (se (nI n).toNatClampNeg) 20 := by rw [cl, e2, eb]; exact zd_in (by omega)
  have u2 : ∀ q : Int32, upd a_now n q (rt n).toNatClampNeg = a_now (se (nI n).toNatClampNeg).toNatClampNeg := fun q => by rw [cl, e2, eb, zd_cl (by omega), pk_un (by omega)]
  refine ⟨if a_now (se (nI n).toNatClampNeg).toNatClampNeg ≤ a_now (fi (nI n).toNatClampNeg).toNatClampNeg then 0 else 1, zg_s8 hk (by rw [pk_us, u1, u2]), ?_⟩
  intro post J2 hJ
  refine br_t rfl ?_
  by_cases g : a_now (se (nI n).toNatClampNeg).toNatClampNeg ≤ a_now (fi (nI n).toNatClampNeg).toNatClampNeg
  · rw [if_pos g] at hJ
    exact And.intro zn ⟨zf, nm_e ⟨zn, zs, nm_e ⟨zn, br_f k2 ⟨zn, br_f k3 ⟨zn, br_f k4 ⟨zn, br_t k8 (br_t g ⟨zn, nm_r (congrArg (fun z => upd a_now z _) cl) (nm_r (nI_1 n) hJ)⟩)⟩⟩⟩⟩⟩⟩
  · rw [if_neg g] at hJ
    exact And.intro zn ⟨zf, nm_e ⟨zn, zs, nm_e ⟨zn, br_f k2 ⟨zn, br_f k3 ⟨zn, br_f k4 ⟨zn, br_t k8 (br_f g ⟨zn, nm_r (congrArg (fun z => upd a_now z _) cl) (nm_r (nI_1 n) hJ)⟩)⟩⟩⟩⟩⟩⟩
theorem zy_n9 (hN : N ≤ 20) (hn : n < N) (G : zg_nx n (kd n) (lf n) (rt n) (th n) (cn n)) (Y : zg_ny (kd n) (lf n) (rt n) (th n) (cn n) (fi n) (se n) (ty n)) (hk : kd n = 9) : ∃ q : Int32, zg_so (kd n) (lf n) (rt n) (th n) (cn n) a_inputs a_words (upd a_now n q) n ∧ ∀ {post : Int32 → SY → Prop} {J2 : Int32 → (Nat → Int32) → (Nat → Int32) → (Nat → Int32) → (Nat → Int32) → (Nat → Int32) → (Nat → Int32) → (Nat → Int32) → (Nat → Int32) → (Nat → Int32) → (Nat → Int32) → (Nat → Int32) → (Nat → Int32) → Prop}, J2 (nI (n + 1)) kd fi se ty a_wanted a_writeTo a_writeFrom a_inputs a_words (upd a_now n q) a_known a_values → wY_run_45 post J2 (nI n) (nI N) (nI W) kd fi se ty a_wanted a_writeTo a_writeFrom a_inputs a_words a_now a_known a_values := by
  have cl := zd_cl (a := n) (by omega)
  have zn := zd_in (a := n) (by omega)
  have k2 : ¬ kd (nI n).toNatClampNeg = 2 := by rw [cl, hk]; decide
  have k3 : ¬ kd (nI n).toNatClampNeg = 3 := by rw [cl, hk]; decide
  have k4 : ¬ kd (nI n).toNatClampNeg = 4 := by rw [cl, hk]; decide
  have k8 : ¬ kd (nI n).toNatClampNeg = 8 := by rw [cl, hk]; decide
  obtain ⟨a, ha, ea⟩ := G.2.2.2.1 (by rw [hk]; decide) (by rw [hk]; decide)
  have e1 : fi n = lf n := Y.2.1 (by rw [hk]; decide) (by rw [hk]; decide)
  have zf : vp_in (fi (nI n).toNatClampNeg) 20 := by rw [cl, e1, ea]; exact zd_in (by omega)
  have u1 : ∀ q : Int32, upd a_now n q (lf n).toNatClampNeg = a_now (fi (nI n).toNatClampNeg).toNatClampNeg := fun q => by rw [cl, e1, ea, zd_cl (by omega), pk_un (by omega)]
  obtain ⟨b, hb, eb⟩ := G.2.2.2.2.1 (by rw [hk]; decide)
  have e2 : se n = rt n := Y.2.2.1 (by rw [hk]; decide)
  have zs : vp_in (se (nI n).toNatClampNeg) 20 := by rw [cl, e2, eb]; exact zd_in (by omega)
  have u2 : ∀ q : Int32, upd a_now n q (rt n).toNatClampNeg = a_now (se (nI n).toNatClampNeg).toNatClampNeg := fun q => by rw [cl, e2, eb, zd_cl (by omega), pk_un (by omega)]
  obtain ⟨e, he, ee⟩ := G.2.2.2.2.2.1 hk
  have e3 : ty n = th n := Y.2.2.2.2 hk
  have zt : vp_in (ty (nI n).toNatClampNeg) 20 := by rw [cl, e3, ee]; exact zd_in (by omega)
  have u3 : ∀ q : Int32, upd a_now n q (th n).toNatClampNeg = a_now (ty (nI n).toNatClampNeg).toNatClampNeg := fun q => by rw [cl, e3, ee, zd_cl (by omega), pk_un (by omega)]
  refine ⟨if a_now (fi (nI n).toNatClampNeg).toNatClampNeg = 0 then a_now (ty (nI n).toNatClampNeg).toNatClampNeg else a_now (se (nI n).toNatClampNeg).toNatClampNeg, zg_s9 hk (by rw [pk_us, u1, u2, u3]), ?_⟩
  intro post J2 hJ
  refine br_t rfl ?_
  by_cases g : a_now (fi (nI n).toNatClampNeg).toNatClampNeg = 0
  · rw [if_pos g] at hJ
    exact And.intro zn ⟨zf, nm_e ⟨zn, zs, nm_e ⟨zn, br_f k2 ⟨zn, br_f k3 ⟨zn, br_f k4 ⟨zn, br_f k8 (br_t g ⟨zn, zt, ⟨zn, nm_r (congrArg (fun z => upd a_now z _) cl) (nm_r (nI_1 n) hJ)⟩⟩)⟩⟩⟩⟩⟩⟩
  · rw [if_neg g] at hJ
    exact And.intro zn ⟨zf, nm_e ⟨zn, zs, nm_e ⟨zn, br_f k2 ⟨zn, br_f k3 ⟨zn, br_f k4 ⟨zn, br_f k8 (br_f g ⟨zn, nm_r (congrArg (fun z => upd a_now z _) cl) (nm_r (nI_1 n) hJ)⟩)⟩⟩⟩⟩⟩⟩
theorem zy_2 (hN : N ≤ 20) (G : zg_g N kd lf rt th cn) (Y : ∀ m : Nat, m < N → zg_ny (kd m) (lf m) (rt m) (th m) (cn m) (fi m) (se m) (ty m)) : ∀ d n : Nat, n + d = N → ∀ {a_now : Nat → Int32}, (∀ m : Nat, m < n → zg_so (kd m) (lf m) (rt m) (th m) (cn m) a_inputs a_words a_now m) → ∃ v : Nat → Int32, zg_sol N kd lf rt th cn a_inputs a_words v ∧ ∀ {post : Int32 → SY → Prop}, (∃ n78 : Nat, wY_run_78 post (nI N) (nI W) n78 0 kd fi se ty a_wanted a_writeTo a_writeFrom a_inputs a_words v a_known a_values) → wY_run_2 post (nI N) (nI W) (d + 1) (nI n) kd fi se ty a_wanted a_writeTo a_writeFrom a_inputs a_words a_now a_known a_values := by
  intro d
  induction d with
  | zero =>
    intro n hn a_now h
    have e : n = N := by omega
    subst e
    exact ⟨a_now, h, fun {post} hp => br_t (nI_le (by omega) (by omega)) hp⟩
  | succ d ih =>
    intro n hn a_now h
    have hnN : n < N := by omega
    have cl := zd_cl (a := n) (by omega)
    have zn := zd_in (a := n) (by omega)
    obtain ⟨j, hj, ej⟩ := zg_k G hnN
    have ej' : kd (nI n).toNatClampNeg = nI j := by rw [cl]; exact ej
    have nxt : ∀ q : Int32, zg_so (kd n) (lf n) (rt n) (th n) (cn n) a_inputs a_words (upd a_now n q) n → ∀ m : Nat, m < n + 1 → zg_so (kd m) (lf m) (rt m) (th m) (cn m) a_inputs a_words (upd a_now n q) m := by
      intro q hq m hm
      by_cases z : m = n
      · subst z
        exact hq
      · exact zg_ext (by omega) (G m (by omega)) (fun a ha => pk_un (by omega)) (h m (by omega))
    have hh : j = 0 ∨ j = 1 ∨ j = 2 ∨ j = 3 ∨ j = 4 ∨ j = 5 ∨ j = 6 ∨ j = 7 ∨ j = 8 ∨ j = 9 := by omega
    rcases hh with hh | hh | hh | hh | hh | hh | hh | hh | hh | hh
    · subst hh
      obtain ⟨q, hq, H⟩ := zy_n0 (W := W) (a_wanted := a_wanted) (a_writeTo := a_writeTo) (a_writeFrom := a_writeFrom) (a_inputs := a_inputs) (a_words := a_words) (a_now := a_now) (a_known := a_known) (a_values := a_values) hN hnN (G n hnN) (Y n hnN) ej
      obtain ⟨v, hv, H2⟩ := ih (n + 1) (by omega) (nxt q hq)
      exact ⟨v, hv, fun {post} hp => br_f (nI_ge (by omega) (by omega)) ⟨zn, br_t (by rw [ej']; decide) (H (H2 hp))⟩⟩
    · subst hh
      obtain ⟨q, hq, H⟩ := zy_n1 (W := W) (a_wanted := a_wanted) (a_writeTo := a_writeTo) (a_writeFrom := a_writeFrom) (a_inputs := a_inputs) (a_words := a_words) (a_now := a_now) (a_known := a_known) (a_values := a_values) hN hnN (G n hnN) (Y n hnN) ej
      obtain ⟨v, hv, H2⟩ := ih (n + 1) (by omega) (nxt q hq)
      exact ⟨v, hv, fun {post} hp => br_f (nI_ge (by omega) (by omega)) ⟨zn, br_t (by rw [ej']; decide) (H (H2 hp))⟩⟩
    · subst hh
      obtain ⟨q, hq, H⟩ := zy_n2 (W := W) (a_wanted := a_wanted) (a_writeTo := a_writeTo) (a_writeFrom := a_writeFrom) (a_inputs := a_inputs) (a_words := a_words) (a_now := a_now) (a_known := a_known) (a_values := a_values) hN hnN (G n hnN) (Y n hnN) ej
      obtain ⟨v, hv, H2⟩ := ih (n + 1) (by omega) (nxt q hq)
      exact ⟨v, hv, fun {post} hp => br_f (nI_ge (by omega) (by omega)) ⟨zn, br_f (by rw [ej']; decide) ⟨zn, br_t (by rw [ej']; decide) (H (H2 hp))⟩⟩⟩
    · subst hh
      obtain ⟨q, hq, H⟩ := zy_n3 (W := W) (a_wanted := a_wanted) (a_writeTo := a_writeTo) (a_writeFrom := a_writeFrom) (a_inputs := a_inputs) (a_words := a_words) (a_now := a_now) (a_known := a_known) (a_values := a_values) hN hnN (G n hnN) (Y n hnN) ej
      obtain ⟨v, hv, H2⟩ := ih (n + 1) (by omega) (nxt q hq)
      exact ⟨v, hv, fun {post} hp => br_f (nI_ge (by omega) (by omega)) ⟨zn, br_f (by rw [ej']; decide) ⟨zn, br_t (by rw [ej']; decide) (H (H2 hp))⟩⟩⟩
    · subst hh
      obtain ⟨q, hq, H⟩ := zy_n4 (W := W) (a_wanted := a_wanted) (a_writeTo := a_writeTo) (a_writeFrom := a_writeFrom) (a_inputs := a_inputs) (a_words := a_words) (a_now := a_now) (a_known := a_known) (a_values := a_values) hN hnN (G n hnN) (Y n hnN) ej
      obtain ⟨v, hv, H2⟩ := ih (n + 1) (by omega) (nxt q hq)
      exact ⟨v, hv, fun {post} hp => br_f (nI_ge (by omega) (by omega)) ⟨zn, br_f (by rw [ej']; decide) ⟨zn, br_t (by rw [ej']; decide) (H (H2 hp))⟩⟩⟩
    · subst hh
      obtain ⟨q, hq, H⟩ := zy_n5 (W := W) (a_wanted := a_wanted) (a_writeTo := a_writeTo) (a_writeFrom := a_writeFrom) (a_inputs := a_inputs) (a_words := a_words) (a_now := a_now) (a_known := a_known) (a_values := a_values) hN hnN (G n hnN) (Y n hnN) ej
      obtain ⟨v, hv, H2⟩ := ih (n + 1) (by omega) (nxt q hq)
      exact ⟨v, hv, fun {post} hp => br_f (nI_ge (by omega) (by omega)) ⟨zn, br_f (by rw [ej']; decide) ⟨zn, br_f (by rw [ej']; decide) ⟨zn, br_f (by rw [ej']; decide) (H (H2 hp))⟩⟩⟩⟩
    · subst hh
      obtain ⟨q, hq, H⟩ := zy_n6 (W := W) (a_wanted := a_wanted) (a_writeTo := a_writeTo) (a_writeFrom := a_writeFrom) (a_inputs := a_inputs) (a_words := a_words) (a_now := a_now) (a_known := a_known) (a_values := a_values) hN hnN (G n hnN) (Y n hnN) ej
      obtain ⟨v, hv, H2⟩ := ih (n + 1) (by omega) (nxt q hq)
      exact ⟨v, hv, fun {post} hp => br_f (nI_ge (by omega) (by omega)) ⟨zn, br_f (by rw [ej']; decide) ⟨zn, br_f (by rw [ej']; decide) ⟨zn, br_f (by rw [ej']; decide) (H (H2 hp))⟩⟩⟩⟩
    · subst hh
      obtain ⟨q, hq, H⟩ := zy_n7 (W := W) (a_wanted := a_wanted) (a_writeTo := a_writeTo) (a_writeFrom := a_writeFrom) (a_inputs := a_inputs) (a_words := a_words) (a_now := a_now) (a_known := a_known) (a_values := a_values) hN hnN (G n hnN) (Y n hnN) ej
      obtain ⟨v, hv, H2⟩ := ih (n + 1) (by omega) (nxt q hq)
      exact ⟨v, hv, fun {post} hp => br_f (nI_ge (by omega) (by omega)) ⟨zn, br_f (by rw [ej']; decide) ⟨zn, br_f (by rw [ej']; decide) ⟨zn, br_f (by rw [ej']; decide) (H (H2 hp))⟩⟩⟩⟩
    · subst hh
      obtain ⟨q, hq, H⟩ := zy_n8 (W := W) (a_wanted := a_wanted) (a_writeTo := a_writeTo) (a_writeFrom := a_writeFrom) (a_inputs := a_inputs) (a_words := a_words) (a_now := a_now) (a_known := a_known) (a_values := a_values) hN hnN (G n hnN) (Y n hnN) ej
      obtain ⟨v, hv, H2⟩ := ih (n + 1) (by omega) (nxt q hq)
      exact ⟨v, hv, fun {post} hp => br_f (nI_ge (by omega) (by omega)) ⟨zn, br_f (by rw [ej']; decide) ⟨zn, br_f (by rw [ej']; decide) ⟨zn, br_t (by rw [ej']; decide) (H (H2 hp))⟩⟩⟩⟩
    · subst hh
      obtain ⟨q, hq, H⟩ := zy_n9 (W := W) (a_wanted := a_wanted) (a_writeTo := a_writeTo) (a_writeFrom := a_writeFrom) (a_inputs := a_inputs) (a_words := a_words) (a_now := a_now) (a_known := a_known) (a_values := a_values) hN hnN (G n hnN) (Y n hnN) ej
      obtain ⟨v, hv, H2⟩ := ih (n + 1) (by omega) (nxt q hq)
      exact ⟨v, hv, fun {post} hp => br_f (nI_ge (by omega) (by omega)) ⟨zn, br_f (by rw [ej']; decide) ⟨zn, br_f (by rw [ej']; decide) ⟨zn, br_t (by rw [ej']; decide) (H (H2 hp))⟩⟩⟩⟩
theorem zy_78 (hW : W ≤ 4) {a_writeOf mem0 : Nat → Int32} (HW : zc_wr N W a_writeTo a_writeOf) (hN : N ≤ 20) {post : Int32 → SY → Prop} (hp : ∃ n126 : Nat, wY_run_126 post (nI N) (nI W) n126 0 0 kd fi se ty a_wanted a_writeTo a_writeOf a_inputs (zr_mw a_now a_writeTo a_writeOf mem0 W) a_now a_known a_values) : ∀ d w : Nat, w + d = W → wY_run_78 post (nI N) (nI W) (d + 1) (nI w) kd fi se ty a_wanted a_writeTo a_writeOf a_inputs (zr_mw a_now a_writeTo a_writeOf mem0 w) a_now a_known a_values := by
  intro d
  induction d with
  | zero =>
    intro w hw
    have e : w = W := by omega
    subst e
    exact br_t (nI_le (by omega) (by omega)) hp
  | succ d ih =>
    intro w hw
    have zw := zd_in4 (a := w) (by omega)
    have cw := zd_cl (a := w) (by omega)
    obtain ⟨⟨a, ha, ea⟩, b, hb, eb⟩ := HW.2 w (by omega)
    have z1 : vp_in (a_writeTo (nI w).toNatClampNeg) 20 := by rw [cw, ea]; exact zd_in (by omega)
    have z2 : vp_in (a_writeOf (nI w).toNatClampNeg) 20 := by rw [cw, eb]; exact zd_in (by omega)
    have e3 : upd (zr_mw a_now a_writeTo a_writeOf mem0 w) (a_now (a_writeTo (nI w).toNatClampNeg).toNatClampNeg &&& 15).toNatClampNeg (a_now (a_writeOf (nI w).toNatClampNeg).toNatClampNeg) = zr_mw a_now a_writeTo a_writeOf mem0 (w + 1) := by
      rw [cw]
      rfl
    exact br_f (nI_ge (by omega) (by omega)) ⟨zw, z1, zw, z2, zd_15 _, nm_r e3 (nm_r (nI_1 w) (ih (w + 1) (by omega)))⟩
theorem zy_126 (hN : N ≤ 20) {res : Int32} (hw : ∀ m : Nat, m < N → a_wanted m = if bt res m = true then 1 else 0) {post : Int32 → SY → Prop} (hp : ∀ {a_known a_values : Nat → Int32}, (∀ m : Nat, m < N → a_known m = if bt res m = true then 1 else 0) → (∀ m : Nat, m < N → a_values m = a_now m) → post (zr_cr res N) (nI N, nI W, kd, fi, se, ty, a_wanted, a_writeTo, a_writeFrom, a_inputs, a_words, a_now, a_known, a_values)) : ∀ d n : Nat, n + d = N → ∀ {a_known a_values : Nat → Int32}, (∀ m : Nat, m < n → a_known m = if bt res m = true then 1 else 0) → (∀ m : Nat, m < n → a_values m = a_now m) → wY_run_126 post (nI N) (nI W) (d + 1) (zr_cr res n) (nI n) kd fi se ty a_wanted a_writeTo a_writeFrom a_inputs a_words a_now a_known a_values := by
  intro d
  induction d with
  | zero =>
    intro n hn a_known a_values h1 h2
    have e : n = N := by omega
    subst e
    exact br_t (nI_le (by omega) (by omega)) (hp h1 h2)
  | succ d ih =>
    intro n hn a_known a_values h1 h2
    have zn := zd_in (a := n) (by omega)
    have cl := zd_cl (a := n) (by omega)
    have g2 : ∀ m : Nat, m < n + 1 → upd a_values n (a_now n) m = a_now m := by
      intro m hm
      by_cases z : m = n
      · rw [z, pk_us]
      · rw [pk_un z]
        exact h2 m (by omega)
    have e2 : upd a_values (nI n).toNatClampNeg (a_now (nI n).toNatClampNeg) = upd a_values n (a_now n) := by rw [cl]
    by_cases hb : bt res n = true
    · have e : a_wanted n = 1 := by rw [hw n (by omega), if_pos hb]
      have e' : a_wanted (nI n).toNatClampNeg = 1 := by rw [cl]; exact e
      have e1 : upd a_known (nI n).toNatClampNeg (vp_nar .boolean (a_wanted (nI n).toNatClampNeg)) = upd a_known n 1 := by rw [e', cl]; rfl
      refine br_f (nI_ge (by omega) (by omega)) ⟨zn, zn, nm_r e1 ⟨zn, zn, nm_r e2 ⟨zn, br_f (by rw [e']; decide) (nm_r (e' := zr_cr res (n + 1)) ?_ (nm_r (nI_1 n) (ih (n + 1) (by omega) ?_ g2)))⟩⟩⟩
      · show _ = zr_cr res n + (if bt res n = true then 1 else 0)
        rw [if_pos hb]
      · intro m hm
        by_cases z : m = n
        · rw [z, pk_us, if_pos hb]
        · rw [pk_un z]
          exact h1 m (by omega)
    · have e : a_wanted n = 0 := by rw [hw n (by omega), if_neg hb]
      have e' : a_wanted (nI n).toNatClampNeg = 0 := by rw [cl]; exact e
      have e1 : upd a_known (nI n).toNatClampNeg (vp_nar .boolean (a_wanted (nI n).toNatClampNeg)) = upd a_known n 0 := by rw [e', cl]; rfl
      have ec : zr_cr res n = zr_cr res (n + 1) := by
        show _ = zr_cr res n + (if bt res n = true then 1 else 0)
        rw [if_neg hb, Int32.add_zero]
      rw [ec]
      refine br_f (nI_ge (by omega) (by omega)) ⟨zn, zn, nm_r e1 ⟨zn, zn, nm_r e2 ⟨zn, br_t e' (nm_r (nI_1 n) (ih (n + 1) (by omega) ?_ g2))⟩⟩⟩
      intro m hm
      by_cases z : m = n
      · rw [z, pk_us, if_neg hb]
      · rw [pk_un z]
        exact h1 m (by omega)
theorem zy_run (hN : N ≤ 20) (G : zg_g N kd lf rt th cn) (Y : ∀ m : Nat, m < N → zg_ny (kd m) (lf m) (rt m) (th m) (cn m) (fi m) (se m) (ty m)) {a_writeOf : Nat → Int32} (HW : zc_wr N W a_writeTo a_writeOf) {res : Int32} (hw : ∀ m : Nat, m < N → a_wanted m = if bt res m = true then 1 else 0) : ∃ v : Nat → Int32, zg_sol N kd lf rt th cn a_inputs a_words v ∧ ∀ {post : Int32 → SY → Prop}, (∀ {a_known a_values : Nat → Int32}, (∀ m : Nat, m < N → a_known m = if bt res m = true then 1 else 0) → (∀ m : Nat, m < N → a_values m = v m) → post (zr_cr res N) (nI N, nI W, kd, fi, se, ty, a_wanted, a_writeTo, a_writeOf, a_inputs, zr_mw v a_writeTo a_writeOf a_words W, v, a_known, a_values)) → wpY_run post (nI N, nI W, kd, fi, se, ty, a_wanted, a_writeTo, a_writeOf, a_inputs, a_words, a_now, a_known, a_values) := by
  obtain ⟨v, hv, H⟩ := zy_2 (W := W) (a_wanted := a_wanted) (a_writeTo := a_writeTo) (a_writeFrom := a_writeOf) (a_known := a_known) (a_values := a_values) hN G Y N 0 (by omega) (a_now := a_now) (a_inputs := a_inputs) (a_words := a_words) (fun m hm => absurd hm (by omega))
  refine ⟨v, hv, fun {post} hp => ?_⟩
  refine Exists.intro (N + 1) (H (Exists.intro (W + 1) ?_))
  refine zy_78 (mem0 := a_words) HW.1 HW hN (Exists.intro (N + 1) ?_) W 0 (by omega)
  exact zy_126 hN hw hp N 0 (by omega) (fun m hm => absurd hm (by omega)) (fun m hm => absurd hm (by omega))
end
end
section
/-! the relation, and the calls -/
def zz_b (N : Nat) (s : Int32) (f : Nat → Int32) : Prop := (∀ m : Nat, m < N → f m = if bt s m = true then 1 else 0) ∧ ∀ m : Nat, bt s m = true → m < N
def zz_R (N W : Nat) (kd lf rt th cn fi se ty : Nat → Int32) (res ks : Int32) (wt wo wan kno outc vals : Nat → Int32) (ready len : Int32) (op dest p q r s k ro : Nat → Int32) : Prop :=
  N ≤ 20 ∧ zg_g N kd lf rt th cn ∧ (∀ m : Nat, m < N → zg_ny (kd m) (lf m) (rt m) (th m) (cn m) (fi m) (se m) (ty m)) ∧ zc_wr N W wt wo ∧ zz_b N res wan ∧ zz_b N ks kno ∧ (∀ m : Nat, bt ks m = true → outc m = vals m) ∧ (ready = 0 ∨ zr_ck N W kd lf rt th cn res wt wo len op dest p q r s k ro)
def i_Rel (k : Nat) (u : SX) (v : SY) : Prop := match u with
  | (f_count, f_results, f_writes, f_knownSet, f_tileOp, f_tileCost, f_tileP, f_tileQ, f_tileR, f_tileS, f_tileConst, f_tileInside, f_ready, f_fixed, f_kept, f_length, a_kind, a_left, a_right, a_third, a_constant, a_writeTo, a_writeOf, a_input, a_memory, a_outcome, a_bestTile, a_bestCost, a_op, a_dest, a_p, a_q, a_r, a_s, a_k, a_registerOf, a_lastUse, a_register) => match v with
    | (g_count, g_writes, g_kind, fi, se, ty, wan, g_writeTo, g_writeFrom, g_inputs, g_words, now, kno, vals) => ∃ N W : Nat, f_count = nI N ∧ f_writes = nI W ∧ g_count = nI N ∧ g_writes = nI W ∧ g_kind = a_kind ∧ g_writeTo = a_writeTo ∧ g_writeFrom = a_writeOf ∧ g_inputs = a_input ∧ g_words = a_memory ∧ zz_R N W a_kind a_left a_right a_third a_constant fi se ty f_results f_knownSet a_writeTo a_writeOf wan kno a_outcome vals f_ready f_length a_op a_dest a_p a_q a_r a_s a_k a_registerOf
theorem zz_el {j : Nat} {u : SX} {v : SY} {P : SX → SY → Prop} (h : ∀ (N W : Nat) (f_results f_knownSet f_tileOp f_tileCost f_tileP f_tileQ f_tileR f_tileS f_tileConst f_tileInside f_ready f_fixed f_kept f_length : Int32) (a_writeTo a_writeOf a_input a_memory a_outcome a_bestTile a_bestCost a_op a_dest a_p a_q a_r a_s a_k a_registerOf a_lastUse a_register : Nat → Int32) (kd lf rt th cn fi se ty wan now kno vals : Nat → Int32), zz_R N W kd lf rt th cn fi se ty f_results f_knownSet a_writeTo a_writeOf wan kno a_outcome vals f_ready f_length a_op a_dest a_p a_q a_r a_s a_k a_registerOf → P (nI N, f_results, nI W, f_knownSet, f_tileOp, f_tileCost, f_tileP, f_tileQ, f_tileR, f_tileS, f_tileConst, f_tileInside, f_ready, f_fixed, f_kept, f_length, kd, lf, rt, th, cn, a_writeTo, a_writeOf, a_input, a_memory, a_outcome, a_bestTile, a_bestCost, a_op, a_dest, a_p, a_q, a_r, a_s, a_k, a_registerOf, a_lastUse, a_register) (nI N, nI W, kd, fi, se, ty, wan, a_writeTo, a_writeOf, a_input, a_memory, now, kno, vals)) (I : i_Rel j u v) : P u v := by
  obtain ⟨f_count, f_results, f_writes, f_knownSet, f_tileOp, f_tileCost, f_tileP, f_tileQ, f_tileR, f_tileS, f_tileConst, f_tileInside, f_ready, f_fixed, f_kept, f_length, a_kind, a_left, a_right, a_third, a_constant, a_writeTo, a_writeOf, a_input, a_memory, a_outcome, a_bestTile, a_bestCost, a_op, a_dest, a_p, a_q, a_r, a_s, a_k, a_registerOf, a_lastUse, a_register⟩ := u
  obtain ⟨g_count, g_writes, g_kind, fi, se, ty, wan, g_writeTo, g_writeFrom, g_inputs, g_words, now, kno, vals⟩ := v
  obtain ⟨N, W, e1, e2, e3, e4, e5, e6, e7, e8, e9, R⟩ := I
  subst e1
  subst e2
  subst e3
  subst e4
  subst e5
  subst e6
  subst e7
  subst e8
  subst e9
  exact h _ _ _ _ _ _ _ _ _ _ _ _ _ _ _ _ _ _ _ _ _ _ _ _ _ _ _ _ _ _ _ _ _ _ _ _ _ _ _ _ _ _ _ _ _ R
section
variable {N W : Nat} {kd lf rt th cn fi se ty wan now kno vals : Nat → Int32} {f_results f_knownSet f_tileOp f_tileCost f_tileP f_tileQ f_tileR f_tileS f_tileConst f_tileInside f_ready f_fixed f_kept f_length : Int32} {a_writeTo a_writeOf a_input a_memory a_outcome a_bestTile a_bestCost a_op a_dest a_p a_q a_r a_s a_k a_registerOf a_lastUse a_register : Nat → Int32}
theorem zz_in {j : Nat} (R : zz_R N W kd lf rt th cn fi se ty f_results f_knownSet a_writeTo a_writeOf wan kno a_outcome vals f_ready f_length a_op a_dest a_p a_q a_r a_s a_k a_registerOf) : i_Rel j (nI N, f_results, nI W, f_knownSet, f_tileOp, f_tileCost, f_tileP, f_tileQ, f_tileR, f_tileS, f_tileConst, f_tileInside, f_ready, f_fixed, f_kept, f_length, kd, lf, rt, th, cn, a_writeTo, a_writeOf, a_input, a_memory, a_outcome, a_bestTile, a_bestCost, a_op, a_dest, a_p, a_q, a_r, a_s, a_k, a_registerOf, a_lastUse, a_register) (nI N, nI W, kd, fi, se, ty, wan, a_writeTo, a_writeOf, a_input, a_memory, now, kno, vals) := Exists.intro N (Exists.intro W ⟨rfl, rfl, rfl, rfl, rfl, rfl, rfl, rfl, rfl, R⟩)
theorem zz_bd {post : Int32 → Prop} {x : Int32} (h : x < 0 ∨ nI N ≤ x) (hp : post 1) : wpX_bad post (nI N, f_results, nI W, f_knownSet, f_tileOp, f_tileCost, f_tileP, f_tileQ, f_tileR, f_tileS, f_tileConst, f_tileInside, f_ready, f_fixed, f_kept, f_length, kd, lf, rt, th, cn, a_writeTo, a_writeOf, a_input, a_memory, a_outcome, a_bestTile, a_bestCost, a_op, a_dest, a_p, a_q, a_r, a_s, a_k, a_registerOf, a_lastUse, a_register) x := by
  by_cases z : x < 0
  · exact br_t z hp
  · rcases h with h | h
    · exact absurd h z
    · exact br_f z (br_f (fun y => absurd h (Int32.not_le.mpr y)) hp)
theorem zz_ok {post : Int32 → Prop} {m : Nat} (hN : N ≤ 20) (h : m < N) (hp : post 0) : wpX_bad post (nI N, f_results, nI W, f_knownSet, f_tileOp, f_tileCost, f_tileP, f_tileQ, f_tileR, f_tileS, f_tileConst, f_tileInside, f_ready, f_fixed, f_kept, f_length, kd, lf, rt, th, cn, a_writeTo, a_writeOf, a_input, a_memory, a_outcome, a_bestTile, a_bestCost, a_op, a_dest, a_p, a_q, a_r, a_s, a_k, a_registerOf, a_lastUse, a_register) (nI m) := br_f (nI_pos (by omega)) (br_t (nI_lt h (by omega)) hp)
theorem zz_bdY {post : Int32 → Prop} {x : Int32} (h : x < 0 ∨ nI N ≤ x) (hp : post 0) : wpY_isNode post (nI N, nI W, kd, fi, se, ty, wan, a_writeTo, a_writeOf, a_input, a_memory, now, kno, vals) x := by
  by_cases z : x < 0
  · exact br_t z hp
  · rcases h with h | h
    · exact absurd h z
    · exact br_f z (br_t h hp)
theorem zz_okY {post : Int32 → Prop} {m : Nat} (hN : N ≤ 20) (h : m < N) (hp : post 1) : wpY_isNode post (nI N, nI W, kd, fi, se, ty, wan, a_writeTo, a_writeOf, a_input, a_memory, now, kno, vals) (nI m) := br_f (nI_pos (by omega)) (br_f (nI_ge h (by omega)) hp)
theorem zz_ix (N : Nat) (hN : N ≤ 20) (x : Int32) : (x < 0 ∨ nI N ≤ x) ∨ ∃ m : Nat, m < N ∧ x = nI m := by
  by_cases h : x < 0
  · exact Or.inl (Or.inl h)
  · obtain ⟨m, hm, e⟩ := nI_of h
    by_cases g : m < N
    · exact Or.inr ⟨m, g, e⟩
    · refine Or.inl (Or.inr ?_)
      rw [e]
      exact nI_le (by omega) hm
theorem zz_app {post : Int32 → SX → Prop} {K l r t c : Int32} (hN : N ≤ 20) (h20 : N = 20 → post (-2) (nI N, f_results, nI W, f_knownSet, f_tileOp, f_tileCost, f_tileP, f_tileQ, f_tileR, f_tileS, f_tileConst, f_tileInside, f_ready, f_fixed, f_kept, f_length, kd, lf, rt, th, cn, a_writeTo, a_writeOf, a_input, a_memory, a_outcome, a_bestTile, a_bestCost, a_op, a_dest, a_p, a_q, a_r, a_s, a_k, a_registerOf, a_lastUse, a_register)) (h : N < 20 → post (nI (N + 1) - 1) (nI (N + 1), f_results, nI W, f_knownSet, f_tileOp, f_tileCost, f_tileP, f_tileQ, f_tileR, f_tileS, f_tileConst, f_tileInside, 0, f_fixed, f_kept, f_length, upd kd N K, upd lf N l, upd rt N r, upd th N t, upd cn N c, a_writeTo, a_writeOf, a_input, a_memory, a_outcome, a_bestTile, a_bestCost, a_op, a_dest, a_p, a_q, a_r, a_s, a_k, a_registerOf, a_lastUse, a_register)) : wpX_append post (nI N, f_results, nI W, f_knownSet, f_tileOp, f_tileCost, f_tileP, f_tileQ, f_tileR, f_tileS, f_tileConst, f_tileInside, f_ready, f_fixed, f_kept, f_length, kd, lf, rt, th, cn, a_writeTo, a_writeOf, a_input, a_memory, a_outcome, a_bestTile, a_bestCost, a_op, a_dest, a_p, a_q, a_r, a_s, a_k, a_registerOf, a_lastUse, a_register) K l r t c := by
  by_cases z : N = 20
  · refine br_t ?_ (h20 z)
    rw [z]
    rfl
  · have hn : N < 20 := by omega
    have zn := zd_in hn
    have cl := zd_cl hn
    refine br_f (fun y => z ((nI_eq (b := 20) (by omega) (by omega)).mp y)) ⟨zn, nm_r (e' := upd kd N K) (by rw [cl]) ⟨zn, nm_r (e' := upd lf N l) (by rw [cl]) ⟨zn, nm_r (e' := upd rt N r) (by rw [cl]) ⟨zn, nm_r (e' := upd th N t) (by rw [cl]) ⟨zn, nm_r (e' := upd cn N c) (by rw [cl]) (nm_r (nI_1 N) (h hn))⟩⟩⟩⟩⟩
theorem zz_appY {post : Int32 → SY → Prop} {K f s y : Int32} (hN : N ≤ 20) (h20 : N = 20 → post (-2) (nI N, nI W, kd, fi, se, ty, wan, a_writeTo, a_writeOf, a_input, a_memory, now, kno, vals)) (h : N < 20 → post (nI (N + 1) - 1) (nI (N + 1), nI W, upd kd N K, upd fi N f, upd se N s, upd ty N y, upd wan N 0, a_writeTo, a_writeOf, a_input, a_memory, now, upd kno N 0, vals)) : wpY_append post (nI N, nI W, kd, fi, se, ty, wan, a_writeTo, a_writeOf, a_input, a_memory, now, kno, vals) K f s y := by
  by_cases z : N = 20
  · refine br_t ?_ (h20 z)
    rw [z]
    rfl
  · have hn : N < 20 := by omega
    have zn := zd_in hn
    have cl := zd_cl hn
    refine br_f (fun y => z ((nI_eq (b := 20) (by omega) (by omega)).mp y)) ⟨zn, nm_r (e' := upd kd N K) (by rw [cl]) ⟨zn, nm_r (e' := upd fi N f) (by rw [cl]) ⟨zn, nm_r (e' := upd se N s) (by rw [cl]) ⟨zn, nm_r (e' := upd ty N y) (by rw [cl]) ⟨zn, nm_r (e' := upd wan N 0) (by rw [cl]; rfl) ⟨zn, nm_r (e' := upd kno N 0) (by rw [cl]; rfl) (nm_r (nI_1 N) (h hn))⟩⟩⟩⟩⟩⟩
theorem zz_bn {s : Int32} {f : Nat → Int32} (h : zz_b N s f) : zz_b (N + 1) s (upd f N 0) := by
  refine ⟨fun m hm => ?_, fun m hm => Nat.lt_succ_of_lt (h.2 m hm)⟩
  by_cases z : m = N
  · subst z
    rw [pk_us, if_neg (fun y => absurd (h.2 m y) (Nat.lt_irrefl _))]
  · rw [pk_un z]
    exact h.1 m (by omega)
theorem zz_new {K l r t c f s y : Int32} (R : zz_R N W kd lf rt th cn fi se ty f_results f_knownSet a_writeTo a_writeOf wan kno a_outcome vals f_ready f_length a_op a_dest a_p a_q a_r a_s a_k a_registerOf) (hn : N < 20) (hx : zg_nx N K l r t c) (hy : zg_ny K l r t c f s y) : zz_R (N + 1) W (upd kd N K) (upd lf N l) (upd rt N r) (upd th N t) (upd cn N c) (upd fi N f) (upd se N s) (upd ty N y) f_results f_knownSet a_writeTo a_writeOf (upd wan N 0) (upd kno N 0) a_outcome vals 0 f_length a_op a_dest a_p a_q a_r a_s a_k a_registerOf := by
  obtain ⟨h1, h2, h3, h4, h5, h6, h7, h8⟩ := R
  refine ⟨by omega, fun m hm => ?_, fun m hm => ?_, ⟨h4.1, fun j hj => ?_⟩, zz_bn h5, zz_bn h6, h7, Or.inl rfl⟩
  · by_cases z : m = N
    · subst z
      rw [pk_us, pk_us, pk_us, pk_us, pk_us]
      exact hx
    · rw [pk_un z, pk_un z, pk_un z, pk_un z, pk_un z]
      exact h2 m (by omega)
  · by_cases z : m = N
    · subst z
      rw [pk_us, pk_us, pk_us, pk_us, pk_us, pk_us, pk_us, pk_us]
      exact hy
    · rw [pk_un z, pk_un z, pk_un z, pk_un z, pk_un z, pk_un z, pk_un z, pk_un z]
      exact h3 m (by omega)
  · obtain ⟨⟨a, ha, ea⟩, b, hb, eb⟩ := h4.2 j hj
    exact ⟨⟨a, by omega, ea⟩, b, by omega, eb⟩
end
section
variable {N a b e : Nat}
theorem zn_num {v : Int32} : zg_nx N 0 (-1) (-1) (-1) v := ⟨⟨0, by decide, rfl⟩, fun _ => rfl, fun h => absurd h (by decide), fun h _ => absurd rfl h, fun h => absurd h (by decide), fun h => absurd h (by decide), fun h => absurd h (by decide)⟩
theorem zm_num {v : Int32} : zg_ny 0 (-1) (-1) (-1) v v 0 0 := ⟨fun _ => rfl, fun h _ => absurd rfl h, fun h => absurd h (by decide), fun h => absurd h (by decide), fun h => absurd h (by decide)⟩
theorem zn_inp {v : Int32} (hv : vp_in v 6) : zg_nx N 1 (-1) (-1) (-1) v := ⟨⟨1, by decide, rfl⟩, fun _ => rfl, fun _ => hv, fun _ h => absurd rfl h, fun h => absurd h (by decide), fun h => absurd h (by decide), fun h => absurd h (by decide)⟩
theorem zm_inp {v : Int32} (hv : vp_in v 6) : zg_ny 1 (-1) (-1) (-1) v v 0 0 := ⟨fun _ => rfl, fun _ h => absurd rfl h, fun h => absurd h (by decide), fun h => absurd h (by decide), fun h => absurd h (by decide)⟩
theorem zn_add (ha : a < N) (hb : b < N) : zg_nx N 2 (nI a) (nI b) (-1) 0 := ⟨⟨2, by decide, rfl⟩, fun h => absurd h (by decide), fun h => absurd h (by decide), fun _ _ => ⟨a, ha, rfl⟩, fun _ => ⟨b, hb, rfl⟩, fun h => absurd h (by decide), fun h => absurd h (by decide)⟩
theorem zm_add (ha : a < N) (hb : b < N) : zg_ny 2 (nI a) (nI b) (-1) 0 (nI a) (nI b) 0 := ⟨fun h => absurd h (by decide), fun _ _ => rfl, fun _ => rfl, fun h => absurd h (by decide), fun h => absurd h (by decide)⟩
theorem zn_sub (ha : a < N) (hb : b < N) : zg_nx N 3 (nI a) (nI b) (-1) 0 := ⟨⟨3, by decide, rfl⟩, fun h => absurd h (by decide), fun h => absurd h (by decide), fun _ _ => ⟨a, ha, rfl⟩, fun _ => ⟨b, hb, rfl⟩, fun h => absurd h (by decide), fun h => absurd h (by decide)⟩
theorem zm_sub (ha : a < N) (hb : b < N) : zg_ny 3 (nI a) (nI b) (-1) 0 (nI a) (nI b) 0 := ⟨fun h => absurd h (by decide), fun _ _ => rfl, fun _ => rfl, fun h => absurd h (by decide), fun h => absurd h (by decide)⟩
theorem zn_mul (ha : a < N) (hb : b < N) : zg_nx N 4 (nI a) (nI b) (-1) 0 := ⟨⟨4, by decide, rfl⟩, fun h => absurd h (by decide), fun h => absurd h (by decide), fun _ _ => ⟨a, ha, rfl⟩, fun _ => ⟨b, hb, rfl⟩, fun h => absurd h (by decide), fun h => absurd h (by decide)⟩
theorem zm_mul (ha : a < N) (hb : b < N) : zg_ny 4 (nI a) (nI b) (-1) 0 (nI a) (nI b) 0 := ⟨fun h => absurd h (by decide), fun _ _ => rfl, fun _ => rfl, fun h => absurd h (by decide), fun h => absurd h (by decide)⟩
theorem zn_les (ha : a < N) (hb : b < N) : zg_nx N 8 (nI a) (nI b) (-1) 0 := ⟨⟨8, by decide, rfl⟩, fun h => absurd h (by decide), fun h => absurd h (by decide), fun _ _ => ⟨a, ha, rfl⟩, fun _ => ⟨b, hb, rfl⟩, fun h => absurd h (by decide), fun h => absurd h (by decide)⟩
theorem zm_les (ha : a < N) (hb : b < N) : zg_ny 8 (nI a) (nI b) (-1) 0 (nI a) (nI b) 0 := ⟨fun h => absurd h (by decide), fun _ _ => rfl, fun _ => rfl, fun h => absurd h (by decide), fun h => absurd h (by decide)⟩
theorem zn_neg (ha : a < N) : zg_nx N 5 (nI a) (-1) (-1) 0 := ⟨⟨5, by decide, rfl⟩, fun h => absurd h (by decide), fun h => absurd h (by decide), fun _ _ => ⟨a, ha, rfl⟩, fun h => absurd h (by decide), fun h => absurd h (by decide), fun h => absurd h (by decide)⟩
theorem zm_neg (ha : a < N) : zg_ny 5 (nI a) (-1) (-1) 0 (nI a) 0 0 := ⟨fun h => absurd h (by decide), fun _ _ => rfl, fun h => absurd h (by decide), fun h => absurd h (by decide), fun h => absurd h (by decide)⟩
theorem zn_fet (ha : a < N) : zg_nx N 7 (nI a) (-1) (-1) 0 := ⟨⟨7, by decide, rfl⟩, fun h => absurd h (by decide), fun h => absurd h (by decide), fun _ _ => ⟨a, ha, rfl⟩, fun h => absurd h (by decide), fun h => absurd h (by decide), fun h => absurd h (by decide)⟩
theorem zm_fet (ha : a < N) : zg_ny 7 (nI a) (-1) (-1) 0 (nI a) 0 0 := ⟨fun h => absurd h (by decide), fun _ _ => rfl, fun h => absurd h (by decide), fun h => absurd h (by decide), fun h => absurd h (by decide)⟩
theorem zn_shi (ha : a < N) (hb : b < 32) : zg_nx N 6 (nI a) (-1) (-1) (nI b) := ⟨⟨6, by decide, rfl⟩, fun h => absurd h (by decide), fun h => absurd h (by decide), fun _ _ => ⟨a, ha, rfl⟩, fun h => absurd h (by decide), fun h => absurd h (by decide), fun _ => ⟨b, hb, rfl⟩⟩
theorem zm_shi (ha : a < N) (hb : b < 32) : zg_ny 6 (nI a) (-1) (-1) (nI b) (nI a) (nI b) 0 := ⟨fun h => absurd h (by decide), fun _ _ => rfl, fun h => absurd h (by decide), fun _ => rfl, fun h => absurd h (by decide)⟩
theorem zn_pic (ha : a < N) (hb : b < N) (he : e < N) : zg_nx N 9 (nI a) (nI b) (nI e) 0 := ⟨⟨9, by decide, rfl⟩, fun h => absurd h (by decide), fun h => absurd h (by decide), fun _ _ => ⟨a, ha, rfl⟩, fun _ => ⟨b, hb, rfl⟩, fun _ => ⟨e, he, rfl⟩, fun h => absurd h (by decide)⟩
theorem zm_pic (ha : a < N) (hb : b < N) (he : e < N) : zg_ny 9 (nI a) (nI b) (nI e) 0 (nI a) (nI b) (nI e) := ⟨fun h => absurd h (by decide), fun _ _ => rfl, fun _ => rfl, fun h => absurd h (by decide), fun _ => rfl⟩
end
theorem i_up {k : Nat} {u : SX} {v : SY} (h : i_Rel k u v) : i_Rel (k + 4) u v := h
theorem i_vc0 : wpX_init (fun u => wpY_init (fun v => i_Rel 0 u v)) := by
  refine Exists.intro 0 (Exists.intro 0 ⟨rfl, rfl, rfl, rfl, rfl, rfl, rfl, rfl, rfl, ?_⟩)
  exact ⟨by omega, fun m hm => absurd hm (by omega), fun m hm => absurd hm (by omega), ⟨by omega, fun j hj => absurd hj (by omega)⟩, ⟨fun m hm => absurd hm (by omega), fun m hm => absurd hm (by rw [b_0]; decide)⟩, ⟨fun m hm => absurd hm (by omega), fun m hm => absurd hm (by rw [b_0]; decide)⟩, fun m hm => absurd hm (by rw [b_0]; decide), Or.inl rfl⟩
theorem i_vc_number {k : Nat} {u : SX} {v : SY} (I : i_Rel k u v) (hk : k + 4 ≤ 2048) (v1 : Int32) : wpX_number (fun r u' => wpY_number (fun r' v' => r' = r ∧ i_Rel (k + 4) u' v') v v1) u v1 := by
  refine zz_el (P := fun u v => wpX_number (fun r u' => wpY_number (fun r' v' => r' = r ∧ i_Rel (k + 4) u' v') v v1) u v1) ?_ I
  clear I u v
  intro N W f_results f_knownSet f_tileOp f_tileCost f_tileP f_tileQ f_tileR f_tileS f_tileConst f_tileInside f_ready f_fixed f_kept f_length a_writeTo a_writeOf a_input a_memory a_outcome a_bestTile a_bestCost a_op a_dest a_p a_q a_r a_s a_k a_registerOf a_lastUse a_register kd lf rt th cn fi se ty wan now kno vals R
  unfold wpX_number wpY_number
  dsimp only
  have hN := R.1
  exact zz_app hN (fun e => zz_appY hN (fun _ => ⟨rfl, zz_in R⟩) (fun h => absurd e (by omega))) (fun h => zz_appY hN (fun e => absurd e (by omega)) (fun _ => ⟨rfl, zz_in (zz_new R h (zn_num ) (zm_num ))⟩))
theorem i_vc_input {k : Nat} {u : SX} {v : SY} (I : i_Rel k u v) (hk : k + 4 ≤ 2048) (v1 : Int32) : wpX_input (fun r u' => wpY_input (fun r' v' => r' = r ∧ i_Rel (k + 4) u' v') v v1) u v1 := by
  refine zz_el (P := fun u v => wpX_input (fun r u' => wpY_input (fun r' v' => r' = r ∧ i_Rel (k + 4) u' v') v v1) u v1) ?_ I
  clear I u v
  intro N W f_results f_knownSet f_tileOp f_tileCost f_tileP f_tileQ f_tileR f_tileS f_tileConst f_tileInside f_ready f_fixed f_kept f_length a_writeTo a_writeOf a_input a_memory a_outcome a_bestTile a_bestCost a_op a_dest a_p a_q a_r a_s a_k a_registerOf a_lastUse a_register kd lf rt th cn fi se ty wan now kno vals R
  unfold wpX_input wpY_input
  dsimp only
  have hN := R.1
  by_cases h0 : v1 < 0
  · exact br_t h0 (br_t h0 ⟨rfl, zz_in R⟩)
  by_cases h5 : v1 ≤ 5
  · have hv : vp_in v1 6 := by
      obtain ⟨j, hj, e⟩ := nI_of2 (M := 5) (n := 5) (by decide) h0 h5
      rw [e]
      exact vp_in_nI (by omega) (by decide)
    exact br_f h0 (br_t h5 (zz_app hN (fun e => br_f h0 (br_t h5 (zz_appY hN (fun _ => ⟨rfl, zz_in R⟩) (fun h => absurd e (by omega))))) (fun h => br_f h0 (br_t h5 (zz_appY hN (fun e => absurd e (by omega)) (fun _ => ⟨rfl, zz_in (zz_new R h (zn_inp hv) (zm_inp hv))⟩))))))
  · exact br_f h0 (br_f h5 (br_f h0 (br_f h5 ⟨rfl, zz_in R⟩)))
theorem i_vc_add {k : Nat} {u : SX} {v : SY} (I : i_Rel k u v) (hk : k + 4 ≤ 2048) (v1 : Int32) (v2 : Int32) : wpX_add (fun r u' => wpY_add (fun r' v' => r' = r ∧ i_Rel (k + 4) u' v') v v1 v2) u v1 v2 := by
  refine zz_el (P := fun u v => wpX_add (fun r u' => wpY_add (fun r' v' => r' = r ∧ i_Rel (k + 4) u' v') v v1 v2) u v1 v2) ?_ I
  clear I u v
  intro N W f_results f_knownSet f_tileOp f_tileCost f_tileP f_tileQ f_tileR f_tileS f_tileConst f_tileInside f_ready f_fixed f_kept f_length a_writeTo a_writeOf a_input a_memory a_outcome a_bestTile a_bestCost a_op a_dest a_p a_q a_r a_s a_k a_registerOf a_lastUse a_register kd lf rt th cn fi se ty wan now kno vals R
  unfold wpX_add wpX_two wpY_add wpY_appendPair
  dsimp only
  have hN := R.1
  rcases zz_ix N hN v1 with h1 | ⟨a, ha, e1⟩
  · exact zz_bd h1 (br_f (by decide) (zz_bdY h1 (br_t rfl ⟨rfl, zz_in R⟩)))
  subst e1
  rcases zz_ix N hN v2 with h2 | ⟨b, hb, e2⟩
  · exact zz_ok hN ha (br_t rfl (zz_bd h2 (br_f (by decide) (zz_okY hN ha (br_f (by decide) (zz_bdY h2 (br_t rfl ⟨rfl, zz_in R⟩)))))))
  subst e2
  refine zz_ok hN ha (br_t rfl (zz_ok hN hb (br_t rfl ?_)))
  refine zz_app hN (fun e => ?_) (fun h => ?_)
  · exact zz_okY hN ha (br_f (by decide) (zz_okY hN hb (br_f (by decide) (zz_appY hN (fun _ => ⟨rfl, zz_in R⟩) (fun h => absurd e (by omega))))))
  · exact zz_okY hN ha (br_f (by decide) (zz_okY hN hb (br_f (by decide) (zz_appY hN (fun e => absurd e (by omega)) (fun _ => ⟨rfl, zz_in (zz_new R h (zn_add ha hb) (zm_add ha hb))⟩)))))
theorem i_vc_sub {k : Nat} {u : SX} {v : SY} (I : i_Rel k u v) (hk : k + 4 ≤ 2048) (v1 : Int32) (v2 : Int32) : wpX_sub (fun r u' => wpY_sub (fun r' v' => r' = r ∧ i_Rel (k + 4) u' v') v v1 v2) u v1 v2 := by
  refine zz_el (P := fun u v => wpX_sub (fun r u' => wpY_sub (fun r' v' => r' = r ∧ i_Rel (k + 4) u' v') v v1 v2) u v1 v2) ?_ I
  clear I u v
  intro N W f_results f_knownSet f_tileOp f_tileCost f_tileP f_tileQ f_tileR f_tileS f_tileConst f_tileInside f_ready f_fixed f_kept f_length a_writeTo a_writeOf a_input a_memory a_outcome a_bestTile a_bestCost a_op a_dest a_p a_q a_r a_s a_k a_registerOf a_lastUse a_register kd lf rt th cn fi se ty wan now kno vals R
  unfold wpX_sub wpX_two wpY_sub wpY_appendPair
  dsimp only
  have hN := R.1
  rcases zz_ix N hN v1 with h1 | ⟨a, ha, e1⟩
  · exact zz_bd h1 (br_f (by decide) (zz_bdY h1 (br_t rfl ⟨rfl, zz_in R⟩)))
  subst e1
  rcases zz_ix N hN v2 with h2 | ⟨b, hb, e2⟩
  · exact zz_ok hN ha (br_t rfl (zz_bd h2 (br_f (by decide) (zz_okY hN ha (br_f (by decide) (zz_bdY h2 (br_t rfl ⟨rfl, zz_in R⟩)))))))
  subst e2
  refine zz_ok hN ha (br_t rfl (zz_ok hN hb (br_t rfl ?_)))
  refine zz_app hN (fun e => ?_) (fun h => ?_)
  · exact zz_okY hN ha (br_f (by decide) (zz_okY hN hb (br_f (by decide) (zz_appY hN (fun _ => ⟨rfl, zz_in R⟩) (fun h => absurd e (by omega))))))
  · exact zz_okY hN ha (br_f (by decide) (zz_okY hN hb (br_f (by decide) (zz_appY hN (fun e => absurd e (by omega)) (fun _ => ⟨rfl, zz_in (zz_new R h (zn_sub ha hb) (zm_sub ha hb))⟩)))))
theorem i_vc_mul {k : Nat} {u : SX} {v : SY} (I : i_Rel k u v) (hk : k + 4 ≤ 2048) (v1 : Int32) (v2 : Int32) : wpX_mul (fun r u' => wpY_mul (fun r' v' => r' = r ∧ i_Rel (k + 4) u' v') v v1 v2) u v1 v2 := by
  refine zz_el (P := fun u v => wpX_mul (fun r u' => wpY_mul (fun r' v' => r' = r ∧ i_Rel (k + 4) u' v') v v1 v2) u v1 v2) ?_ I
  clear I u v
  intro N W f_results f_knownSet f_tileOp f_tileCost f_tileP f_tileQ f_tileR f_tileS f_tileConst f_tileInside f_ready f_fixed f_kept f_length a_writeTo a_writeOf a_input a_memory a_outcome a_bestTile a_bestCost a_op a_dest a_p a_q a_r a_s a_k a_registerOf a_lastUse a_register kd lf rt th cn fi se ty wan now kno vals R
  unfold wpX_mul wpX_two wpY_mul wpY_appendPair
  dsimp only
  have hN := R.1
  rcases zz_ix N hN v1 with h1 | ⟨a, ha, e1⟩
  · exact zz_bd h1 (br_f (by decide) (zz_bdY h1 (br_t rfl ⟨rfl, zz_in R⟩)))
  subst e1
  rcases zz_ix N hN v2 with h2 | ⟨b, hb, e2⟩
  · exact zz_ok hN ha (br_t rfl (zz_bd h2 (br_f (by decide) (zz_okY hN ha (br_f (by decide) (zz_bdY h2 (br_t rfl ⟨rfl, zz_in R⟩)))))))
  subst e2
  refine zz_ok hN ha (br_t rfl (zz_ok hN hb (br_t rfl ?_)))
  refine zz_app hN (fun e => ?_) (fun h => ?_)
  · exact zz_okY hN ha (br_f (by decide) (zz_okY hN hb (br_f (by decide) (zz_appY hN (fun _ => ⟨rfl, zz_in R⟩) (fun h => absurd e (by omega))))))
  · exact zz_okY hN ha (br_f (by decide) (zz_okY hN hb (br_f (by decide) (zz_appY hN (fun e => absurd e (by omega)) (fun _ => ⟨rfl, zz_in (zz_new R h (zn_mul ha hb) (zm_mul ha hb))⟩)))))
theorem i_vc_less {k : Nat} {u : SX} {v : SY} (I : i_Rel k u v) (hk : k + 4 ≤ 2048) (v1 : Int32) (v2 : Int32) : wpX_less (fun r u' => wpY_less (fun r' v' => r' = r ∧ i_Rel (k + 4) u' v') v v1 v2) u v1 v2 := by
  refine zz_el (P := fun u v => wpX_less (fun r u' => wpY_less (fun r' v' => r' = r ∧ i_Rel (k + 4) u' v') v v1 v2) u v1 v2) ?_ I
  clear I u v
  intro N W f_results f_knownSet f_tileOp f_tileCost f_tileP f_tileQ f_tileR f_tileS f_tileConst f_tileInside f_ready f_fixed f_kept f_length a_writeTo a_writeOf a_input a_memory a_outcome a_bestTile a_bestCost a_op a_dest a_p a_q a_r a_s a_k a_registerOf a_lastUse a_register kd lf rt th cn fi se ty wan now kno vals R
  unfold wpX_less wpX_two wpY_less wpY_appendPair
  dsimp only
  have hN := R.1
  rcases zz_ix N hN v1 with h1 | ⟨a, ha, e1⟩
  · exact zz_bd h1 (br_f (by decide) (zz_bdY h1 (br_t rfl ⟨rfl, zz_in R⟩)))
  subst e1
  rcases zz_ix N hN v2 with h2 | ⟨b, hb, e2⟩
  · exact zz_ok hN ha (br_t rfl (zz_bd h2 (br_f (by decide) (zz_okY hN ha (br_f (by decide) (zz_bdY h2 (br_t rfl ⟨rfl, zz_in R⟩)))))))
  subst e2
  refine zz_ok hN ha (br_t rfl (zz_ok hN hb (br_t rfl ?_)))
  refine zz_app hN (fun e => ?_) (fun h => ?_)
  · exact zz_okY hN ha (br_f (by decide) (zz_okY hN hb (br_f (by decide) (zz_appY hN (fun _ => ⟨rfl, zz_in R⟩) (fun h => absurd e (by omega))))))
  · exact zz_okY hN ha (br_f (by decide) (zz_okY hN hb (br_f (by decide) (zz_appY hN (fun e => absurd e (by omega)) (fun _ => ⟨rfl, zz_in (zz_new R h (zn_les ha hb) (zm_les ha hb))⟩)))))
theorem i_vc_neg {k : Nat} {u : SX} {v : SY} (I : i_Rel k u v) (hk : k + 4 ≤ 2048) (v1 : Int32) : wpX_neg (fun r u' => wpY_neg (fun r' v' => r' = r ∧ i_Rel (k + 4) u' v') v v1) u v1 := by
  refine zz_el (P := fun u v => wpX_neg (fun r u' => wpY_neg (fun r' v' => r' = r ∧ i_Rel (k + 4) u' v') v v1) u v1) ?_ I
  clear I u v
  intro N W f_results f_knownSet f_tileOp f_tileCost f_tileP f_tileQ f_tileR f_tileS f_tileConst f_tileInside f_ready f_fixed f_kept f_length a_writeTo a_writeOf a_input a_memory a_outcome a_bestTile a_bestCost a_op a_dest a_p a_q a_r a_s a_k a_registerOf a_lastUse a_register kd lf rt th cn fi se ty wan now kno vals R
  unfold wpX_neg wpY_neg
  dsimp only
  have hN := R.1
  rcases zz_ix N hN v1 with h1 | ⟨a, ha, e1⟩
  · exact zz_bd h1 (br_f (by decide) (zz_bdY h1 (br_t rfl ⟨rfl, zz_in R⟩)))
  subst e1
  refine zz_ok hN ha (br_t rfl ?_)
  refine zz_app hN (fun e => ?_) (fun h => ?_)
  · exact zz_okY hN ha (br_f (by decide) (zz_appY hN (fun _ => ⟨rfl, zz_in R⟩) (fun h => absurd e (by omega))))
  · exact zz_okY hN ha (br_f (by decide) (zz_appY hN (fun e => absurd e (by omega)) (fun _ => ⟨rfl, zz_in (zz_new R h (zn_neg ha) (zm_neg ha))⟩)))
theorem i_vc_fetch {k : Nat} {u : SX} {v : SY} (I : i_Rel k u v) (hk : k + 4 ≤ 2048) (v1 : Int32) : wpX_fetch (fun r u' => wpY_fetch (fun r' v' => r' = r ∧ i_Rel (k + 4) u' v') v v1) u v1 := by
  refine zz_el (P := fun u v => wpX_fetch (fun r u' => wpY_fetch (fun r' v' => r' = r ∧ i_Rel (k + 4) u' v') v v1) u v1) ?_ I
  clear I u v
  intro N W f_results f_knownSet f_tileOp f_tileCost f_tileP f_tileQ f_tileR f_tileS f_tileConst f_tileInside f_ready f_fixed f_kept f_length a_writeTo a_writeOf a_input a_memory a_outcome a_bestTile a_bestCost a_op a_dest a_p a_q a_r a_s a_k a_registerOf a_lastUse a_register kd lf rt th cn fi se ty wan now kno vals R
  unfold wpX_fetch wpY_fetch
  dsimp only
  have hN := R.1
  rcases zz_ix N hN v1 with h1 | ⟨a, ha, e1⟩
  · exact zz_bd h1 (br_f (by decide) (zz_bdY h1 (br_t rfl ⟨rfl, zz_in R⟩)))
  subst e1
  refine zz_ok hN ha (br_t rfl ?_)
  refine zz_app hN (fun e => ?_) (fun h => ?_)
  · exact zz_okY hN ha (br_f (by decide) (zz_appY hN (fun _ => ⟨rfl, zz_in R⟩) (fun h => absurd e (by omega))))
  · exact zz_okY hN ha (br_f (by decide) (zz_appY hN (fun e => absurd e (by omega)) (fun _ => ⟨rfl, zz_in (zz_new R h (zn_fet ha) (zm_fet ha))⟩)))
theorem i_vc_shift {k : Nat} {u : SX} {v : SY} (I : i_Rel k u v) (hk : k + 4 ≤ 2048) (v1 : Int32) (v2 : Int32) : wpX_shift (fun r u' => wpY_shift (fun r' v' => r' = r ∧ i_Rel (k + 4) u' v') v v1 v2) u v1 v2 := by
  refine zz_el (P := fun u v => wpX_shift (fun r u' => wpY_shift (fun r' v' => r' = r ∧ i_Rel (k + 4) u' v') v v1 v2) u v1 v2) ?_ I
  clear I u v
  intro N W f_results f_knownSet f_tileOp f_tileCost f_tileP f_tileQ f_tileR f_tileS f_tileConst f_tileInside f_ready f_fixed f_kept f_length a_writeTo a_writeOf a_input a_memory a_outcome a_bestTile a_bestCost a_op a_dest a_p a_q a_r a_s a_k a_registerOf a_lastUse a_register kd lf rt th cn fi se ty wan now kno vals R
  unfold wpX_shift wpY_shift
  dsimp only
  have hN := R.1
  rcases zz_ix N hN v1 with h1 | ⟨a, ha, e1⟩
  · exact zz_bd h1 (br_f (by decide) (zz_bdY h1 (br_t rfl ⟨rfl, zz_in R⟩)))
  subst e1
  by_cases h0 : v2 < 0
  · exact zz_ok hN ha (br_t rfl (br_t h0 (zz_okY hN ha (br_f (by decide) (br_t h0 ⟨rfl, zz_in R⟩)))))
  by_cases h5 : v2 ≤ 31
  · obtain ⟨b, hb, e2⟩ := nI_of2 (M := 31) (n := 31) (by decide) h0 h5
    subst e2
    have h6 : ¬ (31 : Int32) < nI b := Int32.not_lt.mpr h5
    refine zz_ok hN ha (br_t rfl (br_f h0 (br_t h5 ?_)))
    refine zz_app hN (fun e => ?_) (fun h => ?_)
    · exact zz_okY hN ha (br_f (by decide) (br_f h0 (br_f h6 (zz_appY hN (fun _ => ⟨rfl, zz_in R⟩) (fun h => absurd e (by omega))))))
    · exact zz_okY hN ha (br_f (by decide) (br_f h0 (br_f h6 (zz_appY hN (fun e => absurd e (by omega)) (fun _ => ⟨rfl, zz_in (zz_new R h (zn_shi ha (by omega)) (zm_shi ha (by omega)))⟩)))))
  · have h6 : (31 : Int32) < v2 := Int32.not_le.mp h5
    exact zz_ok hN ha (br_t rfl (br_f h0 (br_f h5 (zz_okY hN ha (br_f (by decide) (br_f h0 (br_t h6 ⟨rfl, zz_in R⟩)))))))
theorem i_vc_pick {k : Nat} {u : SX} {v : SY} (I : i_Rel k u v) (hk : k + 4 ≤ 2048) (v1 : Int32) (v2 : Int32) (v3 : Int32) : wpX_pick (fun r u' => wpY_pick (fun r' v' => r' = r ∧ i_Rel (k + 4) u' v') v v1 v2 v3) u v1 v2 v3 := by
  refine zz_el (P := fun u v => wpX_pick (fun r u' => wpY_pick (fun r' v' => r' = r ∧ i_Rel (k + 4) u' v') v v1 v2 v3) u v1 v2 v3) ?_ I
  clear I u v
  intro N W f_results f_knownSet f_tileOp f_tileCost f_tileP f_tileQ f_tileR f_tileS f_tileConst f_tileInside f_ready f_fixed f_kept f_length a_writeTo a_writeOf a_input a_memory a_outcome a_bestTile a_bestCost a_op a_dest a_p a_q a_r a_s a_k a_registerOf a_lastUse a_register kd lf rt th cn fi se ty wan now kno vals R
  unfold wpX_pick wpY_pick
  dsimp only
  have hN := R.1
  rcases zz_ix N hN v1 with h1 | ⟨a, ha, e1⟩
  · exact zz_bd h1 (br_f (by decide) (zz_bdY h1 (br_t rfl ⟨rfl, zz_in R⟩)))
  subst e1
  rcases zz_ix N hN v2 with h2 | ⟨b, hb, e2⟩
  · exact zz_ok hN ha (br_t rfl (zz_bd h2 (br_f (by decide) (zz_okY hN ha (br_f (by decide) (zz_bdY h2 (br_t rfl ⟨rfl, zz_in R⟩)))))))
  subst e2
  rcases zz_ix N hN v3 with h3 | ⟨c, hc, e3⟩
  · exact zz_ok hN ha (br_t rfl (zz_ok hN hb (br_t rfl (zz_bd h3 (br_f (by decide) (zz_okY hN ha (br_f (by decide) (zz_okY hN hb (br_f (by decide) (zz_bdY h3 (br_t rfl ⟨rfl, zz_in R⟩)))))))))))
  subst e3
  refine zz_ok hN ha (br_t rfl (zz_ok hN hb (br_t rfl (zz_ok hN hc (br_t rfl ?_)))))
  refine zz_app hN (fun e => ?_) (fun h => ?_)
  · exact zz_okY hN ha (br_f (by decide) (zz_okY hN hb (br_f (by decide) (zz_okY hN hc (br_f (by decide) (zz_appY hN (fun _ => ⟨rfl, zz_in R⟩) (fun h => absurd e (by omega))))))))
  · exact zz_okY hN ha (br_f (by decide) (zz_okY hN hb (br_f (by decide) (zz_okY hN hc (br_f (by decide) (zz_appY hN (fun e => absurd e (by omega)) (fun _ => ⟨rfl, zz_in (zz_new R h (zn_pic ha hb hc) (zm_pic ha hb hc))⟩)))))))
theorem i_vc_write {k : Nat} {u : SX} {v : SY} (I : i_Rel k u v) (hk : k + 4 ≤ 2048) (v1 : Int32) (v2 : Int32) : wpX_write (fun r u' => wpY_write (fun r' v' => r' = r ∧ i_Rel (k + 4) u' v') v v1 v2) u v1 v2 := by
  refine zz_el (P := fun u v => wpX_write (fun r u' => wpY_write (fun r' v' => r' = r ∧ i_Rel (k + 4) u' v') v v1 v2) u v1 v2) ?_ I
  clear I u v
  intro N W f_results f_knownSet f_tileOp f_tileCost f_tileP f_tileQ f_tileR f_tileS f_tileConst f_tileInside f_ready f_fixed f_kept f_length a_writeTo a_writeOf a_input a_memory a_outcome a_bestTile a_bestCost a_op a_dest a_p a_q a_r a_s a_k a_registerOf a_lastUse a_register kd lf rt th cn fi se ty wan now kno vals R
  unfold wpX_write wpY_write
  dsimp only
  have hN := R.1
  have HW := R.2.2.2.1
  have hW := HW.1
  rcases zz_ix N hN v1 with h1 | ⟨a, ha, e1⟩
  · exact zz_bd h1 (br_f (by decide) (zz_bdY h1 (br_t rfl ⟨rfl, zz_in R⟩)))
  subst e1
  rcases zz_ix N hN v2 with h2 | ⟨b, hb, e2⟩
  · exact zz_ok hN ha (br_t rfl (zz_bd h2 (br_f (by decide) (zz_okY hN ha (br_f (by decide) (zz_bdY h2 (br_t rfl ⟨rfl, zz_in R⟩)))))))
  subst e2
  refine zz_ok hN ha (br_t rfl (zz_ok hN hb (br_t rfl ?_)))
  by_cases h4 : W = 4
  · have e4 : nI W = 4 := by rw [h4]; rfl
    exact br_t e4 (zz_okY hN ha (br_f (by decide) (zz_okY hN hb (br_f (by decide) (br_t e4 ⟨rfl, zz_in R⟩)))))
  · have e4 : ¬ nI W = 4 := fun y => h4 ((nI_eq (b := 4) (by omega) (by omega)).mp y)
    have zw := zd_in4 (a := W) (by omega)
    have cw := zd_cl (a := W) (by omega)
    have u1 : upd a_writeTo (nI W).toNatClampNeg (nI a) = upd a_writeTo W (nI a) := by rw [cw]
    have u2 : upd a_writeOf (nI W).toNatClampNeg (nI b) = upd a_writeOf W (nI b) := by rw [cw]
    refine br_f e4 ⟨zw, nm_r u1 ⟨zw, nm_r u2 (nm_r (nI_1 W) ?_)⟩⟩
    refine zz_okY hN ha (br_f (by decide) (zz_okY hN hb (br_f (by decide) (br_f e4 ⟨zw, nm_r u1 ⟨zw, nm_r u2 (nm_r (nI_1 W) ⟨rfl, zz_in ?_⟩)⟩⟩))))
    refine ⟨hN, R.2.1, R.2.2.1, ⟨by omega, fun j hj => ?_⟩, R.2.2.2.2.1, R.2.2.2.2.2.1, R.2.2.2.2.2.2.1, Or.inl rfl⟩
    by_cases z : j = W
    · subst z
      rw [pk_us, pk_us]
      exact ⟨⟨a, ha, rfl⟩, b, hb, rfl⟩
    · rw [pk_un z, pk_un z]
      exact HW.2 j (by omega)
theorem zz_set {N m : Nat} {s s' : Int32} {f : Nat → Int32} {x : Int32} (hm : m < N) (h : zz_b N s f) (hs : ∀ i : Nat, i ≠ m → bt s' i = bt s i) (hx : x = if bt s' m = true then 1 else 0) : zz_b N s' (upd f m x) := by
  refine ⟨fun i hi => ?_, fun i hi => ?_⟩
  · by_cases z : i = m
    · subst z
      rw [pk_us, hx]
    · rw [pk_un z, hs i z]
      exact h.1 i hi
  · by_cases z : i = m
    · omega
    · rw [hs i z] at hi
      exact h.2 i hi
theorem i_vc_result {k : Nat} {u : SX} {v : SY} (I : i_Rel k u v) (hk : k + 4 ≤ 2048) (v1 : Int32) (v2 : Int32) : wpX_result (fun r u' => wpY_result (fun r' v' => r' = r ∧ i_Rel (k + 4) u' v') v v1 v2) u v1 v2 := by
  refine zz_el (P := fun u v => wpX_result (fun r u' => wpY_result (fun r' v' => r' = r ∧ i_Rel (k + 4) u' v') v v1 v2) u v1 v2) ?_ I
  clear I u v
  intro N W f_results f_knownSet f_tileOp f_tileCost f_tileP f_tileQ f_tileR f_tileS f_tileConst f_tileInside f_ready f_fixed f_kept f_length a_writeTo a_writeOf a_input a_memory a_outcome a_bestTile a_bestCost a_op a_dest a_p a_q a_r a_s a_k a_registerOf a_lastUse a_register kd lf rt th cn fi se ty wan now kno vals R
  unfold wpX_result wpY_result
  dsimp only
  have hN := R.1
  have hB := R.2.2.2.2.1
  rcases zz_ix N hN v1 with h1 | ⟨m, hm, e1⟩
  · exact zz_bd h1 (br_f (by decide) (zz_bdY h1 (br_t rfl ⟨rfl, zz_in R⟩)))
  subst e1
  have zm := zd_in (a := m) (by omega)
  have cm := zd_cl (a := m) (by omega)
  have u0 : upd wan (nI m).toNatClampNeg (vp_nar .boolean 0) = upd wan m 0 := by rw [cm]; rfl
  have u1 : upd wan (nI m).toNatClampNeg (vp_nar .boolean 1) = upd wan m 1 := by rw [cm]; rfl
  have hw := hB.1 m hm
  have bc := fun i => zb_clr f_results (n := m) (by omega) i
  have bo := fun i => zb_or1 (f_results &&& (((1 : Int32) <<< (nI m &&& 31)) ^^^ (-1))) (n := m) (by omega) i
  have R0 : zz_b N (f_results &&& (((1 : Int32) <<< (nI m &&& 31)) ^^^ (-1))) (upd wan m 0) := zz_set hm hB (fun i hi => by rw [bc i, decide_eq_false hi]; cases bt f_results i <;> rfl) (by rw [bc m]; simp)
  have R1 : zz_b N ((f_results &&& (((1 : Int32) <<< (nI m &&& 31)) ^^^ (-1))) ||| ((1 : Int32) <<< (nI m &&& 31))) (upd wan m 1) := zz_set hm hB (fun i hi => by rw [bo i, bc i, decide_eq_false hi]; cases bt f_results i <;> rfl) (by rw [bo m]; simp)
  refine zz_ok hN hm (br_t rfl (nm_r (zb_bit f_results (by omega)) (nm_e ?_)))
  by_cases h2 : v2 = 0
  · refine br_t h2 (zz_okY hN hm (br_f (by decide) ⟨zm, ?_⟩))
    by_cases hb : bt f_results m = true
    · rw [if_pos hb] at hw
      have hw' : ¬ wan (nI m).toNatClampNeg = 0 := by rw [cm, hw]; decide
      refine br_f hw' (br_t h2 ⟨zm, nm_r u0 ⟨by rw [if_pos hb], zz_in ?_⟩⟩)
      exact ⟨hN, R.2.1, R.2.2.1, R.2.2.2.1, R0, R.2.2.2.2.2.1, R.2.2.2.2.2.2.1, Or.inl rfl⟩
    · rw [if_neg hb] at hw
      have hw' : wan (nI m).toNatClampNeg = 0 := by rw [cm, hw]
      refine br_t hw' (br_t h2 ⟨zm, nm_r u0 ⟨by rw [if_neg hb], zz_in ?_⟩⟩)
      exact ⟨hN, R.2.1, R.2.2.1, R.2.2.2.1, R0, R.2.2.2.2.2.1, R.2.2.2.2.2.2.1, Or.inl rfl⟩
  · refine br_f h2 (nm_e (zz_okY hN hm (br_f (by decide) ⟨zm, ?_⟩)))
    by_cases hb : bt f_results m = true
    · rw [if_pos hb] at hw
      have hw' : ¬ wan (nI m).toNatClampNeg = 0 := by rw [cm, hw]; decide
      refine br_f hw' (br_f h2 ⟨zm, nm_r u1 ⟨by rw [if_pos hb], zz_in ?_⟩⟩)
      exact ⟨hN, R.2.1, R.2.2.1, R.2.2.2.1, R1, R.2.2.2.2.2.1, R.2.2.2.2.2.2.1, Or.inl rfl⟩
    · rw [if_neg hb] at hw
      have hw' : wan (nI m).toNatClampNeg = 0 := by rw [cm, hw]
      refine br_t hw' (br_f h2 ⟨zm, nm_r u1 ⟨by rw [if_neg hb], zz_in ?_⟩⟩)
      exact ⟨hN, R.2.1, R.2.2.1, R.2.2.2.1, R1, R.2.2.2.2.2.1, R.2.2.2.2.2.2.1, Or.inl rfl⟩
theorem i_vc_nodes {k : Nat} {u : SX} {v : SY} (I : i_Rel k u v) (hk : k + 4 ≤ 2048) : wpX_nodes (fun r => wpY_nodes (fun r' => r' = r ∧ i_Rel (k + 4) u v) v) u := by
  refine zz_el (P := fun u v => wpX_nodes (fun r => wpY_nodes (fun r' => r' = r ∧ i_Rel (k + 4) u v) v) u) ?_ I
  clear I u v
  intro N W f_results f_knownSet f_tileOp f_tileCost f_tileP f_tileQ f_tileR f_tileS f_tileConst f_tileInside f_ready f_fixed f_kept f_length a_writeTo a_writeOf a_input a_memory a_outcome a_bestTile a_bestCost a_op a_dest a_p a_q a_r a_s a_k a_registerOf a_lastUse a_register kd lf rt th cn fi se ty wan now kno vals R
  exact And.intro rfl (zz_in R)
theorem i_vc_clear {k : Nat} {u : SX} {v : SY} (I : i_Rel k u v) (hk : k + 4 ≤ 2048) : wpX_clear (fun u' => wpY_clear (fun v' => i_Rel (k + 4) u' v') v) u := by
  refine zz_el (P := fun u v => wpX_clear (fun u' => wpY_clear (fun v' => i_Rel (k + 4) u' v') v) u) ?_ I
  clear I u v
  intro N W f_results f_knownSet f_tileOp f_tileCost f_tileP f_tileQ f_tileR f_tileS f_tileConst f_tileInside f_ready f_fixed f_kept f_length a_writeTo a_writeOf a_input a_memory a_outcome a_bestTile a_bestCost a_op a_dest a_p a_q a_r a_s a_k a_registerOf a_lastUse a_register kd lf rt th cn fi se ty wan now kno vals R
  refine Exists.intro 0 (Exists.intro 0 ⟨rfl, rfl, rfl, rfl, rfl, rfl, rfl, rfl, rfl, ?_⟩)
  exact ⟨by omega, fun m hm => absurd hm (by omega), fun m hm => absurd hm (by omega), ⟨by omega, fun j hj => absurd hj (by omega)⟩, ⟨fun m hm => absurd hm (by omega), fun m hm => absurd hm (by rw [b_0]; decide)⟩, ⟨fun m hm => absurd hm (by omega), fun m hm => absurd hm (by rw [b_0]; decide)⟩, fun m hm => absurd hm (by rw [b_0]; decide), Or.inl rfl⟩
theorem i_vc_setInput {k : Nat} {u : SX} {v : SY} (I : i_Rel k u v) (hk : k + 4 ≤ 2048) (v1 : Int32) (v2 : Int32) : wpX_setInput (fun r u' => wpY_setInput (fun r' v' => r' = r ∧ i_Rel (k + 4) u' v') v v1 v2) u v1 v2 := by
  refine zz_el (P := fun u v => wpX_setInput (fun r u' => wpY_setInput (fun r' v' => r' = r ∧ i_Rel (k + 4) u' v') v v1 v2) u v1 v2) ?_ I
  clear I u v
  intro N W f_results f_knownSet f_tileOp f_tileCost f_tileP f_tileQ f_tileR f_tileS f_tileConst f_tileInside f_ready f_fixed f_kept f_length a_writeTo a_writeOf a_input a_memory a_outcome a_bestTile a_bestCost a_op a_dest a_p a_q a_r a_s a_k a_registerOf a_lastUse a_register kd lf rt th cn fi se ty wan now kno vals R
  by_cases h0 : v1 < 0
  · exact br_t h0 (br_t h0 ⟨rfl, zz_in R⟩)
  by_cases h5 : v1 ≤ 5
  · have hv : vp_in v1 6 := by
      obtain ⟨j, hj, e⟩ := nI_of2 (M := 5) (n := 5) (by decide) h0 h5
      rw [e]
      exact vp_in_nI (by omega) (by decide)
    exact br_f h0 (br_t h5 ⟨hv, nm_e (br_f h0 (br_t h5 ⟨hv, nm_e ⟨rfl, zz_in R⟩⟩))⟩)
  · exact br_f h0 (br_f h5 (br_f h0 (br_f h5 ⟨rfl, zz_in R⟩)))
theorem i_vc_setWord {k : Nat} {u : SX} {v : SY} (I : i_Rel k u v) (hk : k + 4 ≤ 2048) (v1 : Int32) (v2 : Int32) : wpX_setWord (fun r u' => wpY_setWord (fun r' v' => r' = r ∧ i_Rel (k + 4) u' v') v v1 v2) u v1 v2 := by
  refine zz_el (P := fun u v => wpX_setWord (fun r u' => wpY_setWord (fun r' v' => r' = r ∧ i_Rel (k + 4) u' v') v v1 v2) u v1 v2) ?_ I
  clear I u v
  intro N W f_results f_knownSet f_tileOp f_tileCost f_tileP f_tileQ f_tileR f_tileS f_tileConst f_tileInside f_ready f_fixed f_kept f_length a_writeTo a_writeOf a_input a_memory a_outcome a_bestTile a_bestCost a_op a_dest a_p a_q a_r a_s a_k a_registerOf a_lastUse a_register kd lf rt th cn fi se ty wan now kno vals R
  by_cases h0 : v1 < 0
  · exact br_t h0 (br_t h0 ⟨rfl, zz_in R⟩)
  by_cases h5 : v1 ≤ 15
  · have hv : vp_in v1 16 := by
      obtain ⟨j, hj, e⟩ := nI_of2 (M := 15) (n := 15) (by decide) h0 h5
      rw [e]
      exact vp_in_nI (by omega) (by decide)
    exact br_f h0 (br_t h5 ⟨hv, nm_e (br_f h0 (br_t h5 ⟨hv, nm_e ⟨rfl, zz_in R⟩⟩))⟩)
  · exact br_f h0 (br_f h5 (br_f h0 (br_f h5 ⟨rfl, zz_in R⟩)))
theorem i_vc_word {k : Nat} {u : SX} {v : SY} (I : i_Rel k u v) (hk : k + 4 ≤ 2048) (v1 : Int32) : wpX_word (fun r => wpY_word (fun r' => r' = r ∧ i_Rel (k + 4) u v) v v1) u v1 := by
  refine zz_el (P := fun u v => wpX_word (fun r => wpY_word (fun r' => r' = r ∧ i_Rel (k + 4) u v) v v1) u v1) ?_ I
  clear I u v
  intro N W f_results f_knownSet f_tileOp f_tileCost f_tileP f_tileQ f_tileR f_tileS f_tileConst f_tileInside f_ready f_fixed f_kept f_length a_writeTo a_writeOf a_input a_memory a_outcome a_bestTile a_bestCost a_op a_dest a_p a_q a_r a_s a_k a_registerOf a_lastUse a_register kd lf rt th cn fi se ty wan now kno vals R
  by_cases h0 : v1 < 0
  · exact br_t h0 (br_t h0 ⟨rfl, zz_in R⟩)
  by_cases h5 : v1 ≤ 15
  · have hv : vp_in v1 16 := by
      obtain ⟨j, hj, e⟩ := nI_of2 (M := 15) (n := 15) (by decide) h0 h5
      rw [e]
      exact vp_in_nI (by omega) (by decide)
    exact br_f h0 (br_t h5 ⟨hv, br_f h0 (br_t h5 ⟨hv, ⟨rfl, zz_in R⟩⟩)⟩)
  · exact br_f h0 (br_f h5 (br_f h0 (br_f h5 ⟨rfl, zz_in R⟩)))
theorem i_vc_run {k : Nat} {u : SX} {v : SY} (I : i_Rel k u v) (hk : k + 4 ≤ 2048) : wpX_run (fun r u' => wpY_run (fun r' v' => r' = r ∧ i_Rel (k + 4) u' v') v) u := by
  refine zz_el (P := fun u v => wpX_run (fun r u' => wpY_run (fun r' v' => r' = r ∧ i_Rel (k + 4) u' v') v) u) ?_ I
  clear I u v
  intro N W f_results f_knownSet f_tileOp f_tileCost f_tileP f_tileQ f_tileR f_tileS f_tileConst f_tileInside f_ready f_fixed f_kept f_length a_writeTo a_writeOf a_input a_memory a_outcome a_bestTile a_bestCost a_op a_dest a_p a_q a_r a_s a_k a_registerOf a_lastUse a_register kd lf rt th cn fi se ty wan now kno vals R
  unfold wpX_run wpY_run
  dsimp only
  have hN := R.1
  have HW := R.2.2.2.1
  have hB := R.2.2.2.2.1
  obtain ⟨v, hv, H⟩ := zy_run (a_now := now) (a_known := kno) (a_values := vals) (a_inputs := a_input) (a_words := a_memory) hN R.2.1 R.2.2.1 HW hB.1
  refine zr_run hN R.2.1 HW hB.2 R.2.2.2.2.2.2.2 hv ?_
  intro f_tileOp f_tileCost f_tileP f_tileQ f_tileR f_tileS f_tileConst f_tileInside f_ready f_fixed f_kept f_length a_outcome a_bestTile a_bestCost a_op a_dest a_p a_q a_r a_s a_k a_registerOf a_lastUse a_register ck ho
  refine H ?_
  intro kno vals hk hl
  refine And.intro rfl (zz_in ?_)
  exact ⟨hN, R.2.1, R.2.2.1, HW, hB, ⟨hk, hB.2⟩, fun m hm => (ho m hm).trans (hl m (hB.2 m hm)).symm, Or.inr ck⟩
section
variable {N W : Nat} {kd lf rt th cn fi se ty wan now kno vals : Nat → Int32} {f_results f_knownSet f_tileOp f_tileCost f_tileP f_tileQ f_tileR f_tileS f_tileConst f_tileInside f_ready f_fixed f_kept f_length : Int32} {a_writeTo a_writeOf a_input a_memory a_outcome a_bestTile a_bestCost a_op a_dest a_p a_q a_r a_s a_k a_registerOf a_lastUse a_register : Nat → Int32}
theorem zz_kn {post : Int32 → Prop} {m : Nat} (hN : N ≤ 20) (hm : m < N) (h : post (if bt f_knownSet m = true then 1 else 0)) : wpX_known post (nI N, f_results, nI W, f_knownSet, f_tileOp, f_tileCost, f_tileP, f_tileQ, f_tileR, f_tileS, f_tileConst, f_tileInside, f_ready, f_fixed, f_kept, f_length, kd, lf, rt, th, cn, a_writeTo, a_writeOf, a_input, a_memory, a_outcome, a_bestTile, a_bestCost, a_op, a_dest, a_p, a_q, a_r, a_s, a_k, a_registerOf, a_lastUse, a_register) (nI m) := by
  unfold wpX_known
  dsimp only
  refine zz_ok hN hm (br_t rfl ?_)
  by_cases hb : bt f_knownSet m = true
  · rw [if_pos hb] at h
    exact br_t (zb_on (by omega) hb) h
  · rw [if_neg hb] at h
    exact br_f (zb_non (by omega) hb) h
theorem zz_kb {post : Int32 → Prop} {x : Int32} (h1 : x < 0 ∨ nI N ≤ x) (h : post 0) : wpX_known post (nI N, f_results, nI W, f_knownSet, f_tileOp, f_tileCost, f_tileP, f_tileQ, f_tileR, f_tileS, f_tileConst, f_tileInside, f_ready, f_fixed, f_kept, f_length, kd, lf, rt, th, cn, a_writeTo, a_writeOf, a_input, a_memory, a_outcome, a_bestTile, a_bestCost, a_op, a_dest, a_p, a_q, a_r, a_s, a_k, a_registerOf, a_lastUse, a_register) x := by
  unfold wpX_known
  dsimp only
  exact zz_bd h1 (br_f (by decide) h)
theorem zz_vb {post : Int32 → Prop} {x : Int32} (h1 : x < 0 ∨ nI N ≤ x) (h : post 0) : wpX_value post (nI N, f_results, nI W, f_knownSet, f_tileOp, f_tileCost, f_tileP, f_tileQ, f_tileR, f_tileS, f_tileConst, f_tileInside, f_ready, f_fixed, f_kept, f_length, kd, lf, rt, th, cn, a_writeTo, a_writeOf, a_input, a_memory, a_outcome, a_bestTile, a_bestCost, a_op, a_dest, a_p, a_q, a_r, a_s, a_k, a_registerOf, a_lastUse, a_register) x := by
  unfold wpX_value
  dsimp only
  exact zz_kb h1 (br_t rfl h)
theorem zz_va {post : Int32 → Prop} {m : Nat} (hN : N ≤ 20) (hm : m < N) (h : post (if bt f_knownSet m = true then a_outcome m else 0)) : wpX_value post (nI N, f_results, nI W, f_knownSet, f_tileOp, f_tileCost, f_tileP, f_tileQ, f_tileR, f_tileS, f_tileConst, f_tileInside, f_ready, f_fixed, f_kept, f_length, kd, lf, rt, th, cn, a_writeTo, a_writeOf, a_input, a_memory, a_outcome, a_bestTile, a_bestCost, a_op, a_dest, a_p, a_q, a_r, a_s, a_k, a_registerOf, a_lastUse, a_register) (nI m) := by
  unfold wpX_value
  dsimp only
  refine zz_kn hN hm ?_
  by_cases hb : bt f_knownSet m = true
  · rw [if_pos hb] at h
    rw [if_pos hb]
    refine br_f (by decide) ⟨zd_in (by omega), ?_⟩
    rw [zd_cl (by omega)]
    exact h
  · rw [if_neg hb] at h
    rw [if_neg hb]
    exact br_t rfl h
def zz_dg (ks : Int32) (o : Nat → Int32) : Nat → Int32
  | 0 => 0
  | n + 1 => zz_dg ks o n + (nI n + 1) * (if bt ks n = true then o n else 0)
theorem zz_dX {post : Int32 → Prop} (hN : N ≤ 20) (hp : post (zz_dg f_knownSet a_outcome N)) : ∀ d n : Nat, n + d = N → wX_digest_4 post (nI N) f_results (nI W) f_knownSet f_tileOp f_tileCost f_tileP f_tileQ f_tileR f_tileS f_tileConst f_tileInside f_ready f_fixed f_kept f_length kd lf rt th cn a_writeTo a_writeOf a_input a_memory a_outcome a_bestTile a_bestCost a_op a_dest a_p a_q a_r a_s a_k a_registerOf a_lastUse a_register (d + 1) (zz_dg f_knownSet a_outcome n) (nI n) := by
  intro d
  induction d with
  | zero =>
    intro n hn
    have e : n = N := by omega
    subst e
    exact br_t (nI_le (by omega) (by omega)) hp
  | succ d ih =>
    intro n hn
    refine br_f (nI_ge (by omega) (by omega)) (zz_va hN (by omega) ?_)
    exact nm_r (e' := zz_dg f_knownSet a_outcome (n + 1)) rfl (nm_r (nI_1 n) (ih (n + 1) (by omega)))
theorem zz_dY {post : Int32 → Prop} (hN : N ≤ 20) (hk : zz_b N f_knownSet kno) (ho : ∀ m : Nat, bt f_knownSet m = true → a_outcome m = vals m) (hp : post (zz_dg f_knownSet a_outcome N)) : ∀ d n : Nat, n + d = N → wY_digest_4 post (nI N) (nI W) kd fi se ty wan a_writeTo a_writeOf a_input a_memory now kno vals (d + 1) (zz_dg f_knownSet a_outcome n) (nI n) := by
  intro d
  induction d with
  | zero =>
    intro n hn
    have e : n = N := by omega
    subst e
    exact br_t (nI_le (by omega) (by omega)) hp
  | succ d ih =>
    intro n hn
    have zn := zd_in (a := n) (by omega)
    have cl := zd_cl (a := n) (by omega)
    have hkn := hk.1 n (by omega)
    have ed : zz_dg f_knownSet a_outcome (n + 1) = zz_dg f_knownSet a_outcome n + (nI n + 1) * (if bt f_knownSet n = true then a_outcome n else 0) := rfl
    by_cases hb : bt f_knownSet n = true
    · rw [if_pos hb] at hkn
      rw [if_pos hb, ho n hb] at ed
      have k' : ¬ kno (nI n).toNatClampNeg = 0 := by rw [cl, hkn]; decide
      exact br_f (nI_ge (by omega) (by omega)) ⟨zn, br_f k' ⟨zn, nm_r (e' := zz_dg f_knownSet a_outcome (n + 1)) (by rw [cl, ed]) (nm_r (nI_1 n) (ih (n + 1) (by omega)))⟩⟩
    · rw [if_neg hb] at hkn
      rw [if_neg hb, Int32.mul_zero, Int32.add_zero] at ed
      have k' : kno (nI n).toNatClampNeg = 0 := by rw [cl, hkn]
      have g := ih (n + 1) (by omega)
      rw [ed] at g
      exact br_f (nI_ge (by omega) (by omega)) ⟨zn, br_t k' (nm_r (nI_1 n) g)⟩
end
theorem i_vc_known {k : Nat} {u : SX} {v : SY} (I : i_Rel k u v) (hk : k + 4 ≤ 2048) (v1 : Int32) : wpX_known (fun r => wpY_known (fun r' => r' = r ∧ i_Rel (k + 4) u v) v v1) u v1 := by
  refine zz_el (P := fun u v => wpX_known (fun r => wpY_known (fun r' => r' = r ∧ i_Rel (k + 4) u v) v v1) u v1) ?_ I
  clear I u v
  intro N W f_results f_knownSet f_tileOp f_tileCost f_tileP f_tileQ f_tileR f_tileS f_tileConst f_tileInside f_ready f_fixed f_kept f_length a_writeTo a_writeOf a_input a_memory a_outcome a_bestTile a_bestCost a_op a_dest a_p a_q a_r a_s a_k a_registerOf a_lastUse a_register kd lf rt th cn fi se ty wan now kno vals R
  unfold wpY_known
  dsimp only
  have hN := R.1
  have hK := R.2.2.2.2.2.1
  rcases zz_ix N hN v1 with h1 | ⟨m, hm, e1⟩
  · exact zz_kb h1 (zz_bdY h1 (br_t rfl ⟨rfl, zz_in R⟩))
  subst e1
  have zm := zd_in (a := m) (by omega)
  have cm := zd_cl (a := m) (by omega)
  have hw := hK.1 m hm
  refine zz_kn hN hm ?_
  refine zz_okY hN hm (br_f (by decide) ⟨zm, ?_⟩)
  by_cases hb : bt f_knownSet m = true
  · rw [if_pos hb] at hw
    have hw' : ¬ kno (nI m).toNatClampNeg = 0 := by rw [cm, hw]; decide
    exact br_f hw' ⟨by rw [if_pos hb], zz_in R⟩
  · rw [if_neg hb] at hw
    have hw' : kno (nI m).toNatClampNeg = 0 := by rw [cm, hw]
    exact br_t hw' ⟨by rw [if_neg hb], zz_in R⟩
theorem i_vc_value {k : Nat} {u : SX} {v : SY} (I : i_Rel k u v) (hk : k + 4 ≤ 2048) (v1 : Int32) : wpX_value (fun r => wpY_value (fun r' => r' = r ∧ i_Rel (k + 4) u v) v v1) u v1 := by
  refine zz_el (P := fun u v => wpX_value (fun r => wpY_value (fun r' => r' = r ∧ i_Rel (k + 4) u v) v v1) u v1) ?_ I
  clear I u v
  intro N W f_results f_knownSet f_tileOp f_tileCost f_tileP f_tileQ f_tileR f_tileS f_tileConst f_tileInside f_ready f_fixed f_kept f_length a_writeTo a_writeOf a_input a_memory a_outcome a_bestTile a_bestCost a_op a_dest a_p a_q a_r a_s a_k a_registerOf a_lastUse a_register kd lf rt th cn fi se ty wan now kno vals R
  unfold wpY_value
  dsimp only
  have hN := R.1
  have hK := R.2.2.2.2.2.1
  have hV := R.2.2.2.2.2.2.1
  rcases zz_ix N hN v1 with h1 | ⟨m, hm, e1⟩
  · exact zz_vb h1 (zz_bdY h1 (br_t rfl ⟨rfl, zz_in R⟩))
  subst e1
  have zm := zd_in (a := m) (by omega)
  have cm := zd_cl (a := m) (by omega)
  have hw := hK.1 m hm
  refine zz_va hN hm ?_
  refine zz_okY hN hm (br_f (by decide) ⟨zm, ?_⟩)
  by_cases hb : bt f_knownSet m = true
  · rw [if_pos hb] at hw
    have hw' : ¬ kno (nI m).toNatClampNeg = 0 := by rw [cm, hw]; decide
    exact br_f hw' ⟨zm, ⟨by rw [if_pos hb, cm, hV m hb], zz_in R⟩⟩
  · rw [if_neg hb] at hw
    have hw' : kno (nI m).toNatClampNeg = 0 := by rw [cm, hw]
    exact br_t hw' ⟨by rw [if_neg hb], zz_in R⟩
theorem i_vc_digest {k : Nat} {u : SX} {v : SY} (I : i_Rel k u v) (hk : k + 4 ≤ 2048) : wpX_digest (fun r => wpY_digest (fun r' => r' = r ∧ i_Rel (k + 4) u v) v) u := by
  refine zz_el (P := fun u v => wpX_digest (fun r => wpY_digest (fun r' => r' = r ∧ i_Rel (k + 4) u v) v) u) ?_ I
  clear I u v
  intro N W f_results f_knownSet f_tileOp f_tileCost f_tileP f_tileQ f_tileR f_tileS f_tileConst f_tileInside f_ready f_fixed f_kept f_length a_writeTo a_writeOf a_input a_memory a_outcome a_bestTile a_bestCost a_op a_dest a_p a_q a_r a_s a_k a_registerOf a_lastUse a_register kd lf rt th cn fi se ty wan now kno vals R
  have hN := R.1
  refine Exists.intro (N + 1) (zz_dX hN ?_ N 0 (by omega))
  exact Exists.intro (N + 1) (zz_dY hN R.2.2.2.2.2.1 R.2.2.2.2.2.2.1 ⟨rfl, zz_in R⟩ N 0 (by omega))
end
