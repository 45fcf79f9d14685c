section
theorem pk_us {f : Nat → Int32} {k : Nat} {x : Int32} : upd f k x k = x := if_pos rfl
theorem pk_un {f : Nat → Int32} {k j : Nat} {x : Int32} (h : j ≠ k) : upd f k x j = f j := if_neg h
theorem pk_sub {a b : Nat} (h : b ≤ a) : nI a - nI b = nI (a - b) := by
  obtain ⟨c, rfl⟩ : ∃ c, a = c + b := ⟨a - b, by omega⟩
  rw [← nI_add, Int32.add_sub_cancel, Nat.add_sub_cancel]
theorem pk_ix (x : Int32) {n : Nat} (hn : n < 2 ^ 31) : x < 0 ∨ nI n ≤ x ∨ ∃ j : Nat, j < n ∧ x = nI j := by
  by_cases h : x < 0
  · exact Or.inl h
  · obtain ⟨j, hj, rfl⟩ := nI_of h
    by_cases h2 : j < n
    · exact Or.inr (Or.inr ⟨j, h2, rfl⟩)
    · exact Or.inr (Or.inl (nI_le (by omega) hj))
theorem pk_le {x y : Int32} {A B : Prop} (a b : Nat) (f : a ≤ b → A) (g : b < a → B) (hx : x = nI a := by rfl) (hy : y = nI b := by rfl) (ha : a < 2 ^ 31 := by omega) (hb : b < 2 ^ 31 := by omega) : (x ≤ y → A) ∧ (¬ x ≤ y → B) := by
  subst hx hy
  rw [nI_leI ha hb]
  exact ⟨f, fun z => g (by omega)⟩
theorem pk_lt {x y : Int32} {A B : Prop} (a b : Nat) (f : a < b → A) (g : b ≤ a → B) (hx : x = nI a := by rfl) (hy : y = nI b := by rfl) (ha : a < 2 ^ 31 := by omega) (hb : b < 2 ^ 31 := by omega) : (x < y → A) ∧ (¬ x < y → B) := by
  subst hx hy
  rw [nI_ltI ha hb]
  exact ⟨f, fun z => g (by omega)⟩
theorem pk_eq {x y : Int32} {A B : Prop} (a b : Nat) (f : a = b → A) (g : a ≠ b → B) (hx : x = nI a := by rfl) (hy : y = nI b := by rfl) (ha : a < 2 ^ 31 := by omega) (hb : b < 2 ^ 31 := by omega) : (x = y → A) ∧ (¬ x = y → B) := by
  subst hx hy
  rw [nI_eq ha hb]
  exact ⟨f, g⟩
theorem pk_in {x : Int32} (n N : Nat) (h : n < N) (hx : x = nI n := by rfl) (hN : N < 2 ^ 31 := by omega) : vp_in x N := by
  subst hx
  exact vp_in_nI h hN
theorem pk_cl {x : Int32} (n : Nat) (hx : x = nI n := by rfl) (h : n < 2 ^ 31 := by omega) : x.toNatClampNeg = n := by
  subst hx
  exact nI_clamp h
theorem pk_tn {n : Nat} (h : n < 2 ^ 32) : (nI n).toBitVec.toNat = n := Nat.mod_eq_of_lt h
theorem pk_and (x : Int32) {m : Int32} (k : Nat) (hm : m.toBitVec.toNat = 2 ^ k - 1) : x &&& m = nI (x.toBitVec.toNat % 2 ^ k) := by
  apply Int32.toBitVec_inj.mp
  apply BitVec.eq_of_toNat_eq
  rw [Int32.toBitVec_and, BitVec.toNat_and, hm, Nat.and_two_pow_sub_one_eq_mod]
  show _ = (BitVec.ofNat 32 _).toNat
  rw [BitVec.toNat_ofNat]
  exact (Nat.mod_eq_of_lt (Nat.lt_of_le_of_lt (Nat.mod_le _ _) x.toBitVec.isLt)).symm
theorem pk_andN {n : Nat} (h : n < 2 ^ 32) {m : Int32} (k : Nat) (hm : m.toBitVec.toNat = 2 ^ k - 1) : nI n &&& m = nI (n % 2 ^ k) := by
  rw [pk_and _ k hm, pk_tn h]
theorem pk_andE (x : Int32) {m : Int32} (k : Nat) (hm : m.toBitVec.toNat = 2 ^ k - 1) : ∃ j : Nat, j < 2 ^ k ∧ x &&& m = nI j := ⟨_, Nat.mod_lt _ (Nat.two_pow_pos k), pk_and x k hm⟩
theorem pk_andIn (x : Int32) {m : Int32} (k : Nat) (hm : m.toBitVec.toNat = 2 ^ k - 1) (hk : k ≤ 30) : vp_in (x &&& m) (2 ^ k) := by
  obtain ⟨j, hj, e⟩ := pk_andE x k hm
  rw [e]
  exact vp_in_nI hj (Nat.lt_of_le_of_lt (Nat.pow_le_pow_right (by decide) hk) (by decide))
theorem pk_vb (z : Int32) : vp_nar .byte z.toInt8.toInt32 = z.toInt8.toInt32 := by rw [vp_nar_byte]; simp
def bt (x : Int32) (i : Nat) : Bool := x.toBitVec.getLsbD i
theorem b_ext {x y : Int32} (h : ∀ i, i < 32 → bt x i = bt y i) : x = y := Int32.toBitVec_inj.mp (BitVec.eq_of_getLsbD_eq (fun i hi => h i hi))
theorem b_or (x y : Int32) (i : Nat) : bt (x ||| y) i = (bt x i || bt y i) := by unfold bt; rw [Int32.toBitVec_or, BitVec.getLsbD_or]
theorem b_and (x y : Int32) (i : Nat) : bt (x &&& y) i = (bt x i && bt y i) := by unfold bt; rw [Int32.toBitVec_and, BitVec.getLsbD_and]
theorem b_xor (x y : Int32) (i : Nat) : bt (x ^^^ y) i = (bt x i ^^ bt y i) := by unfold bt; rw [Int32.toBitVec_xor, BitVec.getLsbD_xor]
theorem b_big {x : Int32} {i : Nat} (h : 32 ≤ i) : bt x i = false := BitVec.getLsbD_of_ge _ _ h
theorem b_m1 : ∀ i, i < 32 → bt (-1) i = true := by decide +kernel
theorem b_0 (i : Nat) : bt 0 i = false := BitVec.getLsbD_zero
theorem s_l : ∀ n, n < 32 → ((nI n &&& 31).toBitVec.smod 32).toNat = n := by decide +kernel
theorem s_u : ∀ n, n < 32 → (((nI n).toUInt32 &&& Int32.toUInt32 31).toBitVec % 32).toNat = n := by decide +kernel
theorem b_shl (n : Nat) (hn : n < 32) (x : Int32) {i : Nat} (hi : i < 32) : bt (x <<< (nI n &&& 31)) i = (decide (n ≤ i) && bt x (i - n)) := by
  unfold bt
  rw [Int32.toBitVec_shiftLeft]
  show (x.toBitVec <<< ((nI n &&& 31).toBitVec.smod 32).toNat).getLsbD i = _
  rw [s_l n hn, BitVec.getLsbD_shiftLeft]
  rcases Nat.lt_or_ge i n with h | h
  · simp [h, Nat.not_le.mpr h]
  · simp [hi, h, Nat.not_lt.mpr h]
theorem b_sshr (n : Nat) (hn : n < 32) (x : Int32) {i : Nat} (hi : i < 32) : bt (x >>> (nI n &&& 31)) i = if n + i < 32 then bt x (n + i) else bt x 31 := by
  unfold bt
  rw [Int32.toBitVec_shiftRight]
  show (x.toBitVec.sshiftRight ((nI n &&& 31).toBitVec.smod 32).toNat).getLsbD i = _
  rw [s_l n hn, BitVec.getLsbD_sshiftRight, BitVec.msb_eq_getLsbD_last]
  simp [hi]
end
section
section
/-! ===== one bit of an Int32 ===== -/
theorem sd_b1 : ∀ i, i < 32 → bt 1 i = decide (i = 0) := by decide +kernel
theorem sd_tst0 (x : Int32) {j : Nat} (hj : j < 32) : ((x >>> (nI j &&& 31)) &&& 1) = 0 ↔ bt x j = false := by
  have k0 : bt ((x >>> (nI j &&& 31)) &&& 1) 0 = bt x j := by
    rw [b_and, b_sshr j hj x (by omega), sd_b1 0 (by omega), if_pos (by omega)]
    simp
  constructor
  · intro h
    rw [← k0, h]
    exact b_0 0
  · intro h
    apply b_ext
    intro i hi
    rw [b_0]
    rcases Nat.eq_zero_or_pos i with z | z
    · rw [z, k0, h]
    · rw [b_and, sd_b1 i hi, decide_eq_false (by omega), Bool.and_false]
theorem sd_tst1 (x : Int32) {j : Nat} (hj : j < 32) : ((x >>> (nI j &&& 31)) &&& 1) = 1 ↔ bt x j = true := by
  have k0 : bt ((x >>> (nI j &&& 31)) &&& 1) 0 = bt x j := by
    rw [b_and, b_sshr j hj x (by omega), sd_b1 0 (by omega), if_pos (by omega)]
    simp
  constructor
  · intro h
    rw [← k0, h]
    exact sd_b1 0 (by omega)
  · intro h
    apply b_ext
    intro i hi
    rcases Nat.eq_zero_or_pos i with z | z
    · rw [z, k0, h, sd_b1 0 (by omega)]
      rfl
    · rw [b_and, sd_b1 i hi, decide_eq_false (by omega), Bool.and_false]
theorem sd_bit {j i : Nat} (hj : j < 32) (hi : i < 32) : bt ((1 : Int32) <<< (nI j &&& 31)) i = decide (i = j) := by
  rw [b_shl j hj 1 hi, sd_b1 (i - j) (by omega)]
  by_cases h : i = j
  · rw [decide_eq_true h, decide_eq_true (by omega), decide_eq_true (by omega)]; rfl
  · rw [decide_eq_false h]
    by_cases h2 : j ≤ i
    · rw [decide_eq_false (show ¬ i - j = 0 by omega), Bool.and_false]
    · rw [decide_eq_false h2, Bool.false_and]
theorem sd_nf {x : Bool} (h : ¬ x = false) : x = true := by cases x <;> first | rfl | exact absurd rfl h
theorem sd_nt {x : Bool} (h : ¬ x = true) : x = false := by cases x <;> first | rfl | exact absurd rfl h
theorem sd_tf {x : Bool} {P : Prop} (h : x = true) (g : x = false) : P := by rw [h] at g; exact Bool.noConfusion g
/-- small values are their own bytes -/
theorem sd_by : ∀ n, n < 128 → vp_nar .byte (nI n) = nI n := by
  intro n hn
  rw [vp_nar_byte]
  exact (by decide +kernel : ∀ n, n < 128 → (nI n).toInt8.toInt32 = nI n) n hn
theorem sd_by2 : ∀ n, n < 128 → vp_nar .byte (nI n).toInt8.toInt32 = nI n := by
  intro n hn
  rw [pk_vb]
  exact (by decide +kernel : ∀ n, n < 128 → (nI n).toInt8.toInt32 = nI n) n hn
/-! ===== the target ===== -/
/-- level, position, over, count, registers, memory, return positions -/
abbrev sd_M : Type := Nat × Int32 × Int32 × Int32 × (Nat → Int32) × (Nat → Int32) × (Nat → Int32)
/-- well formed code -/
def sd_CK (sz : Nat) (op ar br : Nat → Int32) : Prop := sz ≤ 20 ∧ ∀ j, j < sz → (∃ o, o ≤ 10 ∧ op j = nI o) ∧ (∃ a, a ≤ 3 ∧ ar j = nI a) ∧ ((op j = 1 ∨ op j = 2 ∨ op j = 3 ∨ op j = 4) → ∃ b, b ≤ 3 ∧ br j = nI b)
theorem sd_ops {x : Int32} (h : ∃ o, o ≤ 10 ∧ x = nI o) : x = 0 ∨ x = 1 ∨ x = 2 ∨ x = 3 ∨ x = 4 ∨ x = 5 ∨ x = 6 ∨ x = 7 ∨ x = 8 ∨ x = 9 ∨ x = 10 := by
  obtain ⟨o, ho, rfl⟩ := h
  have hh : o = 0 ∨ o = 1 ∨ o = 2 ∨ o = 3 ∨ o = 4 ∨ o = 5 ∨ o = 6 ∨ o = 7 ∨ o = 8 ∨ o = 9 ∨ o = 10 := by omega
  rcases hh with rfl | rfl | rfl | rfl | rfl | rfl | rfl | rfl | rfl | rfl | rfl <;> decide
theorem sd_no11 {x : Int32} (h : ∃ o, o ≤ 10 ∧ x = nI o) : ¬ x = 11 := by
  rcases sd_ops h with rfl | rfl | rfl | rfl | rfl | rfl | rfl | rfl | rfl | rfl | rfl <;> decide
/-- one instruction o a b -/
def sd_ex (o a b : Int32) (lv : Nat) (pc ov ct : Int32) (rg me rt : Nat → Int32) : sd_M :=
  if o = 0 then (lv, pc + 1, ov, ct + 1, upd rg a.toNatClampNeg b, me, rt)
  else if o = 1 then (lv, pc + 1, ov, ct + 1, upd rg a.toNatClampNeg (rg a.toNatClampNeg + rg b.toNatClampNeg), me, rt)
  else if o = 2 then (lv, pc + 1, ov, ct + 1, upd rg a.toNatClampNeg (rg a.toNatClampNeg - rg b.toNatClampNeg), me, rt)
  else if o = 3 then (lv, pc + 1, ov, ct + 1, upd rg a.toNatClampNeg (me (rg b.toNatClampNeg &&& 7).toNatClampNeg), me, rt)
  else if o = 4 then (lv, pc + 1, ov, ct + 1, rg, upd me (rg b.toNatClampNeg &&& 7).toNatClampNeg (rg a.toNatClampNeg), rt)
  else if o = 5 then (if rg a.toNatClampNeg = 0 then (lv, b, ov, ct + 1, rg, me, rt) else (lv, pc + 1, ov, ct + 1, rg, me, rt))
  else if o = 6 then (lv, b, ov, ct + 1, rg, me, rt)
  else if o = 7 then (lv + 1, b, ov, ct + 1, rg, me, upd rt lv (pc + 1))
  else if o = 8 then (lv - 1, rt (lv - 1), ov, ct + 1, rg, me, rt)
  else if o = 9 then (lv, rg a.toNatClampNeg, ov, ct + 1, rg, me, rt)
  else (lv, pc, 1, ct + 1, rg, me, rt)
def sd_st (op ar br : Nat → Int32) : sd_M → sd_M
  | (lv, pc, ov, ct, rg, me, rt) => sd_ex (op pc.toNatClampNeg) (ar pc.toNatClampNeg) (br pc.toNatClampNeg) lv pc ov ct rg me rt
variable {sz lv : Nat} {pl pc ov ct bk wy am ap ad : Int32} {op ar br hd rg me rt ox : Nat → Int32} {rc : Nat → Int32 → Bool}
theorem sd_st_j {j : Nat} (hj : j < 20) : sd_st op ar br (lv, nI j, ov, ct, rg, me, rt) = sd_ex (op j) (ar j) (br j) lv (nI j) ov ct rg me rt := by
  show sd_ex (op (nI j).toNatClampNeg) (ar (nI j).toNatClampNeg) (br (nI j).toNatClampNeg) lv (nI j) ov ct rg me rt = _
  rw [nI_clamp (by omega)]
theorem sd_ex0 {a b : Int32} : sd_ex 0 a b lv pc ov ct rg me rt = (lv, pc + 1, ov, ct + 1, upd rg a.toNatClampNeg b, me, rt) := by
  unfold sd_ex; rw [if_pos rfl]
theorem sd_ex1 {a b : Int32} : sd_ex 1 a b lv pc ov ct rg me rt = (lv, pc + 1, ov, ct + 1, upd rg a.toNatClampNeg (rg a.toNatClampNeg + rg b.toNatClampNeg), me, rt) := by
  unfold sd_ex; rw [if_neg (by decide), if_pos rfl]
theorem sd_ex2 {a b : Int32} : sd_ex 2 a b lv pc ov ct rg me rt = (lv, pc + 1, ov, ct + 1, upd rg a.toNatClampNeg (rg a.toNatClampNeg - rg b.toNatClampNeg), me, rt) := by
  unfold sd_ex; rw [if_neg (by decide), if_neg (by decide), if_pos rfl]
theorem sd_ex3 {a b : Int32} : sd_ex 3 a b lv pc ov ct rg me rt = (lv, pc + 1, ov, ct + 1, upd rg a.toNatClampNeg (me (rg b.toNatClampNeg &&& 7).toNatClampNeg), me, rt) := by
  unfold sd_ex; rw [if_neg (by decide), if_neg (by decide), if_neg (by decide), if_pos rfl]
theorem sd_ex4 {a b : Int32} : sd_ex 4 a b lv pc ov ct rg me rt = (lv, pc + 1, ov, ct + 1, rg, upd me (rg b.toNatClampNeg &&& 7).toNatClampNeg (rg a.toNatClampNeg), rt) := by
  unfold sd_ex; rw [if_neg (by decide), if_neg (by decide), if_neg (by decide), if_neg (by decide), if_pos rfl]
theorem sd_ex5t {a b : Int32} (h : rg a.toNatClampNeg = 0) : sd_ex 5 a b lv pc ov ct rg me rt = (lv, b, ov, ct + 1, rg, me, rt) := by
  unfold sd_ex; rw [if_neg (by decide), if_neg (by decide), if_neg (by decide), if_neg (by decide), if_neg (by decide), if_pos rfl, if_pos h]
theorem sd_ex5f {a b : Int32} (h : ¬ rg a.toNatClampNeg = 0) : sd_ex 5 a b lv pc ov ct rg me rt = (lv, pc + 1, ov, ct + 1, rg, me, rt) := by
  unfold sd_ex; rw [if_neg (by decide), if_neg (by decide), if_neg (by decide), if_neg (by decide), if_neg (by decide), if_pos rfl, if_neg h]
theorem sd_ex6 {a b : Int32} : sd_ex 6 a b lv pc ov ct rg me rt = (lv, b, ov, ct + 1, rg, me, rt) := by
  unfold sd_ex; rw [if_neg (by decide), if_neg (by decide), if_neg (by decide), if_neg (by decide), if_neg (by decide), if_neg (by decide), if_pos rfl]
theorem sd_ex7 {a b : Int32} : sd_ex 7 a b lv pc ov ct rg me rt = (lv + 1, b, ov, ct + 1, rg, me, upd rt lv (pc + 1)) := by
  unfold sd_ex; rw [if_neg (by decide), if_neg (by decide), if_neg (by decide), if_neg (by decide), if_neg (by decide), if_neg (by decide), if_neg (by decide), if_pos rfl]
theorem sd_ex8 {a b : Int32} : sd_ex 8 a b lv pc ov ct rg me rt = (lv - 1, rt (lv - 1), ov, ct + 1, rg, me, rt) := by
  unfold sd_ex; rw [if_neg (by decide), if_neg (by decide), if_neg (by decide), if_neg (by decide), if_neg (by decide), if_neg (by decide), if_neg (by decide), if_neg (by decide), if_pos rfl]
theorem sd_ex9 {a b : Int32} : sd_ex 9 a b lv pc ov ct rg me rt = (lv, rg a.toNatClampNeg, ov, ct + 1, rg, me, rt) := by
  unfold sd_ex; rw [if_neg (by decide), if_neg (by decide), if_neg (by decide), if_neg (by decide), if_neg (by decide), if_neg (by decide), if_neg (by decide), if_neg (by decide), if_neg (by decide), if_pos rfl]
theorem sd_ex10 {a b : Int32} : sd_ex 10 a b lv pc ov ct rg me rt = (lv, pc, 1, ct + 1, rg, me, rt) := by
  unfold sd_ex; rw [if_neg (by decide), if_neg (by decide), if_neg (by decide), if_neg (by decide), if_neg (by decide), if_neg (by decide), if_neg (by decide), if_neg (by decide), if_neg (by decide), if_neg (by decide)]
abbrev sd_sk (o : Int32) (lv : Nat) : Prop := (o = 7 ∧ 6 ≤ lv) ∨ (o = 8 ∧ lv = 0)
/-- what one instruction does to level and return positions -/
theorem sd_ctl {j : Nat} {lv' : Nat} {pc' ov' ct' : Int32} {rg' me' rt' : Nat → Int32} (hc : sd_CK sz op ar br) (hj : j < sz) (e : sd_st op ar br (lv, nI j, ov, ct, rg, me, rt) = (lv', pc', ov', ct', rg', me', rt')) : (lv' = lv ∧ rt' = rt) ∨ (op j = 7 ∧ lv' = lv + 1 ∧ rt' = upd rt lv (nI j + 1)) ∨ (op j = 8 ∧ lv' = lv - 1 ∧ rt' = rt ∧ pc' = rt (lv - 1)) := by
  have h20 : j < 20 := Nat.lt_of_lt_of_le hj hc.1
  rw [sd_st_j h20] at e
  have l : ∀ {m : sd_M}, sd_ex (op j) (ar j) (br j) lv (nI j) ov ct rg me rt = m → m.1 = lv' ∧ m.2.1 = pc' ∧ m.2.2.2.2.2.2 = rt' := by
    intro m hm
    rw [hm] at e
    rw [e]
    exact ⟨rfl, rfl, rfl⟩
  rcases sd_ops (hc.2 j hj).1 with o | o | o | o | o | o | o | o | o | o | o <;> rw [o] at l
  · have q := l sd_ex0; exact Or.inl ⟨q.1.symm, q.2.2.symm⟩
  · have q := l sd_ex1; exact Or.inl ⟨q.1.symm, q.2.2.symm⟩
  · have q := l sd_ex2; exact Or.inl ⟨q.1.symm, q.2.2.symm⟩
  · have q := l sd_ex3; exact Or.inl ⟨q.1.symm, q.2.2.symm⟩
  · have q := l sd_ex4; exact Or.inl ⟨q.1.symm, q.2.2.symm⟩
  · by_cases z : rg (ar j).toNatClampNeg = 0
    · have q := l (sd_ex5t z); exact Or.inl ⟨q.1.symm, q.2.2.symm⟩
    · have q := l (sd_ex5f z); exact Or.inl ⟨q.1.symm, q.2.2.symm⟩
  · have q := l sd_ex6; exact Or.inl ⟨q.1.symm, q.2.2.symm⟩
  · have q := l sd_ex7; exact Or.inr (Or.inl ⟨o, q.1.symm, q.2.2.symm⟩)
  · have q := l sd_ex8; exact Or.inr (Or.inr ⟨o, q.1.symm, q.2.2.symm, q.2.1.symm⟩)
  · have q := l sd_ex9; exact Or.inl ⟨q.1.symm, q.2.2.symm⟩
  · have q := l sd_ex10; exact Or.inl ⟨q.1.symm, q.2.2.symm⟩
theorem sd_lv6 {j : Nat} {lv' : Nat} {pc' ov' ct' : Int32} {rg' me' rt' : Nat → Int32} (hc : sd_CK sz op ar br) (hj : j < sz) (hs : ¬ sd_sk (op j) lv) (hl : lv ≤ 6) (e : sd_st op ar br (lv, nI j, ov, ct, rg, me, rt) = (lv', pc', ov', ct', rg', me', rt')) : lv' ≤ 6 := by
  rcases sd_ctl hc hj e with ⟨h, _⟩ | ⟨o, h, _⟩ | ⟨o, h, _⟩
  · omega
  · have : ¬ 6 ≤ lv := fun z => hs (Or.inl ⟨o, z⟩)
    omega
  · omega
/-! ===== the reason why the target stands still; 0: it goes on ===== -/
def sd_jd (sz : Nat) (op : Nat → Int32) (bk : Int32) (rc : Nat → Int32 → Bool) (d lv : Nat) (pc ov : Int32) : Int32 :=
  if ov = 0 then
    (if pc < 0 then 4 else if nI sz ≤ pc then 4
    else if sd_sk (op pc.toNatClampNeg) lv then 5
    else if 0 < d ∧ rc lv pc = true then 1
    else if 0 < d ∧ bt bk pc.toNatClampNeg = true then 2
    else if d < 150 then 0 else 3)
  else 6
theorem sd_jd6 {d : Nat} (h : ¬ ov = 0) : sd_jd sz op bk rc d lv pc ov = 6 := by
  unfold sd_jd; rw [if_neg h]
theorem sd_jd4 {d : Nat} (h : ov = 0) (hp : pc < 0 ∨ nI sz ≤ pc) : sd_jd sz op bk rc d lv pc ov = 4 := by
  unfold sd_jd
  rw [if_pos h]
  by_cases h1 : pc < 0
  · rw [if_pos h1]
  · rw [if_neg h1, if_pos (hp.resolve_left h1)]
theorem sd_jdi {d j : Nat} (hz : sz ≤ 20) (hj : j < sz) (h : ov = 0) : sd_jd sz op bk rc d lv (nI j) ov = if sd_sk (op j) lv then 5 else if 0 < d ∧ rc lv (nI j) = true then 1 else if 0 < d ∧ bt bk j = true then 2 else if d < 150 then 0 else 3 := by
  unfold sd_jd
  rw [if_pos h, if_neg (nI_pos (by omega)), if_neg (nI_ge hj (by omega)), nI_clamp (by omega)]
theorem sd_jd5 {d j : Nat} (hz : sz ≤ 20) (hj : j < sz) (h : ov = 0) (hs : sd_sk (op j) lv) : sd_jd sz op bk rc d lv (nI j) ov = 5 := by
  rw [sd_jdi hz hj h, if_pos hs]
theorem sd_jd1 {d j : Nat} (hz : sz ≤ 20) (hj : j < sz) (h : ov = 0) (hs : ¬ sd_sk (op j) lv) (hd : 0 < d) (hr : rc lv (nI j) = true) : sd_jd sz op bk rc d lv (nI j) ov = 1 := by
  rw [sd_jdi hz hj h, if_neg hs, if_pos ⟨hd, hr⟩]
theorem sd_jd2 {d j : Nat} (hz : sz ≤ 20) (hj : j < sz) (h : ov = 0) (hs : ¬ sd_sk (op j) lv) (hd : 0 < d) (hr : rc lv (nI j) = false) (hb : bt bk j = true) : sd_jd sz op bk rc d lv (nI j) ov = 2 := by
  rw [sd_jdi hz hj h, if_neg hs, if_neg (fun z => sd_tf z.2 hr), if_pos ⟨hd, hb⟩]
theorem sd_jd3 {d j : Nat} (hz : sz ≤ 20) (hj : j < sz) (h : ov = 0) (hs : ¬ sd_sk (op j) lv) (hr : 0 < d → rc lv (nI j) = false) (hb : 0 < d → bt bk j = false) (hd : ¬ d < 150) : sd_jd sz op bk rc d lv (nI j) ov = 3 := by
  rw [sd_jdi hz hj h, if_neg hs, if_neg (fun z => sd_tf z.2 (hr z.1)), if_neg (fun z => sd_tf z.2 (hb z.1)), if_neg hd]
theorem sd_jd0 {d j : Nat} (hz : sz ≤ 20) (hj : j < sz) (h : ov = 0) (hs : ¬ sd_sk (op j) lv) (hr : 0 < d → rc lv (nI j) = false) (hb : 0 < d → bt bk j = false) (hd : d < 150) : sd_jd sz op bk rc d lv (nI j) ov = 0 := by
  rw [sd_jdi hz hj h, if_neg hs, if_neg (fun z => sd_tf z.2 (hr z.1)), if_neg (fun z => sd_tf z.2 (hb z.1)), if_pos hd]
/-- every position: outside, or a place of the code -/
theorem sd_io (pc : Int32) (hz : sz ≤ 20) : (pc < 0 ∨ nI sz ≤ pc) ∨ ∃ j, j < sz ∧ pc = nI j := by
  rcases pk_ix pc (n := sz) (by omega) with h | h | h
  · exact Or.inl (Or.inl h)
  · exact Or.inl (Or.inr h)
  · exact Or.inr h
theorem sd_jdz {d : Nat} (hz : sz ≤ 20) (h : sd_jd sz op bk rc d lv pc ov = 0) : ov = 0 ∧ d < 150 ∧ ∃ j, j < sz ∧ pc = nI j ∧ ¬ sd_sk (op j) lv ∧ (0 < d → rc lv pc = false) ∧ (0 < d → bt bk j = false) := by
  by_cases h0 : ov = 0
  · rcases sd_io pc hz with hp | ⟨j, hj, rfl⟩
    · rw [sd_jd4 h0 hp] at h
      exact absurd h (by decide)
    · rw [sd_jdi hz hj h0] at h
      by_cases h3 : sd_sk (op j) lv
      · rw [if_pos h3] at h; exact absurd h (by decide)
      · rw [if_neg h3] at h
        by_cases h4 : 0 < d ∧ rc lv (nI j) = true
        · rw [if_pos h4] at h; exact absurd h (by decide)
        · rw [if_neg h4] at h
          by_cases h5 : 0 < d ∧ bt bk j = true
          · rw [if_pos h5] at h; exact absurd h (by decide)
          · rw [if_neg h5] at h
            by_cases h6 : d < 150
            · exact ⟨h0, h6, j, hj, rfl, h3, fun hd => sd_nt (fun z => h4 ⟨hd, z⟩), fun hd => sd_nt (fun z => h5 ⟨hd, z⟩)⟩
            · rw [if_neg h6] at h; exact absurd h (by decide)
  · rw [sd_jd6 h0] at h
    exact absurd h (by decide)
/-! ===== the run: f instructions at most ===== -/
def sd_rn (sz : Nat) (op ar br : Nat → Int32) (bk : Int32) (rc : Nat → Int32 → Bool) : Nat → Nat → sd_M → Int32 × sd_M
  | 0, d, m => (sd_jd sz op bk rc d m.1 m.2.1 m.2.2.1, m)
  | f + 1, d, m => if sd_jd sz op bk rc d m.1 m.2.1 m.2.2.1 = 0 then sd_rn sz op ar br bk rc f (d + 1) (sd_st op ar br m) else (sd_jd sz op bk rc d m.1 m.2.1 m.2.2.1, m)
theorem sd_rn_stop {f d : Nat} (h : ¬ sd_jd sz op bk rc d lv pc ov = 0) : sd_rn sz op ar br bk rc f d (lv, pc, ov, ct, rg, me, rt) = (sd_jd sz op bk rc d lv pc ov, lv, pc, ov, ct, rg, me, rt) := by
  cases f with
  | zero => rfl
  | succ f =>
    unfold sd_rn
    exact if_neg h
theorem sd_rn_s {f d : Nat} (h : sd_jd sz op bk rc d lv pc ov = 0) : sd_rn sz op ar br bk rc (f + 1) d (lv, pc, ov, ct, rg, me, rt) = sd_rn sz op ar br bk rc f (d + 1) (sd_st op ar br (lv, pc, ov, ct, rg, me, rt)) := by
  rw [sd_rn]
  exact if_pos h
theorem sd_rn_go {d : Nat} (h : sd_jd sz op bk rc d lv pc ov = 0) (hd : d < 150) : sd_rn sz op ar br bk rc (150 - d) d (lv, pc, ov, ct, rg, me, rt) = sd_rn sz op ar br bk rc (150 - (d + 1)) (d + 1) (sd_st op ar br (lv, pc, ov, ct, rg, me, rt)) := by
  have e1 : 150 - d = (150 - (d + 1)) + 1 := by omega
  rw [e1]
  exact sd_rn_s h
theorem sd_rn_lv (hc : sd_CK sz op ar br) {r : Int32} : ∀ (f d : Nat) {lv : Nat} {pc ov ct : Int32} {rg me rt : Nat → Int32} {lv' : Nat} {pc' ov' ct' : Int32} {rg' me' rt' : Nat → Int32}, lv ≤ 6 → sd_rn sz op ar br bk rc f d (lv, pc, ov, ct, rg, me, rt) = (r, lv', pc', ov', ct', rg', me', rt') → lv' ≤ 6 := by
  intro f
  induction f with
  | zero =>
    intro d lv pc ov ct rg me rt lv' pc' ov' ct' rg' me' rt' hl e
    have q : lv = lv' := congrArg (fun z : Int32 × sd_M => z.2.1) e
    omega
  | succ f ih =>
    intro d lv pc ov ct rg me rt lv' pc' ov' ct' rg' me' rt' hl e
    by_cases h : sd_jd sz op bk rc d lv pc ov = 0
    · rw [sd_rn_s h] at e
      obtain ⟨_, _, j, hj, rfl, hs, _⟩ := sd_jdz hc.1 h
      rcases hq : sd_st op ar br (lv, nI j, ov, ct, rg, me, rt) with ⟨lv1, pc1, ov1, ct1, rg1, me1, rt1⟩
      rw [hq] at e
      exact ih (d + 1) (sd_lv6 hc hj hs hl hq) e
    · rw [sd_rn_stop h] at e
      have q : lv = lv' := congrArg (fun z : Int32 × sd_M => z.2.1) e
      omega
end
end
section
section
variable {sz lv : Nat} {pl pc ov ct bk wy am ap ad : Int32} {op ar br hd rg me rt ox : Nat → Int32} {rc : Nat → Int32 → Bool}
/-! ===== X: stuck, bit, judge ===== -/
theorem xs_stuck23 {post : Int32 → Prop} {j : Nat} (hj : j < 20) (hl : lv ≤ 6) (h1 : op j = 8 ∧ lv = 0 → post 1) (h0 : ¬ (op j = 8 ∧ lv = 0) → post 0) : wX_stuck_23 post pl (nI sz) (nI lv) (nI j) ov ct bk wy am ap ad op ar br hd rg me rt := by
  have hin : vp_in (nI j) 20 := vp_in_nI hj (by omega)
  have cj : (nI j).toNatClampNeg = j := nI_clamp (by omega)
  unfold wX_stuck_23
  rw [cj]
  refine ⟨hin, br_c (fun e => pk_eq lv 0 (fun z => h1 ⟨e, z⟩) (fun z => h0 (fun q => z q.2))) (fun e => h0 (fun q => e q.1))⟩
theorem xs_stuck {post : Int32 → Prop} {j : Nat} (hj : j < 20) (hl : lv ≤ 6) (h1 : sd_sk (op j) lv → post 1) (h0 : ¬ sd_sk (op j) lv → post 0) : wpX_stuck post (pl, nI sz, nI lv, nI j, ov, ct, bk, wy, am, ap, ad, op, ar, br, hd, rg, me, rt) := by
  have hin : vp_in (nI j) 20 := vp_in_nI hj (by omega)
  have cj : (nI j).toNatClampNeg = j := nI_clamp (by omega)
  unfold wpX_stuck
  dsimp only
  rw [cj]
  refine ⟨hin, br_c (fun e => pk_le 6 lv (fun z => h1 (Or.inl ⟨e, z⟩)) (fun z => ?_)) (fun e => ?_)⟩
  · exact xs_stuck23 hj hl (fun q => h1 (Or.inr q)) (fun q => h0 (fun s => s.elim (fun t => absurd t.2 (by omega)) q))
  · exact xs_stuck23 hj hl (fun q => h1 (Or.inr q)) (fun q => h0 (fun s => s.elim (fun t => e t.1) q))
theorem xs_in {post : Int32 → Prop} {p : Int32} (hz : sz ≤ 20) (h0 : (p < 0 ∨ nI sz ≤ p) → post 0) (h1 : ∀ j, j < sz → p = nI j → post 1) : wpX_inside post (pl, nI sz, nI lv, pc, ov, ct, bk, wy, am, ap, ad, op, ar, br, hd, rg, me, rt) p := by
  unfold wpX_inside
  dsimp only
  refine br_c (fun z => h0 (Or.inl z)) (fun z => br_c (fun w => h0 (Or.inr w)) (fun w => ?_))
  rcases sd_io p hz with q | ⟨j, hj, e⟩
  · exact absurd q (fun q => q.elim z w)
  · exact h1 j hj e
theorem xs_bit {post : Int32 → Prop} {p : Int32} (hz : sz ≤ 20) (h : ∀ s, (∀ j, j < sz → p = nI j → bt s j = true) → post s) : wpX_bit post (pl, nI sz, nI lv, pc, ov, ct, bk, wy, am, ap, ad, op, ar, br, hd, rg, me, rt) p := by
  unfold wpX_bit
  dsimp only
  refine xs_in hz (fun z => br_t rfl (h 0 ?_)) (fun j hj e => br_f (by decide) (h _ ?_))
  · intro j hj e
    rw [e] at z
    exact absurd z (fun z => z.elim (nI_pos (by omega)) (nI_ge hj (by omega)))
  · intro i hi e2
    have q : j = i := (nI_eq (by omega) (by omega)).mp (e.symm.trans e2)
    rw [e, sd_bit (by omega) (by omega), q]
    exact decide_eq_true rfl
/-- X's aim is rc -/
def xs_Aim (rc : Nat → Int32 → Bool) (am ap ad : Int32) : Prop := ∀ (post : Int32 → Prop) (sz lv : Nat) (pl pc ov ct bk wy : Int32) (op ar br hd rg me rt : Nat → Int32), lv ≤ 6 → post (if rc lv pc = true then 1 else 0) → wpX_aimReached post (pl, nI sz, nI lv, pc, ov, ct, bk, wy, am, ap, ad, op, ar, br, hd, rg, me, rt)
theorem xs_judge45 {post : Int32 → Prop} {d j : Nat} (hj : j < 20) (hd0 : d ≤ 150) (h2 : 0 < d → bt bk j = true → post 2) (h3 : (0 < d → bt bk j = false) → ¬ d < 150 → post 3) (h0 : (0 < d → bt bk j = false) → d < 150 → post 0) : wX_judge_45 post (nI d) pl (nI sz) (nI lv) (nI j) ov ct bk wy am ap ad op ar br hd rg me rt := by
  have k : (0 < d → bt bk j = false) → wX_judge_65 post (nI d) pl (nI sz) (nI lv) (nI j) ov ct bk wy am ap ad op ar br hd rg me rt := by
    intro hb
    unfold wX_judge_65
    exact pk_lt d 150 (fun z => h0 hb z) (fun z => h3 hb (by omega))
  unfold wX_judge_45
  refine pk_le d 0 (fun z => k (fun w => absurd w (by omega))) (fun z => br_c (fun e => k (fun _ => (sd_tst0 bk (by omega)).mp e)) (fun e => h2 z (sd_nf (fun w => e ((sd_tst0 bk (by omega)).mpr w)))))
theorem xs_judge {post : Int32 → Prop} {d : Nat} (hz : sz ≤ 20) (hl : lv ≤ 6) (hd0 : d ≤ 150) (hX : xs_Aim rc am ap ad) (h : post (sd_jd sz op bk rc d lv pc ov)) : wpX_judge post (pl, nI sz, nI lv, pc, ov, ct, bk, wy, am, ap, ad, op, ar, br, hd, rg, me, rt) (nI d) := by
  unfold wpX_judge
  dsimp only
  refine br_c (fun ho => ?_) (fun ho => by rw [sd_jd6 ho] at h; exact h)
  refine xs_in hz (fun z => br_t rfl (by rw [sd_jd4 ho z] at h; exact h)) (fun j hj e => br_f (by decide) ?_)
  subst e
  refine xs_stuck (by omega) hl (fun s => br_f (by decide) (by rw [sd_jd5 hz hj ho s] at h; exact h)) (fun s => br_t rfl ?_)
  refine pk_le d 0 (fun z => ?_) (fun z => ?_)
  · refine xs_judge45 (by omega) hd0 (fun w => absurd w (by omega)) (fun _ w => absurd w (by omega)) (fun _ w => ?_)
    rw [sd_jd0 hz hj ho s (fun q => absurd q (by omega)) (fun q => absurd q (by omega)) w] at h
    exact h
  · refine hX _ _ _ _ _ _ _ _ _ _ _ _ _ _ _ _ hl ?_
    by_cases hr : rc lv (nI j) = true
    · rw [if_pos hr]
      refine br_f (by decide) ?_
      rw [sd_jd1 hz hj ho s z hr] at h
      exact h
    · rw [if_neg hr]
      refine br_t rfl ?_
      refine xs_judge45 (by omega) hd0 (fun w b => ?_) (fun b w => ?_) (fun b w => ?_)
      · rw [sd_jd2 hz hj ho s z (sd_nt hr) b] at h
        exact h
      · rw [sd_jd3 hz hj ho s (fun _ => sd_nt hr) b w] at h
        exact h
      · rw [sd_jd0 hz hj ho s (fun _ => sd_nt hr) b w] at h
        exact h
/-! ===== X: carry ===== -/
theorem xs_carry {post : SX → Prop} {j : Nat} (hc : sd_CK sz op ar br) (hj : j < sz) (ho : ox j = op j) (hs : ¬ sd_sk (op j) lv) (hl : lv ≤ 6) (h : ∀ (lv' : Nat) (pc' ov' : Int32) (rg' me' rt' : Nat → Int32), sd_st op ar br (lv, nI j, ov, ct, rg, me, rt) = (lv', pc', ov', ct + 1, rg', me', rt') → post (pl, nI sz, nI lv', pc', ov', ct, bk, wy, am, ap, ad, ox, ar, br, hd, rg', me', rt')) : wpX_carry post (pl, nI sz, nI lv, nI j, ov, ct, bk, wy, am, ap, ad, ox, ar, br, hd, rg, me, rt) := by
  have hz : sz ≤ 20 := hc.1
  obtain ⟨hO, ⟨a, hA, ea⟩, hB⟩ := hc.2 j hj
  have hin : vp_in (nI j) 20 := vp_in_nI (by omega) (by omega)
  have cj : (nI j).toNatClampNeg = j := nI_clamp (by omega)
  have hia : vp_in (nI a) 4 := vp_in_nI (by omega) (by omega)
  have e0 := sd_st_j (op := op) (ar := ar) (br := br) (lv := lv) (ov := ov) (ct := ct) (rg := rg) (me := me) (rt := rt) (show j < 20 by omega)
  rw [ea] at e0
  unfold wpX_carry
  dsimp only
  rw [cj, ho, ea]
  rcases sd_ops hO with o | o | o | o | o | o | o | o | o | o | o <;> rw [o] at e0 hs <;> rw [o]
  · refine ⟨hin, nm_e ⟨hin, nm_e ⟨hin, nm_e (br_f (by decide) ?_)⟩⟩⟩
    unfold wpX_work
    exact br_t rfl ⟨hia, nm_e (nm_e (h _ _ _ _ _ _ (e0.trans sd_ex0)))⟩
  · obtain ⟨b, hb, eb⟩ := hB (Or.inl o)
    have hib : vp_in (br j) 4 := by rw [eb]; exact vp_in_nI (by omega) (by omega)
    refine ⟨hin, nm_e ⟨hin, nm_e ⟨hin, nm_e (br_f (by decide) ?_)⟩⟩⟩
    unfold wpX_work
    exact br_f (by decide) (br_t rfl (⟨hia, hib, hia, nm_e (nm_e (h _ _ _ _ _ _ (e0.trans sd_ex1)))⟩))
  · obtain ⟨b, hb, eb⟩ := hB (Or.inr (Or.inl o))
    have hib : vp_in (br j) 4 := by rw [eb]; exact vp_in_nI (by omega) (by omega)
    refine ⟨hin, nm_e ⟨hin, nm_e ⟨hin, nm_e (br_f (by decide) ?_)⟩⟩⟩
    unfold wpX_work
    exact br_f (by decide) (br_f (by decide) (br_t rfl (⟨hia, hib, hia, nm_e (nm_e (h _ _ _ _ _ _ (e0.trans sd_ex2)))⟩)))
  · obtain ⟨b, hb, eb⟩ := hB (Or.inr (Or.inr (Or.inl o)))
    have hib : vp_in (br j) 4 := by rw [eb]; exact vp_in_nI (by omega) (by omega)
    refine ⟨hin, nm_e ⟨hin, nm_e ⟨hin, nm_e (br_f (by decide) ?_)⟩⟩⟩
    unfold wpX_work
    exact br_f (by decide) (br_f (by decide) (br_f (by decide) (br_t rfl (⟨hib, pk_andIn _ 3 (by decide) (by decide), hia, nm_e (nm_e (h _ _ _ _ _ _ (e0.trans sd_ex3)))⟩))))
  · obtain ⟨b, hb, eb⟩ := hB (Or.inr (Or.inr (Or.inr o)))
    have hib : vp_in (br j) 4 := by rw [eb]; exact vp_in_nI (by omega) (by omega)
    refine ⟨hin, nm_e ⟨hin, nm_e ⟨hin, nm_e (br_f (by decide) ?_)⟩⟩⟩
    unfold wpX_work
    exact br_f (by decide) (br_f (by decide) (br_f (by decide) (br_f (by decide) ((⟨hib, hia, pk_andIn _ 3 (by decide) (by decide), nm_e (nm_e (h _ _ _ _ _ _ (e0.trans sd_ex4)))⟩)))))
  · exact ⟨hin, nm_e ⟨hin, nm_e ⟨hin, nm_e (br_t (by decide) (br_t rfl (⟨hia, br_c (fun z => h _ _ _ _ _ _ (e0.trans (sd_ex5t z))) (fun z => nm_e (h _ _ _ _ _ _ (e0.trans (sd_ex5f z))))⟩)))⟩⟩⟩
  · exact ⟨hin, nm_e ⟨hin, nm_e ⟨hin, nm_e (br_t (by decide) (br_f (by decide) (br_t rfl (h _ _ _ _ _ _ (e0.trans sd_ex6)))))⟩⟩⟩
  · have h6 : ¬ 6 ≤ lv := fun z => hs (Or.inl ⟨rfl, z⟩)
    refine ⟨hin, nm_e ⟨hin, nm_e ⟨hin, nm_e (br_t (by decide) (br_f (by decide) (br_f (by decide) (br_t rfl (⟨vp_in_nI (by omega) (by omega), nm_e (nm_r (nI_1 lv) ?_)⟩)))))⟩⟩⟩
    rw [nI_clamp (show lv < 2 ^ 31 by omega)]
    exact h _ _ _ _ _ _ (e0.trans sd_ex7)
  · have h6 : ¬ lv = 0 := fun z => hs (Or.inr ⟨rfl, z⟩)
    have e1 : nI lv - 1 = nI (lv - 1) := pk_sub (b := 1) (by omega)
    have e2 : (nI (lv - 1)).toNatClampNeg = lv - 1 := nI_clamp (by omega)
    refine ⟨hin, nm_e ⟨hin, nm_e ⟨hin, nm_e (br_t (by decide) (br_f (by decide) (br_f (by decide) (br_f (by decide) (br_t rfl (nm_r e1 ⟨vp_in_nI (by omega) (by omega), nm_r (congrArg rt e2) (h _ _ _ _ _ _ (e0.trans sd_ex8))⟩))))))⟩⟩⟩
  · exact ⟨hin, nm_e ⟨hin, nm_e ⟨hin, nm_e (br_t (by decide) (br_f (by decide) (br_f (by decide) (br_f (by decide) (br_f (by decide) (br_t rfl (⟨hia, nm_e (h _ _ _ _ _ _ (e0.trans sd_ex9))⟩)))))))⟩⟩⟩
  · exact ⟨hin, nm_e ⟨hin, nm_e ⟨hin, nm_e (br_t (by decide) (br_f (by decide) (br_f (by decide) (br_f (by decide) (br_f (by decide) (br_f (by decide) ((h _ _ _ _ _ _ (e0.trans sd_ex10)))))))))⟩⟩⟩
/-! ===== X: successors ===== -/
theorem xs_succ {post : Int32 → Prop} {j : Nat} (hc : sd_CK sz op ar br) (hj : j < sz) (hs : ¬ sd_sk (op j) lv) (hl : lv ≤ 6) (h : ∀ s, (∀ (lv' : Nat) (pc' ov' ct' : Int32) (rg' me' rt' : Nat → Int32), sd_st op ar br (lv, nI j, ov, ct, rg, me, rt) = (lv', pc', ov', ct', rg', me', rt') → ov' = 0 → ∀ i, i < sz → pc' = nI i → bt s i = true) → post s) : wpX_successors post (pl, nI sz, nI lv, nI j, ov, ct, bk, wy, am, ap, ad, op, ar, br, hd, rg, me, rt) := by
  have hz : sz ≤ 20 := hc.1
  obtain ⟨hO, ⟨a, hA, ea⟩, hB⟩ := hc.2 j hj
  have hin : vp_in (nI j) 20 := vp_in_nI (by omega) (by omega)
  have cj : (nI j).toNatClampNeg = j := nI_clamp (by omega)
  have hia : vp_in (nI a) 4 := vp_in_nI (by omega) (by omega)
  have e0 := sd_st_j (op := op) (ar := ar) (br := br) (lv := lv) (ov := ov) (ct := ct) (rg := rg) (me := me) (rt := rt) (show j < 20 by omega)
  rw [ea] at e0
  unfold wpX_successors
  dsimp only
  rw [cj, ea]
  have K : ∀ {s : Int32} {m : sd_M} {q : Int32}, sd_st op ar br (lv, nI j, ov, ct, rg, me, rt) = m → m.2.1 = q → (∀ i, i < sz → q = nI i → bt s i = true) → post s := by
    intro s m q h1 h2 h3
    refine h s ?_
    intro lv' pc' ov' ct' rg' me' rt' e _ i hi e2
    refine h3 i hi ?_
    rw [← e2, ← h2, ← h1, e]
  rcases sd_ops hO with o | o | o | o | o | o | o | o | o | o | o <;> rw [o] at e0 hs <;> rw [o]
  · refine ⟨hin, nm_e (xs_bit hz (fun s1 hs1 => br_f (by decide) (br_f (by decide) (br_f (by decide) (br_f (by decide) (br_f (by decide) (br_f (by decide) ((K (e0.trans sd_ex0) rfl hs1)))))))))⟩
  · refine ⟨hin, nm_e (xs_bit hz (fun s1 hs1 => br_f (by decide) (br_f (by decide) (br_f (by decide) (br_f (by decide) (br_f (by decide) (br_f (by decide) ((K (e0.trans sd_ex1) rfl hs1)))))))))⟩
  · refine ⟨hin, nm_e (xs_bit hz (fun s1 hs1 => br_f (by decide) (br_f (by decide) (br_f (by decide) (br_f (by decide) (br_f (by decide) (br_f (by decide) ((K (e0.trans sd_ex2) rfl hs1)))))))))⟩
  · refine ⟨hin, nm_e (xs_bit hz (fun s1 hs1 => br_f (by decide) (br_f (by decide) (br_f (by decide) (br_f (by decide) (br_f (by decide) (br_f (by decide) ((K (e0.trans sd_ex3) rfl hs1)))))))))⟩
  · refine ⟨hin, nm_e (xs_bit hz (fun s1 hs1 => br_f (by decide) (br_f (by decide) (br_f (by decide) (br_f (by decide) (br_f (by decide) (br_f (by decide) ((K (e0.trans sd_ex4) rfl hs1)))))))))⟩
  · refine ⟨hin, nm_e (xs_bit hz (fun s1 hs1 => br_t rfl (⟨hin, xs_bit hz (fun s2 hs2 => ?_)⟩)))⟩
    by_cases z : rg (nI a).toNatClampNeg = 0
    · refine K (e0.trans (sd_ex5t z)) rfl (fun i hi e => ?_)
      rw [b_or, hs2 i hi e, Bool.or_true]
    · refine K (e0.trans (sd_ex5f z)) rfl (fun i hi e => ?_)
      rw [b_or, hs1 i hi e, Bool.true_or]
  · refine ⟨hin, nm_e (xs_bit hz (fun s1 hs1 => br_f (by decide) (br_t rfl (?_))))⟩
    unfold wX_successors_54
    rw [cj]
    exact ⟨hin, xs_bit hz (fun s2 hs2 => K (e0.trans sd_ex6) rfl hs2)⟩
  · refine ⟨hin, nm_e (xs_bit hz (fun s1 hs1 => br_f (by decide) (br_f (by decide) (br_t rfl (?_)))))⟩
    unfold wX_successors_54
    rw [cj]
    exact ⟨hin, xs_bit hz (fun s2 hs2 => K (e0.trans sd_ex7) rfl hs2)⟩
  · have h6 : ¬ lv = 0 := fun z => hs (Or.inr ⟨rfl, z⟩)
    have e1 : nI lv - 1 = nI (lv - 1) := pk_sub (b := 1) (by omega)
    have e2 : (nI (lv - 1)).toNatClampNeg = lv - 1 := nI_clamp (by omega)
    rw [e1, e2]
    refine ⟨hin, nm_e (xs_bit hz (fun s1 hs1 => br_f (by decide) (br_f (by decide) (br_f (by decide) (br_t rfl (br_f (nI_nle (by omega) (by omega)) ⟨vp_in_nI (by omega) (by omega), xs_bit hz (fun s2 hs2 => K (e0.trans sd_ex8) rfl hs2)⟩))))))⟩
  · refine ⟨hin, nm_e (xs_bit hz (fun s1 hs1 => br_f (by decide) (br_f (by decide) (br_f (by decide) (br_f (by decide) (br_t rfl (⟨hin, hia, xs_bit hz (fun s2 hs2 => K (e0.trans sd_ex9) rfl hs2)⟩)))))))⟩
  · refine ⟨hin, nm_e (xs_bit hz (fun s1 hs1 => br_f (by decide) (br_f (by decide) (br_f (by decide) (br_f (by decide) (br_f (by decide) (br_t rfl (h _ ?_))))))))⟩
    intro lv' pc' ov' ct' rg' me' rt' e hov
    have q : (1 : Int32) = ov' := congrArg (fun z : sd_M => z.2.2.1) ((e0.trans sd_ex10).symm.trans e)
    rw [hov] at q
    exact absurd q (by decide)
end
end
section
section
variable {sz lv : Nat} {pl pc ov ct bk wy am ap ad : Int32} {op ar br hd rg me rt ox : Nat → Int32} {rc : Nat → Int32 → Bool}
/-- traps of the set s are planted below i, pl says where, hd keeps what they stand for -/
def xs_TR (i : Nat) (op : Nat → Int32) (s pl : Int32) (ox hd : Nat → Int32) : Prop := (∀ j, j < i → bt s j = true → ox j = 11 ∧ hd j = op j) ∧ (∀ j, (j < i → bt s j = false) → ox j = op j) ∧ (∀ j, j < 32 → bt pl j = (decide (j < i) && bt s j))
theorem xs_TR0 {s : Int32} : xs_TR 0 op s 0 op hd := by
  refine ⟨fun j h => absurd h (by omega), fun _ _ => rfl, fun j _ => ?_⟩
  rw [b_0, decide_eq_false (by omega), Bool.false_and]
theorem xs_TRs0 {i : Nat} {s pl : Int32} (h : xs_TR i op s pl ox hd) (hb : bt s i = false) : xs_TR (i + 1) op s pl ox hd := by
  obtain ⟨h1, h2, h3⟩ := h
  refine ⟨fun j hj b => ?_, fun j g => h2 j (fun q => g (by omega)), fun j hj => ?_⟩
  · by_cases e : j = i
    · rw [e] at b
      exact sd_tf b hb
    · exact h1 j (by omega) b
  · rw [h3 j hj]
    by_cases e : j = i
    · rw [e, hb, Bool.and_false, Bool.and_false]
    · have q : decide (j < i + 1) = decide (j < i) := decide_eq_decide.mpr (by omega)
      rw [q]
theorem xs_TRs1 {i : Nat} {s pl : Int32} (h : xs_TR i op s pl ox hd) (hi : i < 20) (hb : bt s i = true) : xs_TR (i + 1) op s (pl ||| ((1 : Int32) <<< (nI i &&& 31))) (upd ox i 11) (upd hd i (op i)) := by
  obtain ⟨h1, h2, h3⟩ := h
  refine ⟨fun j hj b => ?_, fun j g => ?_, fun j hj => ?_⟩
  · by_cases e : j = i
    · rw [e]
      exact ⟨pk_us, pk_us⟩
    · rw [pk_un e, pk_un e]
      exact h1 j (by omega) b
  · by_cases e : j = i
    · rw [e] at g
      exact sd_tf hb (g (by omega))
    · rw [pk_un e]
      exact h2 j (fun q => g (by omega))
  · rw [b_or, h3 j hj, sd_bit (by omega) hj]
    by_cases e : j = i
    · rw [e, hb, decide_eq_true (show i < i + 1 by omega), decide_eq_true (rfl : i = i), Bool.or_true]
      rfl
    · have q : decide (j < i + 1) = decide (j < i) := decide_eq_decide.mpr (by omega)
      rw [q, decide_eq_false e, Bool.or_false]
theorem xt_plant {post : SX → Prop} {s : Int32} (hc : sd_CK sz op ar br) (h : ∀ pl' ox' hd', xs_TR sz op s pl' ox' hd' → post (pl', nI sz, nI lv, pc, ov, ct, bk, wy, am, ap, ad, ox', ar, br, hd', rg, me, rt)) : ∀ (e i : Nat) (pl : Int32) (ox hd : Nat → Int32), i + e = sz → xs_TR i op s pl ox hd → wX_plant_2 post s (nI sz) (nI lv) pc ov ct bk wy am ap ad (e + 1) (nI i) pl ox ar br hd rg me rt := by
  have hz : sz ≤ 20 := hc.1
  intro e
  induction e with
  | zero =>
    intro i pl ox hd hi ht
    have q : i = sz := by omega
    subst q
    exact br_t (nI_le (Nat.le_refl i) (by omega)) (h pl ox hd ht)
  | succ e ih =>
    intro i pl ox hd hi ht
    have hin : vp_in (nI i) 20 := vp_in_nI (by omega) (by omega)
    have ci : (nI i).toNatClampNeg = i := nI_clamp (by omega)
    have e1 : vp_nar .byte (ox (nI i).toNatClampNeg) = op i := by
      obtain ⟨⟨o, h10, eo⟩, _⟩ := hc.2 i (by omega)
      rw [ci, ht.2.1 i (fun q => absurd q (by omega)), eo]
      exact sd_by o (by omega)
    refine br_f (nI_ge (by omega) (by omega)) (br_c (fun z => nm_r (nI_1 i) ?_) (fun z => ⟨hin, hin, nm_r (e' := upd hd i (op i)) (by rw [e1, ci]) ⟨hin, nm_r (e' := upd ox i 11) (by rw [ci]; exact congrArg (upd ox i) (sd_by 11 (by omega))) (nm_e (nm_r (nI_1 i) ?_))⟩⟩))
    · exact ih (i + 1) pl ox hd (by omega) (xs_TRs0 ht ((sd_tst0 s (by omega)).mp z))
    · exact ih (i + 1) _ _ _ (by omega) (xs_TRs1 ht (by omega) (sd_nf (fun w => z ((sd_tst0 s (by omega)).mpr w))))
theorem xs_plant {post : SX → Prop} {s : Int32} (hc : sd_CK sz op ar br) (h : ∀ pl' ox' hd', xs_TR sz op s pl' ox' hd' → post (pl', nI sz, nI lv, pc, ov, ct, bk, wy, am, ap, ad, ox', ar, br, hd', rg, me, rt)) : wpX_plant post (0, nI sz, nI lv, pc, ov, ct, bk, wy, am, ap, ad, op, ar, br, hd, rg, me, rt) s := by
  unfold wpX_plant
  exact ⟨sz + 1, xt_plant hc h sz 0 0 op hd (by omega) xs_TR0⟩
theorem xt_lift {post : SX → Prop} (hc : sd_CK sz op ar br) (hh : ∀ j, j < sz → bt pl j = true → hd j = op j) (h : post (0, nI sz, nI lv, pc, ov, ct, bk, wy, am, ap, ad, op, ar, br, hd, rg, me, rt)) : ∀ (e i : Nat) (ox : Nat → Int32), i + e = sz → (∀ j, ox j = op j ∨ (i ≤ j ∧ j < sz ∧ bt pl j = true)) → wX_lift_2 post pl (nI sz) (nI lv) pc ov ct bk wy am ap ad (e + 1) (nI i) ox ar br hd rg me rt := by
  have hz : sz ≤ 20 := hc.1
  intro e
  induction e with
  | zero =>
    intro i ox hi ht
    have q : i = sz := by omega
    subst q
    have eo : ox = op := funext (fun j => (ht j).elim (fun z => z) (fun z => absurd z.1 (by omega)))
    subst eo
    exact br_t (nI_le (Nat.le_refl i) (by omega)) h
  | succ e ih =>
    intro i ox hi ht
    have hin : vp_in (nI i) 20 := vp_in_nI (by omega) (by omega)
    have ci : (nI i).toNatClampNeg = i := nI_clamp (by omega)
    refine br_f (nI_ge (by omega) (by omega)) (br_c (fun z => nm_r (nI_1 i) ?_) (fun z => ?_))
    · refine ih (i + 1) ox (by omega) (fun j => ?_)
      rcases ht j with q | ⟨q1, q2, q3⟩
      · exact Or.inl q
      · by_cases e2 : j = i
        · rw [e2] at q3
          exact sd_tf q3 ((sd_tst0 pl (by omega)).mp z)
        · exact Or.inr ⟨by omega, q2, q3⟩
    · have hb : bt pl i = true := sd_nf (fun w => z ((sd_tst0 pl (by omega)).mpr w))
      have e1 : vp_nar .byte (hd (nI i).toNatClampNeg) = op i := by
        obtain ⟨⟨o, h10, eo⟩, _⟩ := hc.2 i (by omega)
        rw [ci, hh i (by omega) hb, eo]
        exact sd_by o (by omega)
      refine ⟨hin, hin, nm_r (e' := upd ox i (op i)) (by rw [e1, ci]) (nm_r (nI_1 i) ?_)⟩
      refine ih (i + 1) (upd ox i (op i)) (by omega) (fun j => ?_)
      by_cases e2 : j = i
      · rw [e2]
        exact Or.inl pk_us
      · rw [pk_un e2]
        rcases ht j with q | ⟨q1, q2, q3⟩
        · exact Or.inl q
        · exact Or.inr ⟨by omega, q2, q3⟩
theorem xs_lift {post : SX → Prop} {s : Int32} (hc : sd_CK sz op ar br) (ht : xs_TR sz op s pl ox hd) (h : post (0, nI sz, nI lv, pc, ov, ct, bk, wy, am, ap, ad, op, ar, br, hd, rg, me, rt)) : wpX_lift post (pl, nI sz, nI lv, pc, ov, ct, bk, wy, am, ap, ad, ox, ar, br, hd, rg, me, rt) := by
  have hz : sz ≤ 20 := hc.1
  obtain ⟨h1, h2, h3⟩ := ht
  have hp : ∀ j, j < sz → bt pl j = bt s j := by
    intro j hj
    rw [h3 j (by omega), decide_eq_true hj, Bool.true_and]
  unfold wpX_lift
  refine ⟨sz + 1, xt_lift hc (fun j hj b => (h1 j hj ((hp j hj).symm.trans b)).2) h sz 0 ox (by omega) (fun j => ?_)⟩
  by_cases hj : j < sz
  · by_cases b : bt s j = true
    · exact Or.inr ⟨by omega, hj, (hp j hj).trans b⟩
    · exact Or.inl (h2 j (fun _ => sd_nt b))
  · exact Or.inl (h2 j (fun q => absurd q hj))
/-- what a trap says of its place -/
theorem xs_TRn {s : Int32} (hc : sd_CK sz op ar br) (ht : xs_TR sz op s pl ox hd) {j : Nat} (hj : j < sz) (e : ox j = op j) : bt s j = false := by
  refine sd_nt (fun b => ?_)
  have q := (ht.1 j hj b).1
  rw [e] at q
  exact sd_no11 (hc.2 j hj).1 q
theorem xs_TRc {s : Int32} (ht : xs_TR sz op s pl ox hd) {j : Nat} : ox j = op j ∨ ox j = 11 := by
  by_cases h : j < sz → bt s j = false
  · exact Or.inl (ht.2.1 j h)
  · by_cases hj : j < sz
    · by_cases b : bt s j = true
      · exact Or.inr (ht.1 j hj b).1
      · exact absurd (fun _ => sd_nt b) h
    · exact absurd (fun q => absurd q hj) h
end
end
section
section
variable {sz lv : Nat} {pl pc ov ct bk wy am ap ad : Int32} {op ar br hd rg me rt ox : Nat → Int32} {rc : Nat → Int32 → Bool}
/-- the target can carry out one more instruction under the traps -/
def xs_ok (sz : Nat) (op ox : Nat → Int32) (lv : Nat) (pc ov : Int32) : Prop := ov = 0 ∧ ∃ j, j < sz ∧ pc = nI j ∧ ox j = op j ∧ ¬ sd_sk (op j) lv
/-- what Inv must keep so that a resume of most instructions stays on the run -/
def xs_keep (sz : Nat) (op ar br ox : Nat → Int32) (bk : Int32) (rc : Nat → Int32 → Bool) (most d : Nat) (Inv : Nat → sd_M → Prop) : Prop := ∀ (k : Nat) (lv : Nat) (pc ov ct : Int32) (rg me rt : Nat → Int32), Inv k (lv, pc, ov, ct, rg, me, rt) → lv ≤ 6 → k < most → xs_ok sz op ox lv pc ov → sd_jd sz op bk rc (d + k) lv pc ov = 0 ∧ Inv (k + 1) (sd_st op ar br (lv, pc, ov, ct, rg, me, rt))
theorem xt_resume {post : Int32 → SX → Prop} (hc : sd_CK sz op ar br) (hT : ∀ j, ox j = op j ∨ ox j = 11) {most d : Nat} (hm : most ≤ 150) {Inv : Nat → sd_M → Prop} {z0 : Int32 × sd_M} (H : xs_keep sz op ar br ox bk rc most d Inv) (hp : ∀ (k : Nat) (lv : Nat) (pc ov ct : Int32) (rg me rt : Nat → Int32), k ≤ most → lv ≤ 6 → Inv k (lv, pc, ov, ct, rg, me, rt) → (k = most ∨ ¬ xs_ok sz op ox lv pc ov) → z0 = sd_rn sz op ar br bk rc (150 - (d + k)) (d + k) (lv, pc, ov, ct, rg, me, rt) → post (nI k) (pl, nI sz, nI lv, pc, ov, ct, bk, wy, am, ap, ad, ox, ar, br, hd, rg, me, rt)) : ∀ (e k : Nat) (lv : Nat) (pc ov ct : Int32) (rg me rt : Nat → Int32), k + e = most → lv ≤ 6 → Inv k (lv, pc, ov, ct, rg, me, rt) → z0 = sd_rn sz op ar br bk rc (150 - (d + k)) (d + k) (lv, pc, ov, ct, rg, me, rt) → wX_resume_4 post (nI most) (e + 1) (nI k) (nI k) pl (nI sz) (nI lv) pc ov ct bk wy am ap ad ox ar br hd rg me rt := by
  have hz : sz ≤ 20 := hc.1
  intro e
  induction e with
  | zero =>
    intro k lv pc ov ct rg me rt hk hl hI hr
    exact br_t (nI_le (by omega) (by omega)) (hp k lv pc ov ct rg me rt (by omega) hl hI (Or.inl (by omega)) hr)
  | succ e ih =>
    intro k lv pc ov ct rg me rt hk hl hI hr
    have stop : ¬ xs_ok sz op ox lv pc ov → post (nI k) (pl, nI sz, nI lv, pc, ov, ct, bk, wy, am, ap, ad, ox, ar, br, hd, rg, me, rt) := fun hn => hp k lv pc ov ct rg me rt (by omega) hl hI (Or.inr hn) hr
    refine br_f (nI_ge (by omega) (by omega)) (br_c (fun ho => ?_) (fun ho => stop (fun z => ho z.1)))
    refine xs_in hz (fun z => br_t rfl (stop ?_)) (fun j hj ej => br_f (by decide) ?_)
    · rintro ⟨_, j, hj, ej, _⟩
      rw [ej] at z
      exact z.elim (nI_pos (by omega)) (nI_ge hj (by omega))
    · subst ej
      have hin : vp_in (nI j) 20 := vp_in_nI (by omega) (by omega)
      have cj : (nI j).toNatClampNeg = j := nI_clamp (by omega)
      have inj : ∀ {i : Nat}, i < sz → nI j = nI i → i = j := fun hi e => ((nI_eq (by omega) (by omega)).mp e).symm
      refine ⟨hin, ?_⟩
      rw [cj]
      refine br_c (fun e11 => stop ?_) (fun e11 => ?_)
      · rintro ⟨_, i, hi, ei, eo, _⟩
        rw [inj hi ei] at eo
        rw [eo] at e11
        exact sd_no11 (hc.2 j hj).1 e11
      · have eo : ox j = op j := (hT j).resolve_right e11
        refine xs_stuck (by omega) hl (fun s => br_f (by decide) (stop ?_)) (fun s => br_t rfl ?_)
        · rintro ⟨_, i, hi, ei, _, hs⟩
          rw [inj hi ei] at hs
          rw [eo] at s
          exact hs s
        · rw [eo] at s
          obtain ⟨hj0, hI2⟩ := H k _ _ _ _ _ _ _ hI hl (by omega) ⟨ho, j, hj, rfl, eo, s⟩
          refine xs_carry hc hj eo s hl (fun lv' pc' ov' rg' me' rt' est => ?_)
          refine nm_r (nI_1 k) (nm_e (nm_r (nI_1 k) ?_))
          rw [est] at hI2
          refine ih (k + 1) _ _ _ _ _ _ _ (by omega) (sd_lv6 hc hj s hl est) hI2 ?_
          rw [hr, sd_rn_go hj0 (sd_jdz hz hj0).2.1, est]
          rfl
theorem xs_resume {post : Int32 → SX → Prop} (hc : sd_CK sz op ar br) (hT : ∀ j, ox j = op j ∨ ox j = 11) {most d : Nat} (hm : most ≤ 150) {x : Int32} (hx : x = nI most) {Inv : Nat → sd_M → Prop} (H : xs_keep sz op ar br ox bk rc most d Inv) (hl : lv ≤ 6) (hI : Inv 0 (lv, pc, ov, ct, rg, me, rt)) (hp : ∀ (k : Nat) (lv' : Nat) (pc' ov' ct' : Int32) (rg' me' rt' : Nat → Int32), k ≤ most → lv' ≤ 6 → Inv k (lv', pc', ov', ct', rg', me', rt') → (k = most ∨ ¬ xs_ok sz op ox lv' pc' ov') → sd_rn sz op ar br bk rc (150 - d) d (lv, pc, ov, ct, rg, me, rt) = sd_rn sz op ar br bk rc (150 - (d + k)) (d + k) (lv', pc', ov', ct', rg', me', rt') → post (nI k) (pl, nI sz, nI lv', pc', ov', ct', bk, wy, am, ap, ad, ox, ar, br, hd, rg', me', rt')) : wpX_resume post (pl, nI sz, nI lv, pc, ov, ct, bk, wy, am, ap, ad, ox, ar, br, hd, rg, me, rt) x := by
  subst hx
  unfold wpX_resume
  exact ⟨most + 1, xt_resume hc hT hm H hp most 0 _ _ _ _ _ _ _ (by omega) hl hI rfl⟩
def xs_one (m0 m1 : sd_M) (k : Nat) (m : sd_M) : Prop := (k = 0 ∧ m = m0) ∨ (k = 1 ∧ m = m1)
/-- one instruction by itself: stepOff -/
theorem xs_stepOff {post : Int32 → SX → Prop} {d : Nat} (hc : sd_CK sz op ar br) (hl : lv ≤ 6) (h0 : sd_jd sz op bk rc d lv pc ov = 0) (h : ∀ hd' (lv' : Nat) (pc' ov' ct' : Int32) (rg' me' rt' : Nat → Int32), sd_st op ar br (lv, pc, ov, ct, rg, me, rt) = (lv', pc', ov', ct', rg', me', rt') → post 1 (0, nI sz, nI lv', pc', ov', ct', bk, wy, am, ap, ad, op, ar, br, hd', rg', me', rt')) : wpX_stepOff post (0, nI sz, nI lv, pc, ov, ct, bk, wy, am, ap, ad, op, ar, br, hd, rg, me, rt) := by
  have hz : sz ≤ 20 := hc.1
  obtain ⟨ho, _, j, hj, rfl, hs, _⟩ := sd_jdz hz h0
  unfold wpX_stepOff
  dsimp only
  refine xs_succ hc hj hs hl (fun s hS => br_c (fun z => ?_) (fun z => ?_))
  · have hbj : bt s j = false := (sd_tst0 s (by omega)).mp z
    refine xs_plant hc (fun pl' ox' hd' ht => ?_)
    have hoj : ox' j = op j := ht.2.1 j (fun _ => hbj)
    refine xs_resume hc (fun j => xs_TRc ht (j := j)) (most := 2) (d := d) (rc := rc) (by omega) rfl (Inv := xs_one (lv, nI j, ov, ct, rg, me, rt) (sd_st op ar br (lv, nI j, ov, ct, rg, me, rt))) ?_ hl (Or.inl ⟨rfl, rfl⟩) ?_
    · intro k lv1 pc1 ov1 ct1 rg1 me1 rt1 hI _ hk hok
      rcases hI with ⟨rfl, e⟩ | ⟨rfl, e⟩
      · cases e
        exact ⟨h0, Or.inr ⟨rfl, rfl⟩⟩
      · obtain ⟨o0, i, hi, ei, eo, _⟩ := hok
        exact sd_tf (hS _ _ _ _ _ _ _ e.symm o0 i hi ei) (xs_TRn hc ht hi eo)
    · intro k lv1 pc1 ov1 ct1 rg1 me1 rt1 hk hl1 hI hst _
      rcases hI with ⟨rfl, e⟩ | ⟨rfl, e⟩
      · cases e
        exact absurd hst (fun q => q.elim (by omega) (fun n => n ⟨ho, j, hj, rfl, hoj, hs⟩))
      · exact xs_lift hc ht (h hd' _ _ _ _ _ _ _ e.symm)
  · refine xs_resume hc (fun j => Or.inl rfl) (most := 1) (d := d) (rc := rc) (by omega) rfl (Inv := xs_one (lv, nI j, ov, ct, rg, me, rt) (sd_st op ar br (lv, nI j, ov, ct, rg, me, rt))) ?_ hl (Or.inl ⟨rfl, rfl⟩) ?_
    · intro k lv1 pc1 ov1 ct1 rg1 me1 rt1 hI _ hk hok
      rcases hI with ⟨rfl, e⟩ | ⟨rfl, e⟩
      · cases e
        exact ⟨h0, Or.inr ⟨rfl, rfl⟩⟩
      · exact absurd hk (by omega)
    · intro k lv1 pc1 ov1 ct1 rg1 me1 rt1 hk hl1 hI hst _
      rcases hI with ⟨rfl, e⟩ | ⟨rfl, e⟩
      · cases e
        exact absurd hst (fun q => q.elim (by omega) (fun n => n ⟨ho, j, hj, rfl, rfl, hs⟩))
      · exact h hd _ _ _ _ _ _ _ e.symm
end
end
section
section
variable {sz lv : Nat} {pc ov ct bk wy : Int32} {op ar br rg me rt : Nat → Int32} {rc : Nat → Int32 → Bool} {x1 x2 x3 : Int32}
/-! ===== Y: carryOut ===== -/
theorem ys_carry {post : SY → Prop} {j : Nat} (hc : sd_CK sz op ar br) (hj : j < sz) (hs : ¬ sd_sk (op j) lv) (hl : lv ≤ 6) (h : ∀ (lv' : Nat) (pc' ov' ct' : Int32) (rg' me' rt' : Nat → Int32), sd_st op ar br (lv, nI j, ov, ct, rg, me, rt) = (lv', pc', ov', ct', rg', me', rt') → post (nI sz, bk, nI lv', pc', ct', ov', wy, op, ar, br, rg', me', rt')) : wpY_carryOut post (nI sz, bk, nI lv, nI j, ct, ov, wy, op, ar, br, rg, me, rt) (op (nI j).toNatClampNeg) ((ar (nI j).toNatClampNeg) &&& 3) (br (nI j).toNatClampNeg) := by
  have hz : sz ≤ 20 := hc.1
  obtain ⟨hO, ⟨a, hA, ea⟩, hB⟩ := hc.2 j hj
  have cj : (nI j).toNatClampNeg = j := nI_clamp (by omega)
  have hia : vp_in (nI a) 4 := vp_in_nI (by omega) (by omega)
  have m3 : ∀ {n : Nat}, n ≤ 3 → nI n &&& 3 = nI n := by
    intro n hn
    rw [pk_andN (by omega) 2 (by decide), Nat.mod_eq_of_lt (by omega)]
  have e0 := sd_st_j (op := op) (ar := ar) (br := br) (lv := lv) (ov := ov) (ct := ct) (rg := rg) (me := me) (rt := rt) (show j < 20 by omega)
  rw [ea] at e0
  rw [cj, ea, m3 hA]
  rcases sd_ops hO with o | o | o | o | o | o | o | o | o | o | o <;> rw [o] at e0 hs <;> rw [o]
  · unfold wpY_carryOut
    exact nm_e (nm_e (br_t rfl (⟨hia, nm_e (h _ _ _ _ _ _ _ (e0.trans sd_ex0))⟩)))
  · obtain ⟨b, hb, eb⟩ := hB (Or.inl o)
    have hib : vp_in (br j) 4 := by rw [eb]; exact vp_in_nI (by omega) (by omega)
    have hb3 : br j &&& 3 = br j := by rw [eb]; exact m3 hb
    unfold wpY_carryOut
    dsimp only
    rw [hb3]
    exact nm_e (nm_e (br_f (by decide) (br_t rfl (⟨hia, hib, hia, nm_e (h _ _ _ _ _ _ _ (e0.trans sd_ex1))⟩))))
  · obtain ⟨b, hb, eb⟩ := hB (Or.inr (Or.inl o))
    have hib : vp_in (br j) 4 := by rw [eb]; exact vp_in_nI (by omega) (by omega)
    have hb3 : br j &&& 3 = br j := by rw [eb]; exact m3 hb
    unfold wpY_carryOut
    dsimp only
    rw [hb3]
    exact nm_e (nm_e (br_f (by decide) (br_f (by decide) (br_t rfl (⟨hia, hib, hia, nm_e (h _ _ _ _ _ _ _ (e0.trans sd_ex2))⟩)))))
  · obtain ⟨b, hb, eb⟩ := hB (Or.inr (Or.inr (Or.inl o)))
    have hib : vp_in (br j) 4 := by rw [eb]; exact vp_in_nI (by omega) (by omega)
    have hb3 : br j &&& 3 = br j := by rw [eb]; exact m3 hb
    unfold wpY_carryOut
    dsimp only
    rw [hb3]
    exact nm_e (nm_e (br_f (by decide) (br_f (by decide) (br_f (by decide) (br_t rfl (⟨hib, pk_andIn _ 3 (by decide) (by decide), hia, nm_e (h _ _ _ _ _ _ _ (e0.trans sd_ex3))⟩))))))
  · obtain ⟨b, hb, eb⟩ := hB (Or.inr (Or.inr (Or.inr o)))
    have hib : vp_in (br j) 4 := by rw [eb]; exact vp_in_nI (by omega) (by omega)
    have hb3 : br j &&& 3 = br j := by rw [eb]; exact m3 hb
    unfold wpY_carryOut
    dsimp only
    rw [hb3]
    exact nm_e (nm_e (br_f (by decide) (br_f (by decide) (br_f (by decide) (br_f (by decide) (br_t rfl (⟨hib, hia, pk_andIn _ 3 (by decide) (by decide), nm_e (h _ _ _ _ _ _ _ (e0.trans sd_ex4))⟩)))))))
  · unfold wpY_carryOut
    exact nm_e (nm_e (br_f (by decide) (br_f (by decide) (br_f (by decide) (br_f (by decide) (br_f (by decide) (br_t rfl (⟨hia, br_c (fun z => h _ _ _ _ _ _ _ (e0.trans (sd_ex5t z))) (fun z => h _ _ _ _ _ _ _ (e0.trans (sd_ex5f z)))⟩))))))))
  · unfold wpY_carryOut
    exact nm_e (nm_e (br_f (by decide) (br_f (by decide) (br_f (by decide) (br_f (by decide) (br_f (by decide) (br_f (by decide) (br_t rfl (h _ _ _ _ _ _ _ (e0.trans sd_ex6))))))))))
  · have h6 : ¬ 6 ≤ lv := fun z => hs (Or.inl ⟨rfl, z⟩)
    unfold wpY_carryOut
    exact nm_e (nm_e (br_f (by decide) (br_f (by decide) (br_f (by decide) (br_f (by decide) (br_f (by decide) (br_f (by decide) (br_f (by decide) (br_t rfl (br_f (nI_pos (by omega)) (br_f (nI_ge (b := 6) (by omega) (by omega)) ⟨vp_in_nI (by omega) (by omega), nm_r (e' := upd rt lv (nI j + 1)) (by rw [nI_clamp (show lv < 2 ^ 31 by omega)]) (nm_r (nI_1 lv) (h _ _ _ _ _ _ _ (e0.trans sd_ex7)))⟩)))))))))))
  · have h6 : ¬ lv = 0 := fun z => hs (Or.inr ⟨rfl, z⟩)
    have e1 : nI lv - 1 = nI (lv - 1) := pk_sub (b := 1) (by omega)
    have e2 : (nI (lv - 1)).toNatClampNeg = lv - 1 := nI_clamp (by omega)
    unfold wpY_carryOut
    refine nm_e (nm_e (br_f (by decide) (br_f (by decide) (br_f (by decide) (br_f (by decide) (br_f (by decide) (br_f (by decide) (br_f (by decide) (br_f (by decide) ((?_)))))))))))
    unfold wY_carryOut_236
    exact br_t rfl (br_f (nI_nle (by omega) (by omega)) (br_f (nI_nlt (a := 6) hl (by decide)) (nm_r e1 ⟨vp_in_nI (by omega) (by omega), nm_r (congrArg rt e2) (h _ _ _ _ _ _ _ (e0.trans sd_ex8))⟩)))
  · unfold wpY_carryOut
    refine nm_e (nm_e (br_f (by decide) (br_f (by decide) (br_f (by decide) (br_f (by decide) (br_f (by decide) (br_f (by decide) (br_f (by decide) (br_f (by decide) ((?_)))))))))))
    unfold wY_carryOut_236
    refine br_f (by decide) ?_
    unfold wY_carryOut_282
    exact br_t rfl ⟨hia, nm_e (h _ _ _ _ _ _ _ (e0.trans sd_ex9))⟩
  · unfold wpY_carryOut
    refine nm_e (nm_e (br_f (by decide) (br_f (by decide) (br_f (by decide) (br_f (by decide) (br_f (by decide) (br_f (by decide) (br_f (by decide) (br_f (by decide) ((?_)))))))))))
    unfold wY_carryOut_236
    refine br_f (by decide) ?_
    unfold wY_carryOut_282
    exact br_f (by decide) (br_t rfl (h _ _ _ _ _ _ _ (e0.trans sd_ex10)))
theorem ys_in {post : Int32 → Prop} (hz : sz ≤ 20) (h0 : (pc < 0 ∨ nI sz ≤ pc) → post 0) (h1 : ∀ j, j < sz → pc = nI j → post 1) : wpY_inside post (nI sz, bk, nI lv, pc, ct, ov, wy, op, ar, br, rg, me, rt) := by
  unfold wpY_inside
  dsimp only
  refine br_c (fun z => h0 (Or.inl z)) (fun z => br_c (fun w => h0 (Or.inr w)) (fun w => ?_))
  rcases sd_io pc hz with q | ⟨j, hj, e⟩
  · exact absurd q (fun q => q.elim z w)
  · exact h1 j hj e
theorem ys_here {post : Int32 → Prop} (hz : sz ≤ 20) (h0 : (pc < 0 ∨ nI sz ≤ pc) → post (-1)) (h1 : ∀ j, j < sz → pc = nI j → post (op j)) : wpY_here post (nI sz, bk, nI lv, pc, ct, ov, wy, op, ar, br, rg, me, rt) := by
  unfold wpY_here
  dsimp only
  refine ys_in hz (fun z => br_t rfl (h0 z)) (fun j hj e => br_f (by decide) ?_)
  have q := h1 j hj e
  subst e
  rw [nI_clamp (show j < 2 ^ 31 by omega)]
  exact ⟨vp_in_nI (by omega) (by omega), q⟩
theorem ys_faulty20 {post : Int32 → Prop} {x : Int32} (hl : lv ≤ 6) (h1 : x = 8 ∧ lv = 0 → post 1) (h0 : ¬ (x = 8 ∧ lv = 0) → post 0) : wY_faulty_20 post x (nI sz) bk (nI lv) pc ct ov wy op ar br rg me rt := by
  unfold wY_faulty_20
  exact br_c (fun e => pk_lt 0 lv (fun z => h0 (fun q => absurd q.2 (by omega))) (fun z => h1 ⟨e, by omega⟩)) (fun e => h0 (fun q => e q.1))
theorem ys_faulty {post : Int32 → Prop} {j : Nat} (hz : sz ≤ 20) (hj : j < sz) (hl : lv ≤ 6) (h1 : sd_sk (op j) lv → post 1) (h0 : ¬ sd_sk (op j) lv → post 0) : wpY_faulty post (nI sz, bk, nI lv, nI j, ct, ov, wy, op, ar, br, rg, me, rt) := by
  unfold wpY_faulty
  dsimp only
  refine ys_here hz (fun z => absurd z (fun z => z.elim (nI_pos (by omega)) (nI_ge hj (by omega)))) (fun i hi e => ?_)
  have q : j = i := (nI_eq (by omega) (by omega)).mp e
  subst q
  refine br_c (fun e => pk_le 6 lv (fun z => h1 (Or.inl ⟨e, z⟩)) (fun z => ?_)) (fun e => ?_)
  · exact ys_faulty20 hl (fun q => h1 (Or.inr q)) (fun q => h0 (fun s => s.elim (fun t => absurd t.2 (by omega)) q))
  · exact ys_faulty20 hl (fun q => h1 (Or.inr q)) (fun q => h0 (fun s => s.elim (fun t => e t.1) q))
/-! ===== Y: one pass of the loop ===== -/
theorem ys_body {post : Int32 → SY → Prop} {J : Int32 → Int32 → Int32 → Int32 → Int32 → Int32 → Int32 → Int32 → Int32 → (Nat → Int32) → (Nat → Int32) → (Nat → Int32) → (Nat → Int32) → (Nat → Int32) → (Nat → Int32) → Prop} {d : Nat} (hc : sd_CK sz op ar br) (hl : lv ≤ 6) (hd : d ≤ 150) (h0 : sd_jd sz op bk rc d lv pc ov = 0 → ∀ (lv' : Nat) (pc' ov' ct' : Int32) (rg' me' rt' : Nat → Int32), sd_st op ar br (lv, pc, ov, ct, rg, me, rt) = (lv', pc', ov', ct', rg', me', rt') → J 1 (nI (d + 1)) (nI sz) bk (nI lv') pc' ct' ov' 3 op ar br rg' me' rt') (h1 : ¬ sd_jd sz op bk rc d lv pc ov = 0 → J 0 (nI (d + 1)) (nI sz) bk (nI lv) pc ct ov (sd_jd sz op bk rc d lv pc ov) op ar br rg me rt) : wY_run_93 post J x1 x2 x3 (nI d) (if rc lv pc = true then 1 else 0) (nI sz) bk (nI lv) pc ct ov 3 op ar br rg me rt := by
  have hz : sz ≤ 20 := hc.1
  have S : ∀ w : Int32, sd_jd sz op bk rc d lv pc ov = w → ¬ w = 0 → J 0 (nI (d + 1)) (nI sz) bk (nI lv) pc ct ov w op ar br rg me rt := by
    intro w e hw
    rw [e] at h1
    exact h1 hw
  unfold wY_run_93
  refine br_c (fun ho => ?_) (fun ho => nm_r (nI_1 d) (S 6 (sd_jd6 ho) (by decide)))
  refine ys_in hz (fun z => br_t rfl (nm_r (nI_1 d) (S 4 (sd_jd4 ho z) (by decide)))) (fun j hj e => br_f (by decide) ?_)
  subst e
  refine ys_faulty hz hj hl (fun s => br_f (by decide) (nm_r (nI_1 d) (S 5 (sd_jd5 hz hj ho s) (by decide)))) (fun s => br_t rfl ?_)
  have hin : vp_in (nI j) 20 := vp_in_nI (by omega) (by omega)
  have k199 : (0 < d → rc lv (nI j) = false) → (0 < d → bt bk j = false) → wY_run_199 post J x1 x2 x3 0 (nI d) (nI sz) bk (nI lv) (nI j) ct ov 3 op ar br rg me rt := by
    intro hr hb
    unfold wY_run_199
    exact pk_le 150 d (fun z => nm_r (nI_1 d) (S 3 (sd_jd3 hz hj ho s hr hb (by omega)) (by decide))) (fun z => ⟨hin, hin, hin, ys_carry hc hj s hl (fun lv' pc' ov' ct' rg' me' rt' e => nm_r (nI_1 d) (h0 (sd_jd0 hz hj ho s hr hb z) lv' pc' ov' ct' rg' me' rt' e))⟩)
  have k162 : (0 < d → rc lv (nI j) = false) → wY_run_162 post J x1 x2 x3 0 (nI d) (nI sz) bk (nI lv) (nI j) ct ov 3 op ar br rg me rt := by
    intro hr
    unfold wY_run_162
    refine pk_le d 0 (fun z => k199 hr (fun w => absurd w (by omega))) (fun z => br_f (nI_ge (b := 20) (by omega) (by omega)) (br_c (fun e => nm_r (nI_1 d) (S 2 (sd_jd2 hz hj ho s z (hr z) ((sd_tst1 bk (by omega)).mp e)) (by decide))) (fun e => k199 hr (fun _ => sd_nt (fun w => e ((sd_tst1 bk (by omega)).mpr w))))))
  refine pk_le d 0 (fun z => k162 (fun w => absurd w (by omega))) (fun z => ?_)
  by_cases hr : rc lv (nI j) = true
  · rw [if_pos hr]
    exact br_f (by decide) (nm_r (nI_1 d) (S 1 (sd_jd1 hz hj ho s z hr) (by decide)))
  · rw [if_neg hr]
    exact br_t rfl (k162 (fun _ => sd_nt hr))
/-- Y's aim is rc -/
def ys_Aim (rc : Nat → Int32 → Bool) (x1 x2 x3 : Int32) : Prop := ∀ (post : Int32 → SY → Prop) (n d sz lv : Nat) (bk pc ct ov : Int32) (op ar br rg me rt : Nat → Int32), d ≤ 150 → lv ≤ 6 → wY_run_93 post (wY_run_24 post x1 x2 x3 n) x1 x2 x3 (nI d) (if rc lv pc = true then 1 else 0) (nI sz) bk (nI lv) pc ct ov 3 op ar br rg me rt → wY_run_24 post x1 x2 x3 (n + 1) 1 (nI d) (nI sz) bk (nI lv) pc ct ov 3 op ar br rg me rt
theorem yt_run {post : Int32 → SY → Prop} (hc : sd_CK sz op ar br) (hY : ys_Aim rc x1 x2 x3) : ∀ (f d : Nat) (lv : Nat) (pc ov ct : Int32) (rg me rt : Nat → Int32), d + f = 150 → lv ≤ 6 → (∀ r (lv' : Nat) (pc' ov' ct' : Int32) (rg' me' rt' : Nat → Int32), sd_rn sz op ar br bk rc f d (lv, pc, ov, ct, rg, me, rt) = (r, lv', pc', ov', ct', rg', me', rt') → post r (nI sz, bk, nI lv', pc', ct', ov', r, op, ar, br, rg', me', rt')) → ∀ n, f + 1 < n → wY_run_24 post x1 x2 x3 n 1 (nI d) (nI sz) bk (nI lv) pc ct ov 3 op ar br rg me rt := by
  intro f
  induction f with
  | zero =>
    intro d lv pc ov ct rg me rt hd hl hp n hn
    obtain ⟨n1, rfl⟩ : ∃ n1, n = n1 + 1 + 1 := ⟨n - 2, by omega⟩
    refine hY _ _ _ _ _ _ _ _ _ _ _ _ _ _ _ (by omega) hl (ys_body hc hl (by omega) (fun z => ?_) (fun z => ?_))
    · have q := (sd_jdz hc.1 z).2.1
      exact absurd q (by omega)
    · exact br_c (fun _ => hp _ _ _ _ _ _ _ _ (sd_rn_stop z)) (fun _ => br_t rfl (hp _ _ _ _ _ _ _ _ (sd_rn_stop z)))
  | succ f ih =>
    intro d lv pc ov ct rg me rt hd hl hp n hn
    obtain ⟨n1, rfl⟩ : ∃ n1, n = n1 + 1 + 1 := ⟨n - 2, by omega⟩
    refine hY _ _ _ _ _ _ _ _ _ _ _ _ _ _ _ (by omega) hl (ys_body hc hl (by omega) (fun z lv' pc' ov' ct' rg' me' rt' e => ?_) (fun z => ?_))
    · obtain ⟨_, _, j, hj, rfl, hs, _⟩ := sd_jdz hc.1 z
      refine ih (d + 1) lv' pc' ov' ct' rg' me' rt' (by omega) (sd_lv6 hc hj hs hl e) (fun r lv2 pc2 ov2 ct2 rg2 me2 rt2 e2 => hp r lv2 pc2 ov2 ct2 rg2 me2 rt2 ?_) (n1 + 1) (by omega)
      rw [sd_rn_s z, e]
      exact e2
    · exact br_c (fun _ => hp _ _ _ _ _ _ _ _ (sd_rn_stop z)) (fun _ => br_t rfl (hp _ _ _ _ _ _ _ _ (sd_rn_stop z)))
theorem ys_run {post : Int32 → SY → Prop} (hc : sd_CK sz op ar br) (hl : lv ≤ 6) (hY : ys_Aim rc x1 x2 x3) (hn : ¬ wy < 4 → post wy (nI sz, bk, nI lv, pc, ct, ov, wy, op, ar, br, rg, me, rt)) (h : wy < 4 → ∀ r (lv' : Nat) (pc' ov' ct' : Int32) (rg' me' rt' : Nat → Int32), sd_rn sz op ar br bk rc 150 0 (lv, pc, ov, ct, rg, me, rt) = (r, lv', pc', ov', ct', rg', me', rt') → post r (nI sz, bk, nI lv', pc', ct', ov', r, op, ar, br, rg', me', rt')) : wpY_run post (nI sz, bk, nI lv, pc, ct, ov, wy, op, ar, br, rg, me, rt) x1 x2 x3 := by
  unfold wpY_run
  dsimp only
  exact br_c (fun w => ⟨152, yt_run hc hY 150 0 lv pc ov ct rg me rt rfl hl (h w) 152 (by omega)⟩) (fun w => hn w)
end
end
section
section
variable {sz lv : Nat} {pl pc ov ct bk wy am ap ad : Int32} {op ar br hd rg me rt ox : Nat → Int32} {rc : Nat → Int32 → Bool}
/-- what the aim needs on the way: AI lasts, and where no temporary trap stands the aim is not reached -/
def xs_AI (sz : Nat) (op ar br : Nat → Int32) (bk : Int32) (rc : Nat → Int32 → Bool) (tm : Int32) (AI : Nat → sd_M → Prop) : Prop :=
  (∀ (d : Nat) (lv : Nat) (pc ov ct : Int32) (rg me rt : Nat → Int32), sd_jd sz op bk rc d lv pc ov = 0 → AI d (lv, pc, ov, ct, rg, me, rt) → AI (d + 1) (sd_st op ar br (lv, pc, ov, ct, rg, me, rt))) ∧
  (∀ (d : Nat) (lv : Nat) (pc ov ct : Int32) (rg me rt : Nat → Int32), AI d (lv, pc, ov, ct, rg, me, rt) → 0 < d → ∀ j, j < sz → pc = nI j → bt tm j = false → rc lv pc = true → ∀ lv' pc', rc lv' pc' = true)
theorem xt_run {post : Int32 → SX → Prop} {tm : Int32} {AI : Nat → sd_M → Prop} (hc : sd_CK sz op ar br) (hX : xs_Aim rc am ap ad) (hA : xs_AI sz op ar br bk rc tm AI) : ∀ (n rd d : Nat) (hd : Nat → Int32) (lv : Nat) (pc ov ct : Int32) (rg me rt : Nat → Int32), rd ≤ d → d ≤ 150 → 151 < n + rd → lv ≤ 6 → AI d (lv, pc, ov, ct, rg, me, rt) → (∀ hd' r (lv' : Nat) (pc' ov' ct' : Int32) (rg' me' rt' : Nat → Int32), sd_rn sz op ar br bk rc (150 - d) d (lv, pc, ov, ct, rg, me, rt) = (r, lv', pc', ov', ct', rg', me', rt') → post r (0, nI sz, nI lv', pc', ov', ct', bk, r, am, ap, ad, op, ar, br, hd', rg', me', rt')) → wX_run_24 post tm n (nI d) (sd_jd sz op bk rc d lv pc ov) (nI rd) 0 (nI sz) (nI lv) pc ov ct bk wy am ap ad op ar br hd rg me rt := by
  have hz : sz ≤ 20 := hc.1
  intro n
  induction n with
  | zero =>
    intro rd d hd lv pc ov ct rg me rt h1 h2 h3
    exact absurd h3 (by omega)
  | succ n ih =>
    intro rd d hd lv pc ov ct rg me rt hrd h150 hn hl hI hp
    by_cases z : sd_jd sz op bk rc d lv pc ov = 0
    · have hlt : d < 150 := (sd_jdz hz z).2.1
      refine br_f (nI_nlt (a := 150) (b := rd) (by omega) (by omega)) (br_t z (xs_stepOff hc hl z (fun hd1 lv1 pc1 ov1 ct1 rg1 me1 rt1 e1 => ?_)))
      have hl1 : lv1 ≤ 6 := by
        obtain ⟨_, _, j, hj, rfl, hs, _⟩ := sd_jdz hz z
        exact sd_lv6 hc hj hs hl e1
      have hI1 : AI (d + 1) (lv1, pc1, ov1, ct1, rg1, me1, rt1) := by
        have q := hA.1 d _ _ _ _ _ _ _ z hI
        rw [e1] at q
        exact q
      have hr1 : sd_rn sz op ar br bk rc (150 - d) d (lv, pc, ov, ct, rg, me, rt) = sd_rn sz op ar br bk rc (150 - (d + 1)) (d + 1) (lv1, pc1, ov1, ct1, rg1, me1, rt1) := by
        rw [sd_rn_go z hlt, e1]
      refine nm_r (nI_1 d) (xs_judge hz hl1 (by omega) hX (br_c (fun z1 => ?_) (fun z1 => nm_r (nI_1 rd) ?_)))
      · refine xs_plant hc (fun pl' ox' hd2 ht => ?_)
        refine xs_resume hc (fun j => xs_TRc ht (j := j)) (most := 150 - (d + 1)) (d := d + 1) (rc := rc) (by omega) (pk_sub (a := 150) (by omega)) (Inv := fun k m => AI (d + 1 + k) m ∧ (k = 0 → m = (lv1, pc1, ov1, ct1, rg1, me1, rt1))) ?_ hl1 ⟨hI1, fun _ => rfl⟩ ?_
        · intro k lv2 pc2 ov2 ct2 rg2 me2 rt2 hI2 hl2 hk hok
          obtain ⟨hIa, hI0⟩ := hI2
          have hj0 : sd_jd sz op bk rc (d + 1 + k) lv2 pc2 ov2 = 0 := by
            by_cases k0 : k = 0
            · subst k0
              cases hI0 rfl
              exact z1
            · obtain ⟨o2, j, hj, ej, eo, hs⟩ := hok
              subst ej
              have b := xs_TRn hc ht hj eo
              rw [b_or, Bool.or_eq_false_iff] at b
              refine sd_jd0 hz hj o2 hs (fun _ => sd_nt (fun q => ?_)) (fun _ => b.1) (by omega)
              obtain ⟨_, _, i, _, _, _, hr, _⟩ := sd_jdz hz z1
              exact sd_tf (hA.2 _ _ _ _ _ _ _ _ hIa (by omega) j hj rfl b.2 q lv1 pc1) (hr (by omega))
          exact ⟨hj0, hA.1 _ _ _ _ _ _ _ _ hj0 hIa, fun q => absurd q (by omega)⟩
        · intro k lv2 pc2 ov2 ct2 rg2 me2 rt2 hk hl2 hI2 _ er
          refine nm_r (nI_add (d + 1) k) (xs_lift hc ht (xs_judge hz hl2 (by omega) hX (nm_r (nI_1 rd) ?_)))
          refine ih (rd + 1) (d + 1 + k) hd2 lv2 pc2 ov2 ct2 rg2 me2 rt2 (by omega) (by omega) (by omega) hl2 hI2.1 (fun hd' r lv' pc' ov' ct' rg' me' rt' e => hp hd' r lv' pc' ov' ct' rg' me' rt' ?_)
          rw [hr1, er]
          exact e
      · refine ih (rd + 1) (d + 1) hd1 lv1 pc1 ov1 ct1 rg1 me1 rt1 (by omega) (by omega) (by omega) hl1 hI1 (fun hd' r lv' pc' ov' ct' rg' me' rt' e => hp hd' r lv' pc' ov' ct' rg' me' rt' ?_)
        rw [hr1]
        exact e
    · exact br_c (fun _ => hp hd _ _ _ _ _ _ _ _ (sd_rn_stop z)) (fun _ => br_f z (hp hd _ _ _ _ _ _ _ _ (sd_rn_stop z)))
theorem xs_run {post : Int32 → SX → Prop} {tm : Int32} {AI : Nat → sd_M → Prop} (hc : sd_CK sz op ar br) (hl : lv ≤ 6) (hX : xs_Aim rc am ap ad) (hA : xs_AI sz op ar br bk rc tm AI) (hI : AI 0 (lv, pc, ov, ct, rg, me, rt)) (hn : ¬ wy < 4 → post wy (0, nI sz, nI lv, pc, ov, ct, bk, wy, am, ap, ad, op, ar, br, hd, rg, me, rt)) (h : wy < 4 → ∀ hd' r (lv' : Nat) (pc' ov' ct' : Int32) (rg' me' rt' : Nat → Int32), sd_rn sz op ar br bk rc 150 0 (lv, pc, ov, ct, rg, me, rt) = (r, lv', pc', ov', ct', rg', me', rt') → post r (0, nI sz, nI lv', pc', ov', ct', bk, r, am, ap, ad, op, ar, br, hd', rg', me', rt')) : wpX_run post (0, nI sz, nI lv, pc, ov, ct, bk, wy, am, ap, ad, op, ar, br, hd, rg, me, rt) tm := by
  unfold wpX_run
  dsimp only
  exact br_c (fun w => xs_judge (d := 0) hc.1 hl (by omega) hX ⟨152, xt_run hc hX hA 152 0 0 hd lv pc ov ct rg me rt (by omega) (by omega) (by omega) hl hI (h w)⟩) (fun w => hn w)
end
end
section
section
variable {sz lv : Nat} {pl pc ov ct bk wy am ap ad : Int32} {op ar br hd rg me rt ox : Nat → Int32} {x1 x2 x3 : Int32}
/-! ===== X's aims ===== -/
theorem sd_ift {P : Int32 → Prop} {c : Bool} (h : P (if c = true then 1 else 0)) (e : c = true) : P 1 := by
  rw [if_pos e] at h
  exact h
theorem sd_iff {P : Int32 → Prop} {c : Bool} (h : P (if c = true then 1 else 0)) (e : c = false) : P 0 := by
  rw [if_neg (fun q => sd_tf q e)] at h
  exact h
theorem ax_one : xs_Aim (fun _ _ => true) 1 ap ad := by
  intro post sz lv pl pc ov ct bk wy op ar br hd rg me rt hl h
  unfold wpX_aimReached
  exact br_t rfl (sd_ift h rfl)
theorem ax_none : xs_Aim (fun _ _ => false) 0 ap ad := by
  intro post sz lv pl pc ov ct bk wy op ar br hd rg me rt hl h
  unfold wpX_aimReached
  exact br_f (by decide) (br_f (by decide) (br_f (by decide) (br_f (by decide) (sd_iff h rfl))))
theorem ax_place : xs_Aim (fun _ pc => decide (pc = ap)) 2 ap ad := by
  intro post sz lv pl pc ov ct bk wy op ar br hd rg me rt hl h
  unfold wpX_aimReached
  exact br_f (by decide) (br_f (by decide) (br_f (by decide) (br_t rfl (br_c (fun z => sd_ift h (decide_eq_true z)) (fun z => sd_iff h (decide_eq_false z))))))
theorem ax_both {D : Nat} (hD : D ≤ 6) : xs_Aim (fun lv pc => decide (pc = ap ∧ lv = D)) 3 ap (nI D) := by
  intro post sz lv pl pc ov ct bk wy op ar br hd rg me rt hl h
  unfold wpX_aimReached
  exact br_f (by decide) (br_f (by decide) (br_t rfl (br_c (fun z => pk_eq lv D (fun w => sd_ift h (decide_eq_true ⟨z, w⟩)) (fun w => sd_iff h (decide_eq_false (fun q => w q.2)))) (fun z => sd_iff h (decide_eq_false (fun q => z q.1))))))
theorem ax_shal {D : Nat} (hD : D ≤ 6) : xs_Aim (fun lv _ => decide (lv < D)) 4 ap (nI D) := by
  intro post sz lv pl pc ov ct bk wy op ar br hd rg me rt hl h
  unfold wpX_aimReached
  exact br_f (by decide) (br_t rfl (pk_le D lv (fun w => sd_iff h (decide_eq_false (by omega))) (fun w => sd_ift h (decide_eq_true (by omega)))))
/-! ===== Y's aims ===== -/
section
variable {post : Int32 → SY → Prop} {J : Int32 → Int32 → Int32 → Int32 → Int32 → Int32 → Int32 → Int32 → Int32 → (Nat → Int32) → (Nat → Int32) → (Nat → Int32) → (Nat → Int32) → (Nat → Int32) → (Nat → Int32) → Prop} {x5 : Int32}
theorem ay_67f (h1 : ¬ x1 = 3) (h : wY_run_93 post J x1 x2 x3 x5 0 (nI sz) bk (nI lv) pc ct ov wy op ar br rg me rt) : wY_run_67 post J x1 x2 x3 x5 (nI sz) bk (nI lv) pc ct ov wy op ar br rg me rt := by
  unfold wY_run_67
  exact br_f h1 h
theorem ay_54f (h2 : ¬ x1 = 2) (h1 : ¬ x1 = 3) (h : wY_run_93 post J x1 x2 x3 x5 0 (nI sz) bk (nI lv) pc ct ov wy op ar br rg me rt) : wY_run_54 post J x1 x2 x3 x5 (nI sz) bk (nI lv) pc ct ov wy op ar br rg me rt := by
  unfold wY_run_54
  exact br_f h2 (ay_67f h1 h)
end
theorem ay_one : ys_Aim (fun _ _ => true) 0 x2 x3 := by
  intro post n d sz lv bk pc ct ov op ar br rg me rt hd hl h
  have k := sd_ift (P := fun z => wY_run_93 post (wY_run_24 post 0 x2 x3 n) 0 x2 x3 (nI d) z (nI sz) bk (nI lv) pc ct ov 3 op ar br rg me rt) h rfl
  exact br_f (nI_nlt (a := 150) (b := d) hd (by omega)) (br_f (by decide) (br_t rfl k))
theorem ay_none : ys_Aim (fun _ _ => false) 4 x2 x3 := by
  intro post n d sz lv bk pc ct ov op ar br rg me rt hd hl h
  have k := sd_iff (P := fun z => wY_run_93 post (wY_run_24 post 4 x2 x3 n) 4 x2 x3 (nI d) z (nI sz) bk (nI lv) pc ct ov 3 op ar br rg me rt) h rfl
  exact br_f (nI_nlt (a := 150) (b := d) hd (by omega)) (br_f (by decide) (br_f (by decide) (br_f (by decide) (ay_54f (by decide) (by decide) k))))
theorem ay_place : ys_Aim (fun _ pc => decide (pc = x2)) 1 x2 x3 := by
  intro post n d sz lv bk pc ct ov op ar br rg me rt hd hl h
  have k1 : pc = x2 → _ := fun z => sd_ift (P := fun z => wY_run_93 post (wY_run_24 post 1 x2 x3 n) 1 x2 x3 (nI d) z (nI sz) bk (nI lv) pc ct ov 3 op ar br rg me rt) h (decide_eq_true z)
  have k0 : ¬ pc = x2 → _ := fun z => sd_iff (P := fun z => wY_run_93 post (wY_run_24 post 1 x2 x3 n) 1 x2 x3 (nI d) z (nI sz) bk (nI lv) pc ct ov 3 op ar br rg me rt) h (decide_eq_false z)
  exact br_f (nI_nlt (a := 150) (b := d) hd (by omega)) (br_f (by decide) (br_f (by decide) (br_t rfl (br_c (fun z => k1 z) (fun z => ay_54f (by decide) (by decide) (k0 z))))))
theorem ay_shal {D : Nat} (hD : D ≤ 6) : ys_Aim (fun lv _ => decide (lv < D)) 2 x2 (nI D) := by
  intro post n d sz lv bk pc ct ov op ar br rg me rt hd hl h
  have k1 : lv < D → _ := fun z => sd_ift (P := fun z => wY_run_93 post (wY_run_24 post 2 x2 (nI D) n) 2 x2 (nI D) (nI d) z (nI sz) bk (nI lv) pc ct ov 3 op ar br rg me rt) h (decide_eq_true z)
  have k0 : ¬ lv < D → _ := fun z => sd_iff (P := fun z => wY_run_93 post (wY_run_24 post 2 x2 (nI D) n) 2 x2 (nI D) (nI d) z (nI sz) bk (nI lv) pc ct ov 3 op ar br rg me rt) h (decide_eq_false z)
  refine br_f (nI_nlt (a := 150) (b := d) hd (by omega)) (br_f (by decide) (br_f (by decide) (br_f (by decide) ?_)))
  unfold wY_run_54
  exact br_t rfl (pk_lt lv D (fun w => k1 w) (fun w => ay_67f (by decide) (k0 (by omega))))
theorem ay_both {D : Nat} (hD : D ≤ 6) : ys_Aim (fun lv pc => decide (pc = x2 ∧ lv = D)) 3 x2 (nI D) := by
  intro post n d sz lv bk pc ct ov op ar br rg me rt hd hl h
  have k1 : pc = x2 ∧ lv = D → _ := fun z => sd_ift (P := fun z => wY_run_93 post (wY_run_24 post 3 x2 (nI D) n) 3 x2 (nI D) (nI d) z (nI sz) bk (nI lv) pc ct ov 3 op ar br rg me rt) h (decide_eq_true z)
  have k0 : ¬ (pc = x2 ∧ lv = D) → _ := fun z => sd_iff (P := fun z => wY_run_93 post (wY_run_24 post 3 x2 (nI D) n) 3 x2 (nI D) (nI d) z (nI sz) bk (nI lv) pc ct ov 3 op ar br rg me rt) h (decide_eq_false z)
  refine br_f (nI_nlt (a := 150) (b := d) hd (by omega)) (br_f (by decide) (br_f (by decide) (br_f (by decide) ?_)))
  unfold wY_run_54
  refine br_f (by decide) ?_
  unfold wY_run_67
  exact br_t rfl (br_c (fun z => pk_eq lv D (fun w => k1 ⟨z, w⟩) (fun w => k0 (fun q => w q.2))) (fun z => k0 (fun q => z q.1)))
/-! ===== what the aims keep ===== -/
theorem ai_one {tm : Int32} : xs_AI sz op ar br bk (fun _ _ => true) tm (fun _ _ => True) :=
  ⟨fun _ _ _ _ _ _ _ _ _ _ => True.intro, fun _ _ _ _ _ _ _ _ _ _ _ _ _ _ _ _ _ => rfl⟩
theorem ai_none {tm : Int32} : xs_AI sz op ar br bk (fun _ _ => false) tm (fun _ _ => True) :=
  ⟨fun _ _ _ _ _ _ _ _ _ _ => True.intro, fun _ _ _ _ _ _ _ _ _ _ _ _ _ _ h _ _ => Bool.noConfusion h⟩
theorem ai_place {tm p : Int32} (ht : ∀ j, j < sz → p = nI j → bt tm j = true) : xs_AI sz op ar br bk (fun _ pc => decide (pc = p)) tm (fun _ _ => True) := by
  refine ⟨fun _ _ _ _ _ _ _ _ _ _ => True.intro, ?_⟩
  intro d lv pc ov ct rg me rt _ _ j hj ej hb hr
  exact sd_tf (ht j hj ((of_decide_eq_true hr).symm.trans ej)) hb
theorem ai_both {tm p : Int32} {D : Nat} (ht : ∀ j, j < sz → p = nI j → bt tm j = true) : xs_AI sz op ar br bk (fun lv pc => decide (pc = p ∧ lv = D)) tm (fun _ _ => True) := by
  refine ⟨fun _ _ _ _ _ _ _ _ _ _ => True.intro, ?_⟩
  intro d lv pc ov ct rg me rt _ _ j hj ej hb hr
  exact sd_tf (ht j hj ((of_decide_eq_true hr).1.symm.trans ej)) hb
def ai_S (D : Nat) (q : Int32) (d : Nat) (m : sd_M) : Prop := D = 0 ∨ (D ≤ m.1 ∧ m.2.2.2.2.2.2 (D - 1) = q) ∨ (0 < d ∧ m.1 < D ∧ m.2.1 = q)
theorem ai_shal {tm q : Int32} {D : Nat} (hc : sd_CK sz op ar br) (ht : 0 < D → ∀ j, j < sz → q = nI j → bt tm j = true) : xs_AI sz op ar br bk (fun lv _ => decide (lv < D)) tm (ai_S D q) := by
  constructor
  · intro d lv pc ov ct rg me rt hz hI
    obtain ⟨_, _, j, hj, rfl, hs, hr, _⟩ := sd_jdz hc.1 hz
    rcases hq : sd_st op ar br (lv, nI j, ov, ct, rg, me, rt) with ⟨lv', pc', ov', ct', rg', me', rt'⟩
    show D = 0 ∨ (D ≤ lv' ∧ rt' (D - 1) = q) ∨ (0 < d + 1 ∧ lv' < D ∧ pc' = q)
    have hI' : D = 0 ∨ (D ≤ lv ∧ rt (D - 1) = q) ∨ (0 < d ∧ lv < D ∧ nI j = q) := hI
    by_cases D0 : D = 0
    · exact Or.inl D0
    · rcases hI' with h | ⟨h1, h2⟩ | ⟨h1, h2, h3⟩
      · exact Or.inl h
      · rcases sd_ctl hc hj hq with ⟨a, b⟩ | ⟨o, a, b⟩ | ⟨o, a, b, c⟩
        · refine Or.inr (Or.inl ⟨by omega, ?_⟩)
          rw [b]
          exact h2
        · refine Or.inr (Or.inl ⟨by omega, ?_⟩)
          rw [b, pk_un (by omega)]
          exact h2
        · by_cases e : D ≤ lv - 1
          · refine Or.inr (Or.inl ⟨by omega, ?_⟩)
            rw [b]
            exact h2
          · have e2 : lv - 1 = D - 1 := by omega
            refine Or.inr (Or.inr ⟨by omega, by omega, ?_⟩)
            rw [c, e2]
            exact h2
      · exact sd_tf (decide_eq_true h2) (hr h1)
  · intro d lv pc ov ct rg me rt hI hd j hj ej hb hr
    have hlt : lv < D := of_decide_eq_true hr
    have hI' : D = 0 ∨ (D ≤ lv ∧ rt (D - 1) = q) ∨ (0 < d ∧ lv < D ∧ pc = q) := hI
    rcases hI' with h | ⟨h1, h2⟩ | ⟨h1, h2, h3⟩
    · exact absurd hlt (by omega)
    · exact absurd hlt (by omega)
    · exact sd_tf (ht (by omega) j hj (h3.symm.trans ej)) hb
/-! ===== Y's commands ===== -/
section
variable {rc : Nat → Int32 → Bool} {post : Int32 → SY → Prop}
theorem ys_step (hc : sd_CK sz op ar br) (hl : lv ≤ 6) (hn : ¬ wy < 4 → post wy (nI sz, bk, nI lv, pc, ct, ov, wy, op, ar, br, rg, me, rt)) (h : wy < 4 → ∀ r (lv' : Nat) (pc' ov' ct' : Int32) (rg' me' rt' : Nat → Int32), sd_rn sz op ar br bk (fun _ _ => true) 150 0 (lv, pc, ov, ct, rg, me, rt) = (r, lv', pc', ov', ct', rg', me', rt') → post r (nI sz, bk, nI lv', pc', ct', ov', r, op, ar, br, rg', me', rt')) : wpY_step post (nI sz, bk, nI lv, pc, ct, ov, wy, op, ar, br, rg, me, rt) := by
  unfold wpY_step
  exact ys_run hc hl ay_one hn h
theorem ys_stepOut (hc : sd_CK sz op ar br) (hl : lv ≤ 6) (hn : ¬ wy < 4 → post wy (nI sz, bk, nI lv, pc, ct, ov, wy, op, ar, br, rg, me, rt)) (h : wy < 4 → ∀ r (lv' : Nat) (pc' ov' ct' : Int32) (rg' me' rt' : Nat → Int32), sd_rn sz op ar br bk (fun l _ => decide (l < lv)) 150 0 (lv, pc, ov, ct, rg, me, rt) = (r, lv', pc', ov', ct', rg', me', rt') → post r (nI sz, bk, nI lv', pc', ct', ov', r, op, ar, br, rg', me', rt')) : wpY_stepOut post (nI sz, bk, nI lv, pc, ct, ov, wy, op, ar, br, rg, me, rt) := by
  unfold wpY_stepOut
  exact ys_run hc hl (ay_shal hl) hn h
theorem ys_go (hc : sd_CK sz op ar br) (hl : lv ≤ 6) (hn : ¬ wy < 4 → post wy (nI sz, bk, nI lv, pc, ct, ov, wy, op, ar, br, rg, me, rt)) (h : wy < 4 → ∀ r (lv' : Nat) (pc' ov' ct' : Int32) (rg' me' rt' : Nat → Int32), sd_rn sz op ar br bk (fun _ _ => false) 150 0 (lv, pc, ov, ct, rg, me, rt) = (r, lv', pc', ov', ct', rg', me', rt') → post r (nI sz, bk, nI lv', pc', ct', ov', r, op, ar, br, rg', me', rt')) : wpY_go post (nI sz, bk, nI lv, pc, ct, ov, wy, op, ar, br, rg, me, rt) := by
  unfold wpY_go
  exact ys_run hc hl ay_none hn h
theorem ys_goTo {p : Int32} (hc : sd_CK sz op ar br) (hl : lv ≤ 6) (hn : ¬ wy < 4 → post wy (nI sz, bk, nI lv, pc, ct, ov, wy, op, ar, br, rg, me, rt)) (h : wy < 4 → ∀ r (lv' : Nat) (pc' ov' ct' : Int32) (rg' me' rt' : Nat → Int32), sd_rn sz op ar br bk (fun _ pc => decide (pc = p)) 150 0 (lv, pc, ov, ct, rg, me, rt) = (r, lv', pc', ov', ct', rg', me', rt') → post r (nI sz, bk, nI lv', pc', ct', ov', r, op, ar, br, rg', me', rt')) : wpY_goTo post (nI sz, bk, nI lv, pc, ct, ov, wy, op, ar, br, rg, me, rt) p := by
  unfold wpY_goTo
  exact ys_run hc hl ay_place hn h
/-- Y's stepOver as a plain step: no call here, or none that can be carried out -/
theorem ys_over0 (hc : sd_CK sz op ar br) (hl : lv ≤ 6) (hq : ∀ j, j < sz → pc = nI j → op j = 7 → 6 ≤ lv) (hn : ¬ wy < 4 → post wy (nI sz, bk, nI lv, pc, ct, ov, wy, op, ar, br, rg, me, rt)) (h : wy < 4 → ∀ r (lv' : Nat) (pc' ov' ct' : Int32) (rg' me' rt' : Nat → Int32), sd_rn sz op ar br bk (fun _ _ => true) 150 0 (lv, pc, ov, ct, rg, me, rt) = (r, lv', pc', ov', ct', rg', me', rt') → post r (nI sz, bk, nI lv', pc', ct', ov', r, op, ar, br, rg', me', rt')) : wpY_stepOver post (nI sz, bk, nI lv, pc, ct, ov, wy, op, ar, br, rg, me, rt) := by
  have k : wY_stepOver_22 post (nI sz) bk (nI lv) pc ct ov wy op ar br rg me rt := by
    unfold wY_stepOver_22 wY_stepOver_23
    exact br_t rfl (ys_run hc hl ay_one hn h)
  unfold wpY_stepOver
  dsimp only
  refine ys_here hc.1 (fun z => br_f (by decide) k) (fun j hj e => br_c (fun e7 => ?_) (fun _ => k))
  exact br_t (nI_le (a := 6) (hq j hj e e7) (by omega)) k
theorem ys_over1 {j : Nat} (hc : sd_CK sz op ar br) (hl : lv < 6) (hj : j < sz) (h7 : op j = 7) (hn : ¬ wy < 4 → post wy (nI sz, bk, nI lv, nI j, ct, ov, wy, op, ar, br, rg, me, rt)) (h : wy < 4 → ∀ r (lv' : Nat) (pc' ov' ct' : Int32) (rg' me' rt' : Nat → Int32), sd_rn sz op ar br bk (fun l p => decide (p = nI j + 1 ∧ l = lv)) 150 0 (lv, nI j, ov, ct, rg, me, rt) = (r, lv', pc', ov', ct', rg', me', rt') → post r (nI sz, bk, nI lv', pc', ct', ov', r, op, ar, br, rg', me', rt')) : wpY_stepOver post (nI sz, bk, nI lv, nI j, ct, ov, wy, op, ar, br, rg, me, rt) := by
  have hz : sz ≤ 20 := hc.1
  unfold wpY_stepOver
  dsimp only
  refine ys_here hz (fun z => absurd z (fun z => z.elim (nI_pos (by omega)) (nI_ge hj (by omega)))) (fun i hi e => ?_)
  have q : j = i := (nI_eq (by omega) (by omega)).mp e
  subst q
  refine br_t h7 (br_f (nI_ge (b := 6) hl (by omega)) ?_)
  unfold wY_stepOver_23
  exact br_f (by decide) (ys_run hc (by omega) (ay_both (by omega)) hn h)
end
end
end
section
section
variable {sz lv : Nat} {pl pc ov ct bk wy am ap ad : Int32} {op ar br hd hd' rg me rt : Nat → Int32}
/-! ===== emit ===== -/
def em_bad (v1 v2 v3 : Int32) : Prop := v2 < 0 ∨ 3 < v2 ∨ (¬ v1 < 1 ∧ ¬ 4 < v1 ∧ (v3 < 0 ∨ ¬ v3 ≤ 3))
theorem em_x67 {post : Int32 → SX → Prop} {v1 v2 v3 : Int32} (hs : sz < 20) (h1 : ∃ o, o ≤ 10 ∧ v1 = nI o) (h2 : ∃ a, a ≤ 3 ∧ v2 = nI a) (h : post (nI sz) (pl, nI (sz + 1), nI lv, pc, ov, ct, bk, wy, am, ap, ad, upd op sz v1, upd ar sz v2, upd br sz v3, hd, rg, me, rt)) : wX_emit_67 post v1 v2 v3 pl (nI sz) (nI lv) pc ov ct bk wy am ap ad op ar br hd rg me rt := by
  obtain ⟨o, ho, rfl⟩ := h1
  obtain ⟨a, ha, rfl⟩ := h2
  have hin : vp_in (nI sz) 20 := vp_in_nI hs (by omega)
  have cs : (nI sz).toNatClampNeg = sz := nI_clamp (by omega)
  unfold wX_emit_67
  rw [cs, sd_by2 o (by omega), sd_by2 a (by omega)]
  refine ⟨hin, nm_e ⟨hin, nm_e ⟨hin, nm_e (nm_r (nI_1 sz) ?_)⟩⟩⟩
  rw [nI_pred]
  exact h
theorem em_y55 {post : Int32 → SY → Prop} {v1 v2 v3 : Int32} (hs : sz < 20) (h : post (nI sz) (nI (sz + 1), bk, nI lv, pc, ct, ov, wy, upd op sz v1, upd ar sz v2, upd br sz v3, rg, me, rt)) : wY_emit_55 post v1 v2 v3 (nI sz) bk (nI lv) pc ct ov wy op ar br rg me rt := by
  have hin : vp_in (nI sz) 20 := vp_in_nI hs (by omega)
  have cs : (nI sz).toNatClampNeg = sz := nI_clamp (by omega)
  unfold wY_emit_55
  rw [cs]
  refine ⟨hin, nm_e ⟨hin, nm_e ⟨hin, nm_e (nm_r (nI_1 sz) ?_)⟩⟩⟩
  rw [nI_pred]
  exact h
theorem em_10 {v : Int32} (h0 : ¬ v < 0) (h : v ≤ 10) : ∃ o, o ≤ 10 ∧ v = nI o := nI_of2 (by decide) h0 h
theorem em_3 {v : Int32} (h0 : ¬ v < 0) (h : v ≤ 3) : ∃ o, o ≤ 3 ∧ v = nI o := nI_of2 (by decide) h0 h
theorem em_x39 {post : Int32 → SX → Prop} {v1 v2 v3 z0 : Int32} (hs : sz < 20) (h0 : ¬ v1 < 0) (h10 : v1 ≤ 10) (hz0 : z0 = 0 ↔ (v1 < 1 ∨ 4 < v1)) (hb : em_bad v1 v2 v3 → post (-3) (pl, nI sz, nI lv, pc, ov, ct, bk, wy, am, ap, ad, op, ar, br, hd, rg, me, rt)) (hg : ¬ em_bad v1 v2 v3 → post (nI sz) (pl, nI (sz + 1), nI lv, pc, ov, ct, bk, wy, am, ap, ad, upd op sz v1, upd ar sz v2, upd br sz v3, hd, rg, me, rt)) : wX_emit_39 post v1 v2 v3 z0 pl (nI sz) (nI lv) pc ov ct bk wy am ap ad op ar br hd rg me rt := by
  unfold wX_emit_39
  refine br_c (fun a => hb (Or.inl a)) (fun a => br_c (fun b => hb (Or.inr (Or.inl b))) (fun b => br_c (fun c => ?_) (fun c => ?_)))
  · refine em_x67 hs (em_10 h0 h10) (em_3 a (Int32.not_lt.mp b)) (hg ?_)
    rintro (q | q | ⟨q1, q2, _⟩)
    · exact a q
    · exact b q
    · exact (hz0.mp c).elim q1 q2
  · have c1 : ¬ v1 < 1 := fun q => c (hz0.mpr (Or.inl q))
    have c2 : ¬ 4 < v1 := fun q => c (hz0.mpr (Or.inr q))
    refine br_c (fun e => hb (Or.inr (Or.inr ⟨c1, c2, Or.inl e⟩))) (fun e => br_c (fun f => ?_) (fun f => hb (Or.inr (Or.inr ⟨c1, c2, Or.inr f⟩))))
    refine em_x67 hs (em_10 h0 h10) (em_3 a (Int32.not_lt.mp b)) (hg ?_)
    rintro (q | q | ⟨_, _, q | q⟩)
    · exact a q
    · exact b q
    · exact e q
    · exact q f
theorem em_x {post : Int32 → SX → Prop} {v1 v2 v3 : Int32} (hz : sz ≤ 20) (ha : ¬ sz < 20 → post (-1) (pl, nI sz, nI lv, pc, ov, ct, bk, wy, am, ap, ad, op, ar, br, hd', rg, me, rt)) (hb : sz < 20 → (v1 < 0 ∨ ¬ v1 ≤ 10) → post (-2) (pl, nI sz, nI lv, pc, ov, ct, bk, wy, am, ap, ad, op, ar, br, hd', rg, me, rt)) (hd : sz < 20 → ¬ v1 < 0 → v1 ≤ 10 → em_bad v1 v2 v3 → post (-3) (pl, nI sz, nI lv, pc, ov, ct, bk, wy, am, ap, ad, op, ar, br, hd', rg, me, rt)) (hg : sz < 20 → ¬ v1 < 0 → v1 ≤ 10 → ¬ em_bad v1 v2 v3 → post (nI sz) (pl, nI (sz + 1), nI lv, pc, ov, ct, bk, wy, am, ap, ad, upd op sz v1, upd ar sz v2, upd br sz v3, hd', rg, me, rt)) : wpX_emit post (pl, nI sz, nI lv, pc, ov, ct, bk, wy, am, ap, ad, op, ar, br, hd', rg, me, rt) v1 v2 v3 := by
  unfold wpX_emit
  refine pk_lt sz 20 (fun s => br_c (fun a => hb s (Or.inl a)) (fun a => br_c (fun b => br_c (fun c => ?_) (fun c => br_c (fun e => ?_) (fun e => ?_))) (fun b => hb s (Or.inr b)))) (fun s => ha (by omega))
  · exact em_x39 s a b ⟨fun _ => Or.inl c, fun _ => rfl⟩ (hd s a b) (hg s a b)
  · exact em_x39 s a b ⟨fun _ => Or.inr e, fun _ => rfl⟩ (hd s a b) (hg s a b)
  · exact em_x39 s a b ⟨fun q => absurd q (by decide), fun q => q.elim (fun w => absurd w c) (fun w => absurd w e)⟩ (hd s a b) (hg s a b)
theorem em_y {post : Int32 → SY → Prop} {v1 v2 v3 : Int32} (hz : sz ≤ 20) (ha : ¬ sz < 20 → post (-1) (nI sz, bk, nI lv, pc, ct, ov, wy, op, ar, br, rg, me, rt)) (hb : sz < 20 → (v1 < 0 ∨ ¬ v1 ≤ 10) → post (-2) (nI sz, bk, nI lv, pc, ct, ov, wy, op, ar, br, rg, me, rt)) (hd : sz < 20 → ¬ v1 < 0 → v1 ≤ 10 → em_bad v1 v2 v3 → post (-3) (nI sz, bk, nI lv, pc, ct, ov, wy, op, ar, br, rg, me, rt)) (hg : sz < 20 → ¬ v1 < 0 → v1 ≤ 10 → ¬ em_bad v1 v2 v3 → post (nI sz) (nI (sz + 1), bk, nI lv, pc, ct, ov, wy, upd op sz v1, upd ar sz v2, upd br sz v3, rg, me, rt)) : wpY_emit post (nI sz, bk, nI lv, pc, ct, ov, wy, op, ar, br, rg, me, rt) v1 v2 v3 := by
  unfold wpY_emit
  refine pk_lt sz 20 (fun s => br_c (fun a => hb s (Or.inl a)) (fun a => br_c (fun b => br_c (fun c => hd s a b (Or.inl c)) (fun c => br_c (fun e => hd s a b (Or.inr (Or.inl e))) (fun e => br_c (fun f => ?_) (fun f => br_c (fun g => ?_) (fun g => br_c (fun i => hd s a b (Or.inr (Or.inr ⟨f, g, Or.inl i⟩))) (fun i => br_c (fun l => ?_) (fun l => hd s a b (Or.inr (Or.inr ⟨f, g, Or.inr l⟩))))))))) (fun b => hb s (Or.inr b)))) (fun s => ha (by omega))
  · exact em_y55 s (hg s a b (fun q => q.elim c (fun q => q.elim e (fun q => q.1 f))))
  · exact em_y55 s (hg s a b (fun q => q.elim c (fun q => q.elim e (fun q => q.2.1 g))))
  · exact em_y55 s (hg s a b (fun q => q.elim c (fun q => q.elim e (fun q => q.2.2.elim i (fun w => w l)))))
theorem em_ck {v1 v2 v3 : Int32} (hc : sd_CK sz op ar br) (hs : sz < 20) (h0 : ¬ v1 < 0) (h10 : v1 ≤ 10) (hg : ¬ em_bad v1 v2 v3) : sd_CK (sz + 1) (upd op sz v1) (upd ar sz v2) (upd br sz v3) := by
  refine ⟨by omega, fun j hj => ?_⟩
  by_cases e : j = sz
  · rw [e, pk_us, pk_us, pk_us]
    refine ⟨em_10 h0 h10, em_3 (fun q => hg (Or.inl q)) (Int32.not_lt.mp (fun q => hg (Or.inr (Or.inl q)))), fun q => ?_⟩
    have q2 : ¬ v1 < 1 ∧ ¬ 4 < v1 := by
      rcases q with rfl | rfl | rfl | rfl <;> decide
    have q3 : ¬ v3 < 0 := fun w => hg (Or.inr (Or.inr ⟨q2.1, q2.2, Or.inl w⟩))
    have q4 : v3 ≤ 3 := Int32.not_lt.mp (fun w => hg (Or.inr (Or.inr ⟨q2.1, q2.2, Or.inr (Int32.not_le.mpr w)⟩)))
    exact em_3 q3 q4
  · rw [pk_un e, pk_un e, pk_un e]
    exact hc.2 j (by omega)
/-! ===== reset ===== -/
def sd_zr : Nat → Nat → (Nat → Int32) → (Nat → Int32)
  | 0, _, f => f
  | e + 1, i, f => sd_zr e (i + 1) (upd f i 0)
theorem rs_x22 {post : SX → Prop} : ∀ (e i : Nat) (me : Nat → Int32), i + e = 8 → post (pl, nI sz, 0, 0, 0, 0, bk, 0, am, ap, ad, op, ar, br, hd, rg, sd_zr e i me, rt) → wX_reset_22 post pl (nI sz) (nI lv) pc ov ct bk wy am ap ad (e + 1) (nI i) op ar br hd rg me rt := by
  intro e
  induction e with
  | zero => intro i me hi h; exact br_t (nI_le (a := 8) (by omega) (by omega)) h
  | succ e ih =>
    intro i me hi h
    exact br_f (nI_ge (b := 8) (by omega) (by omega)) ⟨vp_in_nI (by omega) (by omega), nm_r (e' := upd me i 0) (by rw [nI_clamp (by omega)]) (nm_r (nI_1 i) (ih (i + 1) (upd me i 0) (by omega) h))⟩
theorem rs_x2 {post : SX → Prop} : ∀ (e i : Nat) (rg : Nat → Int32), i + e = 4 → post (pl, nI sz, 0, 0, 0, 0, bk, 0, am, ap, ad, op, ar, br, hd, sd_zr e i rg, sd_zr 8 0 me, rt) → wX_reset_2 post pl (nI sz) (nI lv) pc ov ct bk wy am ap ad (e + 1) (nI i) op ar br hd rg me rt := by
  intro e
  induction e with
  | zero => intro i rg hi h; exact br_t (nI_le (a := 4) (by omega) (by omega)) ⟨9, rs_x22 8 0 me (by omega) h⟩
  | succ e ih =>
    intro i rg hi h
    exact br_f (nI_ge (b := 4) (by omega) (by omega)) ⟨vp_in_nI (by omega) (by omega), nm_r (e' := upd rg i 0) (by rw [nI_clamp (by omega)]) (nm_r (nI_1 i) (ih (i + 1) (upd rg i 0) (by omega) h))⟩
theorem rs_y22 {post : SY → Prop} : ∀ (e i : Nat) (me : Nat → Int32), i + e = 8 → post (nI sz, bk, 0, 0, 0, 0, 0, op, ar, br, rg, sd_zr e i me, rt) → wY_reset_22 post (nI sz) bk (nI lv) pc ct ov wy (e + 1) (nI i) op ar br rg me rt := by
  intro e
  induction e with
  | zero => intro i me hi h; exact br_t (nI_le (a := 8) (by omega) (by omega)) h
  | succ e ih =>
    intro i me hi h
    exact br_f (nI_ge (b := 8) (by omega) (by omega)) ⟨vp_in_nI (by omega) (by omega), nm_r (e' := upd me i 0) (by rw [nI_clamp (by omega)]) (nm_r (nI_1 i) (ih (i + 1) (upd me i 0) (by omega) h))⟩
theorem rs_y2 {post : SY → Prop} : ∀ (e i : Nat) (rg : Nat → Int32), i + e = 4 → post (nI sz, bk, 0, 0, 0, 0, 0, op, ar, br, sd_zr e i rg, sd_zr 8 0 me, rt) → wY_reset_2 post (nI sz) bk (nI lv) pc ct ov wy (e + 1) (nI i) op ar br rg me rt := by
  intro e
  induction e with
  | zero => intro i rg hi h; exact br_t (nI_le (a := 4) (by omega) (by omega)) ⟨9, rs_y22 8 0 me (by omega) h⟩
  | succ e ih =>
    intro i rg hi h
    exact br_f (nI_ge (b := 4) (by omega) (by omega)) ⟨vp_in_nI (by omega) (by omega), nm_r (e' := upd rg i 0) (by rw [nI_clamp (by omega)]) (nm_r (nI_1 i) (ih (i + 1) (upd rg i 0) (by omega) h))⟩
end
end
section
/-- the same target, the same code, the same breakpoints; no trap stands -/
def i_Rel (k : Nat) (u : SX) (v : SY) : Prop := ∃ (sz lv : Nat) (pc ov ct bk wy am ap ad : Int32) (op ar br hd rg me rt : Nat → Int32), u = (0, nI sz, nI lv, pc, ov, ct, bk, wy, am, ap, ad, op, ar, br, hd, rg, me, rt) ∧ v = (nI sz, bk, nI lv, pc, ct, ov, wy, op, ar, br, rg, me, rt) ∧ sd_CK sz op ar br ∧ lv ≤ 6
section
variable {k sz lv : Nat} {pl pc ov ct bk wy am ap ad : Int32} {op ar br hd rg me rt : Nat → Int32}
theorem re_in (hc : sd_CK sz op ar br) (hl : lv ≤ 6) : i_Rel k (0, nI sz, nI lv, pc, ov, ct, bk, wy, am, ap, ad, op, ar, br, hd, rg, me, rt) (nI sz, bk, nI lv, pc, ct, ov, wy, op, ar, br, rg, me, rt) := ⟨sz, lv, pc, ov, ct, bk, wy, am, ap, ad, op, ar, br, hd, rg, me, rt, rfl, rfl, hc, hl⟩
theorem re_el {u : SX} {v : SY} {P : SX → SY → Prop} (h : ∀ (sz lv : Nat) (pc ov ct bk wy am ap ad : Int32) (op ar br hd rg me rt : Nat → Int32), sd_CK sz op ar br → lv ≤ 6 → P (0, nI sz, nI lv, pc, ov, ct, bk, wy, am, ap, ad, op, ar, br, hd, rg, me, rt) (nI sz, bk, nI lv, pc, ct, ov, wy, op, ar, br, rg, me, rt)) (I : i_Rel k u v) : P u v := by
  obtain ⟨sz, lv, pc, ov, ct, bk, wy, am, ap, ad, op, ar, br, hd, rg, me, rt, e1, e2, hc, hl⟩ := I
  rw [e1, e2]
  exact h sz lv pc ov ct bk wy am ap ad op ar br hd rg me rt hc hl
end
theorem i_up {k : Nat} {u : SX} {v : SY} (h : i_Rel k u v) : i_Rel (k + 4) u v := h
theorem i_vc0 : wpX_init (fun u => wpY_init (fun v => i_Rel 0 u v)) := by
  unfold wpX_init wpY_init
  exact re_in (sz := 0) (lv := 0) ⟨by omega, fun j h => absurd h (by omega)⟩ (by omega)
theorem i_vc_emit {k : Nat} {u : SX} {v : SY} (I : i_Rel k u v) (hk : k + 4 ≤ 2048) (v1 : Int32) (v2 : Int32) (v3 : Int32) : wpX_emit (fun r u' => wpY_emit (fun r' v' => r' = r ∧ i_Rel (k + 4) u' v') v v1 v2 v3) u v1 v2 v3 := by
  refine re_el (P := fun u v => wpX_emit (fun r u' => wpY_emit (fun r' v' => r' = r ∧ i_Rel (k + 4) u' v') v v1 v2 v3) u v1 v2 v3) ?_ I
  intro sz lv pc ov ct bk wy am ap ad op ar br hd rg me rt hc hl
  refine em_x hc.1 (fun a => ?_) (fun a b => ?_) (fun a b c e => ?_) (fun a b c e => ?_)
  · exact em_y hc.1 (fun _ => ⟨rfl, re_in hc hl⟩) (fun a2 => absurd a2 a) (fun a2 => absurd a2 a) (fun a2 => absurd a2 a)
  · exact em_y hc.1 (fun a2 => absurd a a2) (fun _ _ => ⟨rfl, re_in hc hl⟩) (fun _ b2 c2 => b.elim (fun q => absurd q b2) (fun q => absurd c2 q)) (fun _ b2 c2 => b.elim (fun q => absurd q b2) (fun q => absurd c2 q))
  · exact em_y hc.1 (fun a2 => absurd a a2) (fun _ b2 => b2.elim (fun q => absurd q b) (fun q => absurd c q)) (fun _ _ _ _ => ⟨rfl, re_in hc hl⟩) (fun _ _ _ e2 => absurd e e2)
  · exact em_y hc.1 (fun a2 => absurd a a2) (fun _ b2 => b2.elim (fun q => absurd q b) (fun q => absurd c q)) (fun _ _ _ e2 => absurd e2 e) (fun _ _ _ _ => ⟨rfl, re_in (em_ck hc a b c e) hl⟩)
theorem i_vc_length {k : Nat} {u : SX} {v : SY} (I : i_Rel k u v) (hk : k + 4 ≤ 2048) : wpX_length (fun r => wpY_length (fun r' => r' = r ∧ i_Rel (k + 4) u v) v) u := by
  refine re_el (P := fun u v => wpX_length (fun r => wpY_length (fun r' => r' = r ∧ i_Rel (k + 4) u v) v) u) ?_ I
  intro sz lv pc ov ct bk wy am ap ad op ar br hd rg me rt hc hl
  unfold wpX_length wpY_length
  exact ⟨rfl, re_in hc hl⟩
theorem i_vc_breakpoints {k : Nat} {u : SX} {v : SY} (I : i_Rel k u v) (hk : k + 4 ≤ 2048) : wpX_breakpoints (fun r => wpY_breakpoints (fun r' => r' = r ∧ i_Rel (k + 4) u v) v) u := by
  refine re_el (P := fun u v => wpX_breakpoints (fun r => wpY_breakpoints (fun r' => r' = r ∧ i_Rel (k + 4) u v) v) u) ?_ I
  intro sz lv pc ov ct bk wy am ap ad op ar br hd rg me rt hc hl
  unfold wpX_breakpoints wpY_breakpoints
  exact ⟨rfl, re_in hc hl⟩
theorem i_vc_reason {k : Nat} {u : SX} {v : SY} (I : i_Rel k u v) (hk : k + 4 ≤ 2048) : wpX_reason (fun r => wpY_reason (fun r' => r' = r ∧ i_Rel (k + 4) u v) v) u := by
  refine re_el (P := fun u v => wpX_reason (fun r => wpY_reason (fun r' => r' = r ∧ i_Rel (k + 4) u v) v) u) ?_ I
  intro sz lv pc ov ct bk wy am ap ad op ar br hd rg me rt hc hl
  unfold wpX_reason wpY_reason
  exact ⟨rfl, re_in hc hl⟩
theorem i_vc_position {k : Nat} {u : SX} {v : SY} (I : i_Rel k u v) (hk : k + 4 ≤ 2048) : wpX_position (fun r => wpY_position (fun r' => r' = r ∧ i_Rel (k + 4) u v) v) u := by
  refine re_el (P := fun u v => wpX_position (fun r => wpY_position (fun r' => r' = r ∧ i_Rel (k + 4) u v) v) u) ?_ I
  intro sz lv pc ov ct bk wy am ap ad op ar br hd rg me rt hc hl
  unfold wpX_position wpY_position
  exact ⟨rfl, re_in hc hl⟩
theorem i_vc_depth {k : Nat} {u : SX} {v : SY} (I : i_Rel k u v) (hk : k + 4 ≤ 2048) : wpX_depth (fun r => wpY_depth (fun r' => r' = r ∧ i_Rel (k + 4) u v) v) u := by
  refine re_el (P := fun u v => wpX_depth (fun r => wpY_depth (fun r' => r' = r ∧ i_Rel (k + 4) u v) v) u) ?_ I
  intro sz lv pc ov ct bk wy am ap ad op ar br hd rg me rt hc hl
  unfold wpX_depth wpY_depth
  exact ⟨rfl, re_in hc hl⟩
theorem i_vc_steps {k : Nat} {u : SX} {v : SY} (I : i_Rel k u v) (hk : k + 4 ≤ 2048) : wpX_steps (fun r => wpY_steps (fun r' => r' = r ∧ i_Rel (k + 4) u v) v) u := by
  refine re_el (P := fun u v => wpX_steps (fun r => wpY_steps (fun r' => r' = r ∧ i_Rel (k + 4) u v) v) u) ?_ I
  intro sz lv pc ov ct bk wy am ap ad op ar br hd rg me rt hc hl
  unfold wpX_steps wpY_steps
  exact ⟨rfl, re_in hc hl⟩
theorem i_vc_codeAt {k : Nat} {u : SX} {v : SY} (I : i_Rel k u v) (hk : k + 4 ≤ 2048) (v1 : Int32) : wpX_codeAt (fun r => wpY_codeAt (fun r' => r' = r ∧ i_Rel (k + 4) u v) v v1) u v1 := by
  refine re_el (P := fun u v => wpX_codeAt (fun r => wpY_codeAt (fun r' => r' = r ∧ i_Rel (k + 4) u v) v v1) u v1) ?_ I
  intro sz lv pc ov ct bk wy am ap ad op ar br hd rg me rt hc hl
  have hz : sz ≤ 20 := hc.1
  unfold wpX_codeAt
  dsimp only
  refine xs_in hz (fun z => br_t rfl ?_) (fun j hj e => br_f (by decide) ?_)
  · unfold wpY_codeAt
    exact br_c (fun _ => ⟨rfl, re_in hc hl⟩) (fun n => br_f (fun q => absurd (z.resolve_left n) (Int32.not_le.mpr q)) ⟨rfl, re_in hc hl⟩)
  · subst e
    have hin : vp_in (nI j) 20 := vp_in_nI (by omega) (by omega)
    refine ⟨hin, hin, ?_⟩
    unfold wpY_codeAt
    exact br_f (nI_pos (by omega)) (br_t (nI_lt hj (by omega)) ⟨hin, hin, rfl, re_in hc hl⟩)
theorem i_vc_reset {k : Nat} {u : SX} {v : SY} (I : i_Rel k u v) (hk : k + 4 ≤ 2048) : wpX_reset (fun u' => wpY_reset (fun v' => i_Rel (k + 4) u' v') v) u := by
  refine re_el (P := fun u v => wpX_reset (fun u' => wpY_reset (fun v' => i_Rel (k + 4) u' v') v) u) ?_ I
  intro sz lv pc ov ct bk wy am ap ad op ar br hd rg me rt hc hl
  unfold wpX_reset
  refine ⟨5, rs_x2 4 0 rg (by omega) ?_⟩
  unfold wpY_reset
  exact ⟨5, rs_y2 4 0 rg (by omega) (re_in (lv := 0) hc (by omega))⟩
theorem bk_20 (v : Int32) : v ≤ 19 ↔ v < 20 := by
  rw [Int32.le_iff_toInt_le, Int32.lt_iff_toInt_lt, show (19 : Int32).toInt = 19 by decide, show (20 : Int32).toInt = 20 by decide]
  omega
theorem i_vc_breakAt {k : Nat} {u : SX} {v : SY} (I : i_Rel k u v) (hk : k + 4 ≤ 2048) (v1 : Int32) (v2 : Int32) : wpX_breakAt (fun r u' => wpY_breakAt (fun r' v' => r' = r ∧ i_Rel (k + 4) u' v') v v1 (lw_bz v2)) u v1 (lw_bz v2) := by
  refine re_el (P := fun u v => wpX_breakAt (fun r u' => wpY_breakAt (fun r' v' => r' = r ∧ i_Rel (k + 4) u' v') v v1 (lw_bz v2)) u v1 (lw_bz v2)) ?_ I
  intro sz lv pc ov ct bk wy am ap ad op ar br hd rg me rt hc hl
  unfold wpX_breakAt
  refine br_c (fun a => ?_) (fun a => br_c (fun b => br_c (fun c => nm_e ?_) (fun c => nm_e ?_)) (fun b => ?_))
  · unfold wpY_breakAt
    exact br_t a ⟨rfl, re_in hc hl⟩
  · unfold wpY_breakAt
    exact br_f a (br_t ((bk_20 v1).mpr b) (br_t c (nm_e ⟨rfl, re_in hc hl⟩)))
  · unfold wpY_breakAt
    exact br_f a (br_t ((bk_20 v1).mpr b) (br_f c (nm_e ⟨rfl, re_in hc hl⟩)))
  · unfold wpY_breakAt
    exact br_f a (br_f (fun q => b ((bk_20 v1).mp q)) ⟨rfl, re_in hc hl⟩)
theorem i_vc_peek {k : Nat} {u : SX} {v : SY} (I : i_Rel k u v) (hk : k + 4 ≤ 2048) (v1 : Int32) : wpX_peek (fun r => wpY_peek (fun r' => r' = r ∧ i_Rel (k + 4) u v) v v1) u v1 := by
  refine re_el (P := fun u v => wpX_peek (fun r => wpY_peek (fun r' => r' = r ∧ i_Rel (k + 4) u v) v v1) u v1) ?_ I
  intro sz lv pc ov ct bk wy am ap ad op ar br hd rg me rt hc hl
  have fin : ∀ x : Int32, x = x ∧ i_Rel (k + 4) (0, nI sz, nI lv, pc, ov, ct, bk, wy, am, ap, ad, op, ar, br, hd, rg, me, rt) (nI sz, bk, nI lv, pc, ct, ov, wy, op, ar, br, rg, me, rt) := fun x => ⟨rfl, re_in hc hl⟩
  by_cases n : v1 < 0
  · have n8 : v1 < 8 := Int32.lt_trans n (by decide)
    have n16 : v1 < 16 := Int32.lt_trans n (by decide)
    unfold wpX_peek
    refine br_t n ?_
    unfold wX_peek_16
    refine br_t n8 ?_
    unfold wX_peek_38
    refine br_t n16 ?_
    unfold wpY_peek
    refine br_t n ?_
    unfold wY_peek_16
    refine br_t n8 ?_
    unfold wY_peek_38
    exact br_t n16 (fin 0)
  · obtain ⟨j, hj, rfl⟩ := nI_of n
    unfold wpX_peek
    refine br_f n (pk_le 4 j (fun h4 => ?_) (fun h4 => ⟨vp_in_nI (by omega) (by omega), ?_⟩))
    · have y : ∀ r, (j < 8 ∨ 16 ≤ j) → wY_peek_38 (fun r' => r' = r ∧ i_Rel (k + 4) (0, nI sz, nI lv, pc, ov, ct, bk, wy, am, ap, ad, op, ar, br, hd, rg, me, rt) (nI sz, bk, nI lv, pc, ct, ov, wy, op, ar, br, rg, me, rt)) (nI j) (nI sz) bk (nI lv) pc ct ov wy op ar br rg me rt → wpY_peek (fun r' => r' = r ∧ i_Rel (k + 4) (0, nI sz, nI lv, pc, ov, ct, bk, wy, am, ap, ad, op, ar, br, hd, rg, me, rt) (nI sz, bk, nI lv, pc, ct, ov, wy, op, ar, br, rg, me, rt)) (nI sz, bk, nI lv, pc, ct, ov, wy, op, ar, br, rg, me, rt) (nI j) := by
        intro r h8 h
        unfold wpY_peek
        refine br_f n (br_t (nI_lt (a := 3) (by omega) hj) ?_)
        unfold wY_peek_16
        exact pk_lt j 8 (fun _ => h) (fun g => pk_lt 15 j (fun _ => h) (fun g2 => absurd h8 (by omega)))
      have x38 : (j < 8 ∨ 16 ≤ j) → wX_peek_38 (fun r => wpY_peek (fun r' => r' = r ∧ i_Rel (k + 4) (0, nI sz, nI lv, pc, ov, ct, bk, wy, am, ap, ad, op, ar, br, hd, rg, me, rt) (nI sz, bk, nI lv, pc, ct, ov, wy, op, ar, br, rg, me, rt)) (nI sz, bk, nI lv, pc, ct, ov, wy, op, ar, br, rg, me, rt) (nI j)) (nI j) 0 (nI sz) (nI lv) pc ov ct bk wy am ap ad op ar br hd rg me rt := by
        intro h8
        unfold wX_peek_38
        refine pk_lt j 16 (fun h => y _ h8 ?_) (fun h => ?_)
        · unfold wY_peek_38
          exact br_t (nI_lt (b := 16) h (by omega)) (fin 0)
        · have e16 : nI j - 16 = nI (j - 16) := pk_sub (b := 16) h
          rw [e16]
          refine pk_le lv (j - 16) (fun g => y _ h8 ?_) (fun g => ⟨vp_in_nI (by omega) (by omega), y _ h8 ?_⟩)
          · unfold wY_peek_38
            rw [e16]
            exact br_f (nI_nlt (b := 16) h hj) (br_t (nI_le g (by omega)) (fin 0))
          · unfold wY_peek_38
            rw [e16]
            exact br_f (nI_nlt (b := 16) h hj) (br_f (nI_ge g (by omega)) (br_f (nI_ge (b := 22) (by omega) (by omega)) ⟨vp_in_nI (by omega) (by omega), fin _⟩))
      unfold wX_peek_16
      refine pk_lt j 8 (fun g => x38 (Or.inl g)) (fun g => pk_le 16 j (fun g2 => x38 (Or.inr g2)) (fun g2 => ?_))
      have e8 : nI j - 8 = nI (j - 8) := pk_sub (b := 8) g
      rw [e8]
      refine ⟨vp_in_nI (by omega) (by omega), ?_⟩
      unfold wpY_peek
      refine br_f n (br_t (nI_lt (a := 3) (by omega) hj) ?_)
      unfold wY_peek_16
      rw [e8]
      exact br_f (nI_nlt (b := 8) g hj) (br_f (nI_nlt (a := 15) (by omega) (by omega)) ⟨vp_in_nI (by omega) (by omega), fin _⟩)
    · unfold wpY_peek
      exact br_f n (br_f (nI_nlt (a := 3) (by omega) (by omega)) ⟨vp_in_nI (by omega) (by omega), fin _⟩)
theorem i_vc_step {k : Nat} {u : SX} {v : SY} (I : i_Rel k u v) (hk : k + 4 ≤ 2048) : wpX_step (fun r u' => wpY_step (fun r' v' => r' = r ∧ i_Rel (k + 4) u' v') v) u := by
  refine re_el (P := fun u v => wpX_step (fun r u' => wpY_step (fun r' v' => r' = r ∧ i_Rel (k + 4) u' v') v) u) ?_ I
  intro sz lv pc ov ct bk wy am ap ad op ar br hd rg me rt hc hl
  unfold wpX_step
  refine xs_run hc hl ax_one ai_one True.intro (fun w => ?_) (fun w hd' r lv' pc' ov' ct' rg' me' rt' e => ?_)
  · exact ys_step hc hl (fun _ => ⟨rfl, re_in hc hl⟩) (fun w2 => absurd w2 w)
  · refine ys_step hc hl (fun w2 => absurd w w2) (fun _ r2 lv2 pc2 ov2 ct2 rg2 me2 rt2 e2 => ?_)
    cases e.symm.trans e2
    exact ⟨rfl, re_in hc (sd_rn_lv hc 150 0 hl e)⟩
theorem i_vc_go {k : Nat} {u : SX} {v : SY} (I : i_Rel k u v) (hk : k + 4 ≤ 2048) : wpX_go (fun r u' => wpY_go (fun r' v' => r' = r ∧ i_Rel (k + 4) u' v') v) u := by
  refine re_el (P := fun u v => wpX_go (fun r u' => wpY_go (fun r' v' => r' = r ∧ i_Rel (k + 4) u' v') v) u) ?_ I
  intro sz lv pc ov ct bk wy am ap ad op ar br hd rg me rt hc hl
  unfold wpX_go
  refine xs_run hc hl ax_none ai_none True.intro (fun w => ?_) (fun w hd' r lv' pc' ov' ct' rg' me' rt' e => ?_)
  · exact ys_go hc hl (fun _ => ⟨rfl, re_in hc hl⟩) (fun w2 => absurd w2 w)
  · refine ys_go hc hl (fun w2 => absurd w w2) (fun _ r2 lv2 pc2 ov2 ct2 rg2 me2 rt2 e2 => ?_)
    cases e.symm.trans e2
    exact ⟨rfl, re_in hc (sd_rn_lv hc 150 0 hl e)⟩
theorem i_vc_goTo {k : Nat} {u : SX} {v : SY} (I : i_Rel k u v) (hk : k + 4 ≤ 2048) (v1 : Int32) : wpX_goTo (fun r u' => wpY_goTo (fun r' v' => r' = r ∧ i_Rel (k + 4) u' v') v v1) u v1 := by
  refine re_el (P := fun u v => wpX_goTo (fun r u' => wpY_goTo (fun r' v' => r' = r ∧ i_Rel (k + 4) u' v') v v1) u v1) ?_ I
  intro sz lv pc ov ct bk wy am ap ad op ar br hd rg me rt hc hl
  unfold wpX_goTo
  dsimp only
  refine xs_bit hc.1 (fun s hs => ?_)
  refine xs_run hc hl ax_place (ai_place hs) True.intro (fun w => ?_) (fun w hd' r lv' pc' ov' ct' rg' me' rt' e => ?_)
  · exact ys_goTo hc hl (fun _ => ⟨rfl, re_in hc hl⟩) (fun w2 => absurd w2 w)
  · refine ys_goTo hc hl (fun w2 => absurd w w2) (fun _ r2 lv2 pc2 ov2 ct2 rg2 me2 rt2 e2 => ?_)
    cases e.symm.trans e2
    exact ⟨rfl, re_in hc (sd_rn_lv hc 150 0 hl e)⟩
theorem i_vc_stepOut {k : Nat} {u : SX} {v : SY} (I : i_Rel k u v) (hk : k + 4 ≤ 2048) : wpX_stepOut (fun r u' => wpY_stepOut (fun r' v' => r' = r ∧ i_Rel (k + 4) u' v') v) u := by
  refine re_el (P := fun u v => wpX_stepOut (fun r u' => wpY_stepOut (fun r' v' => r' = r ∧ i_Rel (k + 4) u' v') v) u) ?_ I
  intro sz lv pc ov ct bk wy am ap ad op ar br hd rg me rt hc hl
  have go : ∀ (tm q : Int32), (0 < lv → ∀ j, j < sz → q = nI j → bt tm j = true) → (lv = 0 ∨ rt (lv - 1) = q) → wX_stepOut_39 (fun r u' => wpY_stepOut (fun r' v' => r' = r ∧ i_Rel (k + 4) u' v') (nI sz, bk, nI lv, pc, ct, ov, wy, op, ar, br, rg, me, rt)) tm 0 (nI sz) (nI lv) pc ov ct bk wy 4 ap (nI lv) op ar br hd rg me rt := by
    intro tm q ht hq
    unfold wX_stepOut_39
    refine xs_run hc hl (ax_shal hl) (ai_shal hc ht) (hq.elim Or.inl (fun w => Or.inr (Or.inl ⟨Nat.le_refl lv, w⟩))) (fun w => ?_) (fun w hd' r lv' pc' ov' ct' rg' me' rt' e => ?_)
    · exact ys_stepOut hc hl (fun _ => ⟨rfl, re_in hc hl⟩) (fun w2 => absurd w2 w)
    · refine ys_stepOut hc hl (fun w2 => absurd w w2) (fun _ r2 lv2 pc2 ov2 ct2 rg2 me2 rt2 e2 => ?_)
      cases e.symm.trans e2
      exact ⟨rfl, re_in hc (sd_rn_lv hc 150 0 hl e)⟩
  unfold wpX_stepOut
  refine pk_le lv 0 (fun z => go 0 0 (fun w => absurd w (by omega)) (Or.inl (by omega))) (fun z => ?_)
  have e1 : nI lv - 1 = nI (lv - 1) := pk_sub (b := 1) z
  have e2 : (nI (lv - 1)).toNatClampNeg = lv - 1 := nI_clamp (by omega)
  rw [e1, e2]
  exact ⟨vp_in_nI (by omega) (by omega), xs_bit hc.1 (fun s hs => go s (rt (lv - 1)) (fun _ => hs) (Or.inr rfl))⟩
/-- at the first look the aim does not count -/
theorem so_same {sz lv j : Nat} {ov ct bk : Int32} {op ar br rg me rt : Nat → Int32} {rc rc' : Nat → Int32 → Bool} (hz : sz ≤ 20) (hj : j < sz) (hs : sd_sk (op j) lv) : sd_rn sz op ar br bk rc 150 0 (lv, nI j, ov, ct, rg, me, rt) = sd_rn sz op ar br bk rc' 150 0 (lv, nI j, ov, ct, rg, me, rt) := by
  by_cases ho : ov = 0
  · have h1 : sd_jd sz op bk rc 0 lv (nI j) ov = 5 := sd_jd5 hz hj ho hs
    have h2 : sd_jd sz op bk rc' 0 lv (nI j) ov = 5 := sd_jd5 hz hj ho hs
    rw [sd_rn_stop (by rw [h1]; decide), sd_rn_stop (by rw [h2]; decide), h1, h2]
  · have h1 : sd_jd sz op bk rc 0 lv (nI j) ov = 6 := sd_jd6 ho
    have h2 : sd_jd sz op bk rc' 0 lv (nI j) ov = 6 := sd_jd6 ho
    rw [sd_rn_stop (by rw [h1]; decide), sd_rn_stop (by rw [h2]; decide), h1, h2]
theorem i_vc_stepOver {k : Nat} {u : SX} {v : SY} (I : i_Rel k u v) (hk : k + 4 ≤ 2048) : wpX_stepOver (fun r u' => wpY_stepOver (fun r' v' => r' = r ∧ i_Rel (k + 4) u' v') v) u := by
  refine re_el (P := fun u v => wpX_stepOver (fun r u' => wpY_stepOver (fun r' v' => r' = r ∧ i_Rel (k + 4) u' v') v) u) ?_ I
  intro sz lv pc ov ct bk wy am ap ad op ar br hd rg me rt hc hl
  have hz : sz ≤ 20 := hc.1
  have no : (∀ j, j < sz → pc = nI j → ¬ op j = 7) → wX_stepOver_29 (fun r u' => wpY_stepOver (fun r' v' => r' = r ∧ i_Rel (k + 4) u' v') (nI sz, bk, nI lv, pc, ct, ov, wy, op, ar, br, rg, me, rt)) 0 (nI sz) (nI lv) pc ov ct bk wy am ap ad op ar br hd rg me rt := by
    intro hq
    have hq' : ∀ j, j < sz → pc = nI j → op j = 7 → 6 ≤ lv := fun j hj e o => absurd o (hq j hj e)
    unfold wX_stepOver_29 wX_stepOver_30
    refine br_t rfl ?_
    unfold wX_stepOver_41
    refine nm_e (br_t rfl ?_)
    unfold wX_stepOver_80
    refine xs_run hc hl ax_one ai_one True.intro (fun w => ?_) (fun w hd' r lv' pc' ov' ct' rg' me' rt' e => ?_)
    · exact ys_over0 hc hl hq' (fun _ => ⟨rfl, re_in hc hl⟩) (fun w2 => absurd w2 w)
    · refine ys_over0 hc hl hq' (fun w2 => absurd w w2) (fun _ r2 lv2 pc2 ov2 ct2 rg2 me2 rt2 e2 => ?_)
      cases e.symm.trans e2
      exact ⟨rfl, re_in hc (sd_rn_lv hc 150 0 hl e)⟩
  unfold wpX_stepOver
  dsimp only
  refine xs_in hz (fun z => br_t rfl (no ?_)) (fun j hj e => br_f (by decide) ?_)
  · intro j hj e
    rw [e] at z
    exact absurd z (fun z => z.elim (nI_pos (by omega)) (nI_ge hj (by omega)))
  · subst e
    rw [nI_clamp (show j < 2 ^ 31 by omega)]
    refine ⟨vp_in_nI (by omega) (by omega), br_c (fun e7 => ?_) (fun e7 => no ?_)⟩
    · unfold wX_stepOver_30
      refine br_f (by decide) ?_
      unfold wX_stepOver_41
      refine nm_e (br_f (by decide) (xs_bit hz (fun s hs => ?_)))
      unfold wX_stepOver_80
      refine xs_run hc hl (ax_both hl) (ai_both hs) True.intro (fun w => ?_) (fun w hd' r lv' pc' ov' ct' rg' me' rt' e => ?_)
      · by_cases h6 : lv < 6
        · exact ys_over1 hc h6 hj e7 (fun _ => ⟨rfl, re_in hc hl⟩) (fun w2 => absurd w2 w)
        · exact ys_over0 hc hl (fun _ _ _ _ => by omega) (fun _ => ⟨rfl, re_in hc hl⟩) (fun w2 => absurd w2 w)
      · by_cases h6 : lv < 6
        · refine ys_over1 hc h6 hj e7 (fun w2 => absurd w w2) (fun _ r2 lv2 pc2 ov2 ct2 rg2 me2 rt2 e2 => ?_)
          cases e.symm.trans e2
          exact ⟨rfl, re_in hc (sd_rn_lv hc 150 0 hl e)⟩
        · refine ys_over0 hc hl (fun _ _ _ _ => by omega) (fun w2 => absurd w w2) (fun _ r2 lv2 pc2 ov2 ct2 rg2 me2 rt2 e2 => ?_)
          cases e.symm.trans ((so_same hz hj (Or.inl ⟨e7, by omega⟩)).trans e2)
          exact ⟨rfl, re_in hc (sd_rn_lv hc 150 0 hl e)⟩
    · intro i hi e
      have q : j = i := (nI_eq (by omega) (by omega)).mp e
      rw [← q]
      exact e7
end
