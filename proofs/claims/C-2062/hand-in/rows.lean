section
theorem pk_us {f : Nat → Int32} {k : Nat} {x : Int32} : upd f k x k = x := if_pos rfl
theorem pk_un {f : Nat → Int32} {k j : Nat} {x : Int32} (h : j ≠ k) : upd f k x j = f j := if_neg h
theorem pk_uLs {f : Nat → Int64} {k : Nat} {x : Int64} : vp_updL f k x k = x := if_pos rfl
theorem pk_uLn {f : Nat → Int64} {k j : Nat} {x : Int64} (h : j ≠ k) : vp_updL f k x j = f j := if_neg h
theorem pk_sub {a b : Nat} (h : b ≤ a) : nI a - nI b = nI (a - b) := by
  obtain ⟨c, rfl⟩ : ∃ c, a = c + b := ⟨a - b, by omega⟩
  rw [← nI_add, Int32.add_sub_cancel, Nat.add_sub_cancel]
theorem pk_m1 (n : Nat) : nI (n + 1) + (-1) = nI n := by
  rw [← nI_1, Int32.add_assoc, show (1 : Int32) + (-1) = 0 from rfl, Int32.add_zero]
theorem pk_mul (a b : Nat) : nI a * nI b = nI (a * b) := (Int32.ofNat_mul a b).symm
theorem pk_div {a d : Nat} (ha : a < 2 ^ 31) (h0 : 0 < d) (hd : d < 2 ^ 31) : nI a / nI d = nI (a / d) := by
  apply Int32.toInt_inj.mp
  rw [lg_idiv_nonneg (by rw [nI_toInt ha]; omega) (by rw [nI_toInt hd]; omega), nI_toInt ha, nI_toInt hd, nI_toInt (Nat.lt_of_le_of_lt (Nat.div_le_self a d) ha)]
  first | rfl | exact (Int.natCast_ediv _ _).symm
theorem pk_rem {a d : Nat} (ha : a < 2 ^ 31) (h0 : 0 < d) (hd : d < 2 ^ 31) : nI a - nI a / nI d * nI d = nI (a % d) := by
  rw [pk_div ha h0 hd, pk_mul, pk_sub (Nat.div_mul_le_self a d)]
  exact congrArg nI (by have := Nat.div_add_mod' a d; omega)
theorem pk_sub_toInt {a b : Nat} (ha : a < 2 ^ 30) (hb : b < 2 ^ 30) : (nI a - nI b).toInt = (a : Int) - b := by
  rw [Int32.toInt_sub, nI_toInt (by omega), nI_toInt (by omega)]
  exact Int.bmod_eq_of_le (by omega) (by omega)
theorem pk_sneg {a b : Nat} (hb : b < 2 ^ 30) (h : a < b) : nI a - nI b < 0 := by
  rw [Int32.lt_iff_toInt_lt, pk_sub_toInt (by omega) hb, show (0 : Int32).toInt = 0 from by decide]
  omega
theorem pk_ix (x : Int32) {n : Nat} (hn : n < 2 ^ 31) : x < 0 ∨ nI n ≤ x ∨ ∃ j : Nat, j < n ∧ x = nI j := by
  by_cases h : x < 0
  · exact Or.inl h
  · obtain ⟨j, hj, rfl⟩ := nI_of h
    by_cases h2 : j < n
    · exact Or.inr (Or.inr ⟨j, h2, rfl⟩)
    · exact Or.inr (Or.inl (nI_le (by omega) hj))
theorem pk_le {x y : Int32} {A B : Prop} (a b : Nat) (f : a ≤ b → A) (g : b < a → B) (hx : x = nI a := by rfl) (hy : y = nI b := by rfl) (ha : a < 2 ^ 31 := by omega) (hb : b < 2 ^ 31 := by omega) : (x ≤ y → A) ∧ (¬ x ≤ y → B) := by
  subst hx hy
  rw [nI_leI ha hb]
  exact ⟨f, fun z => g (by omega)⟩
theorem pk_lt {x y : Int32} {A B : Prop} (a b : Nat) (f : a < b → A) (g : b ≤ a → B) (hx : x = nI a := by rfl) (hy : y = nI b := by rfl) (ha : a < 2 ^ 31 := by omega) (hb : b < 2 ^ 31 := by omega) : (x < y → A) ∧ (¬ x < y → B) := by
  subst hx hy
  rw [nI_ltI ha hb]
  exact ⟨f, fun z => g (by omega)⟩
theorem pk_eq {x y : Int32} {A B : Prop} (a b : Nat) (f : a = b → A) (g : a ≠ b → B) (hx : x = nI a := by rfl) (hy : y = nI b := by rfl) (ha : a < 2 ^ 31 := by omega) (hb : b < 2 ^ 31 := by omega) : (x = y → A) ∧ (¬ x = y → B) := by
  subst hx hy
  rw [nI_eq ha hb]
  exact ⟨f, g⟩
theorem pk_in {x : Int32} (n N : Nat) (h : n < N) (hx : x = nI n := by rfl) (hN : N < 2 ^ 31 := by omega) : vp_in x N := by
  subst hx
  exact vp_in_nI h hN
theorem pk_cl {x : Int32} (n : Nat) (hx : x = nI n := by rfl) (h : n < 2 ^ 31 := by omega) : x.toNatClampNeg = n := by
  subst hx
  exact nI_clamp h
theorem pk_tn {n : Nat} (h : n < 2 ^ 32) : (nI n).toBitVec.toNat = n := Nat.mod_eq_of_lt h
theorem pk_and (x : Int32) {m : Int32} (k : Nat) (hm : m.toBitVec.toNat = 2 ^ k - 1) : x &&& m = nI (x.toBitVec.toNat % 2 ^ k) := by
  apply Int32.toBitVec_inj.mp
  apply BitVec.eq_of_toNat_eq
  rw [Int32.toBitVec_and, BitVec.toNat_and, hm, Nat.and_two_pow_sub_one_eq_mod]
  show _ = (BitVec.ofNat 32 _).toNat
  rw [BitVec.toNat_ofNat]
  exact (Nat.mod_eq_of_lt (Nat.lt_of_le_of_lt (Nat.mod_le _ _) x.toBitVec.isLt)).symm
theorem pk_andN {n : Nat} (h : n < 2 ^ 32) {m : Int32} (k : Nat) (hm : m.toBitVec.toNat = 2 ^ k - 1) : nI n &&& m = nI (n % 2 ^ k) := by
  rw [pk_and _ k hm, pk_tn h]
theorem pk_andE (x : Int32) {m : Int32} (k : Nat) (hm : m.toBitVec.toNat = 2 ^ k - 1) : ∃ j : Nat, j < 2 ^ k ∧ x &&& m = nI j := ⟨_, Nat.mod_lt _ (Nat.two_pow_pos k), pk_and x k hm⟩
theorem pk_andIn (x : Int32) {m : Int32} (k : Nat) (hm : m.toBitVec.toNat = 2 ^ k - 1) (hk : k ≤ 30) : vp_in (x &&& m) (2 ^ k) := by
  obtain ⟨j, hj, e⟩ := pk_andE x k hm
  rw [e]
  exact vp_in_nI hj (Nat.lt_of_le_of_lt (Nat.pow_le_pow_right (by decide) hk) (by decide))
theorem pk_shl (a s : Int32) (k : Nat) (hs : (s.toBitVec.smod 32).toNat = k) : (a <<< s).toBitVec.toNat = a.toBitVec.toNat * 2 ^ k % 2 ^ 32 := by
  show (a.toBitVec <<< (s.toBitVec.smod 32).toNat).toNat = _
  rw [hs, BitVec.toNat_shiftLeft, Nat.shiftLeft_eq]
theorem pk_shlN {n : Nat} (s : Int32) (k : Nat) (hs : (s.toBitVec.smod 32).toNat = k) (h : n * 2 ^ k < 2 ^ 32) : nI n <<< s = nI (n * 2 ^ k) := by
  apply Int32.toBitVec_inj.mp
  apply BitVec.eq_of_toNat_eq
  have hn : n < 2 ^ 32 := Nat.lt_of_le_of_lt (Nat.le_mul_of_pos_right n (Nat.two_pow_pos k)) h
  rw [pk_shl _ _ k hs, pk_tn hn, pk_tn h, Nat.mod_eq_of_lt h]
theorem pk_shr (a s : Int32) (k : Nat) (hs : (s.toBitVec.smod 32).toNat = k) : (a >>> s).toInt = a.toInt >>> k := by
  show (a.toBitVec.sshiftRight (s.toBitVec.smod 32).toNat).toInt = _
  rw [hs, BitVec.toInt_sshiftRight]
  rfl
theorem pk_shrN {n : Nat} (h : n < 2 ^ 31) (s : Int32) (k : Nat) (hs : (s.toBitVec.smod 32).toNat = k) : nI n >>> s = nI (n / 2 ^ k) := by
  apply Int32.toInt_inj.mp
  have h2 : n / 2 ^ k ≤ n := Nat.div_le_self _ _
  rw [pk_shr _ _ k hs, nI_toInt h, nI_toInt (by omega), Int.shiftRight_eq_div_pow]
  rfl
theorem pk_ushr (x s : Int32) (k : Nat) (hs : ((s.toUInt32 &&& Int32.toUInt32 31).toBitVec % 32).toNat = k) : (x.toUInt32 >>> (s.toUInt32 &&& Int32.toUInt32 31)).toInt32.toBitVec.toNat = x.toBitVec.toNat / 2 ^ k := by
  have e : (x.toUInt32 >>> (s.toUInt32 &&& Int32.toUInt32 31)).toInt32.toBitVec = x.toBitVec >>> k := by
    rw [← hs]
    exact UInt32.toBitVec_shiftRight _ _
  rw [e, BitVec.toNat_ushiftRight, Nat.shiftRight_eq_div_pow]
theorem pk_ushrN {n : Nat} (hn : n < 2 ^ 32) (s : Int32) (k : Nat) (hs : ((s.toUInt32 &&& Int32.toUInt32 31).toBitVec % 32).toNat = k) : ((nI n).toUInt32 >>> (s.toUInt32 &&& Int32.toUInt32 31)).toInt32 = nI (n / 2 ^ k) := by
  apply Int32.toBitVec_inj.mp
  apply BitVec.eq_of_toNat_eq
  rw [pk_ushr _ s k hs, pk_tn hn, pk_tn (Nat.lt_of_le_of_lt (Nat.div_le_self _ _) hn)]
/-! ===== Int32 by its bits: bt x i ===== -/
def bt (x : Int32) (i : Nat) : Bool := x.toBitVec.getLsbD i
theorem b_ext {x y : Int32} (h : ∀ i, i < 32 → bt x i = bt y i) : x = y := Int32.toBitVec_inj.mp (BitVec.eq_of_getLsbD_eq (fun i hi => h i hi))
theorem b_or (x y : Int32) (i : Nat) : bt (x ||| y) i = (bt x i || bt y i) := by unfold bt; rw [Int32.toBitVec_or, BitVec.getLsbD_or]
theorem b_and (x y : Int32) (i : Nat) : bt (x &&& y) i = (bt x i && bt y i) := by unfold bt; rw [Int32.toBitVec_and, BitVec.getLsbD_and]
theorem b_xor (x y : Int32) (i : Nat) : bt (x ^^^ y) i = (bt x i ^^ bt y i) := by unfold bt; rw [Int32.toBitVec_xor, BitVec.getLsbD_xor]
theorem b_big {x : Int32} {i : Nat} (h : 32 ≤ i) : bt x i = false := BitVec.getLsbD_of_ge _ _ h
theorem b_255 (i : Nat) : bt 255 i = decide (i < 8) := by
  rcases Nat.lt_or_ge i 32 with h | h
  · exact (by decide +kernel : ∀ i, i < 32 → bt 255 i = decide (i < 8)) i h
  · rw [b_big h, decide_eq_false (by omega)]
theorem b_65535 (i : Nat) : bt 65535 i = decide (i < 16) := by
  rcases Nat.lt_or_ge i 32 with h | h
  · exact (by decide +kernel : ∀ i, i < 32 → bt 65535 i = decide (i < 16)) i h
  · rw [b_big h, decide_eq_false (by omega)]
theorem b_m1 : ∀ i, i < 32 → bt (-1) i = true := by decide +kernel
theorem b_0 (i : Nat) : bt 0 i = false := BitVec.getLsbD_zero
theorem s_l : ∀ n, n < 32 → ((nI n &&& 31).toBitVec.smod 32).toNat = n := by decide +kernel
theorem s_u : ∀ n, n < 32 → (((nI n).toUInt32 &&& Int32.toUInt32 31).toBitVec % 32).toNat = n := by decide +kernel
theorem b_shl (n : Nat) (hn : n < 32) (x : Int32) {i : Nat} (hi : i < 32) : bt (x <<< (nI n &&& 31)) i = (decide (n ≤ i) && bt x (i - n)) := by
  unfold bt
  rw [Int32.toBitVec_shiftLeft]
  show (x.toBitVec <<< ((nI n &&& 31).toBitVec.smod 32).toNat).getLsbD i = _
  rw [s_l n hn, BitVec.getLsbD_shiftLeft]
  rcases Nat.lt_or_ge i n with h | h
  · simp [h, Nat.not_le.mpr h]
  · simp [hi, h, Nat.not_lt.mpr h]
theorem b_ushr (n : Nat) (hn : n < 32) (x : Int32) (i : Nat) : bt ((x.toUInt32 >>> ((nI n).toUInt32 &&& Int32.toUInt32 31)).toInt32) i = bt x (n + i) := by
  show (x.toUInt32 >>> ((nI n).toUInt32 &&& Int32.toUInt32 31)).toBitVec.getLsbD i = x.toUInt32.toBitVec.getLsbD (n + i)
  rw [UInt32.toBitVec_shiftRight]
  show (x.toUInt32.toBitVec >>> (((nI n).toUInt32 &&& Int32.toUInt32 31).toBitVec % 32).toNat).getLsbD i = _
  rw [s_u n hn, BitVec.getLsbD_ushiftRight]
/-! ===== own base rows ===== -/
theorem vw_b1 (i : Nat) : bt 1 i = decide (i = 0) := by
  rcases Nat.lt_or_ge i 32 with h | h
  · exact (by decide +kernel : ∀ i, i < 32 → bt 1 i = decide (i = 0)) i h
  · rw [b_big h, decide_eq_false (by omega)]
theorem vw_bit (x : Int32) {v : Nat} (hv : v < 32) : ((x.toUInt32 >>> ((nI v).toUInt32 &&& Int32.toUInt32 31)).toInt32 &&& 1) = (if bt x v = true then 1 else 0) := by
  apply b_ext
  intro i hi
  rw [b_and, b_ushr v hv, vw_b1]
  by_cases h0 : i = 0
  · subst h0
    rw [Nat.add_zero, decide_eq_true rfl, Bool.and_true]
    cases hb : bt x v
    · rw [if_neg (by decide)]; exact (b_0 0).symm
    · rw [if_pos rfl, vw_b1]; rfl
  · rw [decide_eq_false h0, Bool.and_false]
    cases hb : bt x v
    · rw [if_neg (by decide)]; exact (b_0 i).symm
    · rw [if_pos rfl, vw_b1, decide_eq_false h0]
theorem vw_bit0 {x : Int32} {v : Nat} (hv : v < 32) : ((x.toUInt32 >>> ((nI v).toUInt32 &&& Int32.toUInt32 31)).toInt32 &&& 1) = 0 ↔ ¬ bt x v = true := by
  rw [vw_bit x hv]
  cases bt x v
  · exact ⟨fun _ => by decide, fun _ => by rw [if_neg (by decide)]⟩
  · exact ⟨fun z => absurd z (by decide), fun z => absurd rfl z⟩
theorem vw_setb (x : Int32) {v i : Nat} (hv : v < 32) (hi : i < 32) : bt (x ||| ((1 : Int32) <<< (nI v &&& 31))) i = true ↔ (bt x i = true ∨ i = v) := by
  rw [b_or, b_shl v hv 1 hi, vw_b1, Bool.or_eq_true, Bool.and_eq_true, decide_eq_true_iff, decide_eq_true_iff]
  constructor
  · rintro (h | ⟨h1, h2⟩)
    · exact Or.inl h
    · exact Or.inr (by omega)
  · rintro (h | h)
    · exact Or.inl h
    · exact Or.inr ⟨by omega, by omega⟩
theorem vw_d4 {a : Nat} (h : a < 2 ^ 31) : nI a / 4 = nI (a / 4) := pk_div (d := 4) h (by decide) (by decide)
theorem vw_s2 {a : Nat} (h : a < 2 ^ 31) : nI a >>> ((2 : Int32) &&& 31) = nI (a / 4) := pk_shrN h _ 2 (by decide)
theorem vw_40 : ¬ (4 : Int32) = 0 := by decide
/-- a sum over the set P of stakes -/
def vw_sm (so : Nat → Int32) (P : Nat → Bool) : Nat → Int32
  | 0 => 0
  | v + 1 => vw_sm so P v + (if P v = true then so v else 0)
theorem vw_sm_congr {so : Nat → Int32} {P Q : Nat → Bool} : ∀ {N : Nat}, (∀ v, v < N → P v = Q v) → vw_sm so P N = vw_sm so Q N
  | 0, _ => rfl
  | N + 1, h => by
    have a := vw_sm_congr (so := so) (P := P) (Q := Q) (N := N) (fun v hv => h v (by omega))
    show vw_sm so P N + _ = vw_sm so Q N + _
    rw [a, h N (by omega)]
theorem vw_sm_none {so : Nat → Int32} {P : Nat → Bool} : ∀ {N : Nat}, (∀ v, v < N → ¬ P v = true) → vw_sm so P N = 0
  | 0, _ => rfl
  | N + 1, h => by
    have a := vw_sm_none (so := so) (P := P) (N := N) (fun v hv => h v (by omega))
    show vw_sm so P N + _ = 0
    rw [a, if_neg (h N (by omega))]; rfl
theorem vw_sm_y {so : Nat → Int32} {P : Nat → Bool} {N : Nat} (h : P N = true) : vw_sm so P (N + 1) = vw_sm so P N + so N := by
  show vw_sm so P N + (if P N = true then so N else 0) = _
  rw [if_pos h]
theorem vw_sm_n {so : Nat → Int32} {P : Nat → Bool} {N : Nat} (h : ¬ P N = true) : vw_sm so P (N + 1) = vw_sm so P N := by
  show vw_sm so P N + (if P N = true then so N else 0) = _
  rw [if_neg h, Int32.add_zero]
theorem vw_sm_take {so : Nat → Int32} {P : Nat → Bool} {a : Nat} (hp : P a = true) : ∀ {N : Nat}, a < N → vw_sm so P N = vw_sm so (fun v => P v && decide (v ≠ a)) N + so a
  | 0, h => by omega
  | N + 1, h => by
    rcases Nat.lt_or_ge a N with z | z
    · have e : (P N && decide (N ≠ a)) = P N := by rw [decide_eq_true (by omega), Bool.and_true]
      have g := vw_sm_take (so := so) hp z
      by_cases b : P N = true
      · rw [vw_sm_y b, vw_sm_y (P := fun v => P v && decide (v ≠ a)) (e.trans b), g, Int32.add_assoc, Int32.add_assoc, Int32.add_comm (so a)]
      · rw [vw_sm_n b, vw_sm_n (P := fun v => P v && decide (v ≠ a)) (fun y => b (e.symm.trans y)), g]
    · have e : a = N := by omega
      subst e
      have c : vw_sm so P a = vw_sm so (fun v => P v && decide (v ≠ a)) a := vw_sm_congr (fun v hv => by rw [decide_eq_true (by omega), Bool.and_true])
      have d : (P a && decide (a ≠ a)) = false := by rw [decide_eq_false (fun z => z rfl), Bool.and_false]
      rw [vw_sm_y hp, vw_sm_n (P := fun v => P v && decide (v ≠ a)) (fun y => absurd (d.symm.trans y) (by decide)), c]
/-- more than two thirds -/
def vw_sup (so : Nat → Int32) (a : Int32) : Prop := ¬ 3 * a ≤ 2 * vw_sm so (fun _ => true) 8
theorem vw_sm_255 {so : Nat → Int32} : vw_sm so (bt 255) 8 = vw_sm so (fun _ => true) 8 := vw_sm_congr (fun v hv => by rw [b_255, decide_eq_true hv])
/-- the three verdicts in one number -/
def vw_ans (A B C : Prop) (r : Int32) : Prop := ∃ a b c : Nat, r = nI (a + b + c) ∧ (a = 1 ∧ A ∨ a = 0 ∧ ¬ A) ∧ (b = 2 ∧ B ∨ b = 0 ∧ ¬ B) ∧ (c = 4 ∧ C ∨ c = 0 ∧ ¬ C)
theorem vw_ans_un {A B C : Prop} {r q : Int32} (h : vw_ans A B C r) (g : vw_ans A B C q) : r = q := by
  obtain ⟨a, b, c, rfl, ha, hb, hc⟩ := h
  obtain ⟨x, y, z, rfl, hx, hy, hz⟩ := g
  have e1 : a = x := by
    rcases ha with ⟨e, p⟩ | ⟨e, p⟩ <;> rcases hx with ⟨f, q⟩ | ⟨f, q⟩ <;> first | omega | exact absurd p q | exact absurd q p
  have e2 : b = y := by
    rcases hb with ⟨e, p⟩ | ⟨e, p⟩ <;> rcases hy with ⟨f, q⟩ | ⟨f, q⟩ <;> first | omega | exact absurd p q | exact absurd q p
  have e3 : c = z := by
    rcases hc with ⟨e, p⟩ | ⟨e, p⟩ <;> rcases hz with ⟨f, q⟩ | ⟨f, q⟩ <;> first | omega | exact absurd p q | exact absurd q p
  rw [e1, e2, e3]
theorem vw_ans_if {A B C A' B' C' : Prop} (a : A ↔ A') (b : B ↔ B') (c : C ↔ C') {r : Int32} (h : vw_ans A B C r) : vw_ans A' B' C' r := by
  unfold vw_ans at h ⊢
  rw [← a, ← b, ← c]; exact h
theorem vw_ans_0 {A B C : Prop} {r : Int32} (h : vw_ans A B C r) : ¬ r = 0 ↔ (A ∨ B ∨ C) := by
  obtain ⟨a, b, c, rfl, ha, hb, hc⟩ := h
  have e : nI (a + b + c) = 0 ↔ a + b + c = 0 := nI_eq (b := 0) (by omega) (by omega)
  rw [e]
  constructor
  · intro z
    rcases ha with ⟨_, p⟩ | ⟨e1, _⟩
    · exact Or.inl p
    rcases hb with ⟨_, p⟩ | ⟨e2, _⟩
    · exact Or.inr (Or.inl p)
    rcases hc with ⟨_, p⟩ | ⟨e3, _⟩
    · exact Or.inr (Or.inr p)
    exact absurd (by omega) z
  · rintro (p | p | p) z
    · rcases ha with ⟨e1, _⟩ | ⟨_, q⟩
      · omega
      · exact q p
    · rcases hb with ⟨e1, _⟩ | ⟨_, q⟩
      · omega
      · exact q p
    · rcases hc with ⟨e1, _⟩ | ⟨_, q⟩
      · omega
      · exact q p
end
section
/-! ===== the component's walks ===== -/
section
variable {of he lk kn : Int32} {so la gb ti vc lf lt lv ju : Nat → Int32}
theorem vx_val1 {post : Int32 → Prop} {v : Nat} (hv : v < 8) (h : post 1) : wpX_isValidator post (nI v) :=
  br_f (nI_pos (by omega)) (br_f (nI_nlt (a := 7) (b := v) (by omega) (by omega)) h)
theorem vx_val0 {post : Int32 → Prop} {x : Int32} (hx : ¬ ∃ v, v < 8 ∧ x = nI v) (h : post 0) : wpX_isValidator post x := by
  by_cases h0 : x < 0
  · exact br_t h0 h
  · refine br_f h0 ?_
    obtain ⟨j, hj, rfl⟩ := nI_of h0
    have h8 : 8 ≤ j := by
      rcases Nat.lt_or_ge j 8 with z | z
      · exact absurd ⟨j, z, rfl⟩ hx
      · exact z
    exact br_t (nI_lt (a := 7) (by omega) hj) h
theorem vx_cp1 {post : Int32 → Prop} {c : Nat} (hc : c < 128) (h3 : c % 4 ≠ 3) (h : post 1) : wpX_isCheckpoint post (nI c) := by
  refine br_f (nI_pos (by omega)) (br_f (nI_nlt (a := 126) (by omega) (by omega)) (br_f ?_ h))
  have e : nI c &&& 3 = nI (c % 4) := pk_andN (by omega) 2 (by decide)
  rw [e]
  exact fun z => h3 ((nI_eq (a := c % 4) (b := 3) (by omega) (by omega)).mp z)
theorem vx_cp0 {post : Int32 → Prop} {x : Int32} (hx : ¬ ∃ c, c < 128 ∧ c % 4 ≠ 3 ∧ x = nI c) (h : post 0) : wpX_isCheckpoint post x := by
  by_cases h0 : x < 0
  · exact br_t h0 h
  · refine br_f h0 ?_
    obtain ⟨j, hj, rfl⟩ := nI_of h0
    rcases Nat.lt_or_ge j 127 with z | z
    · refine br_f (nI_nlt (a := 126) (by omega) (by omega)) (br_t ?_ h)
      have e : nI j &&& 3 = nI (j % 4) := pk_andN (by omega) 2 (by decide)
      rw [e]
      have e3 : j % 4 = 3 := by
        rcases Nat.decEq (j % 4) 3 with y | y
        · exact absurd ⟨j, by omega, y, rfl⟩ hx
        · exact y
      rw [e3]; rfl
    · exact br_t (nI_lt (a := 126) (by omega) hj) h
theorem vx_lof {post : Int32 → Prop} {x1 x2 : Int32} {m : Nat} (hm : m ≤ 64) (hk : ∀ k, k < m → lf k = x1 → lt k = x2 → post (nI k)) (hn : (∀ k, k < m → ¬ (lf k = x1 ∧ lt k = x2)) → post (-1)) : ∀ d k, k + d = m → (∀ j, j < k → ¬ (lf j = x1 ∧ lt j = x2)) → wX_linkOf_2 post x1 x2 of he (nI m) kn so la gb ti vc lf lt lv ju (d + 1) (nI k) := by
  intro d
  induction d with
  | zero =>
    intro k e h
    have e' : k = m := by omega
    subst e'
    exact br_t (nI_le (Nat.le_refl _) (by omega)) (hn h)
  | succ d ih =>
    intro k e h
    have hi : vp_in (nI k) 64 := vp_in_nI (by omega) (by omega)
    have ec : (nI k).toNatClampNeg = k := nI_clamp (by omega)
    by_cases h1 : lf k = x1
    · by_cases h2 : lt k = x2
      · exact br_f (nI_ge (by omega) (by omega)) ⟨hi, br_t (by rw [ec]; exact h1) ⟨hi, br_t (by rw [ec]; exact h2) (hk k (by omega) h1 h2)⟩⟩
      · exact br_f (nI_ge (by omega) (by omega)) ⟨hi, br_t (by rw [ec]; exact h1) ⟨hi, br_f (by rw [ec]; exact h2) (nm_r (nI_1 k) (ih (k + 1) (by omega) (lt_s h (fun z => h2 z.2))))⟩⟩
    · exact br_f (nI_ge (by omega) (by omega)) ⟨hi, br_f (by rw [ec]; exact h1) (nm_r (nI_1 k) (ih (k + 1) (by omega) (lt_s h (fun z => h1 z.1))))⟩
theorem vx_linkOf {post : Int32 → Prop} {x1 x2 : Int32} {m : Nat} (hm : m ≤ 64) (hk : ∀ k, k < m → lf k = x1 → lt k = x2 → post (nI k)) (hn : (∀ k, k < m → ¬ (lf k = x1 ∧ lt k = x2)) → post (-1)) : wpX_linkOf post (of, he, nI m, kn, so, la, gb, ti, vc, lf, lt, lv, ju) x1 x2 :=
  ⟨m + 1, vx_lof hm hk hn m 0 (by omega) lt_0⟩
theorem vx_ju45 {post : Int32 → Prop} {v f t a b : Nat} {A B : Prop} (hv : v < 8) (hf : f < 32) (ht : t < 32) (ha : a = 1 ∧ A ∨ a = 0 ∧ ¬ A) (hb : b = 2 ∧ B ∨ b = 0 ∧ ¬ B) (h : ∀ r, vw_ans A B (¬ gb (32 * v + f) ≤ nI t) r → post r) : wX_judge_45 post (nI f) (nI t) (nI (32 * v)) (nI b) (nI a) of he lk kn so la gb ti vc lf lt lv ju := by
  have e2 : nI (32 * v) + nI f = nI (32 * v + f) := nI_add _ _
  have c2 : (nI (32 * v + f)).toNatClampNeg = 32 * v + f := nI_clamp (by omega)
  have i2 : vp_in (nI (32 * v + f)) 256 := vp_in_nI (by omega) (by omega)
  unfold wX_judge_45
  rw [e2, c2]
  exact nm_r (e' := nI (a + b)) (nI_add a b) ⟨i2, br_c (fun hc => nm_r (e' := nI (a + b + 0)) (nI_add (a + b) 0) (h _ ⟨a, b, 0, rfl, ha, hb, Or.inr ⟨rfl, fun z => z hc⟩⟩)) (fun hc => nm_r (e' := nI (a + b + 4)) (nI_add (a + b) 4) (h _ ⟨a, b, 4, rfl, ha, hb, Or.inl ⟨rfl, hc⟩⟩))⟩
theorem vx_ju23 {post : Int32 → Prop} {v f t a : Nat} {A : Prop} (hv : v < 8) (hf : f < 32) (ht : t < 32) (ha : a = 1 ∧ A ∨ a = 0 ∧ ¬ A) (h : ∀ r, vw_ans A (¬ nI t ≤ la (32 * v + f)) (¬ gb (32 * v + f) ≤ nI t) r → post r) : wX_judge_23 post (nI f) (nI t) (nI (32 * v)) (nI a) of he lk kn so la gb ti vc lf lt lv ju := by
  have e2 : nI (32 * v) + nI f = nI (32 * v + f) := nI_add _ _
  have c2 : (nI (32 * v + f)).toNatClampNeg = 32 * v + f := nI_clamp (by omega)
  have i2 : vp_in (nI (32 * v + f)) 256 := vp_in_nI (by omega) (by omega)
  unfold wX_judge_23
  rw [e2, c2]
  exact ⟨i2, br_c (fun hc => vx_ju45 (b := 0) hv hf ht ha (Or.inr ⟨rfl, fun z => z hc⟩) h) (fun hc => vx_ju45 (b := 2) hv hf ht ha (Or.inl ⟨rfl, hc⟩) h)⟩
theorem vx_judge {post : Int32 → Prop} {v f t : Nat} (hv : v < 8) (hf : f < 32) (ht : t < 32) (h : ∀ r, vw_ans (¬ ti (32 * v + t) ≤ 0) (¬ nI t ≤ la (32 * v + f)) (¬ gb (32 * v + f) ≤ nI t) r → post r) : wpX_judge post (of, he, lk, kn, so, la, gb, ti, vc, lf, lt, lv, ju) (nI v) (nI f) (nI t) := by
  have e2 : nI (32 * v) + nI t = nI (32 * v + t) := nI_add _ _
  have c2 : (nI (32 * v + t)).toNatClampNeg = 32 * v + t := nI_clamp (by omega)
  have i2 : vp_in (nI (32 * v + t)) 256 := vp_in_nI (by omega) (by omega)
  unfold wpX_judge
  dsimp only
  refine nm_r (e' := nI (32 * v)) (pk_mul 32 v) ?_
  rw [e2, c2]
  exact ⟨i2, br_c (fun hc => vx_ju23 (a := 0) hv hf ht (Or.inr ⟨rfl, fun z => z hc⟩) h) (fun hc => vx_ju23 (a := 1) hv hf ht (Or.inl ⟨rfl, hc⟩) h)⟩
end
/-! ===== enter ===== -/
def vw_la (la : Nat → Int32) (v i t : Nat) : Nat → Int32 := fun j => if 32 * v ≤ j ∧ j < 32 * v + i then (if la j ≤ nI t then la j else nI t) else la j
def vw_gb (gb : Nat → Int32) (v a i t : Nat) : Nat → Int32 := fun j => if 32 * v + a ≤ j ∧ j < 32 * v + i then (if nI t ≤ gb j then gb j else nI t) else gb j
theorem vw_la_0 {la : Nat → Int32} {v t : Nat} : vw_la la v 0 t = la := funext fun j => if_neg (by omega)
theorem vw_la_at {la : Nat → Int32} {v i t : Nat} : vw_la la v i t (32 * v + i) = la (32 * v + i) := if_neg (by omega)
theorem vw_la_s {la : Nat → Int32} {v i t : Nat} {x : Int32} (hx : (if la (32 * v + i) ≤ nI t then la (32 * v + i) else nI t) = x) : upd (vw_la la v i t) (32 * v + i) x = vw_la la v (i + 1) t := by
  funext j
  unfold upd vw_la
  by_cases e : j = 32 * v + i
  · subst e
    rw [if_pos rfl, if_pos (by omega), hx]
  · rw [if_neg e]
    by_cases c : 32 * v ≤ j ∧ j < 32 * v + i
    · rw [if_pos c, if_pos (c := 32 * v ≤ j ∧ j < 32 * v + (i + 1)) (by omega)]
    · rw [if_neg c, if_neg (by omega)]
theorem vw_gb_0 {gb : Nat → Int32} {v a t : Nat} : vw_gb gb v a a t = gb := funext fun j => if_neg (by omega)
theorem vw_gb_at {gb : Nat → Int32} {v a i t : Nat} : vw_gb gb v a i t (32 * v + i) = gb (32 * v + i) := if_neg (by omega)
theorem vw_gb_s {gb : Nat → Int32} {v a i t : Nat} {x : Int32} (ha : a ≤ i) (hx : (if nI t ≤ gb (32 * v + i) then gb (32 * v + i) else nI t) = x) : upd (vw_gb gb v a i t) (32 * v + i) x = vw_gb gb v a (i + 1) t := by
  funext j
  unfold upd vw_gb
  by_cases e : j = 32 * v + i
  · subst e
    rw [if_pos rfl, if_pos (by omega), hx]
  · rw [if_neg e]
    by_cases c : 32 * v + a ≤ j ∧ j < 32 * v + i
    · rw [if_pos c, if_pos (c := 32 * v + a ≤ j ∧ j < 32 * v + (i + 1)) (by omega)]
    · rw [if_neg c, if_neg (by omega)]
section
variable {of he lk kn : Int32} {so la gb ti vc lf lt lv ju : Nat → Int32}
theorem vx_en77 {post : SX → Prop} {v t a : Nat} (hv : v < 8) (h : post (of, he, lk, kn, so, la, vw_gb gb v a 32 t, ti, vc, lf, lt, lv, ju)) : ∀ d i, a ≤ i → i + d = 32 → wX_enter_77 post (nI t) (nI (32 * v)) of he lk kn (d + 1) (nI i) so la (vw_gb gb v a i t) ti vc lf lt lv ju := by
  intro d
  induction d with
  | zero =>
    intro i _ e
    have e' : i = 32 := by omega
    subst e'
    exact br_t (nI_le (a := 32) (Nat.le_refl _) (by omega)) h
  | succ d ih =>
    intro i ha e
    have es : nI (32 * v) + nI i = nI (32 * v + i) := nI_add _ _
    have hi : vp_in (nI (32 * v) + nI i) 256 := by rw [es]; exact vp_in_nI (by omega) (by omega)
    have ec : (nI (32 * v) + nI i).toNatClampNeg = 32 * v + i := by rw [es]; exact nI_clamp (by omega)
    by_cases hc : nI t ≤ gb (32 * v + i)
    · exact br_f (nI_ge (b := 32) (by omega) (by omega)) ⟨hi, br_t (by rw [ec, vw_gb_at]; exact hc) ⟨hi, hi, nm_r (e' := vw_gb gb v a (i + 1) t) (by rw [ec, vw_gb_at]; exact vw_gb_s ha (if_pos hc)) (nm_r (nI_1 i) (ih (i + 1) (by omega) (by omega)))⟩⟩
    · exact br_f (nI_ge (b := 32) (by omega) (by omega)) ⟨hi, br_f (by rw [ec, vw_gb_at]; exact hc) ⟨hi, nm_r (e' := vw_gb gb v a (i + 1) t) (by rw [ec]; exact vw_gb_s ha (if_neg hc)) (nm_r (nI_1 i) (ih (i + 1) (by omega) (by omega)))⟩⟩
theorem vx_en22 {post : SX → Prop} {v f t : Nat} (hv : v < 8) (hf : f < 32) (h : post (of, he, lk, kn, so, vw_la la v f t, vw_gb gb v (f + 1) 32 t, ti, vc, lf, lt, lv, ju)) : ∀ d i, i + d = f → wX_enter_22 post (nI f) (nI t) (nI (32 * v)) of he lk kn (d + 1) (nI i) so (vw_la la v i t) gb ti vc lf lt lv ju := by
  intro d
  induction d with
  | zero =>
    intro i e
    have e' : i = f := by omega
    subst e'
    have g := vx_en77 (a := i + 1) hv h (31 - i) (i + 1) (by omega) (by omega)
    rw [vw_gb_0] at g
    exact br_t (nI_le (Nat.le_refl _) (by omega)) (nm_r (nI_1 i) ⟨_, g⟩)
  | succ d ih =>
    intro i e
    have es : nI (32 * v) + nI i = nI (32 * v + i) := nI_add _ _
    have hi : vp_in (nI (32 * v) + nI i) 256 := by rw [es]; exact vp_in_nI (by omega) (by omega)
    have ec : (nI (32 * v) + nI i).toNatClampNeg = 32 * v + i := by rw [es]; exact nI_clamp (by omega)
    by_cases hc : la (32 * v + i) ≤ nI t
    · exact br_f (nI_ge (by omega) (by omega)) ⟨hi, br_t (by rw [ec, vw_la_at]; exact hc) ⟨hi, hi, nm_r (e' := vw_la la v (i + 1) t) (by rw [ec, vw_la_at]; exact vw_la_s (if_pos hc)) (nm_r (nI_1 i) (ih (i + 1) (by omega)))⟩⟩
    · exact br_f (nI_ge (by omega) (by omega)) ⟨hi, br_f (by rw [ec, vw_la_at]; exact hc) ⟨hi, nm_r (e' := vw_la la v (i + 1) t) (by rw [ec]; exact vw_la_s (if_neg hc)) (nm_r (nI_1 i) (ih (i + 1) (by omega)))⟩⟩
theorem vx_enter {post : SX → Prop} {v f t : Nat} (hv : v < 8) (hf : f < 32) (ht : t < 32) (h : post (of, he, lk, kn, so, vw_la la v f t, vw_gb gb v (f + 1) 32 t, upd ti (32 * v + t) (ti (32 * v + t) + 1), vc, lf, lt, lv, ju)) : wpX_enter post (of, he, lk, kn, so, la, gb, ti, vc, lf, lt, lv, ju) (nI v) (nI f) (nI t) := by
  have e2 : nI (32 * v) + nI t = nI (32 * v + t) := nI_add _ _
  have c2 : (nI (32 * v + t)).toNatClampNeg = 32 * v + t := nI_clamp (by omega)
  have i2 : vp_in (nI (32 * v + t)) 256 := vp_in_nI (by omega) (by omega)
  unfold wpX_enter
  dsimp only
  refine nm_r (e' := nI (32 * v)) (pk_mul 32 v) ?_
  rw [e2, c2]
  have g := vx_en22 (la := la) hv hf h f 0 (by omega)
  rw [vw_la_0] at g
  exact ⟨i2, i2, nm_e ⟨_, g⟩⟩
end
end
section
/-! ===== openLink: a place is opened, what lies behind moves up ===== -/
def vw_sh (f : Nat → Int32) (m p : Nat) : Nat → Int32 := fun j => if p < j ∧ j ≤ m then f (j - 1) else f j
theorem vw_sh_m {f : Nat → Int32} {m : Nat} : vw_sh f m m = f := funext fun j => if_neg (by omega)
theorem vw_sh_at {f : Nat → Int32} {m k : Nat} : vw_sh f m (k + 1) k = f k := if_neg (by omega)
theorem vw_sh_s {f : Nat → Int32} {m k : Nat} (hk : k < m) : upd (vw_sh f m (k + 1)) (k + 1) (f k) = vw_sh f m k := by
  funext j
  unfold upd vw_sh
  by_cases e : j = k + 1
  · subst e
    rw [if_pos rfl, if_pos (by omega)]; rfl
  · rw [if_neg e]
    by_cases c : k + 1 < j ∧ j ≤ m
    · rw [if_pos c, if_pos (by omega)]
    · rw [if_neg c, if_neg (by omega)]
section
variable {of he lk kn : Int32} {so la gb ti vc lf lt lv ju : Nat → Int32}
theorem vx_olb {post : Int32 → SX → Prop} {x1 x2 : Int32} {m p : Nat} (hm : m < 64) (hp : p ≤ m) (h : post (nI p) (of, he, nI (m + 1), kn, so, la, gb, ti, vc, upd (vw_sh lf m p) p x1, upd (vw_sh lt m p) p x2, upd (vw_sh lv m p) p 0, ju)) : ∀ k, (k = 0 ∨ k < p) → wX_openLink_11 post x1 x2 of he (nI m) kn (k + 1) (nI p) (nI k) so la gb ti vc (vw_sh lf m p) (vw_sh lt m p) (vw_sh lv m p) ju := by
  intro k
  induction k with
  | zero =>
    intro _
    have hi : vp_in (nI p) 64 := vp_in_nI (by omega) (by omega)
    have ec : (nI p).toNatClampNeg = p := nI_clamp (by omega)
    exact br_t (nI_le (b := 0) (Nat.le_refl _) (by omega)) ⟨hi, nm_r (e' := upd (vw_sh lf m p) p x1) (by rw [ec]) ⟨hi, nm_r (e' := upd (vw_sh lt m p) p x2) (by rw [ec]) ⟨hi, nm_r (e' := upd (vw_sh lv m p) p 0) (by rw [ec]) (nm_r (nI_1 m) h)⟩⟩⟩
  | succ k ih =>
    intro hk
    have hn : ¬ nI p = nI (k + 1) := fun z => by
      have := (nI_eq (by omega) (by omega)).mp z
      omega
    exact br_f (nI_nle (by omega) (by omega)) (br_f hn (nm_r (pk_m1 k) (ih (by omega))))
theorem vx_ola {post : Int32 → SX → Prop} {x1 x2 : Int32} {m : Nat} (hm : m < 64) (h : ∀ p, p ≤ m → (∀ j, p ≤ j → j < m → ¬ lt j ≤ x2) → (∀ j, j + 1 = p → lt j ≤ x2) → post (nI p) (of, he, nI (m + 1), kn, so, la, gb, ti, vc, upd (vw_sh lf m p) p x1, upd (vw_sh lt m p) p x2, upd (vw_sh lv m p) p 0, ju)) : ∀ k, k ≤ m → (∀ j, k ≤ j → j < m → ¬ lt j ≤ x2) → wX_openLink_11 post x1 x2 of he (nI m) kn (k + 1) (nI k) (nI k) so la gb ti vc (vw_sh lf m k) (vw_sh lt m k) (vw_sh lv m k) ju := by
  intro k
  induction k with
  | zero =>
    intro hk hj
    exact vx_olb hm hk (h 0 hk hj (fun j e => by omega)) 0 (Or.inl rfl)
  | succ k ih =>
    intro hk hj
    have ep : nI (k + 1) - 1 = nI k := nI_pred k
    have i1 : vp_in (nI (k + 1) - 1) 64 := by rw [ep]; exact vp_in_nI (by omega) (by omega)
    have i2 : vp_in (nI (k + 1)) 64 := vp_in_nI (by omega) (by omega)
    have c1 : (nI (k + 1) - 1).toNatClampNeg = k := by rw [ep]; exact nI_clamp (by omega)
    have c2 : (nI (k + 1)).toNatClampNeg = k + 1 := nI_clamp (by omega)
    by_cases hc : lt k ≤ x2
    · have hl : ∀ j, j + 1 = k + 1 → lt j ≤ x2 := by
        intro j e
        have e' : j = k := by omega
        rw [e']
        exact hc
      have g := vx_olb (of := of) (he := he) (kn := kn) (so := so) (la := la) (gb := gb) (ti := ti) (vc := vc) (ju := ju) hm hk (h (k + 1) hk hj hl) k (Or.inr (by omega))
      exact br_f (nI_nle (by omega) (by omega)) (br_t rfl ⟨i1, br_t (by rw [c1, vw_sh_at]; exact hc) (nm_r (pk_m1 k) g)⟩)
    · have g := ih (by omega) (fun j h1 h2 => by
        rcases Nat.lt_or_ge k j with z | z
        · exact hj j z h2
        · have e' : j = k := by omega
          rw [e']; exact hc)
      exact br_f (nI_nle (by omega) (by omega)) (br_t rfl ⟨i1, br_f (by rw [c1, vw_sh_at]; exact hc) ⟨i1, i2, nm_r (e' := vw_sh lf m k) (by rw [c1, c2, vw_sh_at]; exact vw_sh_s (by omega)) ⟨i1, i2, nm_r (e' := vw_sh lt m k) (by rw [c1, c2, vw_sh_at]; exact vw_sh_s (by omega)) ⟨i1, i2, nm_r (e' := vw_sh lv m k) (by rw [c1, c2, vw_sh_at]; exact vw_sh_s (by omega)) (nm_r (nI_pred k) (nm_r (pk_m1 k) g))⟩⟩⟩⟩)
theorem vx_openLink {post : Int32 → SX → Prop} {x1 x2 : Int32} {m : Nat} (hm : m < 64) (h : ∀ p, p ≤ m → (∀ j, p ≤ j → j < m → ¬ lt j ≤ x2) → (∀ j, j + 1 = p → lt j ≤ x2) → post (nI p) (of, he, nI (m + 1), kn, so, la, gb, ti, vc, upd (vw_sh lf m p) p x1, upd (vw_sh lt m p) p x2, upd (vw_sh lv m p) p 0, ju)) : wpX_openLink post (of, he, nI m, kn, so, la, gb, ti, vc, lf, lt, lv, ju) x1 x2 := by
  have g := vx_ola (of := of) (he := he) (kn := kn) (so := so) (la := la) (gb := gb) (ti := ti) (vc := vc) (ju := ju) hm h m (Nat.le_refl _) (fun j h1 h2 => by omega)
  rw [vw_sh_m, vw_sh_m, vw_sh_m] at g
  exact ⟨_, g⟩
/-! ===== vote, behind the judgement ===== -/
theorem vx_v137 {post : Int32 → SX → Prop} {v k n : Nat} {r : Int32} (hv : v < 8) (hk : k < 64) (h : post r (of, nI (n + 1), lk, 0, so, la, gb, ti, upd vc v (vc v + 1), lf, lt, upd lv k (lv k ||| ((1 : Int32) <<< (nI v &&& 31))), ju)) : wX_vote_137 post (nI v) (nI k) r of (nI n) lk kn so la gb ti vc lf lt lv ju := by
  have i1 : vp_in (nI k) 64 := vp_in_nI (by omega) (by omega)
  have c1 : (nI k).toNatClampNeg = k := nI_clamp (by omega)
  have i2 : vp_in (nI v) 8 := vp_in_nI (by omega) (by omega)
  have c2 : (nI v).toNatClampNeg = v := nI_clamp (by omega)
  unfold wX_vote_137
  rw [c1, c2]
  exact ⟨i1, i1, nm_e (nm_r (nI_1 n) ⟨i2, i2, nm_e h⟩)⟩
theorem vx_v113a {post : Int32 → SX → Prop} {v p q k n : Nat} {r : Int32} (hv : v < 8) (hp : p < 128) (hq : q < 128) (hk : k < 64) (h : post r (of, nI (n + 1), lk, 0, so, vw_la la v (p / 4) (q / 4), vw_gb gb v (p / 4 + 1) 32 (q / 4), upd ti (32 * v + q / 4) (ti (32 * v + q / 4) + 1), upd vc v (vc v + 1), lf, lt, upd lv k (lv k ||| ((1 : Int32) <<< (nI v &&& 31))), ju)) : wX_vote_113 post (nI v) (nI p) (nI q) (nI k) r of (nI n) lk kn so la gb ti vc lf lt lv ju := by
  unfold wX_vote_113
  rw [vw_s2 (by omega), vw_s2 (by omega)]
  exact vx_enter hv (by omega) (by omega) (br_t (nI_pos' (by omega)) (vx_v137 hv hk h))
theorem vx_v113b {post : Int32 → SX → Prop} {v p q n m : Nat} {r : Int32} (hv : v < 8) (hp : p < 128) (hq : q < 128) (hm : m < 64) (h : ∀ a, a ≤ m → (∀ j, a ≤ j → j < m → ¬ lt j ≤ nI q) → (∀ j, j + 1 = a → lt j ≤ nI q) → post r (of, nI (n + 1), nI (m + 1), 0, so, vw_la la v (p / 4) (q / 4), vw_gb gb v (p / 4 + 1) 32 (q / 4), upd ti (32 * v + q / 4) (ti (32 * v + q / 4) + 1), upd vc v (vc v + 1), upd (vw_sh lf m a) a (nI p), upd (vw_sh lt m a) a (nI q), upd (upd (vw_sh lv m a) a 0) a (upd (vw_sh lv m a) a 0 a ||| ((1 : Int32) <<< (nI v &&& 31))), ju)) : wX_vote_113 post (nI v) (nI p) (nI q) (-1) r of (nI n) (nI m) kn so la gb ti vc lf lt lv ju := by
  unfold wX_vote_113
  rw [vw_s2 (by omega), vw_s2 (by omega)]
  exact vx_enter hv (by omega) (by omega) (br_f (by decide) (vx_openLink hm (fun a h1 h2 h3 => vx_v137 hv (by omega) (h a h1 h2 h3))))
/-! ===== stakes ===== -/
theorem vx_stk {post : Int32 → Prop} {x1 : Int32} (h : post (vw_sm so (bt x1) 8)) : ∀ d v, v + d = 8 → wX_stakes_4 post x1 of he lk kn so la gb ti vc lf lt lv ju (d + 1) (vw_sm so (bt x1) v) (nI v) := by
  intro d
  induction d with
  | zero =>
    intro v e
    have e' : v = 8 := by omega
    subst e'
    exact br_t (nI_le (a := 8) (Nat.le_refl _) (by omega)) h
  | succ d ih =>
    intro v e
    have hi : vp_in (nI v) 8 := vp_in_nI (by omega) (by omega)
    have ec : (nI v).toNatClampNeg = v := nI_clamp (by omega)
    have es : vw_sm so (bt x1) (v + 1) = vw_sm so (bt x1) v + (if bt x1 v = true then so v else 0) := rfl
    by_cases hb : bt x1 v = true
    · exact br_f (nI_ge (b := 8) (by omega) (by omega)) (br_f (fun z => (vw_bit0 (by omega)).mp z hb) ⟨hi, nm_r (e' := vw_sm so (bt x1) (v + 1)) (by rw [ec, es, if_pos hb]) (nm_r (nI_1 v) (ih (v + 1) (by omega)))⟩)
    · exact br_f (nI_ge (b := 8) (by omega) (by omega)) (br_t ((vw_bit0 (by omega)).mpr hb) (nm_r (e' := vw_sm so (bt x1) (v + 1)) (by rw [es, if_neg hb]) (nm_r (nI_1 v) (ih (v + 1) (by omega)))))
theorem vx_stakes {post : Int32 → Prop} {x1 : Int32} (h : post (vw_sm so (bt x1) 8)) : wpX_stakes post (of, he, lk, kn, so, la, gb, ti, vc, lf, lt, lv, ju) x1 :=
  ⟨8 + 1, vx_stk h 8 0 (by omega)⟩
theorem vx_isSup {post : Int32 → Prop} {k : Nat} (hk : k < 64) (h1 : vw_sup so (vw_sm so (bt (lv k)) 8) → post 1) (h0 : ¬ vw_sup so (vw_sm so (bt (lv k)) 8) → post 0) : wpX_isSupported post (of, he, lk, kn, so, la, gb, ti, vc, lf, lt, lv, ju) (nI k) := by
  have i1 : vp_in (nI k) 64 := vp_in_nI (by omega) (by omega)
  have c1 : (nI k).toNatClampNeg = k := nI_clamp (by omega)
  unfold wpX_isSupported
  dsimp only
  rw [c1]
  refine vx_stakes ⟨i1, vx_stakes ?_⟩
  rw [vw_sm_255]
  exact br_c (fun z => h0 (fun y => y z)) h1
/-! ===== justifyAll ===== -/
end
def vw_fill (ju : Nat → Int32) (c : Nat) : Nat → Int32 := fun j => if j < c then (if j = 0 then 1 else 0) else ju j
theorem vw_fill_0 {ju : Nat → Int32} : vw_fill ju 0 = ju := funext fun j => if_neg (by omega)
theorem vw_fill_s {ju : Nat → Int32} {c : Nat} {x : Int32} (hx : (if c = 0 then 1 else 0) = x) : upd (vw_fill ju c) c x = vw_fill ju (c + 1) := by
  funext j
  unfold upd vw_fill
  by_cases e : j = c
  · subst e
    rw [if_pos rfl, if_pos (by omega), hx]
  · rw [if_neg e]
    by_cases g : j < c
    · rw [if_pos g, if_pos (c := j < c + 1) (by omega)]
    · rw [if_neg g, if_neg (by omega)]
theorem vw_fill_z {ju : Nat → Int32} {c : Nat} (hc : c < 128) : ¬ vw_fill ju 128 c = 0 ↔ c = 0 := by
  have e : vw_fill ju 128 c = if c = 0 then 1 else 0 := if_pos hc
  rw [e]
  by_cases g : c = 0
  · rw [if_pos g]; exact ⟨fun _ => g, fun _ => by decide⟩
  · rw [if_neg g]; exact ⟨fun z => absurd rfl z, fun z => absurd z g⟩
/-- what the component's array holds when the links below k have been seen -/
def vw_Jq (k : Nat) (F G : Nat → Nat) (U : Nat → Prop) (ju : Nat → Int32) : Prop := ∀ c, c < 128 → (¬ ju c = 0 ↔ (c = 0 ∨ ∃ j, j < k ∧ G j = c ∧ ¬ ju (F j) = 0 ∧ U j))
def vw_K (so lv : Nat → Int32) (F G : Nat → Nat) (k : Nat) (ju : Nat → Int32) : Prop := vw_Jq k F G (fun j => vw_sup so (vw_sm so (bt (lv j)) 8)) ju
theorem vw_K_0 {so lv : Nat → Int32} {F G : Nat → Nat} {ju : Nat → Int32} : vw_K so lv F G 0 (vw_fill ju 128) := by
  intro c hc
  rw [vw_fill_z hc]
  exact ⟨fun z => Or.inl z, fun z => z.elim id (fun ⟨j, hj, _⟩ => absurd hj (Nat.not_lt_zero j))⟩
theorem vw_K_n {so lv : Nat → Int32} {F G : Nat → Nat} {k : Nat} {ju : Nat → Int32} (h : vw_K so lv F G k ju) (hn : ¬ (¬ ju (F k) = 0 ∧ vw_sup so (vw_sm so (bt (lv k)) 8))) : vw_K so lv F G (k + 1) ju := by
  intro c hc
  rw [h c hc]
  constructor
  · rintro (z | ⟨j, hj, g⟩)
    · exact Or.inl z
    · exact Or.inr ⟨j, by omega, g⟩
  · rintro (z | ⟨j, hj, g1, g2, g3⟩)
    · exact Or.inl z
    · rcases Nat.lt_or_ge j k with y | y
      · exact Or.inr ⟨j, y, g1, g2, g3⟩
      · have e : j = k := by omega
        rw [e] at g2 g3
        exact absurd ⟨g2, g3⟩ hn
theorem vw_K_y {so lv : Nat → Int32} {F G : Nat → Nat} {k : Nat} {ju : Nat → Int32} (hs : ∀ j, j ≤ k → F j < G k) (h : vw_K so lv F G k ju) (h1 : ¬ ju (F k) = 0) (h2 : vw_sup so (vw_sm so (bt (lv k)) 8)) : vw_K so lv F G (k + 1) (upd ju (G k) 1) := by
  intro c hc
  have hF : ∀ j, j ≤ k → upd ju (G k) 1 (F j) = ju (F j) := fun j hj => pk_un (by have := hs j hj; omega)
  by_cases e : c = G k
  · subst e
    rw [pk_us]
    exact ⟨fun _ => Or.inr ⟨k, by omega, rfl, by rw [hF k (Nat.le_refl _)]; exact h1, h2⟩, fun _ => by decide⟩
  · rw [pk_un e, h c hc]
    constructor
    · rintro (z | ⟨j, hj, g1, g2, g3⟩)
      · exact Or.inl z
      · exact Or.inr ⟨j, by omega, g1, by rw [hF j (by omega)]; exact g2, g3⟩
    · rintro (z | ⟨j, hj, g1, g2, g3⟩)
      · exact Or.inl z
      · rcases Nat.lt_or_ge j k with y | y
        · exact Or.inr ⟨j, y, g1, by rw [hF j (by omega)] at g2; exact g2, g3⟩
        · have e' : j = k := by omega
          rw [e'] at g1
          exact absurd g1.symm e
section
variable {of he lk kn : Int32} {so la gb ti vc lf lt lv ju : Nat → Int32}
theorem vx_ja45 {post : SX → Prop} {m : Nat} {F G : Nat → Nat} (hm : m ≤ 64) (hl : ∀ k, k < m → lf k = nI (F k) ∧ lt k = nI (G k) ∧ F k < G k ∧ G k < 128) (hs : ∀ j k, j ≤ k → k < m → G j ≤ G k) (h : ∀ ju', vw_K so lv F G m ju' → post (of, he, nI m, kn, so, la, gb, ti, vc, lf, lt, lv, ju')) : ∀ d k, k + d = m → ∀ ju, vw_K so lv F G k ju → wX_justifyAll_45 post of he (nI m) kn (d + 1) (nI k) so la gb ti vc lf lt lv ju := by
  intro d
  induction d with
  | zero =>
    intro k e ju hK
    have e' : k = m := by omega
    subst e'
    exact br_t (nI_le (Nat.le_refl _) (by omega)) (h ju hK)
  | succ d ih =>
    intro k e ju hK
    obtain ⟨l1, l2, l3, l4⟩ := hl k (by omega)
    have hi : vp_in (nI k) 64 := vp_in_nI (by omega) (by omega)
    have ec : (nI k).toNatClampNeg = k := nI_clamp (by omega)
    have j1 : vp_in (lf (nI k).toNatClampNeg) 128 := by rw [ec, l1]; exact vp_in_nI (by omega) (by omega)
    have c1 : (lf (nI k).toNatClampNeg).toNatClampNeg = F k := by rw [ec, l1]; exact nI_clamp (by omega)
    have j2 : vp_in (lt (nI k).toNatClampNeg) 128 := by rw [ec, l2]; exact vp_in_nI (by omega) (by omega)
    have c2 : (lt (nI k).toNatClampNeg).toNatClampNeg = G k := by rw [ec, l2]; exact nI_clamp (by omega)
    refine br_f (nI_ge (by omega) (by omega)) ⟨hi, j1, ?_⟩
    by_cases hz : ju (F k) = 0
    · exact br_t (by rw [c1]; exact hz) (nm_r (nI_1 k) (ih (k + 1) (by omega) ju (vw_K_n hK (fun z => z.1 hz))))
    · refine br_f (by rw [c1]; exact hz) (vx_isSup (by omega) (fun hy => ?_) (fun hn => ?_))
      · exact br_f (by decide) ⟨hi, j2, nm_r (e' := upd ju (G k) 1) (by rw [c2]; rfl) (nm_r (nI_1 k) (ih (k + 1) (by omega) _ (vw_K_y (fun j hj => by
          have a := (hl j (by omega)).2.2.1
          have b := hs j k hj (by omega)
          omega) hK hz hy)))⟩
      · exact br_t rfl (nm_r (nI_1 k) (ih (k + 1) (by omega) ju (vw_K_n hK (fun z => hn z.2))))
theorem vx_ja15 {post : SX → Prop} (h : ∃ n, wX_justifyAll_45 post of he lk kn n 0 so la gb ti vc lf lt lv (vw_fill ju 128)) : ∀ d c, c + d = 128 → wX_justifyAll_15 post of he lk kn (d + 1) (nI c) so la gb ti vc lf lt lv (vw_fill ju c) := by
  intro d
  induction d with
  | zero =>
    intro c e
    have e' : c = 128 := by omega
    subst e'
    exact br_t (nI_le (a := 128) (Nat.le_refl _) (by omega)) h
  | succ d ih =>
    intro c e
    have hi : vp_in (nI c) 128 := vp_in_nI (by omega) (by omega)
    have ec : (nI c).toNatClampNeg = c := nI_clamp (by omega)
    refine br_f (nI_ge (b := 128) (by omega) (by omega)) (pk_eq c 0 (fun z => ?_) (fun z => ?_))
    · exact ⟨hi, nm_r (e' := vw_fill ju (c + 1)) (by rw [ec]; exact vw_fill_s (if_pos z)) (nm_r (nI_1 c) (ih (c + 1) (by omega)))⟩
    · exact ⟨hi, nm_r (e' := vw_fill ju (c + 1)) (by rw [ec]; exact vw_fill_s (if_neg z)) (nm_r (nI_1 c) (ih (c + 1) (by omega)))⟩
theorem vx_justifyAll {post : SX → Prop} {m : Nat} {F G : Nat → Nat} (hm : m ≤ 64) (hl : ∀ k, k < m → lf k = nI (F k) ∧ lt k = nI (G k) ∧ F k < G k ∧ G k < 128) (hs : ∀ j k, j ≤ k → k < m → G j ≤ G k) (hk : ¬ kn = 0 → vw_K so lv F G m ju) (h : ∀ kn' ju', ¬ kn' = 0 → vw_K so lv F G m ju' → post (of, he, nI m, kn', so, la, gb, ti, vc, lf, lt, lv, ju')) : wpX_justifyAll post (of, he, nI m, kn, so, la, gb, ti, vc, lf, lt, lv, ju) := by
  unfold wpX_justifyAll
  dsimp only
  by_cases hz : kn = 0
  · have g := vx_ja15 (ju := ju) ⟨_, vx_ja45 (kn := 1) hm hl hs (fun ju' hK => h 1 ju' (by decide) hK) m 0 (by omega) _ vw_K_0⟩ 128 0 (by omega)
    rw [vw_fill_0] at g
    exact br_t hz ⟨_, g⟩
  · exact br_f hz (h kn ju hz (hk hz))
/-! ===== isFinal, highest, justifiedIn: the loops ===== -/
theorem vx_fin {post : Int32 → SX → Prop} {m c : Nat} {F G : Nat → Nat} (hm : m ≤ 64) (hc : c < 128) (hl : ∀ k, k < m → lf k = nI (F k) ∧ lt k = nI (G k) ∧ F k < G k ∧ G k < 128) (h1 : (∃ k, k < m ∧ F k = c ∧ G k / 4 = c / 4 + 1 ∧ vw_sup so (vw_sm so (bt (lv k)) 8)) → post 1 (of, he, nI m, kn, so, la, gb, ti, vc, lf, lt, lv, ju)) (h0 : (¬ ∃ k, k < m ∧ F k = c ∧ G k / 4 = c / 4 + 1 ∧ vw_sup so (vw_sm so (bt (lv k)) 8)) → post 0 (of, he, nI m, kn, so, la, gb, ti, vc, lf, lt, lv, ju)) : ∀ d k, k + d = m → (∀ j, j < k → ¬ (F j = c ∧ G j / 4 = c / 4 + 1 ∧ vw_sup so (vw_sm so (bt (lv j)) 8))) → wX_isFinal_26 post (nI c) of he (nI m) kn so la gb ti vc lf lt lv ju (d + 1) (nI k) := by
  intro d
  induction d with
  | zero =>
    intro k e hn
    have e' : k = m := by omega
    subst e'
    exact br_t (nI_le (Nat.le_refl _) (by omega)) (h0 (fun ⟨j, hj, g⟩ => hn j hj g))
  | succ d ih =>
    intro k e hn
    obtain ⟨l1, l2, l3, l4⟩ := hl k (by omega)
    have hi : vp_in (nI k) 64 := vp_in_nI (by omega) (by omega)
    have ec : (nI k).toNatClampNeg = k := nI_clamp (by omega)
    refine br_f (nI_ge (by omega) (by omega)) ⟨hi, pk_eq (F k) c (fun e1 => ⟨hi, pk_eq (G k / 4) (c / 4 + 1) (fun e2 => ?_) (fun e2 => ?_) (by rw [ec, l2]; exact vw_s2 (by omega)) (by rw [vw_s2 (by omega)]; exact nI_1 _)⟩) (fun e1 => ?_) (by rw [ec]; exact l1)⟩
    · refine br_f (by decide) (vx_isSup (by omega) (fun hy => ?_) (fun hz => ?_))
      · exact br_f (by decide) (h1 ⟨k, by omega, e1, e2, hy⟩)
      · exact br_t rfl (nm_r (nI_1 k) (ih (k + 1) (by omega) (lt_s hn (fun z => hz z.2.2))))
    · exact br_t rfl (nm_r (nI_1 k) (ih (k + 1) (by omega) (lt_s hn (fun z => e2 z.2.1))))
    · exact br_t rfl (nm_r (nI_1 k) (ih (k + 1) (by omega) (lt_s hn (fun z => e1 z.1))))
end
/-- the highest place below c where ju holds -/
def vw_hi (ju : Nat → Int32) : Nat → Int32
  | 0 => 0
  | c + 1 => if ju c = 0 then vw_hi ju c else nI c
/-- how many of the first b places of epoch e -/
def vw_ct (ju : Nat → Int32) (e : Nat) : Nat → Int32
  | 0 => 0
  | b + 1 => vw_ct ju e b + (if ju (4 * e + b) = 0 then 0 else 1)
theorem vw_hi_congr {ju jy : Nat → Int32} : ∀ {N : Nat}, (∀ c, c < N → (ju c = 0 ↔ jy c = 0)) → vw_hi ju N = vw_hi jy N
  | 0, _ => rfl
  | N + 1, h => by
    have a := vw_hi_congr (ju := ju) (jy := jy) (N := N) (fun c hc => h c (by omega))
    show (if ju N = 0 then vw_hi ju N else nI N) = (if jy N = 0 then vw_hi jy N else nI N)
    rw [a]
    by_cases z : ju N = 0
    · rw [if_pos z, if_pos ((h N (by omega)).mp z)]
    · rw [if_neg z, if_neg (fun y => z ((h N (by omega)).mpr y))]
theorem vw_ct_congr {ju jy : Nat → Int32} {e : Nat} : ∀ {N : Nat}, (∀ c, c < 4 * e + N → (ju c = 0 ↔ jy c = 0)) → vw_ct ju e N = vw_ct jy e N
  | 0, _ => rfl
  | N + 1, h => by
    have a := vw_ct_congr (ju := ju) (jy := jy) (e := e) (N := N) (fun c hc => h c (by omega))
    show vw_ct ju e N + (if ju (4 * e + N) = 0 then 0 else 1) = vw_ct jy e N + (if jy (4 * e + N) = 0 then 0 else 1)
    rw [a]
    by_cases z : ju (4 * e + N) = 0
    · rw [if_pos z, if_pos ((h _ (by omega)).mp z)]
    · rw [if_neg z, if_neg (fun y => z ((h _ (by omega)).mpr y))]
section
variable {of he lk kn : Int32} {so la gb ti vc lf lt lv ju : Nat → Int32}
theorem vx_hi {post : Int32 → SX → Prop} (h : post (vw_hi ju 128) (of, he, lk, kn, so, la, gb, ti, vc, lf, lt, lv, ju)) : ∀ d c, c + d = 128 → wX_highest_8 post of he lk kn so la gb ti vc lf lt lv ju (d + 1) (vw_hi ju c) (nI c) := by
  intro d
  induction d with
  | zero =>
    intro c e
    have e' : c = 128 := by omega
    subst e'
    exact br_t (nI_le (a := 128) (Nat.le_refl _) (by omega)) h
  | succ d ih =>
    intro c e
    have hi : vp_in (nI c) 128 := vp_in_nI (by omega) (by omega)
    have ec : (nI c).toNatClampNeg = c := nI_clamp (by omega)
    have g := ih (c + 1) (by omega)
    have es : vw_hi ju (c + 1) = if ju c = 0 then vw_hi ju c else nI c := rfl
    by_cases z : ju c = 0
    · rw [es, if_pos z] at g
      exact br_f (nI_ge (b := 128) (by omega) (by omega)) ⟨hi, br_t (by rw [ec]; exact z) (nm_r (nI_1 c) g)⟩
    · rw [es, if_neg z] at g
      exact br_f (nI_ge (b := 128) (by omega) (by omega)) ⟨hi, br_f (by rw [ec]; exact z) (nm_r (nI_1 c) g)⟩
theorem vx_ct {post : Int32 → SX → Prop} {a : Nat} (ha : a < 32) (h : post (vw_ct ju a 3) (of, he, lk, kn, so, la, gb, ti, vc, lf, lt, lv, ju)) : ∀ d b, b + d = 3 → wX_justifiedIn_22 post (nI a) of he lk kn so la gb ti vc lf lt lv ju (d + 1) (vw_ct ju a b) (nI (4 * a + b)) := by
  intro d
  have e4 : (4 * nI a) + 3 = nI (4 * a + 3) := by
    have e1 : 4 * nI a = nI (4 * a) := pk_mul 4 a
    rw [e1]; exact nI_add _ 3
  induction d with
  | zero =>
    intro b e
    have e' : b = 3 := by omega
    subst e'
    exact br_t (by rw [e4]; exact nI_le (Nat.le_refl _) (by omega)) h
  | succ d ih =>
    intro b e
    have hi : vp_in (nI (4 * a + b)) 128 := vp_in_nI (by omega) (by omega)
    have ec : (nI (4 * a + b)).toNatClampNeg = 4 * a + b := nI_clamp (by omega)
    have es : vw_ct ju a (b + 1) = vw_ct ju a b + (if ju (4 * a + b) = 0 then 0 else 1) := rfl
    refine br_f (by rw [e4]; exact nI_ge (by omega) (by omega)) ⟨hi, ?_⟩
    by_cases z : ju (4 * a + b) = 0
    · exact br_t (by rw [ec]; exact z) (nm_r (e' := vw_ct ju a (b + 1)) (by rw [es, if_pos z]) (nm_r (nI_1 _) (ih (b + 1) (by omega))))
    · exact br_f (by rw [ec]; exact z) (nm_r (e' := vw_ct ju a (b + 1)) (by rw [es, if_neg z]) (nm_r (nI_1 _) (ih (b + 1) (by omega))))
end
end
section
/-! ===== the reference's walks ===== -/
/-- the votes as naturals -/
def vw_D (n : Nat) (W S T : Nat → Nat) (w s t : Nat → Int32) : Prop := ∀ i, i < n → w i = nI (W i) ∧ s i = nI (S i) ∧ t i = nI (T i) ∧ W i < 8 ∧ S i / 4 < T i / 4 ∧ T i < 128
def vw_Ex (n : Nat) (W S T : Nat → Nat) (Q : Nat → Nat → Nat → Prop) : Prop := ∃ i, i < n ∧ Q (W i) (S i) (T i)
theorem vw_Ex_0 {W S T : Nat → Nat} {Q : Nat → Nat → Nat → Prop} : ¬ vw_Ex 0 W S T Q := fun ⟨i, hi, _⟩ => Nat.not_lt_zero i hi
theorem vw_Ex_s {n : Nat} {W S T : Nat → Nat} {Q : Nat → Nat → Nat → Prop} : vw_Ex (n + 1) W S T Q ↔ (vw_Ex n W S T Q ∨ Q (W n) (S n) (T n)) := by
  constructor
  · rintro ⟨i, hi, h⟩
    rcases Nat.lt_or_ge i n with z | z
    · exact Or.inl ⟨i, z, h⟩
    · have e : i = n := by omega
      subst e
      exact Or.inr h
  · rintro (⟨i, hi, h⟩ | h)
    · exact ⟨i, by omega, h⟩
    · exact ⟨n, by omega, h⟩
def vw_QA (v y : Nat) : Nat → Nat → Nat → Prop := fun a _ c => a = v ∧ c / 4 = y
def vw_QB (v x y : Nat) : Nat → Nat → Nat → Prop := fun a b c => a = v ∧ x < b / 4 ∧ c / 4 < y
def vw_QC (v x y : Nat) : Nat → Nat → Nat → Prop := fun a b c => a = v ∧ b / 4 < x ∧ y < c / 4
theorem vw_ans1 {A B C D : Prop} {r : Int32} (h : vw_ans A B C r) (d : D) : vw_ans (A ∨ D) B C (r ||| 1) := by
  obtain ⟨a, b, c, rfl, ha, hb, hc⟩ := h
  refine ⟨1, b, c, ?_, Or.inl ⟨rfl, Or.inr d⟩, hb, hc⟩
  rcases ha with ⟨rfl, _⟩ | ⟨rfl, _⟩ <;> rcases hb with ⟨rfl, _⟩ | ⟨rfl, _⟩ <;> rcases hc with ⟨rfl, _⟩ | ⟨rfl, _⟩ <;> decide
theorem vw_ans2 {A B C D : Prop} {r : Int32} (h : vw_ans A B C r) (d : D) : vw_ans A (B ∨ D) C (r ||| 2) := by
  obtain ⟨a, b, c, rfl, ha, hb, hc⟩ := h
  refine ⟨a, 2, c, ?_, ha, Or.inl ⟨rfl, Or.inr d⟩, hc⟩
  rcases ha with ⟨rfl, _⟩ | ⟨rfl, _⟩ <;> rcases hb with ⟨rfl, _⟩ | ⟨rfl, _⟩ <;> rcases hc with ⟨rfl, _⟩ | ⟨rfl, _⟩ <;> decide
theorem vw_ans4 {A B C D : Prop} {r : Int32} (h : vw_ans A B C r) (d : D) : vw_ans A B (C ∨ D) (r ||| 4) := by
  obtain ⟨a, b, c, rfl, ha, hb, hc⟩ := h
  refine ⟨a, b, 4, ?_, ha, hb, Or.inl ⟨rfl, Or.inr d⟩⟩
  rcases ha with ⟨rfl, _⟩ | ⟨rfl, _⟩ <;> rcases hb with ⟨rfl, _⟩ | ⟨rfl, _⟩ <;> rcases hc with ⟨rfl, _⟩ | ⟨rfl, _⟩ <;> decide
theorem vw_orn {A D : Prop} (h : ¬ D) : A ↔ (A ∨ D) := ⟨Or.inl, fun z => z.elim id (fun d => absurd d h)⟩
/-- two votes of v that offend -/
def vw_P (W S T : Nat → Nat) (v i j : Nat) : Prop := i ≠ j ∧ W i = v ∧ W j = v ∧ (T i / 4 = T j / 4 ∨ (S i / 4 < S j / 4 ∧ T j / 4 < T i / 4))
def vw_Off (n : Nat) (W S T : Nat → Nat) (v : Nat) : Prop := ∃ i j, i < n ∧ j < n ∧ vw_P W S T v i j
def vw_ys (st w s t : Nat → Int32) (x1 x2 : Int32) : Nat → Int32
  | 0 => 0
  | i + 1 => vw_ys st w s t x1 x2 i + (if s i = x1 ∧ t i = x2 then st (w i).toNatClampNeg else 0)
theorem vw_ys_y {st w s t : Nat → Int32} {x1 x2 : Int32} {i : Nat} (h : s i = x1 ∧ t i = x2) : vw_ys st w s t x1 x2 (i + 1) = vw_ys st w s t x1 x2 i + st (w i).toNatClampNeg := by
  show _ + (if s i = x1 ∧ t i = x2 then st (w i).toNatClampNeg else 0) = _
  rw [if_pos h]
theorem vw_ys_n {st w s t : Nat → Int32} {x1 x2 : Int32} {i : Nat} (h : ¬ (s i = x1 ∧ t i = x2)) : vw_ys st w s t x1 x2 (i + 1) = vw_ys st w s t x1 x2 i := by
  show _ + (if s i = x1 ∧ t i = x2 then st (w i).toNatClampNeg else 0) = _
  rw [if_neg h, Int32.add_zero]
def vw_cnt (W : Nat → Nat) (v : Nat) : Nat → Nat
  | 0 => 0
  | i + 1 => vw_cnt W v i + (if W i = v then 1 else 0)
theorem vw_cnt_le {W : Nat → Nat} {v : Nat} : ∀ n, vw_cnt W v n ≤ n
  | 0 => Nat.le_refl _
  | n + 1 => by
    have := vw_cnt_le (W := W) (v := v) n
    show vw_cnt W v n + (if W n = v then 1 else 0) ≤ n + 1
    by_cases h : W n = v
    · rw [if_pos h]; omega
    · rw [if_neg h]; omega
theorem vy_bad0 {post : Int32 → Prop} {v : Nat} (hv : v < 8) (h : post 0) : wpY_bad post (nI v) :=
  br_f (nI_pos (by omega)) (br_t (nI_le (b := 7) (by omega) (by omega)) h)
theorem vy_bad1 {post : Int32 → Prop} {x : Int32} (hx : ¬ ∃ v, v < 8 ∧ x = nI v) (h : post 1) : wpY_bad post x := by
  by_cases h0 : x < 0
  · exact br_t h0 h
  · refine br_f h0 ?_
    obtain ⟨j, hj, rfl⟩ := nI_of h0
    have h8 : 8 ≤ j := by
      rcases Nat.lt_or_ge j 8 with z | z
      · exact absurd ⟨j, z, rfl⟩ hx
      · exact z
    exact br_f (nI_ge (a := 7) (by omega) hj) h
theorem vy_bp0 {post : Int32 → Prop} {c : Nat} (hc : c < 128) (h3 : c % 4 ≠ 3) (h : post 0) : wpY_badPoint post (nI c) := by
  refine br_f (nI_pos (by omega)) (br_f (nI_nlt (a := 127) (by omega) (by omega)) ⟨vw_40, br_f ?_ h⟩)
  have e : nI c - nI c / 4 * 4 = nI (c % 4) := pk_rem (d := 4) (by omega) (by decide) (by decide)
  rw [e]
  exact fun z => h3 ((nI_eq (a := c % 4) (b := 3) (by omega) (by omega)).mp z)
theorem vy_bp1 {post : Int32 → Prop} {x : Int32} (hx : ¬ ∃ c, c < 128 ∧ c % 4 ≠ 3 ∧ x = nI c) (h : post 1) : wpY_badPoint post x := by
  by_cases h0 : x < 0
  · exact br_t h0 h
  · refine br_f h0 ?_
    obtain ⟨j, hj, rfl⟩ := nI_of h0
    rcases Nat.lt_or_ge j 128 with z | z
    · refine br_f (nI_nlt (a := 127) (by omega) (by omega)) ⟨vw_40, br_t ?_ h⟩
      have e : nI j - nI j / 4 * 4 = nI (j % 4) := pk_rem (d := 4) (by omega) (by decide) (by decide)
      rw [e]
      have e3 : j % 4 = 3 := by
        rcases Nat.decEq (j % 4) 3 with y | y
        · exact absurd ⟨j, by omega, y, rfl⟩ hx
        · exact y
      rw [e3]; rfl
    · exact br_t (nI_lt (a := 127) (by omega) hj) h
theorem vy_sur {post : Int32 → Prop} {x y z u : Int32} {a b c d : Nat} (hx : x = nI a) (hy : y = nI b) (hz : z = nI c) (hu : u = nI d) (ha : a < 128) (hb : b < 128) (hc : c < 128) (hd : d < 128) (h1 : a / 4 < c / 4 ∧ d / 4 < b / 4 → post 1) (h0 : ¬ (a / 4 < c / 4 ∧ d / 4 < b / 4) → post 0) : wpY_surrounds post x y z u := by
  subst hx hy hz hu
  unfold wpY_surrounds
  rw [vw_d4 (by omega), vw_d4 (by omega), vw_d4 (by omega), vw_d4 (by omega)]
  exact ⟨vw_40, vw_40, pk_le (c / 4) (a / 4) (fun g => h0 (by omega)) (fun g => ⟨vw_40, vw_40, pk_le (b / 4) (d / 4) (fun k => h0 (by omega)) (fun k => h1 ⟨g, k⟩)⟩)⟩
section
variable {vo : Int32} {st w s t jy : Nat → Int32} {n : Nat} {W S T : Nat → Nat}
theorem vy_hel {post : Int32 → Prop} {x1 x2 x3 : Int32} (hn : n ≤ 64) (h1 : ∀ i, i < n → w i = x1 → s i = x2 → t i = x3 → post 1) (h0 : (∀ i, i < n → ¬ (w i = x1 ∧ s i = x2 ∧ t i = x3)) → post 0) : ∀ d i, i + d = n → (∀ j, j < i → ¬ (w j = x1 ∧ s j = x2 ∧ t j = x3)) → wY_held_3 post x1 x2 x3 (nI n) st w s t jy (d + 1) (nI i) := by
  intro d
  induction d with
  | zero =>
    intro i e h
    have e' : i = n := by omega
    subst e'
    exact br_t (nI_le (Nat.le_refl _) (by omega)) (h0 h)
  | succ d ih =>
    intro i e h
    have hi : vp_in (nI i) 64 := vp_in_nI (by omega) (by omega)
    have ec : (nI i).toNatClampNeg = i := nI_clamp (by omega)
    by_cases g1 : w i = x1
    · by_cases g2 : s i = x2
      · by_cases g3 : t i = x3
        · exact br_f (nI_ge (by omega) (by omega)) ⟨hi, br_t (by rw [ec]; exact g1) ⟨hi, br_t (by rw [ec]; exact g2) ⟨hi, br_t (by rw [ec]; exact g3) (h1 i (by omega) g1 g2 g3)⟩⟩⟩
        · exact br_f (nI_ge (by omega) (by omega)) ⟨hi, br_t (by rw [ec]; exact g1) ⟨hi, br_t (by rw [ec]; exact g2) ⟨hi, br_f (by rw [ec]; exact g3) (nm_r (nI_1 i) (ih (i + 1) (by omega) (lt_s h (fun z => g3 z.2.2))))⟩⟩⟩
      · exact br_f (nI_ge (by omega) (by omega)) ⟨hi, br_t (by rw [ec]; exact g1) ⟨hi, br_f (by rw [ec]; exact g2) (nm_r (nI_1 i) (ih (i + 1) (by omega) (lt_s h (fun z => g2 z.2.1))))⟩⟩
    · exact br_f (nI_ge (by omega) (by omega)) ⟨hi, br_f (by rw [ec]; exact g1) (nm_r (nI_1 i) (ih (i + 1) (by omega) (lt_s h (fun z => g1 z.1))))⟩
theorem vy_held {post : Int32 → Prop} {x1 x2 x3 : Int32} (hn : n ≤ 64) (h1 : ∀ i, i < n → w i = x1 → s i = x2 → t i = x3 → post 1) (h0 : (∀ i, i < n → ¬ (w i = x1 ∧ s i = x2 ∧ t i = x3)) → post 0) : wpY_held post (nI n, st, w, s, t, jy) x1 x2 x3 :=
  ⟨n + 1, vy_hel hn h1 h0 n 0 (by omega) lt_0⟩
theorem vy_v129 {post : Int32 → SY → Prop} {J : Int32 → Int32 → Prop} {x1 r : Int32} {p q a b i : Nat} {A B C : Prop} (hi : i < 64) (hp : p < 128) (hq : q < 128) (ha : a < 128) (hb : b < 128) (hs : s i = nI a) (ht : t i = nI b) (hr : vw_ans A B C r) (h : ∀ r', vw_ans A B (C ∨ (a / 4 < p / 4 ∧ q / 4 < b / 4)) r' → J r' (nI (i + 1))) : wY_vote_129 post J x1 (nI p) (nI q) r (nI i) vo st w s t jy := by
  have i1 : vp_in (nI i) 64 := vp_in_nI (by omega) (by omega)
  have ec : (nI i).toNatClampNeg = i := nI_clamp (by omega)
  unfold wY_vote_129
  rw [ec]
  refine ⟨i1, i1, vy_sur hs ht rfl rfl ha hb hp hq (fun g => ?_) (fun g => ?_)⟩
  · exact br_f (by decide) (nm_e (nm_r (nI_1 i) (h _ (vw_ans4 hr g))))
  · exact br_t rfl (nm_r (nI_1 i) (h _ (vw_ans_if Iff.rfl Iff.rfl (vw_orn g) hr)))
theorem vy_v101 {post : Int32 → SY → Prop} {J : Int32 → Int32 → Prop} {x1 r : Int32} {p q a b i : Nat} {A B C : Prop} (hi : i < 64) (hp : p < 128) (hq : q < 128) (ha : a < 128) (hb : b < 128) (hs : s i = nI a) (ht : t i = nI b) (hr : vw_ans A B C r) (h : ∀ r', vw_ans A (B ∨ (p / 4 < a / 4 ∧ b / 4 < q / 4)) (C ∨ (a / 4 < p / 4 ∧ q / 4 < b / 4)) r' → J r' (nI (i + 1))) : wY_vote_101 post J x1 (nI p) (nI q) r (nI i) vo st w s t jy := by
  have i1 : vp_in (nI i) 64 := vp_in_nI (by omega) (by omega)
  have ec : (nI i).toNatClampNeg = i := nI_clamp (by omega)
  unfold wY_vote_101
  rw [ec]
  refine ⟨i1, i1, vy_sur rfl rfl hs ht hp hq ha hb (fun g => ?_) (fun g => ?_)⟩
  · exact br_f (by decide) (nm_e (vy_v129 hi hp hq ha hb hs ht (vw_ans2 hr g) h))
  · exact br_t rfl (vy_v129 hi hp hq ha hb hs ht (vw_ans_if Iff.rfl (vw_orn g) Iff.rfl hr) h)
theorem vy_v60 {post : Int32 → SY → Prop} {v p q : Nat} (hn : n < 64) (hv : v < 8) (hp : p < 128) (hq : q < 128) (hD : vw_D n W S T w s t) (h : ∀ r, vw_ans (vw_Ex n W S T (vw_QA v (q / 4))) (vw_Ex n W S T (vw_QB v (p / 4) (q / 4))) (vw_Ex n W S T (vw_QC v (p / 4) (q / 4))) r → post r (nI (n + 1), st, upd w n (nI v), upd s n (nI p), upd t n (nI q), jy)) : ∀ d i, i + d = n → ∀ r, vw_ans (vw_Ex i W S T (vw_QA v (q / 4))) (vw_Ex i W S T (vw_QB v (p / 4) (q / 4))) (vw_Ex i W S T (vw_QC v (p / 4) (q / 4))) r → wY_vote_60 post (nI v) (nI p) (nI q) (nI n) st w s t jy (d + 1) r (nI i) := by
  intro d
  induction d with
  | zero =>
    intro i e r hr
    have e' : i = n := by omega
    subst e'
    have hi : vp_in (nI i) 64 := vp_in_nI (by omega) (by omega)
    have ec : (nI i).toNatClampNeg = i := nI_clamp (by omega)
    exact br_t (nI_le (Nat.le_refl _) (by omega)) ⟨hi, nm_r (e' := upd w i (nI v)) (by rw [ec]) ⟨hi, nm_r (e' := upd s i (nI p)) (by rw [ec]) ⟨hi, nm_r (e' := upd t i (nI q)) (by rw [ec]) (nm_r (nI_1 i) (h r hr))⟩⟩⟩
  | succ d ih =>
    intro i e r hr
    obtain ⟨d1, d2, d3, d4, d5, d6⟩ := hD i (by omega)
    have hi : vp_in (nI i) 64 := vp_in_nI (by omega) (by omega)
    have ec : (nI i).toNatClampNeg = i := nI_clamp (by omega)
    have et : t (nI i).toNatClampNeg / 4 = nI (T i / 4) := by rw [ec, d3]; exact vw_d4 (by omega)
    have eq : nI q / 4 = nI (q / 4) := vw_d4 (by omega)
    refine br_f (nI_ge (by omega) (by omega)) ⟨hi, pk_eq (W i) v (fun e1 => ⟨hi, vw_40, vw_40, pk_eq (T i / 4) (q / 4) (fun e2 => ?_) (fun e2 => ?_) et eq⟩) (fun e1 => ?_) (by rw [ec]; exact d1)⟩
    · refine nm_e (vy_v101 (by omega) hp hq (by omega) d6 d2 d3 (vw_ans1 (D := T i / 4 = q / 4) hr e2) (fun r' hr' => ih (i + 1) (by omega) r' (vw_ans_if ?_ ?_ ?_ hr')))
      · rw [vw_Ex_s]; unfold vw_QA; simp only [e1, true_and]
      · rw [vw_Ex_s]; unfold vw_QB; simp only [e1, true_and]
      · rw [vw_Ex_s]; unfold vw_QC; simp only [e1, true_and]
    · refine vy_v101 (by omega) hp hq (by omega) d6 d2 d3 hr (fun r' hr' => ih (i + 1) (by omega) r' (vw_ans_if ?_ ?_ ?_ hr'))
      · rw [vw_Ex_s]; exact vw_orn (fun z => e2 z.2)
      · rw [vw_Ex_s]; unfold vw_QB; simp only [e1, true_and]
      · rw [vw_Ex_s]; unfold vw_QC; simp only [e1, true_and]
    · refine nm_r (nI_1 i) (ih (i + 1) (by omega) r (vw_ans_if ?_ ?_ ?_ hr))
      · rw [vw_Ex_s]; exact vw_orn (fun z => e1 z.1)
      · rw [vw_Ex_s]; exact vw_orn (fun z => e1 z.1)
      · rw [vw_Ex_s]; exact vw_orn (fun z => e1 z.1)
/-! ===== offender ===== -/
theorem vy_of21 {post J : Int32 → Prop} {v i : Nat} (hn : n ≤ 64) (hv : v < 8) (hi : i < n) (hD : vw_D n W S T w s t) (h1 : ∀ j, j < n → vw_P W S T v i j → post 1) (hJ : (∀ j, j < n → ¬ vw_P W S T v i j) → J (nI (i + 1))) : ∀ d j, j + d = n → (∀ a, a < j → ¬ vw_P W S T v i a) → wY_offender_21 post J (nI v) (nI i) (nI n) st w s t jy (d + 1) (nI j) := by
  intro d
  induction d with
  | zero =>
    intro j e h
    have e' : j = n := by omega
    subst e'
    exact br_t (nI_le (Nat.le_refl _) (by omega)) (nm_r (nI_1 i) (hJ h))
  | succ d ih =>
    intro j e h
    obtain ⟨a1, a2, a3, a4, a5, a6⟩ := hD i hi
    obtain ⟨b1, b2, b3, b4, b5, b6⟩ := hD j (by omega)
    have i1 : vp_in (nI i) 64 := vp_in_nI (by omega) (by omega)
    have c1 : (nI i).toNatClampNeg = i := nI_clamp (by omega)
    have i2 : vp_in (nI j) 64 := vp_in_nI (by omega) (by omega)
    have c2 : (nI j).toNatClampNeg = j := nI_clamp (by omega)
    have no : ¬ vw_P W S T v i j → wY_offender_21 post J (nI v) (nI i) (nI n) st w s t jy (d + 1) (nI (j + 1)) := fun z => ih (j + 1) (by omega) (lt_s h z)
    refine br_f (nI_ge (by omega) (by omega)) (pk_eq i j (fun e1 => br_t rfl (nm_r (nI_1 j) (no (fun z => z.1 e1)))) (fun e1 => ⟨i1, pk_eq (W i) v (fun e2 => ⟨i2, pk_eq (W j) v (fun e3 => ?_) (fun e3 => br_t rfl (nm_r (nI_1 j) (no (fun z => e3 z.2.2.1)))) (by rw [c2]; exact b1)⟩) (fun e2 => br_t rfl (nm_r (nI_1 j) (no (fun z => e2 z.2.1)))) (by rw [c1]; exact a1)⟩))
    refine br_f (by decide) ⟨i1, vw_40, i2, vw_40, pk_eq (T i / 4) (T j / 4) (fun e4 => h1 j (by omega) ⟨e1, e2, e3, Or.inl e4⟩) (fun e4 => ⟨i1, i1, i2, i2, vy_sur (by rw [c1]; exact a2) (by rw [c1]; exact a3) (by rw [c2]; exact b2) (by rw [c2]; exact b3) (by omega) a6 (by omega) b6 (fun g => ?_) (fun g => ?_)⟩) (by rw [c1, a3]; exact vw_d4 (by omega)) (by rw [c2, b3]; exact vw_d4 (by omega))⟩
    · exact br_f (by decide) (h1 j (by omega) ⟨e1, e2, e3, Or.inr g⟩)
    · exact br_t rfl (nm_r (nI_1 j) (no (fun z => z.2.2.2.elim e4 g)))
theorem vy_of11 {post : Int32 → Prop} {v : Nat} (hn : n ≤ 64) (hv : v < 8) (hD : vw_D n W S T w s t) (h1 : vw_Off n W S T v → post 1) (h0 : ¬ vw_Off n W S T v → post 0) : ∀ d i, i + d = n → (∀ a, a < i → ∀ j, j < n → ¬ vw_P W S T v a j) → wY_offender_11 post (nI v) (nI n) st w s t jy (d + 1) (nI i) := by
  intro d
  induction d with
  | zero =>
    intro i e h
    have e' : i = n := by omega
    subst e'
    exact br_t (nI_le (Nat.le_refl _) (by omega)) (h0 (fun ⟨a, j, ha, hj, hp⟩ => h a ha j hj hp))
  | succ d ih =>
    intro i e h
    exact br_f (nI_ge (by omega) (by omega)) ⟨n + 1, vy_of21 hn hv (by omega) hD (fun j hj hp => h1 ⟨i, j, by omega, hj, hp⟩) (fun g => ih (i + 1) (by omega) (lt_s h g)) n 0 (by omega) lt_0⟩
theorem vy_offender {post : Int32 → Prop} {v : Nat} (hn : n ≤ 64) (hv : v < 8) (hD : vw_D n W S T w s t) (h1 : vw_Off n W S T v → post 1) (h0 : ¬ vw_Off n W S T v → post 0) : wpY_offender post (nI n, st, w, s, t, jy) (nI v) := by
  unfold wpY_offender
  dsimp only
  exact vy_bad0 hv (br_t rfl ⟨n + 1, vy_of11 hn hv hD h1 h0 n 0 (by omega) lt_0⟩)
theorem vy_ofd {post : Int32 → Prop} {P : Nat → Bool} (hn : n ≤ 64) (hD : vw_D n W S T w s t) (hP : ∀ v, v < 8 → (P v = true ↔ vw_Off n W S T v)) (h : post (vw_sm st P 8)) : ∀ d v, v + d = 8 → wY_offended_4 post (nI n) st w s t jy (d + 1) (vw_sm st P v) (nI v) := by
  intro d
  induction d with
  | zero =>
    intro v e
    have e' : v = 8 := by omega
    subst e'
    exact br_t (nI_le (a := 8) (Nat.le_refl _) (by omega)) h
  | succ d ih =>
    intro v e
    have hi : vp_in (nI v) 8 := vp_in_nI (by omega) (by omega)
    have ec : (nI v).toNatClampNeg = v := nI_clamp (by omega)
    have es : vw_sm st P (v + 1) = vw_sm st P v + (if P v = true then st v else 0) := rfl
    refine br_f (nI_ge (b := 8) (by omega) (by omega)) (vy_offender hn (by omega) hD (fun g => ?_) (fun g => ?_))
    · exact ⟨hi, nm_r (e' := vw_sm st P (v + 1)) (by rw [ec, es, if_pos ((hP v (by omega)).mpr g), Int32.one_mul]) (nm_r (nI_1 v) (ih (v + 1) (by omega)))⟩
    · exact ⟨hi, nm_r (e' := vw_sm st P (v + 1)) (by rw [ec, es, if_neg (fun z => g ((hP v (by omega)).mp z)), Int32.zero_mul]) (nm_r (nI_1 v) (ih (v + 1) (by omega)))⟩
theorem vy_offended {post : Int32 → Prop} {P : Nat → Bool} (hn : n ≤ 64) (hD : vw_D n W S T w s t) (hP : ∀ v, v < 8 → (P v = true ↔ vw_Off n W S T v)) (h : post (vw_sm st P 8)) : wpY_offended post (nI n, st, w, s, t, jy) :=
  ⟨8 + 1, vy_ofd hn hD hP h 8 0 (by omega)⟩
/-! ===== total, support ===== -/
theorem vy_tot {post : Int32 → Prop} (h : post (vw_sm st (fun _ => true) 8)) : ∀ d v, v + d = 8 → wY_total_4 post vo st w s t jy (d + 1) (vw_sm st (fun _ => true) v) (nI v) := by
  intro d
  induction d with
  | zero =>
    intro v e
    have e' : v = 8 := by omega
    subst e'
    exact br_t (nI_le (a := 8) (Nat.le_refl _) (by omega)) h
  | succ d ih =>
    intro v e
    have hi : vp_in (nI v) 8 := vp_in_nI (by omega) (by omega)
    have ec : (nI v).toNatClampNeg = v := nI_clamp (by omega)
    have es : vw_sm st (fun _ => true) (v + 1) = vw_sm st (fun _ => true) v + st v := rfl
    exact br_f (nI_ge (b := 8) (by omega) (by omega)) ⟨hi, nm_r (e' := vw_sm st (fun _ => true) (v + 1)) (by rw [ec, es]) (nm_r (nI_1 v) (ih (v + 1) (by omega)))⟩
theorem vy_total {post : Int32 → Prop} (h : post (vw_sm st (fun _ => true) 8)) : wpY_total post (vo, st, w, s, t, jy) :=
  ⟨8 + 1, vy_tot h 8 0 (by omega)⟩
theorem vy_spt {post : Int32 → Prop} {x1 x2 : Int32} (hn : n ≤ 64) (hD : vw_D n W S T w s t) (h : post (vw_ys st w s t x1 x2 n)) : ∀ d i, i + d = n → wY_support_5 post x1 x2 (nI n) st w s t jy (d + 1) (vw_ys st w s t x1 x2 i) (nI i) := by
  intro d
  induction d with
  | zero =>
    intro i e
    have e' : i = n := by omega
    subst e'
    exact br_t (nI_le (Nat.le_refl _) (by omega)) h
  | succ d ih =>
    intro i e
    obtain ⟨d1, d2, d3, d4, d5, d6⟩ := hD i (by omega)
    have hi : vp_in (nI i) 64 := vp_in_nI (by omega) (by omega)
    have ec : (nI i).toNatClampNeg = i := nI_clamp (by omega)
    have hw : vp_in (w (nI i).toNatClampNeg) 8 := by rw [ec, d1]; exact vp_in_nI d4 (by omega)
    have g := ih (i + 1) (by omega)
    by_cases g1 : s i = x1
    · by_cases g2 : t i = x2
      · exact br_f (nI_ge (by omega) (by omega)) ⟨hi, br_t (by rw [ec]; exact g1) ⟨hi, br_t (by rw [ec]; exact g2) ⟨hi, hw, nm_r (e' := vw_ys st w s t x1 x2 (i + 1)) (by rw [ec, vw_ys_y ⟨g1, g2⟩]) (nm_r (nI_1 i) g)⟩⟩⟩
      · rw [vw_ys_n (fun z => g2 z.2)] at g
        exact br_f (nI_ge (by omega) (by omega)) ⟨hi, br_t (by rw [ec]; exact g1) ⟨hi, br_f (by rw [ec]; exact g2) (nm_r (nI_1 i) g)⟩⟩
    · rw [vw_ys_n (fun z => g1 z.1)] at g
      exact br_f (nI_ge (by omega) (by omega)) ⟨hi, br_f (by rw [ec]; exact g1) (nm_r (nI_1 i) g)⟩
theorem vy_support {post : Int32 → Prop} {x1 x2 : Int32} (hn : n ≤ 64) (hD : vw_D n W S T w s t) (h : post (vw_ys st w s t x1 x2 n)) : wpY_support post (nI n, st, w, s, t, jy) x1 x2 :=
  ⟨n + 1, vy_spt hn hD h n 0 (by omega)⟩
theorem vy_sup {post : Int32 → Prop} {x1 x2 : Int32} (hn : n ≤ 64) (hD : vw_D n W S T w s t) (h1 : vw_sup st (vw_ys st w s t x1 x2 n) → post 1) (h0 : ¬ vw_sup st (vw_ys st w s t x1 x2 n) → post 0) : wpY_supported post (nI n, st, w, s, t, jy) x1 x2 := by
  unfold wpY_supported
  dsimp only
  exact vy_support hn hD (vy_total (br_c (fun z => h0 (fun y => y z)) h1))
theorem vy_vot {post : Int32 → Prop} {v : Nat} (hn : n ≤ 64) (hv : v < 8) (hD : vw_D n W S T w s t) (h : post (nI (vw_cnt W v n))) : ∀ d i, i + d = n → wY_votes_13 post (nI v) (nI n) st w s t jy (d + 1) (nI (vw_cnt W v i)) (nI i) := by
  intro d
  induction d with
  | zero =>
    intro i e
    have e' : i = n := by omega
    subst e'
    exact br_t (nI_le (Nat.le_refl _) (by omega)) h
  | succ d ih =>
    intro i e
    obtain ⟨d1, d2, d3, d4, d5, d6⟩ := hD i (by omega)
    have hi : vp_in (nI i) 64 := vp_in_nI (by omega) (by omega)
    have ec : (nI i).toNatClampNeg = i := nI_clamp (by omega)
    have es : vw_cnt W v (i + 1) = vw_cnt W v i + (if W i = v then 1 else 0) := rfl
    have g := ih (i + 1) (by omega)
    refine br_f (nI_ge (by omega) (by omega)) ⟨hi, pk_eq (W i) v (fun e1 => ?_) (fun e1 => ?_) (by rw [ec]; exact d1)⟩
    · rw [es, if_pos e1] at g
      exact nm_r (nI_1 _) (nm_r (nI_1 i) g)
    · rw [es, if_neg e1] at g
      exact nm_r (nI_1 i) g
theorem vy_votes {post : Int32 → Prop} {v : Nat} (hn : n ≤ 64) (hv : v < 8) (hD : vw_D n W S T w s t) (h : post (nI (vw_cnt W v n))) : wpY_votes post (nI n, st, w, s, t, jy) (nI v) := by
  unfold wpY_votes
  dsimp only
  exact vy_bad0 hv (br_t rfl ⟨n + 1, vy_vot hn hv hD h n 0 (by omega)⟩)
end
end
section
/-! ===== justify of the reference: rounds ===== -/
/-- the solution is one: sources lie before their targets -/
theorem vw_Jq_un {n : Nat} {S T : Nat → Nat} {U : Nat → Prop} {a b : Nat → Int32} (hS : ∀ i, i < n → S i < T i) (ha : vw_Jq n S T U a) (hb : vw_Jq n S T U b) : ∀ c, c < 128 → (¬ a c = 0 ↔ ¬ b c = 0) := by
  intro c
  induction c using Nat.strongRecOn with
  | ind c ih =>
    intro hc
    rw [ha c hc, hb c hc]
    constructor
    · rintro (z | ⟨j, hj, g1, g2, g3⟩)
      · exact Or.inl z
      · have q := hS j hj
        exact Or.inr ⟨j, hj, g1, (ih (S j) (by omega) (by omega)).mp g2, g3⟩
    · rintro (z | ⟨j, hj, g1, g2, g3⟩)
      · exact Or.inl z
      · have q := hS j hj
        exact Or.inr ⟨j, hj, g1, (ih (S j) (by omega) (by omega)).mpr g2, g3⟩
def vw_cn (T : Nat → Nat) (ju : Nat → Int32) : Nat → Nat
  | 0 => 0
  | i + 1 => vw_cn T ju i + (if ju (T i) = 0 then 1 else 0)
theorem vw_cn_le {T : Nat → Nat} {ju : Nat → Int32} : ∀ n, vw_cn T ju n ≤ n
  | 0 => Nat.le_refl _
  | n + 1 => by
    have := vw_cn_le (T := T) (ju := ju) n
    show vw_cn T ju n + (if ju (T n) = 0 then 1 else 0) ≤ n + 1
    by_cases h : ju (T n) = 0
    · rw [if_pos h]; omega
    · rw [if_neg h]; omega
theorem vw_cn_up {T : Nat → Nat} {ju : Nat → Int32} {i : Nat} (hz : ju (T i) = 0) : ∀ k, vw_cn T (upd ju (T i) 1) k ≤ vw_cn T ju k ∧ (i < k → vw_cn T (upd ju (T i) 1) k < vw_cn T ju k)
  | 0 => ⟨Nat.le_refl _, fun h => by omega⟩
  | k + 1 => by
    obtain ⟨g1, g2⟩ := vw_cn_up (T := T) (ju := ju) hz k
    have e1 : vw_cn T (upd ju (T i) 1) (k + 1) = vw_cn T (upd ju (T i) 1) k + (if upd ju (T i) 1 (T k) = 0 then 1 else 0) := rfl
    have e2 : vw_cn T ju (k + 1) = vw_cn T ju k + (if ju (T k) = 0 then 1 else 0) := rfl
    rw [e1, e2]
    by_cases e : T k = T i
    · rw [e, pk_us, if_neg (by decide), if_pos hz]
      exact ⟨by omega, fun _ => by omega⟩
    · rw [pk_un e]
      refine ⟨by omega, fun h => ?_⟩
      have : i ≠ k := fun z => e (by rw [z])
      have := g2 (by omega)
      omega
def vw_Sd (n : Nat) (S T : Nat → Nat) (U : Nat → Prop) (ju : Nat → Int32) : Prop := ¬ ju 0 = 0 ∧ ∀ c, c < 128 → ¬ ju c = 0 → (c = 0 ∨ ∃ j, j < n ∧ T j = c ∧ ¬ ju (S j) = 0 ∧ U j)
def vw_Cl (i : Nat) (S T : Nat → Nat) (U : Nat → Prop) (ju : Nat → Int32) : Prop := ∀ j, j < i → ¬ ju (S j) = 0 → U j → ¬ ju (T j) = 0
theorem vw_Jq_of {n : Nat} {S T : Nat → Nat} {U : Nat → Prop} {ju : Nat → Int32} (h : vw_Sd n S T U ju) (g : vw_Cl n S T U ju) : vw_Jq n S T U ju := by
  intro c hc
  refine ⟨h.2 c hc, ?_⟩
  rintro (z | ⟨j, hj, g1, g2, g3⟩)
  · rw [z]; exact h.1
  · rw [← g1]; exact g j hj g2 g3
/-- inside a round, before vote i; c0: what was unsettled at its start -/
def vw_I (n : Nat) (S T : Nat → Nat) (U : Nat → Prop) (c0 i : Nat) (more : Int32) (ju : Nat → Int32) : Prop := vw_Sd n S T U ju ∧ ((more = 0 ∧ vw_Cl i S T U ju ∧ vw_cn T ju n ≤ c0) ∨ (more = 1 ∧ vw_cn T ju n < c0))
theorem vw_I_n {n : Nat} {S T : Nat → Nat} {U : Nat → Prop} {c0 i : Nat} {more : Int32} {ju : Nat → Int32} (h : vw_I n S T U c0 i more ju) (g : ¬ ju (S i) = 0 → U i → ¬ ju (T i) = 0) : vw_I n S T U c0 (i + 1) more ju := by
  refine ⟨h.1, ?_⟩
  rcases h.2 with ⟨a, b, c⟩ | b
  · exact Or.inl ⟨a, lt_s b g, c⟩
  · exact Or.inr b
theorem vw_I_y {n : Nat} {S T : Nat → Nat} {U : Nat → Prop} {c0 i : Nat} {more : Int32} {ju : Nat → Int32} (hi : i < n) (h : vw_I n S T U c0 i more ju) (g1 : ¬ ju (S i) = 0) (g2 : ju (T i) = 0) (g3 : U i) : vw_I n S T U c0 (i + 1) 1 (upd ju (T i) 1) := by
  have mono : ∀ c, ¬ ju c = 0 → ¬ upd ju (T i) 1 c = 0 := by
    intro c hc
    by_cases e : c = T i
    · rw [e, pk_us]; decide
    · rw [pk_un e]; exact hc
  refine ⟨⟨mono 0 h.1.1, fun c hc hz => ?_⟩, Or.inr ⟨rfl, ?_⟩⟩
  · by_cases e : c = T i
    · exact Or.inr ⟨i, hi, e.symm, mono _ g1, g3⟩
    · rw [pk_un e] at hz
      rcases h.1.2 c hc hz with z | ⟨j, hj, k1, k2, k3⟩
      · exact Or.inl z
      · exact Or.inr ⟨j, hj, k1, mono _ k2, k3⟩
  · have a := (vw_cn_up g2 n).2 hi
    rcases h.2 with ⟨_, _, c⟩ | ⟨_, c⟩ <;> omega
/-- between rounds -/
def vw_O (n : Nat) (S T : Nat → Nat) (U : Nat → Prop) (r : Nat) (more : Int32) (ju : Nat → Int32) : Prop := vw_Sd n S T U ju ∧ ((more = 0 ∧ vw_Cl n S T U ju) ∨ (more = 1 ∧ vw_cn T ju n + r ≤ 64))
theorem vw_O_of {n : Nat} {S T : Nat → Nat} {U : Nat → Prop} {c0 r : Nat} {more : Int32} {ju : Nat → Int32} (hc : c0 + r ≤ 64) (h : vw_I n S T U c0 n more ju) : vw_O n S T U (r + 1) more ju := by
  refine ⟨h.1, ?_⟩
  rcases h.2 with ⟨a, b, _⟩ | ⟨a, b⟩
  · exact Or.inl ⟨a, b⟩
  · exact Or.inr ⟨a, by omega⟩
section
variable {vo : Int32} {st w s t jy : Nat → Int32} {n : Nat} {W S T : Nat → Nat}
theorem vy_j48 {post : SY → Prop} {J : Int32 → Int32 → (Nat → Int32) → (Nat → Int32) → (Nat → Int32) → (Nat → Int32) → (Nat → Int32) → Prop} {c0 r : Nat} (hn : n ≤ 64) (hD : vw_D n W S T w s t) (hJ : ∀ more ju, vw_I n S T (fun i => vw_sup st (vw_ys st w s t (nI (S i)) (nI (T i)) n)) c0 n more ju → J more (nI (r + 1)) st w s t ju) : ∀ d i, i + d = n → ∀ more ju, vw_I n S T (fun i => vw_sup st (vw_ys st w s t (nI (S i)) (nI (T i)) n)) c0 i more ju → wY_justify_48 post J (nI r) (nI n) (d + 1) more (nI i) st w s t ju := by
  intro d
  induction d with
  | zero =>
    intro i e more ju h
    have e' : i = n := by omega
    subst e'
    exact br_t (nI_le (Nat.le_refl _) (by omega)) (nm_r (nI_1 r) (hJ more ju h))
  | succ d ih =>
    intro i e more ju h
    obtain ⟨d1, d2, d3, d4, d5, d6⟩ := hD i (by omega)
    have hi : vp_in (nI i) 64 := vp_in_nI (by omega) (by omega)
    have ec : (nI i).toNatClampNeg = i := nI_clamp (by omega)
    have es : s (nI i).toNatClampNeg = nI (S i) := by rw [ec]; exact d2
    have et : t (nI i).toNatClampNeg = nI (T i) := by rw [ec]; exact d3
    have j1 : vp_in (s (nI i).toNatClampNeg) 128 := by rw [es]; exact vp_in_nI (by omega) (by omega)
    have c1 : (s (nI i).toNatClampNeg).toNatClampNeg = S i := by rw [es]; exact nI_clamp (by omega)
    have j2 : vp_in (t (nI i).toNatClampNeg) 128 := by rw [et]; exact vp_in_nI (by omega) (by omega)
    have c2 : (t (nI i).toNatClampNeg).toNatClampNeg = T i := by rw [et]; exact nI_clamp (by omega)
    refine br_f (nI_ge (by omega) (by omega)) ⟨hi, j1, ?_⟩
    by_cases z1 : ju (S i) = 0
    · exact br_t (by rw [c1]; exact z1) (nm_r (nI_1 i) (ih (i + 1) (by omega) more ju (vw_I_n h (fun z => absurd z1 z))))
    · refine br_f (by rw [c1]; exact z1) ⟨hi, j2, ?_⟩
      by_cases z2 : ju (T i) = 0
      · refine br_t (by rw [c2]; exact z2) ⟨hi, hi, ?_⟩
        rw [es, et]
        refine vy_sup hn hD (fun hy => ?_) (fun hz => ?_)
        · refine br_f (by decide) ⟨hi, ?_⟩
          rw [← et]
          exact ⟨j2, nm_r (e' := upd ju (T i) 1) (by rw [c2]; rfl) (nm_r (nI_1 i) (ih (i + 1) (by omega) 1 _ (vw_I_y (by omega) h z1 z2 hy)))⟩
        · exact br_t rfl (nm_r (nI_1 i) (ih (i + 1) (by omega) more ju (vw_I_n h (fun _ y => absurd y hz))))
      · exact br_f (by rw [c2]; exact z2) (nm_r (nI_1 i) (ih (i + 1) (by omega) more ju (vw_I_n h (fun _ _ => z2))))
theorem vy_j34 {post : SY → Prop} (hn : n ≤ 64) (hD : vw_D n W S T w s t) (h : ∀ ju, vw_Jq n S T (fun i => vw_sup st (vw_ys st w s t (nI (S i)) (nI (T i)) n)) ju → post (nI n, st, w, s, t, ju)) : ∀ d r, r + d = 65 → ∀ more ju, vw_O n S T (fun i => vw_sup st (vw_ys st w s t (nI (S i)) (nI (T i)) n)) r more ju → wY_justify_34 post (nI n) (d + 1) more (nI r) st w s t ju := by
  intro d
  induction d with
  | zero =>
    intro r e more ju g
    have e' : r = 65 := by omega
    subst e'
    refine br_t (nI_le (a := 65) (Nat.le_refl _) (by omega)) (h ju ?_)
    rcases g.2 with ⟨_, b⟩ | ⟨_, b⟩
    · exact vw_Jq_of g.1 b
    · omega
  | succ d ih =>
    intro r e more ju g
    refine br_f (nI_ge (b := 65) (by omega) (by omega)) ?_
    rcases g.2 with ⟨a, b⟩ | ⟨a, b⟩
    · exact br_t a (h ju (vw_Jq_of g.1 b))
    · refine br_f (by rw [a]; decide) ⟨n + 1, vy_j48 (c0 := vw_cn T ju n) hn hD (fun more' ju' k => ih (r + 1) (by omega) more' ju' (vw_O_of b k)) n 0 (by omega) 0 ju ⟨g.1, Or.inl ⟨rfl, lt_0, Nat.le_refl _⟩⟩⟩
theorem vy_j2 {post : SY → Prop} (h : ∃ k, wY_justify_34 post vo k 1 0 st w s t (vw_fill jy 128)) : ∀ d c, c + d = 128 → wY_justify_2 post vo (d + 1) (nI c) st w s t (vw_fill jy c) := by
  intro d
  induction d with
  | zero =>
    intro c e
    have e' : c = 128 := by omega
    subst e'
    exact br_t (nI_le (a := 128) (Nat.le_refl _) (by omega)) h
  | succ d ih =>
    intro c e
    have hi : vp_in (nI c) 128 := vp_in_nI (by omega) (by omega)
    have ec : (nI c).toNatClampNeg = c := nI_clamp (by omega)
    refine br_f (nI_ge (b := 128) (by omega) (by omega)) (pk_eq c 0 (fun z => ?_) (fun z => ?_))
    · exact ⟨hi, nm_r (e' := vw_fill jy (c + 1)) (by rw [ec]; exact vw_fill_s (if_pos z)) (nm_r (nI_1 c) (ih (c + 1) (by omega)))⟩
    · exact ⟨hi, nm_r (e' := vw_fill jy (c + 1)) (by rw [ec]; exact vw_fill_s (if_neg z)) (nm_r (nI_1 c) (ih (c + 1) (by omega)))⟩
theorem vw_O_0 {U : Nat → Prop} (hn : n ≤ 64) : vw_O n S T U 0 1 (vw_fill jy 128) := by
  have := vw_cn_le (T := T) (ju := vw_fill jy 128) n
  exact ⟨⟨(vw_fill_z (by omega)).mpr rfl, fun c hc z => Or.inl ((vw_fill_z hc).mp z)⟩, Or.inr ⟨rfl, by omega⟩⟩
theorem vy_justify {post : SY → Prop} (hn : n ≤ 64) (hD : vw_D n W S T w s t) (h : ∀ ju, vw_Jq n S T (fun i => vw_sup st (vw_ys st w s t (nI (S i)) (nI (T i)) n)) ju → post (nI n, st, w, s, t, ju)) : wpY_justify post (nI n, st, w, s, t, jy) := by
  have g := vy_j2 (jy := jy) ⟨_, vy_j34 hn hD h 65 0 (by omega) 1 _ (vw_O_0 hn)⟩ 128 0 (by omega)
  rw [vw_fill_0] at g
  exact ⟨_, g⟩
theorem vy_fin {post : Int32 → SY → Prop} {c : Nat} (hn : n ≤ 64) (hc : c < 128) (hD : vw_D n W S T w s t) (h1 : ¬ jy c = 0 → (∃ i, i < n ∧ S i = c ∧ T i / 4 = c / 4 + 1 ∧ vw_sup st (vw_ys st w s t (nI (S i)) (nI (T i)) n)) → post 1 (nI n, st, w, s, t, jy)) (h0 : (jy c = 0 ∨ ¬ ∃ i, i < n ∧ S i = c ∧ T i / 4 = c / 4 + 1 ∧ vw_sup st (vw_ys st w s t (nI (S i)) (nI (T i)) n)) → post 0 (nI n, st, w, s, t, jy)) : ∀ d i, i + d = n → (∀ j, j < i → ¬ (¬ jy c = 0 ∧ S j = c ∧ T j / 4 = c / 4 + 1 ∧ vw_sup st (vw_ys st w s t (nI (S j)) (nI (T j)) n))) → wY_isFinal_15 post (nI c) (nI n) st w s t jy (d + 1) (nI i) := by
  intro d
  induction d with
  | zero =>
    intro i e hq
    have e' : i = n := by omega
    subst e'
    refine br_t (nI_le (Nat.le_refl _) (by omega)) (h0 ?_)
    by_cases z : jy c = 0
    · exact Or.inl z
    · exact Or.inr (fun ⟨j, hj, g⟩ => hq j hj ⟨z, g⟩)
  | succ d ih =>
    intro i e hq
    obtain ⟨d1, d2, d3, d4, d5, d6⟩ := hD i (by omega)
    have hi : vp_in (nI i) 64 := vp_in_nI (by omega) (by omega)
    have ec : (nI i).toNatClampNeg = i := nI_clamp (by omega)
    have et : t (nI i).toNatClampNeg = nI (T i) := by rw [ec]; exact d3
    have ic : vp_in (nI c) 128 := vp_in_nI hc (by omega)
    have cc : (nI c).toNatClampNeg = c := nI_clamp (by omega)
    refine br_f (nI_ge (by omega) (by omega)) ⟨hi, pk_eq (S i) c (fun e1 => ⟨hi, vw_40, vw_40, pk_eq (T i / 4) (c / 4 + 1) (fun e2 => ?_) (fun e2 => ?_) (by rw [et]; exact vw_d4 (by omega)) (by rw [vw_d4 (by omega)]; exact nI_1 _)⟩) (fun e1 => ?_) (by rw [ec]; exact d2)⟩
    · refine br_f (by decide) ⟨ic, ?_⟩
      by_cases z : jy c = 0
      · exact br_t (by rw [cc]; exact z) (nm_r (nI_1 i) (ih (i + 1) (by omega) (lt_s hq (fun y => y.1 z))))
      · refine br_f (by rw [cc]; exact z) ⟨hi, ?_⟩
        rw [et]
        refine vy_sup hn hD (fun hy => ?_) (fun hz => ?_)
        · exact br_f (by decide) (h1 z ⟨i, by omega, e1, e2, by rw [e1]; exact hy⟩)
        · exact br_t rfl (nm_r (nI_1 i) (ih (i + 1) (by omega) (lt_s hq (fun y => hz (by have q := y.2.2.2
                                                                                         rw [e1] at q; exact q)))))
    · exact br_t rfl (nm_r (nI_1 i) (ih (i + 1) (by omega) (lt_s hq (fun y => e2 y.2.2.1))))
    · exact br_t rfl (nm_r (nI_1 i) (ih (i + 1) (by omega) (lt_s hq (fun y => e1 y.2.1))))
theorem vy_hi {post : Int32 → SY → Prop} (h : post (vw_hi jy 128) (vo, st, w, s, t, jy)) : ∀ d c, c + d = 128 → wY_highest_8 post vo st w s t jy (d + 1) (vw_hi jy c) (nI c) := by
  intro d
  induction d with
  | zero =>
    intro c e
    have e' : c = 128 := by omega
    subst e'
    exact br_t (nI_le (a := 128) (Nat.le_refl _) (by omega)) h
  | succ d ih =>
    intro c e
    have hi : vp_in (nI c) 128 := vp_in_nI (by omega) (by omega)
    have ec : (nI c).toNatClampNeg = c := nI_clamp (by omega)
    have g := ih (c + 1) (by omega)
    have es : vw_hi jy (c + 1) = if jy c = 0 then vw_hi jy c else nI c := rfl
    by_cases z : jy c = 0
    · rw [es, if_pos z] at g
      exact br_f (nI_ge (b := 128) (by omega) (by omega)) ⟨hi, br_t (by rw [ec]; exact z) (nm_r (nI_1 c) g)⟩
    · rw [es, if_neg z] at g
      exact br_f (nI_ge (b := 128) (by omega) (by omega)) ⟨hi, br_f (by rw [ec]; exact z) (nm_r (nI_1 c) g)⟩
theorem vy_ct {post : Int32 → SY → Prop} {a : Nat} (ha : a < 32) (h : post (vw_ct jy a 3) (vo, st, w, s, t, jy)) : ∀ d b, b + d = 3 → wY_justifiedIn_20 post (nI a) vo st w s t jy (d + 1) (vw_ct jy a b) (nI b) := by
  intro d
  induction d with
  | zero =>
    intro b e
    have e' : b = 3 := by omega
    subst e'
    exact br_t (nI_le (a := 3) (Nat.le_refl _) (by omega)) h
  | succ d ih =>
    intro b e
    have e4 : (4 * nI a) + nI b = nI (4 * a + b) := by
      have e1 : 4 * nI a = nI (4 * a) := pk_mul 4 a
      rw [e1]; exact nI_add _ b
    have hi : vp_in ((4 * nI a) + nI b) 128 := by rw [e4]; exact vp_in_nI (by omega) (by omega)
    have ec : ((4 * nI a) + nI b).toNatClampNeg = 4 * a + b := by rw [e4]; exact nI_clamp (by omega)
    have es : vw_ct jy a (b + 1) = vw_ct jy a b + (if jy (4 * a + b) = 0 then 0 else 1) := rfl
    have g := ih (b + 1) (by omega)
    refine br_f (nI_ge (b := 3) (by omega) (by omega)) ⟨hi, ?_⟩
    by_cases z : jy (4 * a + b) = 0
    · rw [es, if_pos z, Int32.add_zero] at g
      exact br_t (by rw [ec]; exact z) (nm_r (nI_1 _) g)
    · rw [es, if_neg z] at g
      exact br_f (by rw [ec]; exact z) (nm_e (nm_r (nI_1 _) g))
end
end
section
/-! ===== plain laws: one vote more ===== -/
def vw_up (f : Nat → Nat) (n x : Nat) : Nat → Nat := fun j => if j = n then x else f j
theorem vw_up_s {f : Nat → Nat} {n x : Nat} : vw_up f n x n = x := if_pos rfl
theorem vw_up_n {f : Nat → Nat} {n x j : Nat} (h : j ≠ n) : vw_up f n x j = f j := if_neg h
def vw_QH (v p q : Nat) : Nat → Nat → Nat → Prop := fun a b c => a = v ∧ b = p ∧ c = q
def vw_QL (p q : Nat) : Nat → Nat → Nat → Prop := fun _ b c => b = p ∧ c = q
def vw_N (n : Nat) (W S T : Nat → Nat) : Prop := ∀ i j, i < n → j < n → W i = W j → S i = S j → T i = T j → i = j
def vw_OF (n : Nat) (W S T : Nat → Nat) (of : Int32) : Prop := ∀ v, v < 8 → (bt of v = true ↔ vw_Off n W S T v)
def vw_TB (n : Nat) (W S T : Nat → Nat) (la gb ti vc : Nat → Int32) : Prop :=
  (∀ v, v < 8 → vc v = nI (vw_cnt W v n)) ∧
  (∀ v e, v < 8 → e < 32 → ∃ c, c ≤ n ∧ ti (32 * v + e) = nI c ∧ (0 < c ↔ vw_Ex n W S T (vw_QA v e))) ∧
  (∀ v e y, v < 8 → e < 32 → y < 32 → (¬ nI y ≤ la (32 * v + e) ↔ vw_Ex n W S T (vw_QB v e y))) ∧
  (∀ v e y, v < 8 → e < 32 → y < 32 → (¬ gb (32 * v + e) ≤ nI y ↔ vw_Ex n W S T (vw_QC v e y)))
def vw_LK (n m : Nat) (W S T F G : Nat → Nat) (lf lt lv : Nat → Int32) : Prop :=
  m ≤ n ∧ (∀ k, k < m → lf k = nI (F k) ∧ lt k = nI (G k) ∧ F k < G k ∧ G k < 128) ∧
  (∀ j k, j ≤ k → k < m → G j ≤ G k) ∧
  (∀ j k, j < m → k < m → F j = F k → G j = G k → j = k) ∧
  (∀ k, k < m → vw_Ex n W S T (vw_QL (F k) (G k))) ∧
  (∀ i, i < n → ∃ k, k < m ∧ F k = S i ∧ G k = T i) ∧
  (∀ k v, k < m → v < 8 → (bt (lv k) v = true ↔ vw_Ex n W S T (vw_QH v (F k) (G k))))
section
variable {n : Nat} {W S T : Nat → Nat} {w s t : Nat → Int32} {v p q : Nat}
theorem vw_Ex_up {Q : Nat → Nat → Nat → Prop} : vw_Ex (n + 1) (vw_up W n v) (vw_up S n p) (vw_up T n q) Q ↔ (vw_Ex n W S T Q ∨ Q v p q) := by
  rw [vw_Ex_s, vw_up_s, vw_up_s, vw_up_s]
  have e : vw_Ex n (vw_up W n v) (vw_up S n p) (vw_up T n q) Q ↔ vw_Ex n W S T Q := by
    constructor
    · rintro ⟨i, hi, h⟩
      rw [vw_up_n (by omega), vw_up_n (by omega), vw_up_n (by omega)] at h
      exact ⟨i, hi, h⟩
    · rintro ⟨i, hi, h⟩
      refine ⟨i, hi, ?_⟩
      rw [vw_up_n (by omega), vw_up_n (by omega), vw_up_n (by omega)]
      exact h
  rw [e]
theorem vw_D_up (h : vw_D n W S T w s t) (hv : v < 8) (hpq : p / 4 < q / 4) (hq : q < 128) : vw_D (n + 1) (vw_up W n v) (vw_up S n p) (vw_up T n q) (upd w n (nI v)) (upd s n (nI p)) (upd t n (nI q)) := by
  intro i hi
  by_cases e : i = n
  · subst e
    rw [vw_up_s, vw_up_s, vw_up_s, pk_us, pk_us, pk_us]
    exact ⟨rfl, rfl, rfl, hv, hpq, hq⟩
  · rw [vw_up_n e, vw_up_n e, vw_up_n e, pk_un e, pk_un e, pk_un e]
    exact h i (by omega)
theorem vw_N_up (h : vw_N n W S T) (hH : ¬ vw_Ex n W S T (vw_QH v p q)) : vw_N (n + 1) (vw_up W n v) (vw_up S n p) (vw_up T n q) := by
  intro i j hi hj
  by_cases e : i = n
  · subst e
    by_cases f : j = i
    · intro _ _ _; exact f.symm
    · rw [vw_up_s, vw_up_s, vw_up_s, vw_up_n f, vw_up_n f, vw_up_n f]
      intro a b c
      exact absurd ⟨j, by omega, a.symm, b.symm, c.symm⟩ hH
  · by_cases f : j = n
    · subst f
      rw [vw_up_s, vw_up_s, vw_up_s, vw_up_n e, vw_up_n e, vw_up_n e]
      intro a b c
      exact absurd ⟨i, by omega, a, b, c⟩ hH
    · rw [vw_up_n f, vw_up_n f, vw_up_n f, vw_up_n e, vw_up_n e, vw_up_n e]
      exact h i j (by omega) (by omega)
theorem vw_P_up {x i j : Nat} (hi : i < n) (hj : j < n) : vw_P (vw_up W n v) (vw_up S n p) (vw_up T n q) x i j ↔ vw_P W S T x i j := by
  unfold vw_P
  rw [vw_up_n (by omega), vw_up_n (by omega), vw_up_n (by omega), vw_up_n (by omega), vw_up_n (by omega), vw_up_n (by omega)]
theorem vw_Off_up {x : Nat} : vw_Off (n + 1) (vw_up W n v) (vw_up S n p) (vw_up T n q) x ↔ (vw_Off n W S T x ∨ (x = v ∧ (vw_Ex n W S T (vw_QA v (q / 4)) ∨ vw_Ex n W S T (vw_QB v (p / 4) (q / 4)) ∨ vw_Ex n W S T (vw_QC v (p / 4) (q / 4))))) := by
  constructor
  · rintro ⟨i, j, hi, hj, h⟩
    rcases Nat.lt_or_ge i n with a | a
    · rcases Nat.lt_or_ge j n with b | b
      · exact Or.inl ⟨i, j, a, b, (vw_P_up a b).mp h⟩
      · have e : j = n := by omega
        subst e
        obtain ⟨h1, h2, h3, h4⟩ := h
        rw [vw_up_s] at h3
        rw [vw_up_n h1] at h2
        rw [vw_up_n h1, vw_up_n h1, vw_up_s, vw_up_s] at h4
        subst h3
        rcases h4 with g | g
        · exact Or.inr ⟨rfl, Or.inl ⟨i, a, h2, g⟩⟩
        · exact Or.inr ⟨rfl, Or.inr (Or.inr ⟨i, a, h2, g.1, g.2⟩)⟩
    · have e : i = n := by omega
      subst e
      obtain ⟨h1, h2, h3, h4⟩ := h
      have b : j < i := by omega
      rw [vw_up_s] at h2
      rw [vw_up_n h1.symm] at h3
      rw [vw_up_n h1.symm, vw_up_n h1.symm, vw_up_s, vw_up_s] at h4
      subst h2
      rcases h4 with g | g
      · exact Or.inr ⟨rfl, Or.inl ⟨j, b, h3, g.symm⟩⟩
      · exact Or.inr ⟨rfl, Or.inr (Or.inl ⟨j, b, h3, g.1, g.2⟩)⟩
  · rintro (⟨i, j, hi, hj, h⟩ | ⟨rfl, ⟨i, hi, h1, h2⟩ | ⟨i, hi, h1, h2, h3⟩ | ⟨i, hi, h1, h2, h3⟩⟩)
    · exact ⟨i, j, by omega, by omega, (vw_P_up hi hj).mpr h⟩
    · refine ⟨i, n, by omega, by omega, ?_⟩
      unfold vw_P
      have e : i ≠ n := by omega
      rw [vw_up_n e, vw_up_n e, vw_up_n e, vw_up_s, vw_up_s, vw_up_s]
      exact ⟨e, h1, rfl, Or.inl h2⟩
    · refine ⟨n, i, by omega, by omega, ?_⟩
      unfold vw_P
      have e : i ≠ n := by omega
      rw [vw_up_n e, vw_up_n e, vw_up_n e, vw_up_s, vw_up_s, vw_up_s]
      exact ⟨e.symm, rfl, h1, Or.inr ⟨h2, h3⟩⟩
    · refine ⟨i, n, by omega, by omega, ?_⟩
      unfold vw_P
      have e : i ≠ n := by omega
      rw [vw_up_n e, vw_up_n e, vw_up_n e, vw_up_s, vw_up_s, vw_up_s]
      exact ⟨e, h1, rfl, Or.inr ⟨h2, h3⟩⟩
theorem vw_OF_0 {of : Int32} (h : vw_OF n W S T of) (hn : ¬ (vw_Ex n W S T (vw_QA v (q / 4)) ∨ vw_Ex n W S T (vw_QB v (p / 4) (q / 4)) ∨ vw_Ex n W S T (vw_QC v (p / 4) (q / 4)))) : vw_OF (n + 1) (vw_up W n v) (vw_up S n p) (vw_up T n q) of := by
  intro x hx
  rw [vw_Off_up, h x hx]
  exact vw_orn (fun z => hn z.2)
theorem vw_OF_1 {of : Int32} (hv : v < 8) (h : vw_OF n W S T of) (hy : vw_Ex n W S T (vw_QA v (q / 4)) ∨ vw_Ex n W S T (vw_QB v (p / 4) (q / 4)) ∨ vw_Ex n W S T (vw_QC v (p / 4) (q / 4))) : vw_OF (n + 1) (vw_up W n v) (vw_up S n p) (vw_up T n q) (of ||| ((1 : Int32) <<< (nI v &&& 31))) := by
  intro x hx
  rw [vw_Off_up, vw_setb of (by omega) (by omega), h x hx]
  exact ⟨fun z => z.elim Or.inl (fun e => Or.inr ⟨e, hy⟩), fun z => z.elim Or.inl (fun e => Or.inr e.1)⟩
theorem vw_cnt_c {x : Nat} : ∀ k, k ≤ n → vw_cnt (vw_up W n v) x k = vw_cnt W x k
  | 0, _ => rfl
  | k + 1, h => by
    have a := vw_cnt_c (x := x) k (by omega)
    show vw_cnt (vw_up W n v) x k + (if vw_up W n v k = x then 1 else 0) = vw_cnt W x k + (if W k = x then 1 else 0)
    rw [a, vw_up_n (by omega)]
theorem vw_cnt_up {x : Nat} : vw_cnt (vw_up W n v) x (n + 1) = vw_cnt W x n + (if v = x then 1 else 0) := by
  show vw_cnt (vw_up W n v) x n + (if vw_up W n v n = x then 1 else 0) = _
  rw [vw_cnt_c n (Nat.le_refl _), vw_up_s]
theorem vw_min {x : Int32} {y t : Nat} (hy : y < 32) (ht : t < 32) : ¬ nI y ≤ (if x ≤ nI t then x else nI t) ↔ (¬ nI y ≤ x ∨ t < y) := by
  have ey : (nI y).toInt = y := nI_toInt (by omega)
  have et : (nI t).toInt = t := nI_toInt (by omega)
  by_cases c : x ≤ nI t
  · rw [if_pos c]
    rw [Int32.le_iff_toInt_le] at c
    rw [Int32.le_iff_toInt_le]
    omega
  · rw [if_neg c]
    rw [Int32.le_iff_toInt_le] at c
    rw [Int32.le_iff_toInt_le, Int32.le_iff_toInt_le]
    omega
theorem vw_max {x : Int32} {y t : Nat} (hy : y < 32) (ht : t < 32) : ¬ (if nI t ≤ x then x else nI t) ≤ nI y ↔ (¬ x ≤ nI y ∨ y < t) := by
  have ey : (nI y).toInt = y := nI_toInt (by omega)
  have et : (nI t).toInt = t := nI_toInt (by omega)
  by_cases c : nI t ≤ x
  · rw [if_pos c]
    rw [Int32.le_iff_toInt_le] at c
    rw [Int32.le_iff_toInt_le]
    omega
  · rw [if_neg c]
    rw [Int32.le_iff_toInt_le] at c
    rw [Int32.le_iff_toInt_le, Int32.le_iff_toInt_le]
    omega
theorem vw_TB_up {la gb ti vc : Nat → Int32} (hn : n < 64) (hv : v < 8) (hp : p < 128) (hq : q < 128) (h : vw_TB n W S T la gb ti vc) : vw_TB (n + 1) (vw_up W n v) (vw_up S n p) (vw_up T n q) (vw_la la v (p / 4) (q / 4)) (vw_gb gb v (p / 4 + 1) 32 (q / 4)) (upd ti (32 * v + q / 4) (ti (32 * v + q / 4) + 1)) (upd vc v (vc v + 1)) := by
  obtain ⟨h1, h2, h3, h4⟩ := h
  refine ⟨fun x hx => ?_, fun x e hx he => ?_, fun x e y hx he hy => ?_, fun x e y hx he hy => ?_⟩
  · rw [vw_cnt_up]
    by_cases c : x = v
    · subst c
      rw [pk_us, if_pos rfl, h1 x hx, nI_1]
    · rw [pk_un c, if_neg (fun z => c z.symm), h1 x hx]; rfl
  · obtain ⟨c, hc, e1, e2⟩ := h2 x e hx he
    by_cases g : x = v ∧ e = q / 4
    · obtain ⟨rfl, rfl⟩ := g
      refine ⟨c + 1, by omega, by rw [pk_us, e1, nI_1], ?_⟩
      rw [vw_Ex_up]
      exact ⟨fun _ => Or.inr ⟨rfl, rfl⟩, fun _ => by omega⟩
    · refine ⟨c, by omega, by rw [pk_un (by omega)]; exact e1, ?_⟩
      rw [vw_Ex_up, e2]
      exact vw_orn (fun z => g ⟨z.1.symm, z.2.symm⟩)
  · rw [vw_Ex_up, ← h3 x e y hx he hy]
    unfold vw_la
    by_cases g : 32 * v ≤ 32 * x + e ∧ 32 * x + e < 32 * v + p / 4
    · rw [if_pos g, vw_min hy (by omega)]
      have a : v = x := by omega
      have b : e < p / 4 := by omega
      exact ⟨fun z => z.elim Or.inl (fun k => Or.inr ⟨a, b, k⟩), fun z => z.elim Or.inl (fun k => Or.inr k.2.2)⟩
    · rw [if_neg g]
      exact vw_orn (fun z => g (by have a := z.1
                                   have b := z.2.1
                                   omega))
  · rw [vw_Ex_up, ← h4 x e y hx he hy]
    unfold vw_gb
    by_cases g : 32 * v + (p / 4 + 1) ≤ 32 * x + e ∧ 32 * x + e < 32 * v + 32
    · rw [if_pos g, vw_max hy (by omega)]
      have a : v = x := by omega
      have b : p / 4 < e := by omega
      exact ⟨fun z => z.elim Or.inl (fun k => Or.inr ⟨a, b, k⟩), fun z => z.elim Or.inl (fun k => Or.inr k.2.2)⟩
    · rw [if_neg g]
      exact vw_orn (fun z => g (by have a := z.1
                                   have b := z.2.1
                                   omega))
/-! ===== links: a voter more on link k ===== -/
theorem vw_LK_a {m k : Nat} {F G : Nat → Nat} {lf lt lv : Nat → Int32} (hv : v < 8) (h : vw_LK n m W S T F G lf lt lv) (hk : k < m) (eF : F k = p) (eG : G k = q) : vw_LK (n + 1) m (vw_up W n v) (vw_up S n p) (vw_up T n q) F G lf lt (upd lv k (lv k ||| ((1 : Int32) <<< (nI v &&& 31)))) := by
  obtain ⟨h1, h2, h3, h4, h5, h6, h7⟩ := h
  refine ⟨by omega, h2, h3, h4, fun j hj => ?_, fun i hi => ?_, fun j x hj hx => ?_⟩
  · rw [vw_Ex_up]; exact Or.inl (h5 j hj)
  · by_cases e : i = n
    · subst e
      rw [vw_up_s, vw_up_s]
      exact ⟨k, hk, eF, eG⟩
    · rw [vw_up_n e, vw_up_n e]
      exact h6 i (by omega)
  · rw [vw_Ex_up]
    by_cases e : j = k
    · subst e
      rw [pk_us, vw_setb _ (by omega) (by omega), h7 j x hj hx]
      exact ⟨fun z => z.elim Or.inl (fun y => Or.inr ⟨y.symm, eF.symm, eG.symm⟩), fun z => z.elim Or.inl (fun y => Or.inr y.1.symm)⟩
    · rw [pk_un e, h7 j x hj hx]
      exact vw_orn (fun z => e (h4 j k hj hk (z.2.1.symm.trans eF.symm) (z.2.2.symm.trans eG.symm)))
end
/-! ===== links: a new one at place a ===== -/
def vw_nh (f : Nat → Nat) (a x : Nat) : Nat → Nat := fun j => if j = a then x else if a < j then f (j - 1) else f j
theorem vw_nh_a {f : Nat → Nat} {a x : Nat} : vw_nh f a x a = x := if_pos rfl
theorem vw_nh_c {m a j : Nat} (hj : j < m + 1) (ha : a ≤ m) (e : j ≠ a) : ∃ i, i < m ∧ ((j < a ∧ i = j) ∨ (a < j ∧ j = i + 1)) ∧ (∀ f x, vw_nh f a x j = f i) ∧ (∀ (g : Nat → Int32) y, upd (vw_sh g m a) a y j = g i) := by
  rcases Nat.lt_or_ge j a with c | c
  · refine ⟨j, by omega, Or.inl ⟨c, rfl⟩, fun f x => ?_, fun g y => ?_⟩
    · unfold vw_nh; rw [if_neg e, if_neg (by omega)]
    · rw [pk_un e]; unfold vw_sh; rw [if_neg (by omega)]
  · refine ⟨j - 1, by omega, Or.inr ⟨by omega, by omega⟩, fun f x => ?_, fun g y => ?_⟩
    · unfold vw_nh; rw [if_neg e, if_pos (by omega)]
    · rw [pk_un e]; unfold vw_sh; rw [if_pos (by omega)]
theorem vw_nh_b {m a i : Nat} (hi : i < m) : ∃ j, j < m + 1 ∧ ∀ f x, vw_nh f a x j = f i := by
  rcases Nat.lt_or_ge i a with c | c
  · refine ⟨i, by omega, fun f x => ?_⟩
    unfold vw_nh; rw [if_neg (by omega), if_neg (by omega)]
  · refine ⟨i + 1, by omega, fun f x => ?_⟩
    unfold vw_nh; rw [if_neg (by omega), if_pos (by omega), Nat.add_sub_cancel]
section
variable {n : Nat} {W S T : Nat → Nat} {w s t : Nat → Int32} {v p q : Nat}
theorem vw_LK_b {m a : Nat} {F G : Nat → Nat} {lf lt lv : Nat → Int32} (hv : v < 8) (hpq : p < q) (hq : q < 128) (h : vw_LK n m W S T F G lf lt lv) (hno : ∀ k, k < m → ¬ (lf k = nI p ∧ lt k = nI q)) (ha : a ≤ m) (hb : ∀ j, a ≤ j → j < m → ¬ lt j ≤ nI q) (hc : ∀ j, j + 1 = a → lt j ≤ nI q) : vw_LK (n + 1) (m + 1) (vw_up W n v) (vw_up S n p) (vw_up T n q) (vw_nh F a p) (vw_nh G a q) (upd (vw_sh lf m a) a (nI p)) (upd (vw_sh lt m a) a (nI q)) (upd (upd (vw_sh lv m a) a 0) a (upd (vw_sh lv m a) a 0 a ||| ((1 : Int32) <<< (nI v &&& 31)))) := by
  obtain ⟨h1, h2, h3, h4, h5, h6, h7⟩ := h
  have no : ∀ k, k < m → ¬ (F k = p ∧ G k = q) := by
    intro k hk z
    have l := h2 k hk
    rw [z.1, z.2] at l
    exact hno k hk ⟨l.1, l.2.1⟩
  have hi : ∀ j, a ≤ j → j < m → q < G j := by
    intro j j1 j2
    have z := hb j j1 j2
    have l := h2 j j2
    rw [l.2.1, nI_leI (by omega) (by omega)] at z
    omega
  have lo : ∀ j, j < a → G j ≤ q := by
    intro j hj
    have z := hc (a - 1) (by omega)
    have l := h2 (a - 1) (by omega)
    rw [l.2.1, nI_leI (by omega) (by omega)] at z
    have y := h3 j (a - 1) (by omega) (by omega)
    omega
  refine ⟨by omega, fun j hj => ?_, fun j k hjk hk => ?_, fun j k hj hk => ?_, fun j hj => ?_, fun i hi => ?_, fun j x hj hx => ?_⟩
  · by_cases e : j = a
    · subst e
      rw [vw_nh_a, vw_nh_a, pk_us, pk_us]
      exact ⟨rfl, rfl, hpq, hq⟩
    · obtain ⟨i, i1, i2, i3, i4⟩ := vw_nh_c hj ha e
      rw [i3, i3, i4, i4]
      exact h2 i i1
  · by_cases e : j = a
    · subst e
      rw [vw_nh_a]
      by_cases f : k = j
      · subst f
        rw [vw_nh_a]
        exact Nat.le_refl _
      · obtain ⟨i, i1, i2, i3, i4⟩ := vw_nh_c hk ha f
        rw [i3]
        have := hi i (by omega) i1
        omega
    · obtain ⟨i, i1, i2, i3, i4⟩ := vw_nh_c (m := m) (by omega) ha e
      rw [i3]
      by_cases f : k = a
      · subst f
        rw [vw_nh_a]
        exact lo i (by omega)
      · obtain ⟨l, l1, l2, l3, l4⟩ := vw_nh_c hk ha f
        rw [l3]
        exact h3 i l (by omega) l1
  · by_cases e : j = a
    · subst e
      rw [vw_nh_a, vw_nh_a]
      by_cases f : k = j
      · intro _ _; exact f.symm
      · obtain ⟨i, i1, i2, i3, i4⟩ := vw_nh_c hk ha f
        rw [i3, i3]
        intro x y
        exact absurd ⟨x.symm, y.symm⟩ (no i i1)
    · obtain ⟨i, i1, i2, i3, i4⟩ := vw_nh_c hj ha e
      rw [i3, i3]
      by_cases f : k = a
      · subst f
        rw [vw_nh_a, vw_nh_a]
        intro x y
        exact absurd ⟨x, y⟩ (no i i1)
      · obtain ⟨l, l1, l2, l3, l4⟩ := vw_nh_c hk ha f
        rw [l3, l3]
        intro x y
        have z := h4 i l i1 l1 x y
        omega
  · rw [vw_Ex_up]
    by_cases e : j = a
    · subst e
      rw [vw_nh_a, vw_nh_a]
      exact Or.inr ⟨rfl, rfl⟩
    · obtain ⟨i, i1, i2, i3, i4⟩ := vw_nh_c hj ha e
      rw [i3, i3]
      exact Or.inl (h5 i i1)
  · by_cases e : i = n
    · subst e
      refine ⟨a, by omega, ?_, ?_⟩
      · rw [vw_nh_a, vw_up_s]
      · rw [vw_nh_a, vw_up_s]
    · obtain ⟨k, k1, k2, k3⟩ := h6 i (by omega)
      obtain ⟨j, j1, j2⟩ := vw_nh_b (a := a) k1
      refine ⟨j, j1, ?_, ?_⟩
      · rw [j2, vw_up_n e]; exact k2
      · rw [j2, vw_up_n e]; exact k3
  · rw [vw_Ex_up]
    by_cases e : j = a
    · subst e
      rw [vw_nh_a, vw_nh_a, pk_us, pk_us, vw_setb _ (by omega) (by omega)]
      constructor
      · rintro (z | z)
        · rw [b_0] at z; exact absurd z (by decide)
        · exact Or.inr ⟨z.symm, rfl, rfl⟩
      · rintro (⟨i, i1, i2, i3, i4⟩ | z)
        · obtain ⟨k, k1, k2, k3⟩ := h6 i i1
          exact absurd ⟨k2.trans i3, k3.trans i4⟩ (no k k1)
        · exact Or.inr z.1.symm
    · obtain ⟨i, i1, i2, i3, i4⟩ := vw_nh_c hj ha e
      rw [i3, i3, pk_un e, i4, h7 i x i1 hx]
      exact vw_orn (fun z => no i i1 ⟨z.2.1.symm, z.2.2.symm⟩)
/-! ===== support: each voter of a link has one vote ===== -/
theorem vw_sum {st : Nat → Int32} {x1 x2 : Int32} (hD : vw_D n W S T w s t) (hN : vw_N n W S T) : ∀ k, k ≤ n → ∀ P : Nat → Bool, (∀ v, v < 8 → (P v = true ↔ ∃ i, i < k ∧ W i = v ∧ s i = x1 ∧ t i = x2)) → vw_sm st P 8 = vw_ys st w s t x1 x2 k := by
  intro k
  induction k with
  | zero =>
    intro _ P hP
    exact vw_sm_none (fun v hv z => by
      obtain ⟨i, hi, _⟩ := (hP v hv).mp z
      exact absurd hi (Nat.not_lt_zero i))
  | succ k ih =>
    intro hk P hP
    obtain ⟨d1, d2, d3, d4, d5, d6⟩ := hD k (by omega)
    by_cases g : s k = x1 ∧ t k = x2
    · have e : (w k).toNatClampNeg = W k := by rw [d1]; exact nI_clamp (by omega)
      have pk : P (W k) = true := (hP _ d4).mpr ⟨k, by omega, rfl, g⟩
      rw [vw_ys_y g, e, vw_sm_take pk d4, ih (by omega)]
      intro v hv
      rw [Bool.and_eq_true, decide_eq_true_iff, hP v hv]
      constructor
      · rintro ⟨⟨i, i1, i2, i3⟩, z⟩
        have c : i ≠ k := fun y => z (by rw [← i2, y])
        exact ⟨i, by omega, i2, i3⟩
      · rintro ⟨i, i1, i2, i3, i4⟩
        refine ⟨⟨i, by omega, i2, i3, i4⟩, fun z => ?_⟩
        obtain ⟨c1, c2, c3, c4, c5, c6⟩ := hD i (by omega)
        have es : S i = S k := (nI_eq (by omega) (by omega)).mp (by rw [← c2, ← d2, i3, g.1])
        have et : T i = T k := (nI_eq (by omega) (by omega)).mp (by rw [← c3, ← d3, i4, g.2])
        have := hN i k (by omega) (by omega) (by omega) es et
        omega
    · rw [vw_ys_n g]
      refine ih (by omega) P (fun v hv => ?_)
      rw [hP v hv]
      constructor
      · rintro ⟨i, i1, i2, i3⟩
        have c : i ≠ k := fun y => g (by rw [← y]; exact i3)
        exact ⟨i, by omega, i2, i3⟩
      · rintro ⟨i, i1, i2⟩
        exact ⟨i, by omega, i2⟩
theorem vw_lsum {m k : Nat} {F G : Nat → Nat} {st lf lt lv : Nat → Int32} (hD : vw_D n W S T w s t) (hN : vw_N n W S T) (h : vw_LK n m W S T F G lf lt lv) (hk : k < m) : vw_sm st (bt (lv k)) 8 = vw_ys st w s t (nI (F k)) (nI (G k)) n := by
  obtain ⟨h1, h2, h3, h4, h5, h6, h7⟩ := h
  refine vw_sum hD hN n (Nat.le_refl _) _ (fun v hv => ?_)
  rw [h7 k v hk hv]
  obtain ⟨l1, l2, l3, l4⟩ := h2 k hk
  constructor
  · rintro ⟨i, i1, i2, i3, i4⟩
    obtain ⟨c1, c2, c3, c4, c5, c6⟩ := hD i i1
    exact ⟨i, i1, i2, by rw [c2, i3], by rw [c3, i4]⟩
  · rintro ⟨i, i1, i2, i3, i4⟩
    obtain ⟨c1, c2, c3, c4, c5, c6⟩ := hD i i1
    rw [c2] at i3
    rw [c3] at i4
    exact ⟨i, i1, i2, (nI_eq (by omega) (by omega)).mp i3, (nI_eq (by omega) (by omega)).mp i4⟩
theorem vw_ys_none {st : Nat → Int32} {x1 x2 : Int32} : ∀ k, (∀ i, i < k → ¬ (s i = x1 ∧ t i = x2)) → vw_ys st w s t x1 x2 k = 0
  | 0, _ => rfl
  | k + 1, h => by rw [vw_ys_n (h k (by omega))]; exact vw_ys_none k (fun i hi => h i (by omega))
/-- links and votes: the same pairs, the same support -/
theorem vw_lv {m : Nat} {F G : Nat → Nat} {st lf lt lv : Nat → Int32} {R : Nat → Nat → Prop} (hD : vw_D n W S T w s t) (hN : vw_N n W S T) (h : vw_LK n m W S T F G lf lt lv) : (∃ k, k < m ∧ R (F k) (G k) ∧ vw_sup st (vw_sm st (bt (lv k)) 8)) ↔ (∃ i, i < n ∧ R (S i) (T i) ∧ vw_sup st (vw_ys st w s t (nI (S i)) (nI (T i)) n)) := by
  constructor
  · rintro ⟨k, k1, k2, k3⟩
    obtain ⟨i, i1, i2, i3⟩ := h.2.2.2.2.1 k k1
    refine ⟨i, i1, by rw [i2, i3]; exact k2, ?_⟩
    rw [i2, i3, ← vw_lsum hD hN h k1]
    exact k3
  · rintro ⟨i, i1, i2, i3⟩
    obtain ⟨k, k1, k2, k3⟩ := h.2.2.2.2.2.1 i i1
    refine ⟨k, k1, by rw [k2, k3]; exact i2, ?_⟩
    rw [vw_lsum hD hN h k1, k2, k3]
    exact i3
theorem vw_K_J {m : Nat} {F G : Nat → Nat} {st lf lt lv ju : Nat → Int32} (hD : vw_D n W S T w s t) (hN : vw_N n W S T) (h : vw_LK n m W S T F G lf lt lv) (hK : vw_K st lv F G m ju) : vw_Jq n S T (fun i => vw_sup st (vw_ys st w s t (nI (S i)) (nI (T i)) n)) ju := by
  intro c hc
  rw [hK c hc]
  have e := vw_lv (st := st) (R := fun b d => d = c ∧ ¬ ju b = 0) hD hN h
  constructor
  · rintro (z | ⟨j, j1, j2, j3, j4⟩)
    · exact Or.inl z
    · obtain ⟨i, i1, i2, i3⟩ := e.mp ⟨j, j1, ⟨j2, j3⟩, j4⟩
      exact Or.inr ⟨i, i1, i2.1, i2.2, i3⟩
  · rintro (z | ⟨j, j1, j2, j3, j4⟩)
    · exact Or.inl z
    · obtain ⟨i, i1, i2, i3⟩ := e.mpr ⟨j, j1, ⟨j2, j3⟩, j4⟩
      exact Or.inr ⟨i, i1, i2.1, i2.2, i3⟩
theorem vw_same {m : Nat} {F G : Nat → Nat} {st lf lt lv ju jy : Nat → Int32} (hD : vw_D n W S T w s t) (hN : vw_N n W S T) (h : vw_LK n m W S T F G lf lt lv) (hK : vw_K st lv F G m ju) (hJ : vw_Jq n S T (fun i => vw_sup st (vw_ys st w s t (nI (S i)) (nI (T i)) n)) jy) {c : Nat} (hc : c < 128) : ju c = 0 ↔ jy c = 0 := by
  have a := vw_Jq_un (fun i hi => by
    obtain ⟨_, _, _, _, c5, _⟩ := hD i hi
    omega) (vw_K_J hD hN h hK) hJ c hc
  constructor
  · intro z
    exact Classical.byContradiction (fun y => a.mpr y z)
  · intro z
    exact Classical.byContradiction (fun y => a.mp y z)
end
end
section
/-! ===== the methods, each side by itself ===== -/
def vw_ok (v1 v2 v3 : Int32) : Prop := ∃ v p q : Nat, v < 8 ∧ p < 128 ∧ p % 4 ≠ 3 ∧ q < 128 ∧ q % 4 ≠ 3 ∧ p / 4 < q / 4 ∧ v1 = nI v ∧ v2 = nI p ∧ v3 = nI q
def vw_clip (x : Int32) : Int32 := if 0 ≤ x then (if x ≤ 100 then x else 100) else 0
section
variable {of he lk kn : Int32} {so la gb ti vc lf lt lv ju : Nat → Int32}
theorem vx_stake {post : Int32 → SX → Prop} {v : Nat} {x : Int32} (hv : v < 8) (h : post (so v) (of, he, lk, 0, upd so v (vw_clip x), la, gb, ti, vc, lf, lt, lv, ju)) : wpX_stake post (of, he, lk, kn, so, la, gb, ti, vc, lf, lt, lv, ju) (nI v) x := by
  have i1 : vp_in (nI v) 8 := vp_in_nI (by omega) (by omega)
  have c1 : (nI v).toNatClampNeg = v := nI_clamp (by omega)
  unfold wpX_stake
  dsimp only
  rw [c1]
  refine vx_val1 hv (br_f (by decide) ⟨i1, nm_e ?_⟩)
  unfold vw_clip at h
  by_cases h0 : 0 ≤ x
  · rw [if_pos h0] at h
    refine br_t h0 ?_
    by_cases h1 : x ≤ 100
    · rw [if_pos h1] at h
      exact br_t h1 ⟨i1, nm_e h⟩
    · rw [if_neg h1] at h
      exact br_f h1 ⟨i1, nm_e h⟩
  · rw [if_neg h0] at h
    exact br_f h0 ⟨i1, nm_e h⟩
theorem vx_vote_bad {post : Int32 → SX → Prop} {v1 v2 v3 : Int32} (hx : ¬ vw_ok v1 v2 v3) (h : post (-1) (of, he, lk, kn, so, la, gb, ti, vc, lf, lt, lv, ju)) : wpX_vote post (of, he, lk, kn, so, la, gb, ti, vc, lf, lt, lv, ju) v1 v2 v3 := by
  unfold wpX_vote
  dsimp only
  by_cases a1 : ∃ v, v < 8 ∧ v1 = nI v
  · obtain ⟨v, hv, rfl⟩ := a1
    refine vx_val1 hv (br_f (by decide) ?_)
    by_cases a2 : ∃ c, c < 128 ∧ c % 4 ≠ 3 ∧ v2 = nI c
    · obtain ⟨p, hp, hp3, rfl⟩ := a2
      refine vx_cp1 hp hp3 (br_f (by decide) ?_)
      by_cases a3 : ∃ c, c < 128 ∧ c % 4 ≠ 3 ∧ v3 = nI c
      · obtain ⟨q, hq, hq3, rfl⟩ := a3
        refine vx_cp1 hq hq3 (br_f (by decide) ?_)
        exact pk_lt (p / 4) (q / 4) (fun g => absurd ⟨v, p, q, hv, hp, hp3, hq, hq3, g, rfl, rfl, rfl⟩ hx) (fun _ => h) (vw_s2 (by omega)) (vw_s2 (by omega))
      · exact vx_cp0 a3 (br_t rfl h)
    · exact vx_cp0 a2 (br_t rfl h)
  · exact vx_val0 a1 (br_t rfl h)
theorem vx_v64a {post : Int32 → SX → Prop} {v p q k n : Nat} (hv : v < 8) (hp : p < 128) (hq : q < 128) (hk : k < 64) (hn : n ≤ 64) (h2 : n = 64 → post (-2) (of, nI n, lk, kn, so, la, gb, ti, vc, lf, lt, lv, ju)) (h : n < 64 → ∀ r of', vw_ans (¬ ti (32 * v + q / 4) ≤ 0) (¬ nI (q / 4) ≤ la (32 * v + p / 4)) (¬ gb (32 * v + p / 4) ≤ nI (q / 4)) r → (r = 0 ∧ of' = of ∨ ¬ r = 0 ∧ of' = of ||| ((1 : Int32) <<< (nI v &&& 31))) → post r (of', nI (n + 1), lk, 0, so, vw_la la v (p / 4) (q / 4), vw_gb gb v (p / 4 + 1) 32 (q / 4), upd ti (32 * v + q / 4) (ti (32 * v + q / 4) + 1), upd vc v (vc v + 1), lf, lt, upd lv k (lv k ||| ((1 : Int32) <<< (nI v &&& 31))), ju)) : wX_vote_64 post (nI v) (nI p) (nI q) (nI k) 0 of (nI n) lk kn so la gb ti vc lf lt lv ju := by
  unfold wX_vote_64
  rw [vw_s2 (by omega), vw_s2 (by omega)]
  refine br_t rfl (pk_lt n 64 (fun g => ?_) (fun g => h2 (by omega)))
  refine vx_judge hv (by omega) (by omega) (fun r hr => br_c (fun z => ?_) (fun z => ?_))
  · exact vx_v113a hv hp hq hk (h g r of hr (Or.inl ⟨z, rfl⟩))
  · exact nm_e (vx_v113a hv hp hq hk (h g r _ hr (Or.inr ⟨z, rfl⟩)))
theorem vx_v64b {post : Int32 → SX → Prop} {v p q n m : Nat} (hv : v < 8) (hp : p < 128) (hq : q < 128) (hm : m ≤ n) (hn : n ≤ 64) (h2 : n = 64 → post (-2) (of, nI n, nI m, kn, so, la, gb, ti, vc, lf, lt, lv, ju)) (h : n < 64 → ∀ r of' a, vw_ans (¬ ti (32 * v + q / 4) ≤ 0) (¬ nI (q / 4) ≤ la (32 * v + p / 4)) (¬ gb (32 * v + p / 4) ≤ nI (q / 4)) r → (r = 0 ∧ of' = of ∨ ¬ r = 0 ∧ of' = of ||| ((1 : Int32) <<< (nI v &&& 31))) → a ≤ m → (∀ j, a ≤ j → j < m → ¬ lt j ≤ nI q) → (∀ j, j + 1 = a → lt j ≤ nI q) → post r (of', nI (n + 1), nI (m + 1), 0, so, vw_la la v (p / 4) (q / 4), vw_gb gb v (p / 4 + 1) 32 (q / 4), upd ti (32 * v + q / 4) (ti (32 * v + q / 4) + 1), upd vc v (vc v + 1), upd (vw_sh lf m a) a (nI p), upd (vw_sh lt m a) a (nI q), upd (upd (vw_sh lv m a) a 0) a (upd (vw_sh lv m a) a 0 a ||| ((1 : Int32) <<< (nI v &&& 31))), ju)) : wX_vote_64 post (nI v) (nI p) (nI q) (-1) 0 of (nI n) (nI m) kn so la gb ti vc lf lt lv ju := by
  unfold wX_vote_64
  rw [vw_s2 (by omega), vw_s2 (by omega)]
  refine br_t rfl (pk_lt n 64 (fun g => ?_) (fun g => h2 (by omega)))
  refine vx_judge hv (by omega) (by omega) (fun r hr => br_c (fun z => ?_) (fun z => ?_))
  · exact vx_v113b hv hp hq (by omega) (fun a => h g r of a hr (Or.inl ⟨z, rfl⟩))
  · exact nm_e (vx_v113b hv hp hq (by omega) (fun a => h g r _ a hr (Or.inr ⟨z, rfl⟩)))
theorem vx_vote {post : Int32 → SX → Prop} {v p q n m : Nat} (hv : v < 8) (hp : p < 128) (hp3 : p % 4 ≠ 3) (hq : q < 128) (hq3 : q % 4 ≠ 3) (hpq : p / 4 < q / 4) (hm : m ≤ n) (hn : n ≤ 64) (h1 : ∀ k, k < m → lf k = nI p → lt k = nI q → bt (lv k) v = true → post (-2) (of, nI n, nI m, kn, so, la, gb, ti, vc, lf, lt, lv, ju)) (h2 : n = 64 → post (-2) (of, nI n, nI m, kn, so, la, gb, ti, vc, lf, lt, lv, ju)) (h3 : ∀ k, k < m → lf k = nI p → lt k = nI q → ¬ bt (lv k) v = true → n < 64 → ∀ r of', vw_ans (¬ ti (32 * v + q / 4) ≤ 0) (¬ nI (q / 4) ≤ la (32 * v + p / 4)) (¬ gb (32 * v + p / 4) ≤ nI (q / 4)) r → (r = 0 ∧ of' = of ∨ ¬ r = 0 ∧ of' = of ||| ((1 : Int32) <<< (nI v &&& 31))) → post r (of', nI (n + 1), nI m, 0, so, vw_la la v (p / 4) (q / 4), vw_gb gb v (p / 4 + 1) 32 (q / 4), upd ti (32 * v + q / 4) (ti (32 * v + q / 4) + 1), upd vc v (vc v + 1), lf, lt, upd lv k (lv k ||| ((1 : Int32) <<< (nI v &&& 31))), ju)) (h4 : (∀ k, k < m → ¬ (lf k = nI p ∧ lt k = nI q)) → n < 64 → ∀ r of' a, vw_ans (¬ ti (32 * v + q / 4) ≤ 0) (¬ nI (q / 4) ≤ la (32 * v + p / 4)) (¬ gb (32 * v + p / 4) ≤ nI (q / 4)) r → (r = 0 ∧ of' = of ∨ ¬ r = 0 ∧ of' = of ||| ((1 : Int32) <<< (nI v &&& 31))) → a ≤ m → (∀ j, a ≤ j → j < m → ¬ lt j ≤ nI q) → (∀ j, j + 1 = a → lt j ≤ nI q) → post r (of', nI (n + 1), nI (m + 1), 0, so, vw_la la v (p / 4) (q / 4), vw_gb gb v (p / 4 + 1) 32 (q / 4), upd ti (32 * v + q / 4) (ti (32 * v + q / 4) + 1), upd vc v (vc v + 1), upd (vw_sh lf m a) a (nI p), upd (vw_sh lt m a) a (nI q), upd (upd (vw_sh lv m a) a 0) a (upd (vw_sh lv m a) a 0 a ||| ((1 : Int32) <<< (nI v &&& 31))), ju)) : wpX_vote post (of, nI n, nI m, kn, so, la, gb, ti, vc, lf, lt, lv, ju) (nI v) (nI p) (nI q) := by
  unfold wpX_vote
  dsimp only
  refine vx_val1 hv (br_f (by decide) (vx_cp1 hp hp3 (br_f (by decide) (vx_cp1 hq hq3 (br_f (by decide) ?_)))))
  refine pk_lt (p / 4) (q / 4) (fun _ => ?_) (fun g => absurd hpq (by omega)) (vw_s2 (by omega)) (vw_s2 (by omega))
  refine vx_linkOf (by omega) (fun k hk e1 e2 => ?_) (fun hno => ?_)
  · have i1 : vp_in (nI k) 64 := vp_in_nI (by omega) (by omega)
    have c1 : (nI k).toNatClampNeg = k := nI_clamp (by omega)
    refine br_f (nI_pos (by omega)) ⟨i1, ?_⟩
    rw [c1]
    by_cases hb : bt (lv k) v = true
    · exact br_f (fun z => (vw_bit0 (by omega)).mp z hb) (br_f (by decide) (h1 k hk e1 e2 hb))
    · exact br_t ((vw_bit0 (by omega)).mpr hb) (vx_v64a hv hp hq (by omega) hn h2 (fun g => h3 k hk e1 e2 hb g))
  · exact br_t (by decide) (vx_v64b hv hp hq hm hn h2 (fun g => h4 hno g))
theorem vx_justified {post : Int32 → SX → Prop} {m c : Nat} {F G : Nat → Nat} (hm : m ≤ 64) (hl : ∀ k, k < m → lf k = nI (F k) ∧ lt k = nI (G k) ∧ F k < G k ∧ G k < 128) (hs : ∀ j k, j ≤ k → k < m → G j ≤ G k) (hk : ¬ kn = 0 → vw_K so lv F G m ju) (hc : c < 128) (h3 : c % 4 ≠ 3) (h0 : ∀ kn' ju', vw_K so lv F G m ju' → ju' c = 0 → post 0 (of, he, nI m, kn', so, la, gb, ti, vc, lf, lt, lv, ju')) (h1 : ∀ kn' ju', vw_K so lv F G m ju' → ¬ ju' c = 0 → post 1 (of, he, nI m, kn', so, la, gb, ti, vc, lf, lt, lv, ju')) : wpX_justified post (of, he, nI m, kn, so, la, gb, ti, vc, lf, lt, lv, ju) (nI c) := by
  have i1 : vp_in (nI c) 128 := vp_in_nI (by omega) (by omega)
  have c1 : (nI c).toNatClampNeg = c := nI_clamp (by omega)
  unfold wpX_justified
  dsimp only
  rw [c1]
  exact vx_cp1 hc h3 (br_f (by decide) (vx_justifyAll hm hl hs hk (fun kn' ju' _ g => ⟨i1, br_c (fun z => h0 kn' ju' g z) (fun z => h1 kn' ju' g z)⟩)))
theorem vx_isFinal {post : Int32 → SX → Prop} {m c : Nat} {F G : Nat → Nat} (hm : m ≤ 64) (hl : ∀ k, k < m → lf k = nI (F k) ∧ lt k = nI (G k) ∧ F k < G k ∧ G k < 128) (hs : ∀ j k, j ≤ k → k < m → G j ≤ G k) (hk : ¬ kn = 0 → vw_K so lv F G m ju) (hc : c < 128) (h3 : c % 4 ≠ 3) (h0 : ∀ kn' ju', vw_K so lv F G m ju' → (ju' c = 0 ∨ ¬ ∃ k, k < m ∧ F k = c ∧ G k / 4 = c / 4 + 1 ∧ vw_sup so (vw_sm so (bt (lv k)) 8)) → post 0 (of, he, nI m, kn', so, la, gb, ti, vc, lf, lt, lv, ju')) (h1 : ∀ kn' ju', vw_K so lv F G m ju' → ¬ ju' c = 0 → (∃ k, k < m ∧ F k = c ∧ G k / 4 = c / 4 + 1 ∧ vw_sup so (vw_sm so (bt (lv k)) 8)) → post 1 (of, he, nI m, kn', so, la, gb, ti, vc, lf, lt, lv, ju')) : wpX_isFinal post (of, he, nI m, kn, so, la, gb, ti, vc, lf, lt, lv, ju) (nI c) := by
  have i1 : vp_in (nI c) 128 := vp_in_nI (by omega) (by omega)
  have c1 : (nI c).toNatClampNeg = c := nI_clamp (by omega)
  unfold wpX_isFinal
  dsimp only
  rw [c1]
  exact vx_cp1 hc h3 (br_f (by decide) (vx_justifyAll hm hl hs hk (fun kn' ju' _ g => ⟨i1, br_c (fun z => h0 kn' ju' g (Or.inl z)) (fun z => ⟨m + 1, vx_fin hm hc hl (fun y => h1 kn' ju' g z y) (fun y => h0 kn' ju' g (Or.inr y)) m 0 (by omega) lt_0⟩)⟩)))
theorem vx_highest {post : Int32 → SX → Prop} {m : Nat} {F G : Nat → Nat} (hm : m ≤ 64) (hl : ∀ k, k < m → lf k = nI (F k) ∧ lt k = nI (G k) ∧ F k < G k ∧ G k < 128) (hs : ∀ j k, j ≤ k → k < m → G j ≤ G k) (hk : ¬ kn = 0 → vw_K so lv F G m ju) (h : ∀ kn' ju', vw_K so lv F G m ju' → post (vw_hi ju' 128) (of, he, nI m, kn', so, la, gb, ti, vc, lf, lt, lv, ju')) : wpX_highest post (of, he, nI m, kn, so, la, gb, ti, vc, lf, lt, lv, ju) := by
  unfold wpX_highest
  dsimp only
  exact vx_justifyAll hm hl hs hk (fun kn' ju' _ g => ⟨128 + 1, vx_hi (h kn' ju' g) 128 0 (by omega)⟩)
theorem vx_justifiedIn {post : Int32 → SX → Prop} {m a : Nat} {F G : Nat → Nat} (hm : m ≤ 64) (hl : ∀ k, k < m → lf k = nI (F k) ∧ lt k = nI (G k) ∧ F k < G k ∧ G k < 128) (hs : ∀ j k, j ≤ k → k < m → G j ≤ G k) (hk : ¬ kn = 0 → vw_K so lv F G m ju) (ha : a < 32) (h : ∀ kn' ju', vw_K so lv F G m ju' → post (vw_ct ju' a 3) (of, he, nI m, kn', so, la, gb, ti, vc, lf, lt, lv, ju')) : wpX_justifiedIn post (of, he, nI m, kn, so, la, gb, ti, vc, lf, lt, lv, ju) (nI a) := by
  unfold wpX_justifiedIn
  dsimp only
  exact br_f (nI_pos (by omega)) (br_t (nI_le (b := 31) (by omega) (by omega)) (vx_justifyAll hm hl hs hk (fun kn' ju' _ g => nm_r (e' := nI (4 * a + 0)) (pk_mul 4 a) ⟨3 + 1, vx_ct ha (h kn' ju' g) 3 0 (by omega)⟩)))
end
section
variable {vo : Int32} {st w s t jy : Nat → Int32} {n : Nat} {W S T : Nat → Nat}
theorem vy_stake {post : Int32 → SY → Prop} {v : Nat} {x : Int32} (hv : v < 8) (h : post (st v) (vo, upd st v (vw_clip x), w, s, t, jy)) : wpY_stake post (vo, st, w, s, t, jy) (nI v) x := by
  have i1 : vp_in (nI v) 8 := vp_in_nI (by omega) (by omega)
  have c1 : (nI v).toNatClampNeg = v := nI_clamp (by omega)
  unfold wpY_stake
  dsimp only
  rw [c1]
  refine vy_bad0 hv (br_t rfl ⟨i1, nm_e ?_⟩)
  unfold vw_clip at h
  by_cases h0 : 0 ≤ x
  · rw [if_pos h0] at h
    refine br_t h0 ?_
    by_cases h1 : x ≤ 100
    · rw [if_pos h1] at h
      exact br_t h1 ⟨i1, nm_e h⟩
    · rw [if_neg h1] at h
      exact br_f h1 ⟨i1, nm_e h⟩
  · rw [if_neg h0] at h
    exact br_f h0 ⟨i1, nm_e h⟩
theorem vy_vote_bad {post : Int32 → SY → Prop} {v1 v2 v3 : Int32} (hx : ¬ vw_ok v1 v2 v3) (h : post (-1) (vo, st, w, s, t, jy)) : wpY_vote post (vo, st, w, s, t, jy) v1 v2 v3 := by
  unfold wpY_vote
  dsimp only
  by_cases a1 : ∃ v, v < 8 ∧ v1 = nI v
  · obtain ⟨v, hv, rfl⟩ := a1
    refine vy_bad0 hv (br_t rfl ?_)
    by_cases a2 : ∃ c, c < 128 ∧ c % 4 ≠ 3 ∧ v2 = nI c
    · obtain ⟨p, hp, hp3, rfl⟩ := a2
      refine vy_bp0 hp hp3 (br_t rfl ?_)
      by_cases a3 : ∃ c, c < 128 ∧ c % 4 ≠ 3 ∧ v3 = nI c
      · obtain ⟨q, hq, hq3, rfl⟩ := a3
        refine vy_bp0 hq hq3 (br_t rfl ⟨vw_40, vw_40, ?_⟩)
        exact pk_lt (p / 4) (q / 4) (fun g => absurd ⟨v, p, q, hv, hp, hp3, hq, hq3, g, rfl, rfl, rfl⟩ hx) (fun _ => h) (vw_d4 (by omega)) (vw_d4 (by omega))
      · exact vy_bp1 a3 (br_f (by decide) h)
    · exact vy_bp1 a2 (br_f (by decide) h)
  · exact vy_bad1 a1 (br_f (by decide) h)
theorem vy_vote {post : Int32 → SY → Prop} {v p q : Nat} (hv : v < 8) (hp : p < 128) (hp3 : p % 4 ≠ 3) (hq : q < 128) (hq3 : q % 4 ≠ 3) (hpq : p / 4 < q / 4) (hn : n ≤ 64) (hD : vw_D n W S T w s t) (h1 : vw_Ex n W S T (vw_QH v p q) ∨ n = 64 → post (-2) (nI n, st, w, s, t, jy)) (h2 : ¬ vw_Ex n W S T (vw_QH v p q) → n < 64 → ∀ r, vw_ans (vw_Ex n W S T (vw_QA v (q / 4))) (vw_Ex n W S T (vw_QB v (p / 4) (q / 4))) (vw_Ex n W S T (vw_QC v (p / 4) (q / 4))) r → post r (nI (n + 1), st, upd w n (nI v), upd s n (nI p), upd t n (nI q), jy)) : wpY_vote post (nI n, st, w, s, t, jy) (nI v) (nI p) (nI q) := by
  unfold wpY_vote
  dsimp only
  refine vy_bad0 hv (br_t rfl (vy_bp0 hp hp3 (br_t rfl (vy_bp0 hq hq3 (br_t rfl ⟨vw_40, vw_40, ?_⟩)))))
  refine pk_lt (p / 4) (q / 4) (fun _ => ?_) (fun g => absurd hpq (by omega)) (vw_d4 (by omega)) (vw_d4 (by omega))
  refine vy_held hn (fun i hi e1 e2 e3 => ?_) (fun hno => ?_)
  · obtain ⟨c1, c2, c3, c4, c5, c6⟩ := hD i hi
    rw [c1] at e1
    rw [c2] at e2
    rw [c3] at e3
    exact br_f (by decide) (h1 (Or.inl ⟨i, hi, (nI_eq (by omega) (by omega)).mp e1, (nI_eq (by omega) (by omega)).mp e2, (nI_eq (by omega) (by omega)).mp e3⟩))
  · have hH : ¬ vw_Ex n W S T (vw_QH v p q) := by
      rintro ⟨i, hi, e1, e2, e3⟩
      obtain ⟨c1, c2, c3, c4, c5, c6⟩ := hD i hi
      exact hno i hi ⟨by rw [c1, e1], by rw [c2, e2], by rw [c3, e3]⟩
    refine br_t rfl (pk_eq n 64 (fun e => h1 (Or.inr e)) (fun e => ⟨n + 1, ?_⟩))
    exact vy_v60 (by omega) hv hp hq hD (h2 hH (by omega)) n 0 (by omega) 0 ⟨0, 0, 0, rfl, Or.inr ⟨rfl, vw_Ex_0⟩, Or.inr ⟨rfl, vw_Ex_0⟩, Or.inr ⟨rfl, vw_Ex_0⟩⟩
theorem vy_justified {post : Int32 → SY → Prop} {c : Nat} (hn : n ≤ 64) (hD : vw_D n W S T w s t) (hc : c < 128) (h3 : c % 4 ≠ 3) (h0 : ∀ ju, vw_Jq n S T (fun i => vw_sup st (vw_ys st w s t (nI (S i)) (nI (T i)) n)) ju → ju c = 0 → post 0 (nI n, st, w, s, t, ju)) (h1 : ∀ ju, vw_Jq n S T (fun i => vw_sup st (vw_ys st w s t (nI (S i)) (nI (T i)) n)) ju → ¬ ju c = 0 → post 1 (nI n, st, w, s, t, ju)) : wpY_justified post (nI n, st, w, s, t, jy) (nI c) := by
  have i1 : vp_in (nI c) 128 := vp_in_nI (by omega) (by omega)
  have c1 : (nI c).toNatClampNeg = c := nI_clamp (by omega)
  unfold wpY_justified
  dsimp only
  rw [c1]
  exact vy_bp0 hc h3 (br_t rfl (vy_justify hn hD (fun ju g => ⟨i1, br_c (fun z => h0 ju g z) (fun z => h1 ju g z)⟩)))
theorem vy_isFinal {post : Int32 → SY → Prop} {c : Nat} (hn : n ≤ 64) (hD : vw_D n W S T w s t) (hc : c < 128) (h3 : c % 4 ≠ 3) (h0 : ∀ ju, vw_Jq n S T (fun i => vw_sup st (vw_ys st w s t (nI (S i)) (nI (T i)) n)) ju → (ju c = 0 ∨ ¬ ∃ i, i < n ∧ S i = c ∧ T i / 4 = c / 4 + 1 ∧ vw_sup st (vw_ys st w s t (nI (S i)) (nI (T i)) n)) → post 0 (nI n, st, w, s, t, ju)) (h1 : ∀ ju, vw_Jq n S T (fun i => vw_sup st (vw_ys st w s t (nI (S i)) (nI (T i)) n)) ju → ¬ ju c = 0 → (∃ i, i < n ∧ S i = c ∧ T i / 4 = c / 4 + 1 ∧ vw_sup st (vw_ys st w s t (nI (S i)) (nI (T i)) n)) → post 1 (nI n, st, w, s, t, ju)) : wpY_isFinal post (nI n, st, w, s, t, jy) (nI c) := by
  unfold wpY_isFinal
  dsimp only
  exact vy_bp0 hc h3 (br_t rfl (vy_justify hn hD (fun ju g => ⟨n + 1, vy_fin hn hc hD (h1 ju g) (h0 ju g) n 0 (by omega) lt_0⟩)))
theorem vy_highest {post : Int32 → SY → Prop} (hn : n ≤ 64) (hD : vw_D n W S T w s t) (h : ∀ ju, vw_Jq n S T (fun i => vw_sup st (vw_ys st w s t (nI (S i)) (nI (T i)) n)) ju → post (vw_hi ju 128) (nI n, st, w, s, t, ju)) : wpY_highest post (nI n, st, w, s, t, jy) := by
  unfold wpY_highest
  dsimp only
  exact vy_justify hn hD (fun ju g => ⟨128 + 1, vy_hi (h ju g) 128 0 (by omega)⟩)
theorem vy_justifiedIn {post : Int32 → SY → Prop} {a : Nat} (hn : n ≤ 64) (hD : vw_D n W S T w s t) (ha : a < 32) (h : ∀ ju, vw_Jq n S T (fun i => vw_sup st (vw_ys st w s t (nI (S i)) (nI (T i)) n)) ju → post (vw_ct ju a 3) (nI n, st, w, s, t, ju)) : wpY_justifiedIn post (nI n, st, w, s, t, jy) (nI a) := by
  unfold wpY_justifiedIn
  dsimp only
  exact br_f (nI_pos (by omega)) (br_t (nI_le (b := 31) (by omega) (by omega)) (vy_justify hn hD (fun ju g => ⟨3 + 1, vy_ct ha (h ju g) 3 0 (by omega)⟩)))
end
end
section
/-! ===== the relation, and the two constructors ===== -/
def vw_R (n m : Nat) (W S T F G : Nat → Nat) (of kn : Int32) (so la gb ti vc lf lt lv ju w s t : Nat → Int32) : Prop :=
  n ≤ 64 ∧ vw_D n W S T w s t ∧ vw_N n W S T ∧ vw_OF n W S T of ∧ vw_TB n W S T la gb ti vc ∧ vw_LK n m W S T F G lf lt lv ∧ (¬ kn = 0 → vw_K so lv F G m ju)
def i_Rel (k : Nat) (u : SX) (v : SY) : Prop := match u with
  | (of, he, lk, kn, so, la, gb, ti, vc, lf, lt, lv, ju) => match v with
    | (vo, st, w, s, t, _) => ∃ (n m : Nat) (W S T F G : Nat → Nat), he = nI n ∧ lk = nI m ∧ vo = nI n ∧ st = so ∧ vw_R n m W S T F G of kn so la gb ti vc lf lt lv ju w s t
theorem vw_mk {k n m : Nat} {W S T F G : Nat → Nat} {of kn : Int32} {so la gb ti vc lf lt lv ju w s t jy : Nat → Int32} (h : vw_R n m W S T F G of kn so la gb ti vc lf lt lv ju w s t) : i_Rel k (of, nI n, nI m, kn, so, la, gb, ti, vc, lf, lt, lv, ju) (nI n, so, w, s, t, jy) := by
  unfold i_Rel
  dsimp only
  exact ⟨n, m, W, S, T, F, G, rfl, rfl, rfl, rfl, h⟩
theorem vw_el {P : SX → SY → Prop} (h : ∀ (n m : Nat) (W S T F G : Nat → Nat) (of kn : Int32) (so la gb ti vc lf lt lv ju w s t jy : Nat → Int32), vw_R n m W S T F G of kn so la gb ti vc lf lt lv ju w s t → P (of, nI n, nI m, kn, so, la, gb, ti, vc, lf, lt, lv, ju) (nI n, so, w, s, t, jy)) {k : Nat} {u : SX} {v : SY} (I : i_Rel k u v) : P u v := by
  obtain ⟨of, he, lk, kn, so, la, gb, ti, vc, lf, lt, lv, ju⟩ := u
  obtain ⟨vo, st, w, s, t, jy⟩ := v
  unfold i_Rel at I
  dsimp only at I
  obtain ⟨n, m, W, S, T, F, G, rfl, rfl, rfl, rfl, g⟩ := I
  exact h n m W S T F G of kn _ la gb ti vc lf lt lv ju w s t jy g
theorem i_up {k : Nat} {u : SX} {v : SY} (h : i_Rel k u v) : i_Rel (k + 4) u v := h
def vw_f (c : Nat) (x : Int32) : Nat → Int32 := fun j => if j < c then x else 0
theorem vw_f_0 {x : Int32} : vw_f 0 x = fun _ => 0 := funext fun j => if_neg (by omega)
theorem vw_f_s {c : Nat} {x : Int32} : upd (vw_f c x) c x = vw_f (c + 1) x := by
  funext j
  unfold upd vw_f
  by_cases e : j = c
  · rw [if_pos e, if_pos (by omega)]
  · rw [if_neg e]
    by_cases g : j < c
    · rw [if_pos g, if_pos (by omega)]
    · rw [if_neg g, if_neg (by omega)]
section
variable {of he lk kn : Int32} {so la gb ti vc lf lt lv ju : Nat → Int32}
theorem vx_in103 {post : SX → Prop} (h : post (of, he, lk, kn, so, vw_f 256 32, vw_f 256 (-1), ti, vc, lf, lt, lv, ju)) : ∀ d c, c + d = 256 → wX_init_103 post of he lk kn (d + 1) (nI c) so (vw_f c 32) (vw_f c (-1)) ti vc lf lt lv ju := by
  intro d
  induction d with
  | zero =>
    intro c e
    have e' : c = 256 := by omega
    subst e'
    exact br_t (nI_le (a := 256) (Nat.le_refl _) (by omega)) h
  | succ d ih =>
    intro c e
    have hi : vp_in (nI c) 256 := vp_in_nI (by omega) (by omega)
    have ec : (nI c).toNatClampNeg = c := nI_clamp (by omega)
    exact br_f (nI_ge (b := 256) (by omega) (by omega)) ⟨hi, nm_r (e' := vw_f (c + 1) 32) (by rw [ec]; exact vw_f_s) ⟨hi, nm_r (e' := vw_f (c + 1) (-1)) (by rw [ec]; exact vw_f_s) (nm_r (nI_1 c) (ih (c + 1) (by omega)))⟩⟩
theorem vx_in82 {post : SX → Prop} (h : ∃ k, wX_init_103 post of he lk kn k 0 (vw_f 8 1) la gb ti vc lf lt lv ju) : ∀ d c, c + d = 8 → wX_init_82 post of he lk kn (d + 1) (nI c) (vw_f c 1) la gb ti vc lf lt lv ju := by
  intro d
  induction d with
  | zero =>
    intro c e
    have e' : c = 8 := by omega
    subst e'
    exact br_t (nI_le (a := 8) (Nat.le_refl _) (by omega)) h
  | succ d ih =>
    intro c e
    have hi : vp_in (nI c) 8 := vp_in_nI (by omega) (by omega)
    have ec : (nI c).toNatClampNeg = c := nI_clamp (by omega)
    exact br_f (nI_ge (b := 8) (by omega) (by omega)) ⟨hi, nm_r (e' := vw_f (c + 1) 1) (by rw [ec]; exact vw_f_s) (nm_r (nI_1 c) (ih (c + 1) (by omega)))⟩
theorem vx_init {post : SX → Prop} (h : post (0, 0, 0, 0, vw_f 8 1, vw_f 256 32, vw_f 256 (-1), (fun _ => 0), (fun _ => 0), (fun _ => 0), (fun _ => 0), (fun _ => 0), (fun _ => 0))) : wpX_init post := by
  have g := vx_in103 h 256 0 (by omega)
  rw [vw_f_0, vw_f_0] at g
  have k := vx_in82 ⟨_, g⟩ 8 0 (by omega)
  rw [vw_f_0] at k
  exact ⟨_, k⟩
end
theorem vy_in47 {post : SY → Prop} {vo : Int32} {w s t jy : Nat → Int32} (h : post (vo, vw_f 8 1, w, s, t, jy)) : ∀ d c, c + d = 8 → wY_init_47 post vo (d + 1) (nI c) (vw_f c 1) w s t jy := by
  intro d
  induction d with
  | zero =>
    intro c e
    have e' : c = 8 := by omega
    subst e'
    exact br_t (nI_le (a := 8) (Nat.le_refl _) (by omega)) h
  | succ d ih =>
    intro c e
    have hi : vp_in (nI c) 8 := vp_in_nI (by omega) (by omega)
    have ec : (nI c).toNatClampNeg = c := nI_clamp (by omega)
    exact br_f (nI_ge (b := 8) (by omega) (by omega)) ⟨hi, nm_r (e' := vw_f (c + 1) 1) (by rw [ec]; exact vw_f_s) (nm_r (nI_1 c) (ih (c + 1) (by omega)))⟩
theorem vy_init {post : SY → Prop} (h : post (0, vw_f 8 1, (fun _ => 0), (fun _ => 0), (fun _ => 0), (fun _ => 0))) : wpY_init post := by
  have g := vy_in47 h 8 0 (by omega)
  rw [vw_f_0] at g
  exact ⟨_, g⟩
theorem vw_R0 : vw_R 0 0 (fun _ => 0) (fun _ => 0) (fun _ => 0) (fun _ => 0) (fun _ => 0) 0 0 (vw_f 8 1) (vw_f 256 32) (vw_f 256 (-1)) (fun _ => 0) (fun _ => 0) (fun _ => 0) (fun _ => 0) (fun _ => 0) (fun _ => 0) (fun _ => 0) (fun _ => 0) (fun _ => 0) := by
  refine ⟨by omega, lt_0, fun i j hi => absurd hi (Nat.not_lt_zero i), fun v hv => ?_, ⟨fun v hv => ?_, fun v e hv he => ?_, fun v e y hv he hy => ?_, fun v e y hv he hy => ?_⟩, ⟨by omega, lt_0, fun j k _ hk => absurd hk (Nat.not_lt_zero k), fun j k hj => absurd hj (Nat.not_lt_zero j), lt_0, lt_0, fun k v hk => absurd hk (Nat.not_lt_zero k)⟩, fun z => absurd rfl z⟩
  · rw [b_0]
    exact ⟨fun z => absurd z (by decide), fun ⟨i, j, hi, _⟩ => absurd hi (Nat.not_lt_zero i)⟩
  · exact nI_0.symm
  · exact ⟨0, Nat.le_refl _, nI_0.symm, fun z => absurd z (Nat.not_lt_zero 0), fun z => absurd z vw_Ex_0⟩
  · have e1 : vw_f 256 32 (32 * v + e) = nI 32 := if_pos (by omega)
    rw [e1]
    exact ⟨fun z => absurd (nI_le (by omega) (by omega)) z, fun z => absurd z vw_Ex_0⟩
  · have e1 : vw_f 256 (-1) (32 * v + e) = -1 := if_pos (by omega)
    rw [e1]
    refine ⟨fun z => absurd ?_ z, fun z => absurd z vw_Ex_0⟩
    rw [Int32.le_iff_toInt_le, nI_toInt (by omega), show (-1 : Int32).toInt = -1 from by decide]
    omega
theorem i_vc0 : wpX_init (fun u => wpY_init (fun v => i_Rel 0 u v)) := vx_init (vy_init (vw_mk vw_R0))
/-! ===== one vote more keeps the relation ===== -/
section
variable {n m : Nat} {W S T F G : Nat → Nat} {of kn : Int32} {so la gb ti vc lf lt lv ju w s t jy : Nat → Int32} {v p q : Nat}
/-- the verdict, component and reference -/
theorem vw_verd (hv : v < 8) (hp : p < 128) (hq : q < 128) (hn : n ≤ 64) (h : vw_TB n W S T la gb ti vc) {r : Int32} (hr : vw_ans (¬ ti (32 * v + q / 4) ≤ 0) (¬ nI (q / 4) ≤ la (32 * v + p / 4)) (¬ gb (32 * v + p / 4) ≤ nI (q / 4)) r) : vw_ans (vw_Ex n W S T (vw_QA v (q / 4))) (vw_Ex n W S T (vw_QB v (p / 4) (q / 4))) (vw_Ex n W S T (vw_QC v (p / 4) (q / 4))) r := by
  obtain ⟨h1, h2, h3, h4⟩ := h
  refine vw_ans_if ?_ (h3 v (p / 4) (q / 4) hv (by omega) (by omega)) (h4 v (p / 4) (q / 4) hv (by omega) (by omega)) hr
  obtain ⟨c, hc, e1, e2⟩ := h2 v (q / 4) hv (by omega)
  rw [← e2, e1]
  have e : nI c ≤ 0 ↔ c ≤ 0 := nI_leI (b := 0) (by omega) (by omega)
  rw [e]
  omega
theorem vw_OFn (hv : v < 8) (h : vw_OF n W S T of) {r of' : Int32} (hr : vw_ans (vw_Ex n W S T (vw_QA v (q / 4))) (vw_Ex n W S T (vw_QB v (p / 4) (q / 4))) (vw_Ex n W S T (vw_QC v (p / 4) (q / 4))) r) (ho : r = 0 ∧ of' = of ∨ ¬ r = 0 ∧ of' = of ||| ((1 : Int32) <<< (nI v &&& 31))) : vw_OF (n + 1) (vw_up W n v) (vw_up S n p) (vw_up T n q) of' := by
  have e := vw_ans_0 hr
  rcases ho with ⟨z, rfl⟩ | ⟨z, rfl⟩
  · exact vw_OF_0 h (fun y => e.mpr y z)
  · exact vw_OF_1 hv h (e.mp z)
end
end
section
/-! ===== what is owed ===== -/
theorem i_vc_stake {k : Nat} {u : SX} {v : SY} (I : i_Rel k u v) (hk : k + 4 ≤ 2048) (v1 : Int32) (v2 : Int32) : wpX_stake (fun r u' => wpY_stake (fun r' v' => r' = r ∧ i_Rel (k + 4) u' v') v v1 v2) u v1 v2 := by
  refine vw_el (P := fun u v => wpX_stake (fun r u' => wpY_stake (fun r' v' => r' = r ∧ i_Rel (k + 4) u' v') v v1 v2) u v1 v2) ?_ I
  intro n m W S T F G of kn so la gb ti vc lf lt lv ju w s t jy h
  by_cases a1 : ∃ v, v < 8 ∧ v1 = nI v
  · obtain ⟨x, hx, rfl⟩ := a1
    obtain ⟨h1, h2, h3, h4, h5, h6, h7⟩ := h
    exact vx_stake hx (vy_stake hx ⟨rfl, vw_mk ⟨h1, h2, h3, h4, h5, h6, fun z => absurd rfl z⟩⟩)
  · unfold wpX_stake
    dsimp only
    refine vx_val0 a1 (br_t rfl ?_)
    unfold wpY_stake
    dsimp only
    exact vy_bad1 a1 (br_f (by decide) ⟨rfl, vw_mk h⟩)
theorem i_vc_vote {k : Nat} {u : SX} {v : SY} (I : i_Rel k u v) (hk : k + 4 ≤ 2048) (v1 : Int32) (v2 : Int32) (v3 : Int32) : wpX_vote (fun r u' => wpY_vote (fun r' v' => r' = r ∧ i_Rel (k + 4) u' v') v v1 v2 v3) u v1 v2 v3 := by
  refine vw_el (P := fun u v => wpX_vote (fun r u' => wpY_vote (fun r' v' => r' = r ∧ i_Rel (k + 4) u' v') v v1 v2 v3) u v1 v2 v3) ?_ I
  intro n m W S T F G of kn so la gb ti vc lf lt lv ju w s t jy h
  by_cases a1 : vw_ok v1 v2 v3
  · obtain ⟨x, p, q, hx, hp, hp3, hq, hq3, hpq, rfl, rfl, rfl⟩ := a1
    have hR := h
    obtain ⟨h1, h2, h3, h4, h5, h6, h7⟩ := h
    have h6' := h6
    obtain ⟨l1, l2, l3, l4, l5, l6, l7⟩ := h6'
    have hbit : ∀ k, k < m → lf k = nI p → lt k = nI q → F k = p ∧ G k = q := by
      intro k hk e1 e2
      obtain ⟨c1, c2, c3, c4⟩ := l2 k hk
      rw [c1] at e1
      rw [c2] at e2
      exact ⟨(nI_eq (by omega) (by omega)).mp e1, (nI_eq (by omega) (by omega)).mp e2⟩
    refine vx_vote hx hp hp3 hq hq3 hpq l1 h1 (fun j hj e1 e2 hb => ?_) (fun e => ?_) (fun j hj e1 e2 hb hn r of' hr ho => ?_) (fun hno hn r of' a hr ho ha hb hc => ?_)
    · obtain ⟨f1, f2⟩ := hbit j hj e1 e2
      have hH := (l7 j x hj hx).mp hb
      rw [f1, f2] at hH
      exact vy_vote hx hp hp3 hq hq3 hpq h1 h2 (fun _ => ⟨rfl, vw_mk hR⟩) (fun z => absurd hH z)
    · exact vy_vote hx hp hp3 hq hq3 hpq h1 h2 (fun _ => ⟨rfl, vw_mk hR⟩) (fun _ z => absurd z (by omega))
    · obtain ⟨f1, f2⟩ := hbit j hj e1 e2
      have hH : ¬ vw_Ex n W S T (vw_QH x p q) := fun z => hb ((l7 j x hj hx).mpr (by rw [f1, f2]; exact z))
      have hr' := vw_verd hx hp hq h1 h5 hr
      exact vy_vote hx hp hp3 hq hq3 hpq h1 h2 (fun z => absurd z (by
        rintro (y | y)
        · exact hH y
        · omega)) (fun _ _ r' g => ⟨vw_ans_un g hr', vw_mk ⟨by omega, vw_D_up h2 hx hpq hq, vw_N_up h3 hH, vw_OFn hx h4 hr' ho, vw_TB_up hn hx hp hq h5, vw_LK_a hx h6 hj f1 f2, fun z => absurd rfl z⟩⟩)
    · have hH : ¬ vw_Ex n W S T (vw_QH x p q) := by
        rintro ⟨i, i1, i2, i3, i4⟩
        obtain ⟨j, j1, j2, j3⟩ := l6 i i1
        obtain ⟨c1, c2, c3, c4⟩ := l2 j j1
        exact hno j j1 ⟨by rw [c1, j2, i3], by rw [c2, j3, i4]⟩
      have hr' := vw_verd hx hp hq h1 h5 hr
      exact vy_vote hx hp hp3 hq hq3 hpq h1 h2 (fun z => absurd z (by
        rintro (y | y)
        · exact hH y
        · omega)) (fun _ _ r' g => ⟨vw_ans_un g hr', vw_mk ⟨by omega, vw_D_up h2 hx hpq hq, vw_N_up h3 hH, vw_OFn hx h4 hr' ho, vw_TB_up hn hx hp hq h5, vw_LK_b hx (by omega) hq h6 hno ha hb hc, fun z => absurd rfl z⟩⟩)
  · exact vx_vote_bad a1 (vy_vote_bad a1 ⟨rfl, vw_mk h⟩)
theorem i_vc_offender {k : Nat} {u : SX} {v : SY} (I : i_Rel k u v) (hk : k + 4 ≤ 2048) (v1 : Int32) : wpX_offender (fun r => wpY_offender (fun r' => r' = r ∧ i_Rel (k + 4) u v) v v1) u v1 := by
  refine vw_el (P := fun u v => wpX_offender (fun r => wpY_offender (fun r' => r' = r ∧ i_Rel (k + 4) u v) v v1) u v1) ?_ I
  intro n m W S T F G of kn so la gb ti vc lf lt lv ju w s t jy h
  have hR := vw_mk (k := k + 4) (jy := jy) h
  obtain ⟨h1, h2, h3, h4, h5, h6, h7⟩ := h
  unfold wpX_offender
  dsimp only
  by_cases a1 : ∃ v, v < 8 ∧ v1 = nI v
  · obtain ⟨x, hx, rfl⟩ := a1
    refine vx_val1 hx (br_f (by decide) ?_)
    rw [vw_bit of (by omega)]
    refine vy_offender h1 hx h2 (fun g => ⟨?_, hR⟩) (fun g => ⟨?_, hR⟩)
    · rw [if_pos ((h4 x hx).mpr g)]
    · rw [if_neg (fun z => g ((h4 x hx).mp z))]
  · refine vx_val0 a1 (br_t rfl ?_)
    unfold wpY_offender
    dsimp only
    exact vy_bad1 a1 (br_f (by decide) ⟨rfl, hR⟩)
theorem i_vc_offended {k : Nat} {u : SX} {v : SY} (I : i_Rel k u v) (hk : k + 4 ≤ 2048) : wpX_offended (fun r => wpY_offended (fun r' => r' = r ∧ i_Rel (k + 4) u v) v) u := by
  refine vw_el (P := fun u v => wpX_offended (fun r => wpY_offended (fun r' => r' = r ∧ i_Rel (k + 4) u v) v) u) ?_ I
  intro n m W S T F G of kn so la gb ti vc lf lt lv ju w s t jy h
  have hR := vw_mk (k := k + 4) (jy := jy) h
  obtain ⟨h1, h2, h3, h4, h5, h6, h7⟩ := h
  unfold wpX_offended
  dsimp only
  exact vx_stakes (vy_offended h1 h2 h4 ⟨rfl, hR⟩)
theorem i_vc_justified {k : Nat} {u : SX} {v : SY} (I : i_Rel k u v) (hk : k + 4 ≤ 2048) (v1 : Int32) : wpX_justified (fun r u' => wpY_justified (fun r' v' => r' = r ∧ i_Rel (k + 4) u' v') v v1) u v1 := by
  refine vw_el (P := fun u v => wpX_justified (fun r u' => wpY_justified (fun r' v' => r' = r ∧ i_Rel (k + 4) u' v') v v1) u v1) ?_ I
  intro n m W S T F G of kn so la gb ti vc lf lt lv ju w s t jy h
  by_cases a1 : ∃ c, c < 128 ∧ c % 4 ≠ 3 ∧ v1 = nI c
  · obtain ⟨c, hc, hc3, rfl⟩ := a1
    obtain ⟨h1, h2, h3, h4, h5, h6, h7⟩ := h
    have h6' := h6
    obtain ⟨l1, l2, l3, l4, l5, l6, l7⟩ := h6'
    have e := fun {ju' jy' : Nat → Int32} (a : vw_K so lv F G m ju') b => vw_same (jy := jy') h2 h3 h6 a b hc
    refine vx_justified (by omega) l2 l3 h7 hc hc3 (fun kn' ju' g z => ?_) (fun kn' ju' g z => ?_)
    · exact vy_justified h1 h2 hc hc3 (fun jy' _ _ => ⟨rfl, vw_mk ⟨h1, h2, h3, h4, h5, h6, fun _ => g⟩⟩) (fun jy' y z' => absurd ((e g y).mp z) z')
    · exact vy_justified h1 h2 hc hc3 (fun jy' y z' => absurd ((e g y).mpr z') z) (fun jy' _ _ => ⟨rfl, vw_mk ⟨h1, h2, h3, h4, h5, h6, fun _ => g⟩⟩)
  · unfold wpX_justified
    dsimp only
    refine vx_cp0 a1 (br_t rfl ?_)
    unfold wpY_justified
    dsimp only
    exact vy_bp1 a1 (br_f (by decide) ⟨rfl, vw_mk h⟩)
theorem i_vc_isFinal {k : Nat} {u : SX} {v : SY} (I : i_Rel k u v) (hk : k + 4 ≤ 2048) (v1 : Int32) : wpX_isFinal (fun r u' => wpY_isFinal (fun r' v' => r' = r ∧ i_Rel (k + 4) u' v') v v1) u v1 := by
  refine vw_el (P := fun u v => wpX_isFinal (fun r u' => wpY_isFinal (fun r' v' => r' = r ∧ i_Rel (k + 4) u' v') v v1) u v1) ?_ I
  intro n m W S T F G of kn so la gb ti vc lf lt lv ju w s t jy h
  by_cases a1 : ∃ c, c < 128 ∧ c % 4 ≠ 3 ∧ v1 = nI c
  · obtain ⟨c, hc, hc3, rfl⟩ := a1
    obtain ⟨h1, h2, h3, h4, h5, h6, h7⟩ := h
    have h6' := h6
    obtain ⟨l1, l2, l3, l4, l5, l6, l7⟩ := h6'
    have e := fun {ju' jy' : Nat → Int32} (a : vw_K so lv F G m ju') b => vw_same (jy := jy') h2 h3 h6 a b hc
    have x : (∃ k, k < m ∧ F k = c ∧ G k / 4 = c / 4 + 1 ∧ vw_sup so (vw_sm so (bt (lv k)) 8)) ↔ (∃ i, i < n ∧ S i = c ∧ T i / 4 = c / 4 + 1 ∧ vw_sup so (vw_ys so w s t (nI (S i)) (nI (T i)) n)) := by
      have y := vw_lv (st := so) (R := fun a b => a = c ∧ b / 4 = c / 4 + 1) h2 h3 h6
      constructor
      · rintro ⟨k, k1, k2, k3, k4⟩
        obtain ⟨i, i1, i2, i3⟩ := y.mp ⟨k, k1, ⟨k2, k3⟩, k4⟩
        exact ⟨i, i1, i2.1, i2.2, i3⟩
      · rintro ⟨k, k1, k2, k3, k4⟩
        obtain ⟨i, i1, i2, i3⟩ := y.mpr ⟨k, k1, ⟨k2, k3⟩, k4⟩
        exact ⟨i, i1, i2.1, i2.2, i3⟩
    refine vx_isFinal (by omega) l2 l3 h7 hc hc3 (fun kn' ju' g z => ?_) (fun kn' ju' g z1 z2 => ?_)
    · refine vy_isFinal h1 h2 hc hc3 (fun jy' _ _ => ⟨rfl, vw_mk ⟨h1, h2, h3, h4, h5, h6, fun _ => g⟩⟩) (fun jy' y y1 y2 => ?_)
      rcases z with z | z
      · exact absurd ((e g y).mp z) y1
      · exact absurd (x.mpr y2) z
    · refine vy_isFinal h1 h2 hc hc3 (fun jy' y z => ?_) (fun jy' _ _ _ => ⟨rfl, vw_mk ⟨h1, h2, h3, h4, h5, h6, fun _ => g⟩⟩)
      rcases z with z | z
      · exact absurd ((e g y).mpr z) z1
      · exact absurd (x.mp z2) z
  · unfold wpX_isFinal
    dsimp only
    refine vx_cp0 a1 (br_t rfl ?_)
    unfold wpY_isFinal
    dsimp only
    exact vy_bp1 a1 (br_f (by decide) ⟨rfl, vw_mk h⟩)
theorem i_vc_highest {k : Nat} {u : SX} {v : SY} (I : i_Rel k u v) (hk : k + 4 ≤ 2048) : wpX_highest (fun r u' => wpY_highest (fun r' v' => r' = r ∧ i_Rel (k + 4) u' v') v) u := by
  refine vw_el (P := fun u v => wpX_highest (fun r u' => wpY_highest (fun r' v' => r' = r ∧ i_Rel (k + 4) u' v') v) u) ?_ I
  intro n m W S T F G of kn so la gb ti vc lf lt lv ju w s t jy h
  obtain ⟨h1, h2, h3, h4, h5, h6, h7⟩ := h
  have h6' := h6
  obtain ⟨l1, l2, l3, l4, l5, l6, l7⟩ := h6'
  exact vx_highest (by omega) l2 l3 h7 (fun kn' ju' g => vy_highest h1 h2 (fun jy' y => ⟨vw_hi_congr (fun c hc => (vw_same h2 h3 h6 g y hc).symm), vw_mk ⟨h1, h2, h3, h4, h5, h6, fun _ => g⟩⟩))
theorem i_vc_justifiedIn {k : Nat} {u : SX} {v : SY} (I : i_Rel k u v) (hk : k + 4 ≤ 2048) (v1 : Int32) : wpX_justifiedIn (fun r u' => wpY_justifiedIn (fun r' v' => r' = r ∧ i_Rel (k + 4) u' v') v v1) u v1 := by
  refine vw_el (P := fun u v => wpX_justifiedIn (fun r u' => wpY_justifiedIn (fun r' v' => r' = r ∧ i_Rel (k + 4) u' v') v v1) u v1) ?_ I
  intro n m W S T F G of kn so la gb ti vc lf lt lv ju w s t jy h
  by_cases a1 : ∃ a, a < 32 ∧ v1 = nI a
  · obtain ⟨a, ha, rfl⟩ := a1
    obtain ⟨h1, h2, h3, h4, h5, h6, h7⟩ := h
    have h6' := h6
    obtain ⟨l1, l2, l3, l4, l5, l6, l7⟩ := h6'
    exact vx_justifiedIn (by omega) l2 l3 h7 ha (fun kn' ju' g => vy_justifiedIn h1 h2 ha (fun jy' y => ⟨vw_ct_congr (fun c hc => (vw_same h2 h3 h6 g y (by omega)).symm), vw_mk ⟨h1, h2, h3, h4, h5, h6, fun _ => g⟩⟩))
  · unfold wpX_justifiedIn
    dsimp only
    by_cases h0 : v1 < 0
    · refine br_t h0 ?_
      unfold wpY_justifiedIn
      dsimp only
      exact br_t h0 ⟨rfl, vw_mk h⟩
    · have h31 : ¬ v1 ≤ 31 := by
        intro z
        obtain ⟨j, hj, e⟩ := nI_of2 (M := 31) (n := 31) (by decide) h0 z
        exact a1 ⟨j, by omega, e⟩
      refine br_f h0 (br_f h31 ?_)
      unfold wpY_justifiedIn
      dsimp only
      exact br_f h0 (br_f h31 ⟨rfl, vw_mk h⟩)
theorem i_vc_support {k : Nat} {u : SX} {v : SY} (I : i_Rel k u v) (hk : k + 4 ≤ 2048) (v1 : Int32) (v2 : Int32) : wpX_support (fun r => wpY_support (fun r' => r' = r ∧ i_Rel (k + 4) u v) v v1 v2) u v1 v2 := by
  refine vw_el (P := fun u v => wpX_support (fun r => wpY_support (fun r' => r' = r ∧ i_Rel (k + 4) u v) v v1 v2) u v1 v2) ?_ I
  intro n m W S T F G of kn so la gb ti vc lf lt lv ju w s t jy h
  have hR := vw_mk (k := k + 4) (jy := jy) h
  obtain ⟨h1, h2, h3, h4, h5, h6, h7⟩ := h
  have h6' := h6
  obtain ⟨l1, l2, l3, l4, l5, l6, l7⟩ := h6'
  unfold wpX_support
  dsimp only
  refine vx_linkOf (by omega) (fun j hj e1 e2 => ?_) (fun hno => ?_)
  · have i1 : vp_in (nI j) 64 := vp_in_nI (by omega) (by omega)
    have c1 : (nI j).toNatClampNeg = j := nI_clamp (by omega)
    refine br_t (nI_pos' (by omega)) ⟨i1, ?_⟩
    rw [c1]
    refine vx_stakes (vy_support h1 h2 ⟨?_, hR⟩)
    obtain ⟨d1, d2, d3, d4⟩ := l2 j hj
    rw [← e1, ← e2, d1, d2]
    exact (vw_lsum h2 h3 h6 hj).symm
  · refine br_f (by decide) (vy_support h1 h2 ⟨vw_ys_none n (fun i hi z => ?_), hR⟩)
    obtain ⟨j, j1, j2, j3⟩ := l6 i hi
    obtain ⟨c1, c2, c3, c4⟩ := l2 j j1
    obtain ⟨b1, b2, b3, b4, b5, b6⟩ := h2 i hi
    exact hno j j1 ⟨by rw [c1, j2, ← b2]; exact z.1, by rw [c2, j3, ← b3]; exact z.2⟩
theorem i_vc_votes {k : Nat} {u : SX} {v : SY} (I : i_Rel k u v) (hk : k + 4 ≤ 2048) (v1 : Int32) : wpX_votes (fun r => wpY_votes (fun r' => r' = r ∧ i_Rel (k + 4) u v) v v1) u v1 := by
  refine vw_el (P := fun u v => wpX_votes (fun r => wpY_votes (fun r' => r' = r ∧ i_Rel (k + 4) u v) v v1) u v1) ?_ I
  intro n m W S T F G of kn so la gb ti vc lf lt lv ju w s t jy h
  have hR := vw_mk (k := k + 4) (jy := jy) h
  obtain ⟨h1, h2, h3, h4, h5, h6, h7⟩ := h
  unfold wpX_votes
  dsimp only
  by_cases a1 : ∃ v, v < 8 ∧ v1 = nI v
  · obtain ⟨x, hx, rfl⟩ := a1
    have i1 : vp_in (nI x) 8 := vp_in_nI (by omega) (by omega)
    have c1 : (nI x).toNatClampNeg = x := nI_clamp (by omega)
    refine vx_val1 hx (br_f (by decide) ⟨i1, ?_⟩)
    rw [c1]
    exact vy_votes h1 hx h2 ⟨(h5.1 x hx).symm, hR⟩
  · refine vx_val0 a1 (br_t rfl ?_)
    unfold wpY_votes
    dsimp only
    exact vy_bad1 a1 (br_f (by decide) ⟨rfl, hR⟩)
end
