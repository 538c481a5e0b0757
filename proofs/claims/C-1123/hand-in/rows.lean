section
theorem pk_us {f : Nat → Int32} {k : Nat} {x : Int32} : upd f k x k = x := if_pos rfl
theorem pk_un {f : Nat → Int32} {k j : Nat} {x : Int32} (h : j ≠ k) : upd f k x j = f j := if_neg h
theorem pk_sub {a b : Nat} (h : b ≤ a) : nI a - nI b = nI (a - b) := by
  obtain ⟨c, rfl⟩ : ∃ c, a = c + b := ⟨a - b, by omega⟩
  rw [← nI_add, Int32.add_sub_cancel, Nat.add_sub_cancel]
theorem pk_m1 (n : Nat) : nI (n + 1) + (-1) = nI n := by
  rw [← nI_1, Int32.add_assoc, show (1 : Int32) + (-1) = 0 from rfl, Int32.add_zero]
theorem pk_mul (a b : Nat) : nI a * nI b = nI (a * b) := (Int32.ofNat_mul a b).symm
theorem pk_div {a d : Nat} (ha : a < 2 ^ 31) (h0 : 0 < d) (hd : d < 2 ^ 31) : nI a / nI d = nI (a / d) := by
  apply Int32.toInt_inj.mp
  rw [lg_idiv_nonneg (by rw [nI_toInt ha]; omega) (by rw [nI_toInt hd]; omega), nI_toInt ha, nI_toInt hd, nI_toInt (Nat.lt_of_le_of_lt (Nat.div_le_self a d) ha)]
  first | rfl | exact (Int.natCast_ediv _ _).symm
theorem pk_rem {a d : Nat} (ha : a < 2 ^ 31) (h0 : 0 < d) (hd : d < 2 ^ 31) : nI a - nI a / nI d * nI d = nI (a % d) := by
  rw [pk_div ha h0 hd, pk_mul, pk_sub (Nat.div_mul_le_self a d)]
  exact congrArg nI (by have := Nat.div_add_mod' a d; omega)
theorem pk_sub_toInt {a b : Nat} (ha : a < 2 ^ 30) (hb : b < 2 ^ 30) : (nI a - nI b).toInt = (a : Int) - b := by
  rw [Int32.toInt_sub, nI_toInt (by omega), nI_toInt (by omega)]
  exact Int.bmod_eq_of_le (by omega) (by omega)
theorem pk_sneg {a b : Nat} (hb : b < 2 ^ 30) (h : a < b) : nI a - nI b < 0 := by
  rw [Int32.lt_iff_toInt_lt, pk_sub_toInt (by omega) hb, show (0 : Int32).toInt = 0 from by decide]
  omega
theorem pk_ix (x : Int32) {n : Nat} (hn : n < 2 ^ 31) : x < 0 ∨ nI n ≤ x ∨ ∃ j : Nat, j < n ∧ x = nI j := by
  by_cases h : x < 0
  · exact Or.inl h
  · obtain ⟨j, hj, rfl⟩ := nI_of h
    by_cases h2 : j < n
    · exact Or.inr (Or.inr ⟨j, h2, rfl⟩)
    · exact Or.inr (Or.inl (nI_le (by omega) hj))
theorem pk_le {x y : Int32} {A B : Prop} (a b : Nat) (f : a ≤ b → A) (g : b < a → B) (hx : x = nI a := by rfl) (hy : y = nI b := by rfl) (ha : a < 2 ^ 31 := by omega) (hb : b < 2 ^ 31 := by omega) : (x ≤ y → A) ∧ (¬ x ≤ y → B) := by
  subst hx hy
  rw [nI_leI ha hb]
  exact ⟨f, fun z => g (by omega)⟩
theorem pk_lt {x y : Int32} {A B : Prop} (a b : Nat) (f : a < b → A) (g : b ≤ a → B) (hx : x = nI a := by rfl) (hy : y = nI b := by rfl) (ha : a < 2 ^ 31 := by omega) (hb : b < 2 ^ 31 := by omega) : (x < y → A) ∧ (¬ x < y → B) := by
  subst hx hy
  rw [nI_ltI ha hb]
  exact ⟨f, fun z => g (by omega)⟩
theorem pk_eq {x y : Int32} {A B : Prop} (a b : Nat) (f : a = b → A) (g : a ≠ b → B) (hx : x = nI a := by rfl) (hy : y = nI b := by rfl) (ha : a < 2 ^ 31 := by omega) (hb : b < 2 ^ 31 := by omega) : (x = y → A) ∧ (¬ x = y → B) := by
  subst hx hy
  rw [nI_eq ha hb]
  exact ⟨f, g⟩
theorem pk_in {x : Int32} (n N : Nat) (h : n < N) (hx : x = nI n := by rfl) (hN : N < 2 ^ 31 := by omega) : vp_in x N := by
  subst hx
  exact vp_in_nI h hN
theorem pk_cl {x : Int32} (n : Nat) (hx : x = nI n := by rfl) (h : n < 2 ^ 31 := by omega) : x.toNatClampNeg = n := by
  subst hx
  exact nI_clamp h
theorem pk_tn {n : Nat} (h : n < 2 ^ 32) : (nI n).toBitVec.toNat = n := Nat.mod_eq_of_lt h
theorem pk_and (x : Int32) {m : Int32} (k : Nat) (hm : m.toBitVec.toNat = 2 ^ k - 1) : x &&& m = nI (x.toBitVec.toNat % 2 ^ k) := by
  apply Int32.toBitVec_inj.mp
  apply BitVec.eq_of_toNat_eq
  rw [Int32.toBitVec_and, BitVec.toNat_and, hm, Nat.and_two_pow_sub_one_eq_mod]
  show _ = (BitVec.ofNat 32 _).toNat
  rw [BitVec.toNat_ofNat]
  exact (Nat.mod_eq_of_lt (Nat.lt_of_le_of_lt (Nat.mod_le _ _) x.toBitVec.isLt)).symm
theorem pk_andN {n : Nat} (h : n < 2 ^ 32) {m : Int32} (k : Nat) (hm : m.toBitVec.toNat = 2 ^ k - 1) : nI n &&& m = nI (n % 2 ^ k) := by
  rw [pk_and _ k hm, pk_tn h]
theorem pk_andE (x : Int32) {m : Int32} (k : Nat) (hm : m.toBitVec.toNat = 2 ^ k - 1) : ∃ j : Nat, j < 2 ^ k ∧ x &&& m = nI j := ⟨_, Nat.mod_lt _ (Nat.two_pow_pos k), pk_and x k hm⟩
theorem pk_andIn (x : Int32) {m : Int32} (k : Nat) (hm : m.toBitVec.toNat = 2 ^ k - 1) (hk : k ≤ 30) : vp_in (x &&& m) (2 ^ k) := by
  obtain ⟨j, hj, e⟩ := pk_andE x k hm
  rw [e]
  exact vp_in_nI hj (Nat.lt_of_le_of_lt (Nat.pow_le_pow_right (by decide) hk) (by decide))
theorem pk_shl (a s : Int32) (k : Nat) (hs : (s.toBitVec.smod 32).toNat = k) : (a <<< s).toBitVec.toNat = a.toBitVec.toNat * 2 ^ k % 2 ^ 32 := by
  show (a.toBitVec <<< (s.toBitVec.smod 32).toNat).toNat = _
  rw [hs, BitVec.toNat_shiftLeft, Nat.shiftLeft_eq]
theorem pk_shlN {n : Nat} (s : Int32) (k : Nat) (hs : (s.toBitVec.smod 32).toNat = k) (h : n * 2 ^ k < 2 ^ 32) : nI n <<< s = nI (n * 2 ^ k) := by
  apply Int32.toBitVec_inj.mp
  apply BitVec.eq_of_toNat_eq
  have hn : n < 2 ^ 32 := Nat.lt_of_le_of_lt (Nat.le_mul_of_pos_right n (Nat.two_pow_pos k)) h
  rw [pk_shl _ _ k hs, pk_tn hn, pk_tn h, Nat.mod_eq_of_lt h]
theorem pk_shr (a s : Int32) (k : Nat) (hs : (s.toBitVec.smod 32).toNat = k) : (a >>> s).toInt = a.toInt >>> k := by
  show (a.toBitVec.sshiftRight (s.toBitVec.smod 32).toNat).toInt = _
  rw [hs, BitVec.toInt_sshiftRight]
  rfl
theorem pk_shrN {n : Nat} (h : n < 2 ^ 31) (s : Int32) (k : Nat) (hs : (s.toBitVec.smod 32).toNat = k) : nI n >>> s = nI (n / 2 ^ k) := by
  apply Int32.toInt_inj.mp
  have h2 : n / 2 ^ k ≤ n := Nat.div_le_self _ _
  rw [pk_shr _ _ k hs, nI_toInt h, nI_toInt (by omega), Int.shiftRight_eq_div_pow]
  rfl
theorem pk_nb (z : Int32) : narrow .byte (.int z.toInt8.toInt32) = .int z.toInt8.toInt32 := congrArg Value.int (by simp)
theorem pk_vb (z : Int32) : vp_nar .byte z.toInt8.toInt32 = z.toInt8.toInt32 := by rw [vp_nar_byte]; simp
theorem ek_v {α : Sort _} {P : α → Prop} {a b : α} (e : a = b) (h : P b) : P a := e ▸ h
theorem sb_cl0 : (0 : Int32).toNatClampNeg = 0 := by decide
theorem sb_m1 {p : Nat} (h : 0 < p) : nI p + (-1) = nI (p - 1) := by
  obtain ⟨q, rfl⟩ : ∃ q, p = q + 1 := ⟨p - 1, by omega⟩
  exact pk_m1 q
theorem ek_if {c d A B : Prop} (e : c ↔ d) (f : d → A) (g : ¬ d → B) : (c → A) ∧ (¬ c → B) :=
  ⟨fun z => f (e.mp z), fun z => g (fun y => z (e.mpr y))⟩
/-! ===== Int32 by its bits: bt x i ===== -/
def bt (x : Int32) (i : Nat) : Bool := x.toBitVec.getLsbD i
theorem b_ext {x y : Int32} (h : ∀ i, i < 32 → bt x i = bt y i) : x = y := Int32.toBitVec_inj.mp (BitVec.eq_of_getLsbD_eq (fun i hi => h i hi))
theorem b_or (x y : Int32) (i : Nat) : bt (x ||| y) i = (bt x i || bt y i) := by unfold bt; rw [Int32.toBitVec_or, BitVec.getLsbD_or]
theorem b_and (x y : Int32) (i : Nat) : bt (x &&& y) i = (bt x i && bt y i) := by unfold bt; rw [Int32.toBitVec_and, BitVec.getLsbD_and]
theorem b_xor (x y : Int32) (i : Nat) : bt (x ^^^ y) i = (bt x i ^^ bt y i) := by unfold bt; rw [Int32.toBitVec_xor, BitVec.getLsbD_xor]
theorem b_big {x : Int32} {i : Nat} (h : 32 ≤ i) : bt x i = false := BitVec.getLsbD_of_ge _ _ h
theorem b_255 (i : Nat) : bt 255 i = decide (i < 8) := by
  rcases Nat.lt_or_ge i 32 with h | h
  · exact (by decide +kernel : ∀ i, i < 32 → bt 255 i = decide (i < 8)) i h
  · rw [b_big h, decide_eq_false (by omega)]
theorem b_65535 (i : Nat) : bt 65535 i = decide (i < 16) := by
  rcases Nat.lt_or_ge i 32 with h | h
  · exact (by decide +kernel : ∀ i, i < 32 → bt 65535 i = decide (i < 16)) i h
  · rw [b_big h, decide_eq_false (by omega)]
theorem b_m1 : ∀ i, i < 32 → bt (-1) i = true := by decide +kernel
theorem b_0 (i : Nat) : bt 0 i = false := BitVec.getLsbD_zero
theorem s_l : ∀ n, n < 32 → ((nI n &&& 31).toBitVec.smod 32).toNat = n := by decide +kernel
theorem s_u : ∀ n, n < 32 → (((nI n).toUInt32 &&& Int32.toUInt32 31).toBitVec % 32).toNat = n := by decide +kernel
theorem b_shl (n : Nat) (hn : n < 32) (x : Int32) {i : Nat} (hi : i < 32) : bt (x <<< (nI n &&& 31)) i = (decide (n ≤ i) && bt x (i - n)) := by
  unfold bt
  rw [Int32.toBitVec_shiftLeft]
  show (x.toBitVec <<< ((nI n &&& 31).toBitVec.smod 32).toNat).getLsbD i = _
  rw [s_l n hn, BitVec.getLsbD_shiftLeft]
  rcases Nat.lt_or_ge i n with h | h
  · simp [h, Nat.not_le.mpr h]
  · simp [hi, h, Nat.not_lt.mpr h]
theorem b_ushr (n : Nat) (hn : n < 32) (x : Int32) (i : Nat) : bt ((x.toUInt32 >>> ((nI n).toUInt32 &&& Int32.toUInt32 31)).toInt32) i = bt x (n + i) := by
  show (x.toUInt32 >>> ((nI n).toUInt32 &&& Int32.toUInt32 31)).toBitVec.getLsbD i = x.toUInt32.toBitVec.getLsbD (n + i)
  rw [UInt32.toBitVec_shiftRight]
  show (x.toUInt32.toBitVec >>> (((nI n).toUInt32 &&& Int32.toUInt32 31).toBitVec % 32).toNat).getLsbD i = _
  rw [s_u n hn, BitVec.getLsbD_ushiftRight]
theorem b_sshr (n : Nat) (hn : n < 32) (x : Int32) {i : Nat} (hi : i < 32) : bt (x >>> (nI n &&& 31)) i = if n + i < 32 then bt x (n + i) else bt x 31 := by
  unfold bt
  rw [Int32.toBitVec_shiftRight]
  show (x.toBitVec.sshiftRight ((nI n &&& 31).toBitVec.smod 32).toNat).getLsbD i = _
  rw [s_l n hn, BitVec.getLsbD_sshiftRight, BitVec.msb_eq_getLsbD_last]
  simp [hi]
end
section
theorem ta_one : ∀ i, i < 32 → ∀ j, j < 32 → bt ((1 : Int32) <<< (nI i &&& 31)) j = decide (j = i) := by decide +kernel
theorem ta_1 : ∀ j, j < 32 → bt 1 j = decide (j = 0) := by decide +kernel
theorem ta_not (x : Int32) {i : Nat} (hi : i < 32) : bt (x ^^^ (-1)) i = !bt x i := by
  rw [b_xor, b_m1 i hi]; cases bt x i <;> rfl
theorem ta_tst (x : Int32) {i : Nat} (hi : i < 32) : ((x >>> (nI i &&& 31)) &&& 1) = 0 ↔ bt x i = false := by
  constructor
  · intro h
    have h0 : bt ((x >>> (nI i &&& 31)) &&& 1) 0 = bt 0 0 := by rw [h]
    rw [b_and, b_sshr i hi x (by omega), b_0, ta_1 0 (by omega)] at h0
    simpa [hi] using h0
  · intro h
    apply b_ext
    intro j hj
    rw [b_and, ta_1 j hj, b_0]
    by_cases e : j = 0
    · subst e
      rw [b_sshr i hi x hj]
      simp [hi, h]
    · simp [e]
theorem ta_tstF (x : Int32) {i : Nat} (hi : i < 32) (h : bt x i = false) : ((x >>> (nI i &&& 31)) &&& 1) = 0 := (ta_tst x hi).mpr h
theorem ta_tstT (x : Int32) {i : Nat} (hi : i < 32) (h : bt x i = true) : ¬ ((x >>> (nI i &&& 31)) &&& 1) = 0 := fun z => by
  rw [(ta_tst x hi).mp z] at h; cases h
theorem ta_nat {X l : Nat} (h1 : X.testBit l = true) (h0 : ∀ j, j < l → X.testBit j = false) (i : Nat) : (X - 1).testBit i = if i < l then true else if i = l then false else X.testBit i := by
  have hm : X % 2 ^ l = 0 := by
    apply Nat.eq_of_testBit_eq
    intro j
    rw [Nat.testBit_mod_two_pow, Nat.zero_testBit]
    by_cases hj : j < l
    · rw [h0 j hj]; simp
    · simp [hj]
  have hq : (X / 2 ^ l) % 2 = 1 := by
    rw [Nat.testBit_eq_decide_div_mod_eq] at h1
    exact of_decide_eq_true h1
  have hX : 2 ^ l * (X / 2 ^ l) = X := by
    have h := Nat.div_add_mod X (2 ^ l)
    rw [hm, Nat.add_zero] at h
    exact h
  obtain ⟨m, hm2⟩ : ∃ m, X / 2 ^ l = 2 * m + 1 := ⟨X / 2 ^ l / 2, by omega⟩
  have hp : 0 < 2 ^ l := Nat.two_pow_pos l
  have e : X = 2 ^ l * (2 * m + 1) := by rw [← hm2]; exact hX.symm
  have hX1 : X - 1 = 2 ^ l * (2 * m) + (2 ^ l - 1) := by
    rw [e, Nat.mul_add, Nat.mul_one]
    omega
  rw [hX1, Nat.testBit_two_pow_mul_add _ (by omega), Nat.testBit_two_pow_sub_one]
  by_cases c : i < l
  · simp [c]
  · rw [if_neg c, if_neg c, e, Nat.testBit_two_pow_mul]
    by_cases d : i = l
    · subst d
      simp
    · obtain ⟨q, hq⟩ : ∃ q, i - l = q + 1 := ⟨i - l - 1, by omega⟩
      rw [if_neg d, hq, Nat.testBit_succ, Nat.testBit_succ, show 2 * m / 2 = m by omega, show (2 * m + 1) / 2 = m by omega]
      simp; omega
theorem ta_clr {x : Int32} {l : Nat} (h1 : bt x l = true) (h0 : ∀ j, j < l → bt x j = false) (i : Nat) : bt (x &&& (x - 1)) i = (bt x i && !decide (i = l)) := by
  have hx : 1 ≤ x.toBitVec.toNat := by
    rcases Nat.eq_zero_or_pos x.toBitVec.toNat with z | z
    · have h : bt x l = false := by
        show x.toBitVec.toNat.testBit l = false
        rw [z]; exact Nat.zero_testBit l
      rw [h] at h1; cases h1
    · exact z
  have e : bt (x - 1) i = (x.toBitVec.toNat - 1).testBit i := by
    show (x - 1).toBitVec.toNat.testBit i = _
    have h : (x - 1).toBitVec.toNat = x.toBitVec.toNat - 1 := by
      rw [Int32.toBitVec_sub]
      exact BitVec.toNat_sub_of_le hx
    rw [h]
  rw [b_and, e, ta_nat (X := x.toBitVec.toNat) h1 h0]
  show (bt x i && (if i < l then true else if i = l then false else bt x i)) = _
  by_cases c : i < l
  · rw [h0 i c]; rfl
  · rw [if_neg c]
    by_cases d : i = l
    · simp [d]
    · simp [d]
theorem ta_sub {a b : Nat} (hab : a ≤ b) (hb : b < 32) {i : Nat} (hi : i < 32) : bt (((1 : Int32) <<< (nI b &&& 31)) - ((1 : Int32) <<< (nI a &&& 31))) i = (decide (a ≤ i) && decide (i < b)) := by
  have hs : ∀ c, c < 32 → ((1 : Int32) <<< (nI c &&& 31)).toBitVec.toNat = 2 ^ c := by decide +kernel
  have hle : 2 ^ a ≤ 2 ^ b := Nat.pow_le_pow_right (by decide) hab
  show (((1 : Int32) <<< (nI b &&& 31)) - ((1 : Int32) <<< (nI a &&& 31))).toBitVec.toNat.testBit i = _
  have h : (((1 : Int32) <<< (nI b &&& 31)) - ((1 : Int32) <<< (nI a &&& 31))).toBitVec.toNat = 2 ^ b - 2 ^ a := by
    rw [Int32.toBitVec_sub, BitVec.toNat_sub_of_le (by show _ ≤ BitVec.toNat _; rw [hs a (by omega), hs b hb]; exact hle), hs a (by omega), hs b hb]
  rw [h]
  have e : 2 ^ b - 2 ^ a = 2 ^ a * (2 ^ (b - a) - 1) := by
    rw [Nat.mul_sub, ← Nat.pow_add, Nat.mul_one, show a + (b - a) = b by omega]
  rw [e, Nat.testBit_two_pow_mul, Nat.testBit_two_pow_sub_one]
  by_cases c : a ≤ i
  · simp [c]; omega
  · simp [c]
theorem ta_two : ∀ l, l < 31 → ((2 : Int32) <<< (nI l &&& 31)) = ((1 : Int32) <<< (nI (l + 1) &&& 31)) := by decide +kernel
theorem ta_z : ((1 : Int32) <<< (nI 0 &&& 31)) = 1 := by decide +kernel
/-! a set as the list of its members -/
def tm_S (x : Int32) (l : List Nat) : Prop := (∀ i, i < 32 → bt x i = decide (i ∈ l)) ∧ l.Pairwise (· < ·) ∧ ∀ i, i ∈ l → i < 24
def tm_G (x : Int32) (l : List Nat) : Prop := (∀ i, i < 32 → bt x i = decide (i ∈ l)) ∧ l.Pairwise (· > ·) ∧ ∀ i, i ∈ l → i < 24
theorem tm_nil {x : Int32} (h : tm_S x []) : x = 0 := b_ext (fun i hi => by rw [h.1 i hi, b_0]; simp)
theorem tm_nz {x : Int32} {a : Nat} (h : bt x a = true) : ¬ x = 0 := fun z => by rw [z, b_0] at h; cases h
theorem tm_cons {x : Int32} {a : Nat} {l : List Nat} (h : tm_S x (a :: l)) : a < 24 ∧ bt x a = true ∧ (∀ j, j < a → bt x j = false) ∧ tm_S (x &&& (x - 1)) l ∧ tm_S (x &&& (((1 : Int32) <<< (nI a &&& 31)) ^^^ (-1))) l := by
  obtain ⟨h1, h2, h3⟩ := h
  rw [List.pairwise_cons] at h2
  have ha : a < 24 := h3 a (by simp)
  have hb : bt x a = true := by rw [h1 a (by omega)]; simp
  have hl : ∀ j, j < a → bt x j = false := by
    intro j hj
    rw [h1 j (by omega)]
    apply decide_eq_false
    intro hm
    rcases List.mem_cons.mp hm with e | e
    · omega
    · have := h2.1 j e; omega
  have hn : a ∉ l := fun z => Nat.lt_irrefl _ (h2.1 a z)
  have key : ∀ i, i < 32 → (bt x i && !decide (i = a)) = decide (i ∈ l) := by
    intro i hi
    rw [h1 i hi]
    by_cases e : i = a
    · subst e
      simp [hn]
    · simp [e]
  refine ⟨ha, hb, hl, ⟨fun i hi => ?_, h2.2, fun i hi => h3 i (List.mem_cons_of_mem _ hi)⟩, ⟨fun i hi => ?_, h2.2, fun i hi => h3 i (List.mem_cons_of_mem _ hi)⟩⟩
  · rw [ta_clr hb hl, key i hi]
  · rw [b_and, ta_not _ hi, ta_one a (by omega) i hi, key i hi]
theorem tm_Gnil {x : Int32} (h : tm_G x []) : x = 0 := b_ext (fun i hi => by rw [h.1 i hi, b_0]; simp)
theorem tm_Gcons {x : Int32} {a : Nat} {l : List Nat} (h : tm_G x (a :: l)) : a < 24 ∧ bt x a = true ∧ (∀ j, a < j → j < 32 → bt x j = false) ∧ tm_G (x &&& (((1 : Int32) <<< (nI a &&& 31)) ^^^ (-1))) l := by
  obtain ⟨h1, h2, h3⟩ := h
  rw [List.pairwise_cons] at h2
  have ha : a < 24 := h3 a (by simp)
  have hb : bt x a = true := by rw [h1 a (by omega)]; simp
  have hl : ∀ j, a < j → j < 32 → bt x j = false := by
    intro j hj hj2
    rw [h1 j hj2]
    apply decide_eq_false
    intro hm
    rcases List.mem_cons.mp hm with e | e
    · omega
    · have := h2.1 j e; omega
  have hn : a ∉ l := fun z => Nat.lt_irrefl _ (h2.1 a z)
  refine ⟨ha, hb, hl, ⟨fun i hi => ?_, h2.2, fun i hi => h3 i (List.mem_cons_of_mem _ hi)⟩⟩
  rw [b_and, ta_not _ hi, ta_one a (by omega) i hi, h1 i hi]
  by_cases e : i = a
  · subst e
    simp [hn]
  · simp [e]
/-- the set of the i below k with p i -/
def tm_ms (p : Nat → Bool) : Nat → Int32
  | 0 => 0
  | k + 1 => if p k then tm_ms p k ||| ((1 : Int32) <<< (nI k &&& 31)) else tm_ms p k
theorem tm_bt (p : Nat → Bool) : ∀ k, k ≤ 32 → ∀ i, i < 32 → bt (tm_ms p k) i = (decide (i < k) && p i) := by
  intro k
  induction k with
  | zero => intro _ i _; rw [tm_ms, b_0]; simp
  | succ k ih =>
    intro hk i hi
    unfold tm_ms
    by_cases c : p k = true
    · rw [if_pos c, b_or, ih (by omega) i hi, ta_one k (by omega) i hi]
      by_cases e : i = k
      · subst e; simp [c]
      · by_cases f : i < k
        · simp [f, e]; omega
        · simp [f, e]; omega
    · rw [if_neg c, ih (by omega) i hi]
      by_cases e : i = k
      · subst e; simp [c]
      · by_cases f : i < k
        · simp [f]; omega
        · simp [f]; omega
theorem tm_btT {p : Nat → Bool} {k i : Nat} (hk : k ≤ 32) (h : i < k) : bt (tm_ms p k) i = p i := by
  rw [tm_bt p k hk i (by omega)]; simp [h]
theorem tm_ext {p : Nat → Bool} {k : Nat} (hk : k ≤ 32) {x : Int32} (h : ∀ i, i < 32 → bt x i = (decide (i < k) && p i)) : x = tm_ms p k :=
  b_ext (fun i hi => by rw [h i hi, tm_bt p k hk i hi])
theorem tm_congr {p q : Nat → Bool} {k : Nat} (hk : k ≤ 32) (h : ∀ i, i < k → p i = q i) : tm_ms p k = tm_ms q k :=
  tm_ext hk (fun i hi => by
    rw [tm_bt p k hk i hi]
    by_cases c : i < k
    · rw [h i c]
    · simp [c])
/-- the bits of x are below n -/
def tm_B (n : Nat) (x : Int32) : Prop := ∀ i, i < 32 → bt x i = true → i < n
theorem tm_Bms (p : Nat → Bool) {k : Nat} (hk : k ≤ 32) : tm_B k (tm_ms p k) := fun i hi h => by
  rw [tm_bt p k hk i hi] at h
  simp at h
  exact h.1
def tm_mem (n : Nat) (x : Int32) : List Nat := (List.range n).filter (bt x)
theorem tm_Smem {n : Nat} {x : Int32} (hn : n ≤ 24) (h : tm_B n x) : tm_S x (tm_mem n x) := by
  refine ⟨fun i hi => ?_, List.Pairwise.filter _ List.pairwise_lt_range, fun i hi => ?_⟩
  · by_cases c : bt x i = true
    · rw [c]
      symm
      apply decide_eq_true
      exact List.mem_filter.mpr ⟨List.mem_range.mpr (h i hi c), c⟩
    · have e : bt x i = false := by cases z : bt x i <;> simp_all
      rw [e]
      symm
      apply decide_eq_false
      intro hm
      rw [(List.mem_filter.mp hm).2] at e
      cases e
  · have := List.mem_range.mp (List.mem_filter.mp hi).1
    omega
theorem tm_Sfl {n : Nat} (hn : n ≤ 24) (p : Nat → Bool) : tm_S (tm_ms p n) ((List.range n).filter p) := by
  refine ⟨fun i hi => ?_, List.Pairwise.filter _ List.pairwise_lt_range, fun i hi => ?_⟩
  · rw [tm_bt p n (by omega) i hi]
    by_cases c : i < n
    · cases d : p i
      · simp [d]
      · simp [c, d]
    · simp [c]
  · have := List.mem_range.mp (List.mem_filter.mp hi).1
    omega
theorem tm_Gfl {n : Nat} (hn : n ≤ 24) (p : Nat → Bool) : tm_G (tm_ms p n) ((List.range n).reverse.filter p) := by
  obtain ⟨a, b, c⟩ := tm_Sfl hn p
  rw [List.filter_reverse]
  exact ⟨fun i hi => by rw [a i hi]; simp, List.pairwise_reverse.mpr b, fun i hi => c i (List.mem_reverse.mp hi)⟩
/-- the set of a list -/
def tm_mk (l : List Nat) : Int32 := tm_ms (fun i => decide (i ∈ l)) 24
theorem tm_mkb {l : List Nat} (h : ∀ i, i ∈ l → i < 24) {i : Nat} (hi : i < 32) : bt (tm_mk l) i = decide (i ∈ l) := by
  unfold tm_mk
  rw [tm_bt _ 24 (by omega) i hi]
  by_cases c : i ∈ l
  · simp [c, h i c]
  · simp [c]
theorem tm_S_mk {x : Int32} {l : List Nat} (h : tm_S x l) : x = tm_mk l := b_ext (fun i hi => by rw [h.1 i hi, tm_mkb h.2.2 hi])
theorem tm_G_mk {x : Int32} {l : List Nat} (h : tm_G x l) : x = tm_mk l := b_ext (fun i hi => by rw [h.1 i hi, tm_mkb h.2.2 hi])
theorem tm_mkS {l : List Nat} (h : l.Pairwise (· < ·)) (h2 : ∀ i, i ∈ l → i < 24) : tm_S (tm_mk l) l := ⟨fun _ hi => tm_mkb h2 hi, h, h2⟩
theorem tm_mkG {l : List Nat} (h : l.Pairwise (· > ·)) (h2 : ∀ i, i ∈ l → i < 24) : tm_G (tm_mk l) l := ⟨fun _ hi => tm_mkb h2 hi, h, h2⟩
end
section
/-! the document: nn nodes, their parents, names, values -/
abbrev td_D : Type := Nat × (Nat → Int32) × (Nat → Int32) × (Nat → Int32)
def td_ab (par : Nat → Int32) (a : Nat) : Nat → Nat → Bool
  | 0, _ => false
  | f + 1, n => if par n < 0 then false else if (par n).toNatClampNeg = a then true else td_ab par a f (par n).toNatClampNeg
/-- a is above n -/
def td_A (par : Nat → Int32) (a n : Nat) : Bool := td_ab par a (n + 1) n
def td_P (nn : Nat) (par : Nat → Int32) : Prop := nn ≤ 24 ∧ ∀ n, n < nn → (n = 0 ∧ par n = -1) ∨ (0 < n ∧ ∃ q, q < n ∧ par n = nI q)
theorem td_m1 : (-1 : Int32) < 0 := by decide
theorem td_ab_f {nn : Nat} {par : Nat → Int32} (h : td_P nn par) (a : Nat) : ∀ n, n < nn → ∀ f, n < f → td_ab par a f n = td_A par a n := by
  intro n
  induction n using Nat.strongRecOn with
  | _ n ih =>
    intro hn f hf
    have hnn := h.1
    obtain ⟨g, rfl⟩ : ∃ g, f = g + 1 := ⟨f - 1, by omega⟩
    unfold td_A
    rcases h.2 n hn with ⟨_, e⟩ | ⟨_, q, hq, e⟩
    · simp only [td_ab, e, td_m1, if_true]
    · simp only [td_ab, e, nI_pos (show q < 2 ^ 31 by omega), nI_clamp (show q < 2 ^ 31 by omega), if_false]
      rw [ih q hq (by omega) g (by omega), ih q hq (by omega) n hq]
theorem td_A0 {nn : Nat} {par : Nat → Int32} {a n : Nat} (e : par n = -1) : td_A par a n = false := by
  unfold td_A
  simp only [td_ab, e, td_m1, if_true]
theorem td_As {nn : Nat} {par : Nat → Int32} (h : td_P nn par) {a n q : Nat} (hn : n < nn) (hq : q < n) (e : par n = nI q) : td_A par a n = (decide (q = a) || td_A par a q) := by
  have hnn := h.1
  unfold td_A
  rw [td_ab]
  simp only [e, nI_pos (show q < 2 ^ 31 by omega), nI_clamp (show q < 2 ^ 31 by omega), if_false]
  rw [td_ab_f h a q (by omega) n hq]
  by_cases c : q = a
  · simp [c]
  · simp [c, td_A]
theorem td_Alt {nn : Nat} {par : Nat → Int32} (h : td_P nn par) {a : Nat} : ∀ n, n < nn → td_A par a n = true → a < n := by
  intro n
  induction n using Nat.strongRecOn with
  | _ n ih =>
    intro hn ht
    rcases h.2 n hn with ⟨_, e⟩ | ⟨_, q, hq, e⟩
    · rw [td_A0 (nn := nn) e] at ht; cases ht
    · rw [td_As h hn hq e] at ht
      rcases Bool.or_eq_true_iff.mp ht with z | z
      · have := of_decide_eq_true z; omega
      · have := ih q hq (by omega) z; omega
theorem td_ab_c {par par' : Nat → Int32} {nn : Nat} (h : td_P nn par) (a : Nat) : ∀ f n, n < nn → (∀ i, i ≤ n → par' i = par i) → td_ab par' a f n = td_ab par a f n := by
  intro f
  induction f with
  | zero => intro n _ _; rfl
  | succ f ih =>
    intro n hn hc
    have hnn := h.1
    rw [td_ab, td_ab, hc n (Nat.le_refl _)]
    rcases h.2 n hn with ⟨_, e⟩ | ⟨_, q, hq, e⟩
    · simp only [e, td_m1, if_true]
    · simp only [e, nI_pos (show q < 2 ^ 31 by omega), nI_clamp (show q < 2 ^ 31 by omega), if_false]
      rw [ih q (by omega) (fun i hi => hc i (by omega))]
theorem td_Ac {par par' : Nat → Int32} {nn : Nat} (h : td_P nn par) {a n : Nat} (hn : n < nn) (hc : ∀ i, i ≤ n → par' i = par i) : td_A par' a n = td_A par a n := td_ab_c h a _ n hn hc
/-- where the nodes below end -/
def td_L (nn : Nat) (par la : Nat → Int32) : Prop := ∀ n, n < nn → ∃ l, n ≤ l ∧ l < nn ∧ la n = nI l ∧ ∀ m, m < nn → td_A par n m = (decide (n < m) && decide (m ≤ l))
/-- the nodes that are open -/
def td_W (nn dep : Nat) (par la way : Nat → Int32) : Prop := ∃ wy : Nat → Nat, (∀ k, k < dep → way k = nI (wy k) ∧ k ≤ wy k ∧ wy k < nn ∧ la (wy k) = nI (nn - 1) ∧ (k = 0 → wy k = 0) ∧ (0 < k → wy (k - 1) < wy k ∧ par (wy k) = nI (wy (k - 1))))
def td_on (par : Nat → Int32) (x n m : Nat) : Bool :=
  match x with
  | 0 => decide (m = n)
  | 1 => decide (par m = nI n)
  | 2 => decide (par n = nI m)
  | 3 => td_A par n m
  | 4 => td_A par m n
  | 5 => decide (par m = par n) && decide (n < m)
  | 6 => decide (par m = par n) && decide (m < n)
  | 7 => decide (n < m) && !td_A par n m
  | _ => decide (m < n) && !td_A par m n
/-- the sets that are learned -/
def td_AX (nn : Nat) (par nm axes named : Nat → Int32) : Prop := (∀ x, x < 9 → ∀ n, n < nn → axes (24 * x + n) = tm_ms (td_on par x n) nn) ∧ ∀ t, t < 7 → named t = tm_ms (fun m => decide (t = 6) || decide (nm m = nI t)) nn
def td_N (nn : Nat) (nm : Nat → Int32) : Prop := ∀ n, n < nn → ∃ t, t < 6 ∧ nm n = nI t
/-- one step: w its number -/
def td_os (D : td_D) (w n m : Nat) : Bool := (decide (w % 8 = 6) || decide (D.2.2.1 m = nI (w % 8))) && td_on D.2.1 (w / 8) n m
def td_al (D : td_D) (set : Int32) (w : Nat) : Int32 := tm_ms (fun m => (List.range D.1).any (fun n => bt set n && td_os D w n m)) D.1
def td_sm (va : Nat → Int32) (l : List Nat) : Int32 := l.foldl (fun s m => s + va m) 0
def td_to (D : td_D) (k : Nat) (set : Int32) : Int32 :=
  if k = 4 then nI (tm_mem D.1 set).length else if k = 6 then (match tm_mem D.1 set with | [] => 0 | a :: _ => D.2.2.2 a) else td_sm D.2.2.2 (tm_mem D.1 set)
def td_cm (k : Nat) (x y : Int32) : Int32 :=
  if k = 7 then x + y else if k = 8 then x - y else if k = 9 then x * y else if k = 10 then (if y ≤ x then 0 else 1) else if k = 11 then (if x = y then 1 else 0)
  else if k = 12 then (if x = 0 then 0 else if y = 0 then 0 else 1) else (if x = 0 then (if y = 0 then 0 else 1) else 1)
/-- what a token makes of the numbers that wait -/
def td_op (k : Nat) (w vn pos many tv : Int32) (s : List Int32) : List Int32 :=
  if k = 15 then s else if k = 0 then w :: s else if k = 1 then pos :: s else if k = 2 then many :: s else if k = 3 then vn :: s else if k ≤ 6 then tv :: s
  else if k = 14 then (match s with | [] => [] | x :: r => (if x = 0 then 1 else 0) :: r) else (match s with | x :: y :: r => td_cm k x y :: r | r => r)
abbrev td_T : Type := (Nat → Nat) × (Nat → Int32)
def td_1 (n : Nat) : Int32 := (1 : Int32) <<< (nI n &&& 31)
/-- a path without conditions, of at most d steps from q on -/
def td_pl (D : td_D) (T : td_T) : Nat → Nat → Int32 → Int32
  | 0, _, set => set
  | d + 1, q, set => if T.1 q = 15 then td_pl D T d (q + 1) (td_al D set (T.2 q).toNatClampNeg) else set
/-- the numbers that wait when the last d tokens ahead of e are worked out -/
def td_cs (D : td_D) (T : td_T) (e node : Nat) (pos many : Int32) : Nat → List Int32
  | 0 => []
  | d + 1 => td_op (T.1 (e - 1 - d)) (T.2 (e - 1 - d)) (D.2.2.2 node) pos many (td_to D (T.1 (e - 1 - d)) (td_pl D T d (e - d) (td_1 node))) (td_cs D T e node pos many d)
/-- the condition between p and e -/
def td_cv (D : td_D) (T : td_T) (p e node : Nat) (pos many : Int32) : Int32 := (td_cs D T e node pos many (e - 1 - p)).headD 0
def td_bk (w : Nat) : Bool := decide (0 < w / 8) && decide (w / 8 % 2 = 0)
def td_ls (D : td_D) (w n : Nat) : List Nat := (if td_bk w then (List.range D.1).reverse else List.range D.1).filter (td_os D w n)
def td_fl (c : Nat → Nat → Bool) : Nat → List Nat → List Nat
  | _, [] => []
  | k, m :: l => if c m k then m :: td_fl c (k + 1) l else td_fl c (k + 1) l
def td_cb (D : td_D) (T : td_T) (p e many : Nat) (m k : Nat) : Bool := !decide (td_cv D T p e m (nI k) (nI many) = 0)
def td_ft (D : td_D) (T : td_T) (b : Nat × Nat) (l : List Nat) : List Nat := td_fl (td_cb D T b.1 b.2 l.length) 1 l
/-- the list of a step from a node, with its conditions -/
def td_se (D : td_D) (T : td_T) (s : Nat × List (Nat × Nat)) (n : Nat) : List Nat := s.2.foldl (fun l b => td_ft D T b l) (td_ls D (T.2 s.1).toNatClampNeg n)
def td_st (D : td_D) (T : td_T) (s : Nat × List (Nat × Nat)) (set : Int32) : Int32 := tm_ms (fun m => (List.range D.1).any (fun n => bt set n && decide (m ∈ td_se D T s n))) D.1
def td_pv (D : td_D) (T : td_T) (ps : List (Nat × List (Nat × Nat))) (set : Int32) : Int32 := ps.foldl (fun x s => td_st D T s x) set
/-- numbers outside of conditions -/
def td_nv (D : td_D) (T : td_T) (node : Nat) (pos many : Int32) : List (Nat × List (Nat × List (Nat × Nat))) → List Int32
  | [] => []
  | i :: t => td_op (T.1 i.1) (T.2 i.1) (D.2.2.2 node) pos many (td_to D (T.1 i.1) (td_pv D T i.2 (td_1 node))) (td_nv D T node pos many t)
end
section
/-! the machine that reads tokens; due: 1 a number, 2 one in a condition, 3 a path, 4 a plain one, 5 and 6 more of them, 7 a bracket, 8 a body, 9 the body -/
def gm_f (x k : Nat) : Option (List Nat) :=
  if x = 1 ∨ x = 2 then (if k ≤ 3 then some [] else if k ≤ 6 then some [x + 2] else if k ≤ 13 then some [x, x] else if k = 14 then some [x] else none)
  else if x = 3 ∨ x = 4 then (if k = 15 then some [x + 2] else none)
  else if x = 5 then (if k = 16 then some [2, 7, 5] else if k = 15 then some [5] else none)
  else if x = 6 then (if k = 15 then some [6] else none)
  else if x = 7 then (if k = 17 then some [] else none)
  else (if k = 20 then some [x] else if k = 21 then some [8, x] else if k = 22 then some [1, x] else if k = 23 then some [3, x] else if k = 24 then some [1, 8, x] else if k = 25 then some [3, 8, x] else if k = 26 ∧ x = 8 then some [] else none)
def gm_p (k : Nat) : List Nat → List Nat
  | [] => []
  | x :: t => if (x = 5 ∧ k ≠ 15 ∧ k ≠ 16) ∨ (x = 6 ∧ k ≠ 15) then gm_p k t else x :: t
def gm_rd (K : Nat → Nat) : Nat → Nat → List Nat → Option Nat
  | 0, q, s => (match gm_p 99 s with | [] => none | x :: _ => if x = 9 then none else some q)
  | d + 1, q, s => (match gm_p (K q) s with | [] => some q | x :: t => (match gm_f x (K q) with | none => some q | some l => gm_rd K d (q + 1) (l ++ t)))
theorem gm_f12 {x k : Nat} {l : List Nat} (hx : x = 1 ∨ x = 2) (h : gm_f x k = some l) : (k ≤ 3 ∧ l = []) ∨ (4 ≤ k ∧ k ≤ 6 ∧ l = [x + 2]) ∨ (7 ≤ k ∧ k ≤ 13 ∧ l = [x, x]) ∨ (k = 14 ∧ l = [x]) := by
  unfold gm_f at h
  rw [if_pos hx] at h
  by_cases c1 : k ≤ 3
  · rw [if_pos c1] at h; exact Or.inl ⟨c1, (Option.some.inj h).symm⟩
  · rw [if_neg c1] at h
    by_cases c2 : k ≤ 6
    · rw [if_pos c2] at h; exact Or.inr (Or.inl ⟨by omega, c2, (Option.some.inj h).symm⟩)
    · rw [if_neg c2] at h
      by_cases c3 : k ≤ 13
      · rw [if_pos c3] at h; exact Or.inr (Or.inr (Or.inl ⟨by omega, c3, (Option.some.inj h).symm⟩))
      · rw [if_neg c3] at h
        by_cases c4 : k = 14
        · rw [if_pos c4] at h; exact Or.inr (Or.inr (Or.inr ⟨c4, (Option.some.inj h).symm⟩))
        · rw [if_neg c4] at h; cases h
theorem gm_f34 {x k : Nat} {l : List Nat} (hx : x = 3 ∨ x = 4) (h : gm_f x k = some l) : k = 15 ∧ l = [x + 2] := by
  unfold gm_f at h
  rw [if_neg (by omega), if_pos hx] at h
  by_cases c : k = 15
  · rw [if_pos c] at h; exact ⟨c, (Option.some.inj h).symm⟩
  · rw [if_neg c] at h; cases h
theorem gm_f5 {k : Nat} {l : List Nat} (h : gm_f 5 k = some l) : (k = 16 ∧ l = [2, 7, 5]) ∨ (k = 15 ∧ l = [5]) := by
  unfold gm_f at h
  rw [if_neg (by omega), if_neg (by omega), if_pos rfl] at h
  by_cases c : k = 16
  · rw [if_pos c] at h; exact Or.inl ⟨c, (Option.some.inj h).symm⟩
  · rw [if_neg c] at h
    by_cases c : k = 15
    · rw [if_pos c] at h; exact Or.inr ⟨c, (Option.some.inj h).symm⟩
    · rw [if_neg c] at h; cases h
theorem gm_f6 {k : Nat} {l : List Nat} (h : gm_f 6 k = some l) : k = 15 ∧ l = [6] := by
  unfold gm_f at h
  rw [if_neg (by omega), if_neg (by omega), if_neg (by omega), if_pos rfl] at h
  by_cases c : k = 15
  · rw [if_pos c] at h; exact ⟨c, (Option.some.inj h).symm⟩
  · rw [if_neg c] at h; cases h
theorem gm_f7 {k : Nat} {l : List Nat} (h : gm_f 7 k = some l) : k = 17 ∧ l = [] := by
  unfold gm_f at h
  rw [if_neg (by omega), if_neg (by omega), if_neg (by omega), if_neg (by omega), if_pos rfl] at h
  by_cases c : k = 17
  · rw [if_pos c] at h; exact ⟨c, (Option.some.inj h).symm⟩
  · rw [if_neg c] at h; cases h
theorem gm_f8 {x k : Nat} {l : List Nat} (hx : x = 0 ∨ 8 ≤ x) (h : gm_f x k = some l) : (k = 20 ∧ l = [x]) ∨ (k = 21 ∧ l = [8, x]) ∨ (k = 22 ∧ l = [1, x]) ∨ (k = 23 ∧ l = [3, x]) ∨ (k = 24 ∧ l = [1, 8, x]) ∨ (k = 25 ∧ l = [3, 8, x]) ∨ (k = 26 ∧ x = 8 ∧ l = []) := by
  unfold gm_f at h
  rw [if_neg (by omega), if_neg (by omega), if_neg (by omega), if_neg (by omega), if_neg (by omega)] at h
  by_cases c : k = 20
  · rw [if_pos c] at h; exact Or.inl ⟨c, (Option.some.inj h).symm⟩
  · rw [if_neg c] at h
    by_cases c : k = 21
    · rw [if_pos c] at h; exact Or.inr (Or.inl ⟨c, (Option.some.inj h).symm⟩)
    · rw [if_neg c] at h
      by_cases c : k = 22
      · rw [if_pos c] at h; exact Or.inr (Or.inr (Or.inl ⟨c, (Option.some.inj h).symm⟩))
      · rw [if_neg c] at h
        by_cases c : k = 23
        · rw [if_pos c] at h; exact Or.inr (Or.inr (Or.inr (Or.inl ⟨c, (Option.some.inj h).symm⟩)))
        · rw [if_neg c] at h
          by_cases c : k = 24
          · rw [if_pos c] at h; exact Or.inr (Or.inr (Or.inr (Or.inr (Or.inl ⟨c, (Option.some.inj h).symm⟩))))
          · rw [if_neg c] at h
            by_cases c : k = 25
            · rw [if_pos c] at h; exact Or.inr (Or.inr (Or.inr (Or.inr (Or.inr (Or.inl ⟨c, (Option.some.inj h).symm⟩)))))
            · rw [if_neg c] at h
              by_cases c : k = 26 ∧ x = 8
              · rw [if_pos c] at h; exact Or.inr (Or.inr (Or.inr (Or.inr (Or.inr (Or.inr ⟨c.1, c.2, (Option.some.inj h).symm⟩)))))
              · rw [if_neg c] at h; cases h
theorem gm_p_ne {k x : Nat} {t : List Nat} (h5 : x ≠ 5) (h6 : x ≠ 6) : gm_p k (x :: t) = x :: t := by
  unfold gm_p
  rw [if_neg (by omega)]
theorem gm_p_y {k x : Nat} {t : List Nat} (h : (x = 5 ∧ k ≠ 15 ∧ k ≠ 16) ∨ (x = 6 ∧ k ≠ 15)) : gm_p k (x :: t) = gm_p k t := by
  rw [gm_p, if_pos h]
theorem gm_p_n {k x : Nat} {t : List Nat} (h : ¬ ((x = 5 ∧ k ≠ 15 ∧ k ≠ 16) ∨ (x = 6 ∧ k ≠ 15))) : gm_p k (x :: t) = x :: t := by
  rw [gm_p, if_neg h]
theorem gm_p_id (k : Nat) : ∀ s, gm_p k (gm_p k s) = gm_p k s := by
  intro s
  induction s with
  | nil => rfl
  | cons x t ih =>
    by_cases h : (x = 5 ∧ k ≠ 15 ∧ k ≠ 16) ∨ (x = 6 ∧ k ≠ 15)
    · rw [gm_p_y h, ih]
    · rw [gm_p_n h, gm_p_n h]
theorem gm_rd_s {K : Nat → Nat} {d q : Nat} {s : List Nat} (h : gm_rd K (d + 1) q s = none) : ∃ x t l, gm_p (K q) s = x :: t ∧ gm_f x (K q) = some l ∧ gm_rd K d (q + 1) (l ++ t) = none := by
  rw [gm_rd] at h
  cases hp : gm_p (K q) s with
  | nil => rw [hp] at h; cases h
  | cons x t =>
    rw [hp] at h
    dsimp only at h
    cases hf : gm_f x (K q) with
    | none => rw [hf] at h; cases h
    | some l => rw [hf] at h; exact ⟨x, t, l, rfl, hf, h⟩
theorem gm_rd_1 {K : Nat → Nat} {d q x : Nat} {s : List Nat} (h5 : x ≠ 5) (h6 : x ≠ 6) (h : gm_rd K (d + 1) q (x :: s) = none) : ∃ l, gm_f x (K q) = some l ∧ gm_rd K d (q + 1) (l ++ s) = none := by
  obtain ⟨x', t, l, hp, hf, hr⟩ := gm_rd_s h
  rw [gm_p_ne h5 h6] at hp
  injection hp with e1 e2
  subst e1 e2
  exact ⟨l, hf, hr⟩
theorem gm_rd_0 {K : Nat → Nat} {q x : Nat} {s : List Nat} (h5 : x ≠ 5) (h6 : x ≠ 6) (h9 : x ≠ 9) (h : gm_rd K 0 q (x :: s) = none) : False := by
  rw [gm_rd, gm_p_ne h5 h6] at h
  dsimp only at h
  rw [if_neg h9] at h
  cases h
theorem gm_rd_eq {K : Nat → Nat} {d q : Nat} {s s' : List Nat} (h : gm_p (K q) s = gm_p (K q) s') : gm_rd K (d + 1) q s = gm_rd K (d + 1) q s' := by
  rw [gm_rd, gm_rd, h]
theorem gm_rd_eq0 {K : Nat → Nat} {q : Nat} {s s' : List Nat} (h : gm_p 99 s = gm_p 99 s') : gm_rd K 0 q s = gm_rd K 0 q s' := by
  rw [gm_rd, gm_rd, h]
/-! what is read: brackets, paths (each step with its brackets), numbers (each token with its path) -/
def gm_W (K : Nat → Nat) : Nat → Nat → Nat → Prop
  | 0, m, _ => m = 0
  | d + 1, m, q => if K q = 15 then gm_W K d m (q + 1) else 0 < m ∧ (if K q ≤ 6 then gm_W K d (m - 1) (q + 1) else if K q = 14 then gm_W K d m (q + 1) else gm_W K d (m + 1) (q + 1))
def gm_PB (K : Nat → Nat) (n p c : Nat) : Prop := K p = 16 ∧ p < c ∧ c < n ∧ K c = 17 ∧ (∀ x, p < x → x < c → K x ≤ 15) ∧ gm_W K (c - 1 - p) 1 (p + 1)
def gm_B (K : Nat → Nat) (n : Nat) : List (Nat × Nat) → Nat → Nat → Prop
  | [], p, e => p = e ∧ (p < n → K p ≠ 16)
  | b :: t, p, e => b.1 = p ∧ gm_PB K n p b.2 ∧ gm_B K n t (b.2 + 1) e
def gm_S (K : Nat → Nat) (n : Nat) : List (Nat × List (Nat × Nat)) → Nat → Nat → Prop
  | [], q, e => q = e ∧ (q < n → K q ≠ 15) ∧ q ≤ n
  | s :: t, q, e => s.1 = q ∧ q < n ∧ K q = 15 ∧ ∃ c, gm_B K n s.2 (q + 1) c ∧ gm_S K n t c e
def gm_N (K : Nat → Nat) (n : Nat) : List (Nat × List (Nat × List (Nat × Nat))) → Nat → Nat → Prop
  | [], q, e => q = e ∧ q ≤ n
  | i :: t, q, e => i.1 = q ∧ q < n ∧ K q ≤ 14 ∧ ((4 ≤ K q ∧ K q ≤ 6 ∧ i.2 ≠ [] ∧ ∃ c, gm_S K n i.2 (q + 1) c ∧ gm_N K n t c e) ∨ (¬ (4 ≤ K q ∧ K q ≤ 6) ∧ i.2 = [] ∧ gm_N K n t (q + 1) e))
def gm_C (K : Nat → Nat) : List (Nat × List (Nat × List (Nat × Nat))) → Nat → Prop
  | [], m => m = 0
  | i :: t, m => 0 < m ∧ (if K i.1 ≤ 6 then gm_C K t (m - 1) else if K i.1 = 14 then gm_C K t m else gm_C K t (m + 1))
theorem gm_Wskip {K : Nat → Nat} {m e b : Nat} : ∀ k a, a + k = b → b ≤ e → (∀ y, a ≤ y → y < b → K y = 15) → gm_W K (e - b) m b → gm_W K (e - a) m a := by
  intro k
  induction k with
  | zero => intro a h _ _ hw; rw [show a = b by omega]; exact hw
  | succ k ih =>
    intro a h hb hy hw
    rw [show e - a = (e - (a + 1)) + 1 by omega, gm_W, if_pos (hy a (by omega) (by omega))]
    exact ih (a + 1) (by omega) hb (fun y h1 h2 => hy y (by omega) h2) hw
theorem gm_L1 {K : Nat → Nat} {n x : Nat} {t : List Nat} (hx : x = 2 ∨ x = 7) : ∀ d q, q + d = n → gm_rd K d q (6 :: x :: t) = none → ∃ ps e, gm_S K n ps q e ∧ (∀ b, b ∈ ps → b.2 = []) ∧ q ≤ e ∧ e < n ∧ (∀ y, q ≤ y → y < e → K y = 15) ∧ K e ≠ 15 ∧ K e ≠ 16 ∧ gm_rd K (n - e) e (x :: t) = none := by
  intro d
  induction d with
  | zero =>
    intro q hq h
    rw [gm_rd_eq0 (s' := x :: t) (gm_p_y (by omega))] at h
    exact (gm_rd_0 (by omega) (by omega) (by omega) h).elim
  | succ d ih =>
    intro q hq h
    by_cases c : K q = 15
    · obtain ⟨x', t', l, hp, hf, hr⟩ := gm_rd_s h
      rw [gm_p_n (by omega)] at hp
      injection hp with e1 e2
      subst e1 e2
      obtain ⟨-, rfl⟩ := gm_f6 hf
      obtain ⟨ps, e, h1, h2, h3, h4, h5, h6, h7, h8⟩ := ih (q + 1) (by omega) hr
      refine ⟨(q, []) :: ps, e, ⟨rfl, by omega, c, q + 1, ⟨rfl, fun _ => ?_⟩, h1⟩, ?_, by omega, h4, ?_, h6, h7, h8⟩
      · by_cases z : q + 1 = e
        · rw [z]; exact h7
        · rw [h5 (q + 1) (by omega) (by omega)]; omega
      · intro b hb
        rcases List.mem_cons.mp hb with z | z
        · rw [z]
        · exact h2 b z
      · intro y hy1 hy2
        by_cases z : y = q
        · rw [z]; exact c
        · exact h5 y (by omega) hy2
    · rw [gm_rd_eq (s' := x :: t) (gm_p_y (by omega))] at h
      refine ⟨[], q, ⟨rfl, fun _ => c, by omega⟩, by simp, by omega, by omega, by omega, c, ?_, ?_⟩
      · obtain ⟨l, hf, -⟩ := gm_rd_1 (by omega) (by omega) h
        intro z
        rcases hx with rfl | rfl
        · rcases gm_f12 (Or.inr rfl) hf with a | a | a | a <;> omega
        · have := (gm_f7 hf).1; omega
      · rw [show n - q = d + 1 by omega]; exact h
theorem gm_rep (m x : Nat) (s : List Nat) : List.replicate (m + 1) x ++ s = x :: (List.replicate m x ++ s) := by
  rw [List.replicate_succ]; rfl
theorem gm_N1 {K : Nat → Nat} {n q e : Nat} {t : List (Nat × List (Nat × List (Nat × Nat)))} (hq : q < n) (h : K q ≤ 3 ∨ 7 ≤ K q) (h2 : K q ≤ 14) (ht : gm_N K n t (q + 1) e) : gm_N K n ((q, []) :: t) q e := ⟨rfl, hq, h2, Or.inr ⟨by omega, rfl, ht⟩⟩
theorem gm_C1 {K : Nat → Nat} {m q : Nat} {ps : List (Nat × List (Nat × Nat))} {t : List (Nat × List (Nat × List (Nat × Nat)))} (h : K q ≤ 6) (ht : gm_C K t m) : gm_C K ((q, ps) :: t) (m + 1) := ⟨by omega, by rw [if_pos h]; exact ht⟩
theorem gm_C2 {K : Nat → Nat} {m q : Nat} {ps : List (Nat × List (Nat × Nat))} {t : List (Nat × List (Nat × List (Nat × Nat)))} (h : 7 ≤ K q) (h2 : K q ≤ 13) (ht : gm_C K t (m + 2)) : gm_C K ((q, ps) :: t) (m + 1) := ⟨by omega, by dsimp only; rw [if_neg (by omega), if_neg (by omega)]; exact ht⟩
theorem gm_C3 {K : Nat → Nat} {m q : Nat} {ps : List (Nat × List (Nat × Nat))} {t : List (Nat × List (Nat × List (Nat × Nat)))} (h : K q = 14) (ht : gm_C K t (m + 1)) : gm_C K ((q, ps) :: t) (m + 1) := ⟨by omega, by dsimp only; rw [if_neg (by omega), if_pos h]; exact ht⟩
theorem gm_W1 {K : Nat → Nat} {d m q : Nat} (h : K q ≤ 6) (hw : gm_W K d m (q + 1)) : gm_W K (d + 1) (m + 1) q := by
  rw [gm_W, if_neg (by omega), if_pos h]; exact ⟨by omega, hw⟩
theorem gm_W2 {K : Nat → Nat} {d m q : Nat} (h : 7 ≤ K q) (h2 : K q ≤ 13) (hw : gm_W K d (m + 2) (q + 1)) : gm_W K (d + 1) (m + 1) q := by
  rw [gm_W, if_neg (by omega), if_neg (by omega), if_neg (by omega)]; exact ⟨by omega, hw⟩
theorem gm_W3 {K : Nat → Nat} {d m q : Nat} (h : K q = 14) (hw : gm_W K d (m + 1) (q + 1)) : gm_W K (d + 1) (m + 1) q := by
  rw [gm_W, if_neg (by omega), if_neg (by omega), if_pos h]; exact ⟨by omega, hw⟩
theorem gm_L2 {K : Nat → Nat} {n : Nat} {s : List Nat} : ∀ d q m, q + d = n → gm_rd K d q (List.replicate m 2 ++ 7 :: s) = none → ∃ its e, gm_N K n its q e ∧ gm_C K its m ∧ q ≤ e ∧ e < n ∧ K e = 17 ∧ (∀ y, q ≤ y → y < e → K y ≤ 15) ∧ gm_W K (e - q) m q ∧ gm_rd K (n - e - 1) (e + 1) s = none := by
  intro d
  induction d using Nat.strongRecOn with
  | _ d ih =>
    intro q m hq h
    cases m with
    | zero =>
      replace h : gm_rd K d q (7 :: s) = none := h
      cases d with
      | zero => exact (gm_rd_0 (by omega) (by omega) (by omega) h).elim
      | succ d =>
        obtain ⟨l, hf, hr⟩ := gm_rd_1 (by omega) (by omega) h
        obtain ⟨hk, rfl⟩ := gm_f7 hf
        refine ⟨[], q, ⟨rfl, by omega⟩, rfl, by omega, by omega, hk, by omega, ?_, ?_⟩
        · rw [Nat.sub_self]; exact rfl
        · rw [show n - q - 1 = d by omega]; exact hr
    | succ m =>
      rw [gm_rep] at h
      cases d with
      | zero => exact (gm_rd_0 (by omega) (by omega) (by omega) h).elim
      | succ d =>
        obtain ⟨l, hf, hr⟩ := gm_rd_1 (by omega) (by omega) h
        rcases gm_f12 (Or.inr rfl) hf with ⟨k1, rfl⟩ | ⟨k1, k2, rfl⟩ | ⟨k1, k2, rfl⟩ | ⟨k1, rfl⟩
        · obtain ⟨its, e, a1, a2, a3, a4, a5, a6, a7, a8⟩ := ih d (by omega) (q + 1) m (by omega) hr
          refine ⟨(q, []) :: its, e, gm_N1 (by omega) (by omega) (by omega) a1, gm_C1 (by omega) a2, by omega, a4, a5, ?_, ?_, a8⟩
          · intro y h1 h2
            by_cases z : y = q
            · rw [z]; omega
            · exact a6 y (by omega) h2
          · rw [show e - q = (e - (q + 1)) + 1 by omega]; exact gm_W1 (by omega) a7
        · cases d with
          | zero => exact (gm_rd_0 (x := 4) (by omega) (by omega) (by omega) hr).elim
          | succ d =>
            obtain ⟨l, hf2, hr2⟩ := gm_rd_1 (x := 4) (by omega) (by omega) hr
            obtain ⟨k3, rfl⟩ := gm_f34 (Or.inr rfl) hf2
            have hx : ∃ x t, List.replicate m 2 ++ 7 :: s = x :: t ∧ (x = 2 ∨ x = 7) := by
              cases m with
              | zero => exact ⟨7, s, rfl, Or.inr rfl⟩
              | succ m => exact ⟨2, _, gm_rep m 2 _, Or.inl rfl⟩
            obtain ⟨x, t, ex, hx⟩ := hx
            rw [ex] at hr2
            obtain ⟨ps, e1, b1, b2, b3, b4, b5, b6, b7, b8⟩ := gm_L1 (n := n) hx d (q + 1 + 1) (by omega) hr2
            rw [← ex] at b8
            obtain ⟨its, e, a1, a2, a3, a4, a5, a6, a7, a8⟩ := ih (n - e1) (by omega) e1 m (by omega) b8
            refine ⟨(q, (q + 1, []) :: ps) :: its, e, ⟨rfl, by omega, by omega, Or.inl ⟨k1, k2, by simp, e1, ⟨rfl, by omega, k3, q + 1 + 1, ⟨rfl, fun _ => ?_⟩, b1⟩, a1⟩⟩, gm_C1 k2 a2, by omega, a4, a5, ?_, ?_, a8⟩
            · by_cases z : q + 1 + 1 = e1
              · rw [z]; exact b7
              · rw [b5 (q + 1 + 1) (by omega) (by omega)]; omega
            · intro y h1 h2
              by_cases z : y = q
              · rw [z]; omega
              · by_cases z : y = q + 1
                · rw [z]; omega
                · by_cases z : y < e1
                  · rw [b5 y (by omega) z]; omega
                  · exact a6 y (by omega) h2
            · rw [show e - q = (e - (q + 1)) + 1 by omega]
              apply gm_W1 k2
              exact gm_Wskip (e1 - (q + 1)) (q + 1) (by omega) a3 (fun y h1 h2 => by
                by_cases z : y = q + 1
                · rw [z]; exact k3
                · exact b5 y (by omega) h2) a7
        · replace hr : gm_rd K d (q + 1) (List.replicate (m + 2) 2 ++ 7 :: s) = none := hr
          obtain ⟨its, e, a1, a2, a3, a4, a5, a6, a7, a8⟩ := ih d (by omega) (q + 1) (m + 2) (by omega) hr
          refine ⟨(q, []) :: its, e, gm_N1 (by omega) (by omega) (by omega) a1, gm_C2 k1 k2 a2, by omega, a4, a5, ?_, ?_, a8⟩
          · intro y h1 h2
            by_cases z : y = q
            · rw [z]; omega
            · exact a6 y (by omega) h2
          · rw [show e - q = (e - (q + 1)) + 1 by omega]; exact gm_W2 k1 k2 a7
        · replace hr : gm_rd K d (q + 1) (List.replicate (m + 1) 2 ++ 7 :: s) = none := hr
          obtain ⟨its, e, a1, a2, a3, a4, a5, a6, a7, a8⟩ := ih d (by omega) (q + 1) (m + 1) (by omega) hr
          refine ⟨(q, []) :: its, e, gm_N1 (by omega) (by omega) (by omega) a1, gm_C3 k1 a2, by omega, a4, a5, ?_, ?_, a8⟩
          · intro y h1 h2
            by_cases z : y = q
            · rw [z]; omega
            · exact a6 y (by omega) h2
          · rw [show e - q = (e - (q + 1)) + 1 by omega]; exact gm_W3 k1 a7
/-- a bracket -/
theorem gm_L3 {K : Nat → Nat} {n d q : Nat} {s : List Nat} (hq : q + d = n) (hk : K q = 16) (hd : 0 < d) (h : gm_rd K d q (5 :: s) = none) : ∃ c its, gm_PB K n q c ∧ gm_N K n its (q + 1) c ∧ gm_C K its 1 ∧ gm_rd K (n - c - 1) (c + 1) (5 :: s) = none := by
  obtain ⟨d, rfl⟩ : ∃ k, d = k + 1 := ⟨d - 1, by omega⟩
  obtain ⟨x', t', l, hp, hf, hr⟩ := gm_rd_s h
  rw [gm_p_n (by omega)] at hp
  injection hp with e1 e2
  subst e1 e2
  rcases gm_f5 hf with ⟨-, rfl⟩ | ⟨z, -⟩
  · replace hr : gm_rd K d (q + 1) (List.replicate 1 2 ++ 7 :: 5 :: s) = none := hr
    obtain ⟨its, e, a1, a2, a3, a4, a5, a6, a7, a8⟩ := gm_L2 (n := n) d (q + 1) 1 (by omega) hr
    refine ⟨e, its, ⟨hk, by omega, a4, a5, fun y h1 h2 => a6 y (by omega) h2, ?_⟩, a1, a2, a8⟩
    rw [show e - 1 - q = e - (q + 1) by omega]; exact a7
  · omega
/-- more of a path -/
theorem gm_L4 {K : Nat → Nat} {n : Nat} {s : List Nat} : ∀ d q, q + d = n → gm_rd K d q (5 :: s) = none → ∃ brs c ps e, gm_B K n brs q c ∧ gm_S K n ps c e ∧ q ≤ c ∧ c ≤ e ∧ e ≤ n ∧ gm_rd K (n - e) e s = none := by
  intro d
  induction d using Nat.strongRecOn with
  | _ d ih =>
    intro q hq h
    cases d with
    | zero =>
      rw [gm_rd_eq0 (s' := s) (gm_p_y (by omega))] at h
      refine ⟨[], q, [], q, ⟨rfl, by omega⟩, ⟨rfl, by omega, by omega⟩, by omega, by omega, by omega, ?_⟩
      rw [show n - q = 0 by omega]; exact h
    | succ d =>
      by_cases k6 : K q = 16
      · obtain ⟨c0, its, b1, b2, b3, b4⟩ := gm_L3 (n := n) hq k6 (by omega) h
        have hc := b1.2.2.1
        have hc2 := b1.2.1
        obtain ⟨brs, c, ps, e, a1, a2, a3, a4, a5, a6⟩ := ih (n - c0 - 1) (by omega) (c0 + 1) (by omega) b4
        exact ⟨(q, c0) :: brs, c, ps, e, ⟨rfl, b1, a1⟩, a2, by omega, a4, a5, a6⟩
      · by_cases k5 : K q = 15
        · obtain ⟨x', t', l, hp, hf, hr⟩ := gm_rd_s h
          rw [gm_p_n (by omega)] at hp
          injection hp with e1 e2
          subst e1 e2
          rcases gm_f5 hf with ⟨z, -⟩ | ⟨-, rfl⟩
          · omega
          · obtain ⟨brs, c, ps, e, a1, a2, a3, a4, a5, a6⟩ := ih d (by omega) (q + 1) (by omega) hr
            exact ⟨[], q, (q, brs) :: ps, e, ⟨rfl, fun _ => k6⟩, ⟨rfl, by omega, k5, c, a1, a2⟩, by omega, by omega, a5, a6⟩
        · rw [gm_rd_eq (s' := s) (gm_p_y (by omega))] at h
          refine ⟨[], q, [], q, ⟨rfl, fun _ => k6⟩, ⟨rfl, fun _ => k5, by omega⟩, by omega, by omega, by omega, ?_⟩
          rw [show n - q = d + 1 by omega]; exact h
/-- a path -/
theorem gm_L5 {K : Nat → Nat} {n d q : Nat} {s : List Nat} (hq : q + d = n) (h : gm_rd K d q (3 :: s) = none) : q < n ∧ K q = 15 ∧ ∃ ps e, ps ≠ [] ∧ gm_S K n ps q e ∧ q < e ∧ e ≤ n ∧ gm_rd K (n - e) e s = none := by
  cases d with
  | zero => exact (gm_rd_0 (by omega) (by omega) (by omega) h).elim
  | succ d =>
    obtain ⟨l, hf, hr⟩ := gm_rd_1 (by omega) (by omega) h
    obtain ⟨hk, rfl⟩ := gm_f34 (Or.inl rfl) hf
    obtain ⟨brs, c, ps, e, a1, a2, a3, a4, a5, a6⟩ := gm_L4 (n := n) d (q + 1) (by omega) hr
    exact ⟨by omega, hk, (q, brs) :: ps, e, by simp, ⟨rfl, by omega, hk, c, a1, a2⟩, by omega, a5, a6⟩
/-- numbers -/
theorem gm_L6 {K : Nat → Nat} {n : Nat} {s : List Nat} : ∀ d q m, q + d = n → gm_rd K d q (List.replicate m 1 ++ s) = none → ∃ its e, gm_N K n its q e ∧ gm_C K its m ∧ q ≤ e ∧ e ≤ n ∧ gm_rd K (n - e) e s = none := by
  intro d
  induction d using Nat.strongRecOn with
  | _ d ih =>
    intro q m hq h
    cases m with
    | zero =>
      replace h : gm_rd K d q s = none := h
      refine ⟨[], q, ⟨rfl, by omega⟩, rfl, by omega, by omega, ?_⟩
      rw [show n - q = d by omega]; exact h
    | succ m =>
      rw [gm_rep] at h
      cases d with
      | zero => exact (gm_rd_0 (by omega) (by omega) (by omega) h).elim
      | succ d =>
        obtain ⟨l, hf, hr⟩ := gm_rd_1 (by omega) (by omega) h
        rcases gm_f12 (Or.inl rfl) hf with ⟨k1, rfl⟩ | ⟨k1, k2, rfl⟩ | ⟨k1, k2, rfl⟩ | ⟨k1, rfl⟩
        · obtain ⟨its, e, a1, a2, a3, a4, a5⟩ := ih d (by omega) (q + 1) m (by omega) hr
          exact ⟨(q, []) :: its, e, gm_N1 (by omega) (by omega) (by omega) a1, gm_C1 (by omega) a2, by omega, a4, a5⟩
        · obtain ⟨b1, b2, ps, e1, b3, b4, b5, b6, b7⟩ := gm_L5 (n := n) (q := q + 1) (by omega) hr
          obtain ⟨its, e, a1, a2, a3, a4, a5⟩ := ih (n - e1) (by omega) e1 m (by omega) b7
          exact ⟨(q, ps) :: its, e, ⟨rfl, by omega, by omega, Or.inl ⟨k1, k2, b3, e1, b4, a1⟩⟩, gm_C1 k2 a2, by omega, a4, a5⟩
        · replace hr : gm_rd K d (q + 1) (List.replicate (m + 2) 1 ++ s) = none := hr
          obtain ⟨its, e, a1, a2, a3, a4, a5⟩ := ih d (by omega) (q + 1) (m + 2) (by omega) hr
          exact ⟨(q, []) :: its, e, gm_N1 (by omega) (by omega) (by omega) a1, gm_C2 k1 k2 a2, by omega, a4, a5⟩
        · replace hr : gm_rd K d (q + 1) (List.replicate (m + 1) 1 ++ s) = none := hr
          obtain ⟨its, e, a1, a2, a3, a4, a5⟩ := ih d (by omega) (q + 1) (m + 1) (by omega) hr
          exact ⟨(q, []) :: its, e, gm_N1 (by omega) (by omega) (by omega) a1, gm_C3 k1 a2, by omega, a4, a5⟩
end
section
/-! what is read is read in one way; bounds; numbers one behind another -/
theorem gm_PBd {K : Nat → Nat} {n p c c' : Nat} (h : gm_PB K n p c) (h' : gm_PB K n p c') : c = c' := by
  obtain ⟨_, a2, _, a4, a5, _⟩ := h
  obtain ⟨_, b2, _, b4, b5, _⟩ := h'
  rcases Nat.lt_trichotomy c c' with z | z | z
  · have := b5 c a2 z; omega
  · exact z
  · have := a5 c' b2 z; omega
theorem gm_Bd {K : Nat → Nat} {n : Nat} : ∀ brs brs' p e e', gm_B K n brs p e → gm_B K n brs' p e' → brs = brs' ∧ e = e' := by
  intro brs
  induction brs with
  | nil =>
    intro brs' p e e' h h'
    cases brs' with
    | nil => exact ⟨rfl, h.1.symm.trans h'.1⟩
    | cons b t =>
      obtain ⟨_, ⟨a1, a2, a3, _⟩, _⟩ := h'
      exact (h.2 (by omega) a1).elim
  | cons b t ih =>
    intro brs' p e e' h h'
    cases brs' with
    | nil =>
      obtain ⟨_, ⟨a1, a2, a3, _⟩, _⟩ := h
      exact (h'.2 (by omega) a1).elim
    | cons b' t' =>
      obtain ⟨a1, a2, a3⟩ := h
      obtain ⟨b1, b2, b3⟩ := h'
      have e1 := gm_PBd a2 b2
      rw [← e1] at b3
      obtain ⟨e2, e3⟩ := ih t' _ _ _ a3 b3
      exact ⟨by rw [e2, show b = b' from Prod.ext (a1.trans b1.symm) e1], e3⟩
theorem gm_Sd {K : Nat → Nat} {n : Nat} : ∀ ps ps' q e e', gm_S K n ps q e → gm_S K n ps' q e' → ps = ps' ∧ e = e' := by
  intro ps
  induction ps with
  | nil =>
    intro ps' q e e' h h'
    cases ps' with
    | nil => exact ⟨rfl, h.1.symm.trans h'.1⟩
    | cons b t => exact (h.2.1 h'.2.1 h'.2.2.1).elim
  | cons b t ih =>
    intro ps' q e e' h h'
    cases ps' with
    | nil => exact (h'.2.1 h.2.1 h.2.2.1).elim
    | cons b' t' =>
      obtain ⟨a1, _, _, c, a2, a3⟩ := h
      obtain ⟨b1, _, _, c', b2, b3⟩ := h'
      obtain ⟨e1, e2⟩ := gm_Bd _ _ _ _ _ a2 b2
      subst e2
      obtain ⟨e3, e4⟩ := ih t' _ _ _ a3 b3
      exact ⟨by rw [e3, show b = b' from Prod.ext (a1.trans b1.symm) e1], e4⟩
theorem gm_Nd {K : Nat → Nat} {n : Nat} : ∀ its its' m q e e', gm_N K n its q e → gm_C K its m → gm_N K n its' q e' → gm_C K its' m → its = its' ∧ e = e' := by
  intro its
  induction its with
  | nil =>
    intro its' m q e e' h hc h' hc'
    cases its' with
    | nil => exact ⟨rfl, h.1.symm.trans h'.1⟩
    | cons b t =>
      have h1 : m = 0 := hc
      have h2 := hc'.1
      omega
  | cons b t ih =>
    intro its' m q e e' h hc h' hc'
    cases its' with
    | nil =>
      have h1 : m = 0 := hc'
      have h2 := hc.1
      omega
    | cons b' t' =>
      obtain ⟨a1, _, _, a2⟩ := h
      obtain ⟨b1, _, _, b2⟩ := h'
      obtain ⟨_, c1⟩ := hc
      obtain ⟨_, c2⟩ := hc'
      rw [a1] at c1
      rw [b1] at c2
      have key : ∀ c, gm_N K n t c e → gm_N K n t' c e' → t = t' ∧ e = e' := by
        intro c x1 x2
        by_cases z : K q ≤ 6
        · rw [if_pos z] at c1 c2; exact ih _ _ _ _ _ x1 c1 x2 c2
        · rw [if_neg z] at c1 c2
          by_cases z : K q = 14
          · rw [if_pos z] at c1 c2; exact ih _ _ _ _ _ x1 c1 x2 c2
          · rw [if_neg z] at c1 c2; exact ih _ _ _ _ _ x1 c1 x2 c2
      rcases a2 with ⟨k1, k2, _, c, a3, a4⟩ | ⟨k1, a3, a4⟩
      · rcases b2 with ⟨_, _, _, c', b3, b4⟩ | ⟨k3, _, _⟩
        · obtain ⟨e1, e2⟩ := gm_Sd _ _ _ _ _ a3 b3
          subst e2
          obtain ⟨e3, e4⟩ := key _ a4 b4
          exact ⟨by rw [e3, show b = b' from Prod.ext (a1.trans b1.symm) e1], e4⟩
        · omega
      · rcases b2 with ⟨_, _, _, c', b3, b4⟩ | ⟨k3, b3, b4⟩
        · omega
        · obtain ⟨e3, e4⟩ := key _ a4 b4
          exact ⟨by rw [e3, show b = b' from Prod.ext (a1.trans b1.symm) (a3.trans b3.symm)], e4⟩
theorem gm_Ble {K : Nat → Nat} {n : Nat} : ∀ brs p e, gm_B K n brs p e → p ≤ n → p ≤ e ∧ e ≤ n := by
  intro brs
  induction brs with
  | nil => intro p e h hp; have := h.1; omega
  | cons b t ih =>
    intro p e h hp
    obtain ⟨a1, ⟨_, a2, a3, _⟩, a4⟩ := h
    have := ih _ _ a4 (by omega)
    omega
theorem gm_Sle {K : Nat → Nat} {n : Nat} : ∀ ps q e, gm_S K n ps q e → q ≤ e ∧ e ≤ n := by
  intro ps
  induction ps with
  | nil => intro q e h; have h1 := h.1; have h2 := h.2.2; omega
  | cons b t ih =>
    intro q e h
    obtain ⟨a1, a2, _, c, a3, a4⟩ := h
    have h1 := gm_Ble _ _ _ a3 (by omega)
    have h2 := ih _ _ a4
    omega
theorem gm_Slt {K : Nat → Nat} {n q e : Nat} {ps : List (Nat × List (Nat × Nat))} (h : gm_S K n ps q e) (hp : ps ≠ []) : q < e ∧ q < n ∧ K q = 15 := by
  cases ps with
  | nil => exact (hp rfl).elim
  | cons b t =>
    obtain ⟨a1, a2, a0, c, a3, a4⟩ := h
    have h1 := gm_Ble _ _ _ a3 (by omega)
    have h2 := gm_Sle _ _ _ a4
    exact ⟨by omega, a2, a0⟩
theorem gm_Nle {K : Nat → Nat} {n : Nat} : ∀ its q e m, gm_N K n its q e → gm_C K its m → q + m ≤ e ∧ e ≤ n := by
  intro its
  induction its with
  | nil => intro q e m h hc; have h1 := h.1; have h2 := h.2; have h3 : m = 0 := hc; omega
  | cons b t ih =>
    intro q e m h hc
    obtain ⟨a1, a2, _, a3⟩ := h
    obtain ⟨b1, b2⟩ := hc
    have key : ∀ c, gm_N K n t c e → c + (m - 1) ≤ e ∧ e ≤ n := by
      intro c x1
      by_cases z : K b.1 ≤ 6
      · rw [if_pos z] at b2; exact ih _ _ _ x1 b2
      · rw [if_neg z] at b2
        by_cases z : K b.1 = 14
        · rw [if_pos z] at b2; have := ih _ _ _ x1 b2; omega
        · rw [if_neg z] at b2; have := ih _ _ _ x1 b2; omega
    rcases a3 with ⟨_, _, _, c, a4, a5⟩ | ⟨_, _, a5⟩
    · have h1 := gm_Sle _ _ _ a4
      have h2 := key _ a5
      omega
    · have h2 := key _ a5
      omega
theorem gm_Wle {K : Nat → Nat} : ∀ d m q, gm_W K d m q → m ≤ d := by
  intro d
  induction d with
  | zero => intro m q h; have h : m = 0 := h; omega
  | succ d ih =>
    intro m q h
    rw [gm_W] at h
    by_cases c : K q = 15
    · rw [if_pos c] at h; have := ih _ _ h; omega
    · rw [if_neg c] at h
      obtain ⟨h1, h2⟩ := h
      by_cases c : K q ≤ 6
      · rw [if_pos c] at h2; have := ih _ _ h2; omega
      · rw [if_neg c] at h2
        by_cases c : K q = 14
        · rw [if_pos c] at h2; have := ih _ _ h2; omega
        · rw [if_neg c] at h2; have := ih _ _ h2; omega
theorem gm_sp {K : Nat → Nat} {n : Nat} : ∀ its q e a b, gm_N K n its q e → gm_C K its (a + b) → ∃ i1 i2 m, its = i1 ++ i2 ∧ gm_N K n i1 q m ∧ gm_C K i1 a ∧ gm_N K n i2 m e ∧ gm_C K i2 b := by
  intro its
  induction its with
  | nil =>
    intro q e a b h hc
    have h3 : a + b = 0 := hc
    exact ⟨[], [], e, rfl, h, show a = 0 by omega, ⟨rfl, by have := h.1; have := h.2; omega⟩, show b = 0 by omega⟩
  | cons i t ih =>
    intro q e a b h hc
    cases a with
    | zero =>
      have := gm_Nle _ _ _ _ h hc
      exact ⟨[], i :: t, q, rfl, ⟨rfl, by omega⟩, rfl, h, by rw [Nat.zero_add] at hc; exact hc⟩
    | succ a =>
      obtain ⟨a1, a2, a0, a3⟩ := h
      obtain ⟨b1, b2⟩ := hc
      have key : ∀ c, gm_N K n t c e → ∃ i1 i2 m, t = i1 ++ i2 ∧ gm_N K n i1 c m ∧ gm_C K (i :: i1) (a + 1) ∧ gm_N K n i2 m e ∧ gm_C K i2 b := by
        intro c x1
        by_cases z : K i.1 ≤ 6
        · rw [if_pos z, show a + 1 + b - 1 = a + b by omega] at b2
          obtain ⟨i1, i2, m, c1, c2, c3, c4, c5⟩ := ih _ _ _ _ x1 b2
          exact ⟨i1, i2, m, c1, c2, ⟨by omega, by rw [if_pos z]; exact c3⟩, c4, c5⟩
        · rw [if_neg z] at b2
          by_cases z2 : K i.1 = 14
          · rw [if_pos z2] at b2
            obtain ⟨i1, i2, m, c1, c2, c3, c4, c5⟩ := ih _ _ _ _ x1 b2
            exact ⟨i1, i2, m, c1, c2, ⟨by omega, by rw [if_neg z, if_pos z2]; exact c3⟩, c4, c5⟩
          · rw [if_neg z2, show a + 1 + b + 1 = (a + 1 + 1) + b by omega] at b2
            obtain ⟨i1, i2, m, c1, c2, c3, c4, c5⟩ := ih _ _ _ _ x1 b2
            exact ⟨i1, i2, m, c1, c2, ⟨by omega, by rw [if_neg z, if_neg z2]; exact c3⟩, c4, c5⟩
      rcases a3 with ⟨k1, k2, k3, c, a4, a5⟩ | ⟨k1, k2, a5⟩
      · obtain ⟨i1, i2, m, c1, c2, c3, c4, c5⟩ := key _ a5
        exact ⟨i :: i1, i2, m, by rw [c1]; rfl, ⟨a1, a2, a0, Or.inl ⟨k1, k2, k3, c, a4, c2⟩⟩, c3, c4, c5⟩
      · obtain ⟨i1, i2, m, c1, c2, c3, c4, c5⟩ := key _ a5
        exact ⟨i :: i1, i2, m, by rw [c1]; rfl, ⟨a1, a2, a0, Or.inr ⟨k1, k2, c2⟩⟩, c3, c4, c5⟩
/-! bodies: the ENDs that are open to the right, the beginnings that are open to the left -/
def gm_U (K : Nat → Nat) : Nat → Nat → List Nat
  | 0, _ => []
  | d + 1, q => if K q = 26 then q :: gm_U K d (q + 1) else if K q = 21 ∨ K q = 24 ∨ K q = 25 then (gm_U K d (q + 1)).tail else gm_U K d (q + 1)
def gm_L (K : Nat → Nat) : Nat → List Nat
  | 0 => []
  | q + 1 => if K q = 26 then (gm_L K q).tail else if K q = 21 ∨ K q = 24 ∨ K q = 25 then q :: gm_L K q else gm_L K q
theorem gm_dt (l : List Nat) (o : Nat) : l.tail.drop o = l.drop (o + 1) := by
  cases l with
  | nil => simp
  | cons a t => rfl
theorem gm_gt (l : List Nat) (o : Nat) : l.tail[o]? = l[o + 1]? := by
  cases l with
  | nil => simp
  | cons a t => rfl
theorem gm_UL {K : Nat → Nat} {n : Nat} : ∀ d q o e, q + d = n → (gm_U K d q)[o]? = some e → gm_L K e = (gm_L K q).drop o ∧ K e = 26 ∧ q ≤ e ∧ e < n := by
  intro d
  induction d with
  | zero => intro q o e _ h; simp [gm_U] at h
  | succ d ih =>
    intro q o e hq h
    rw [gm_U] at h
    by_cases c : K q = 26
    · rw [if_pos c] at h
      cases o with
      | zero =>
        have h : q = e := by simpa using h
        subst h
        exact ⟨rfl, c, by omega, by omega⟩
      | succ o =>
        obtain ⟨a1, a2, a3, a4⟩ := ih (q + 1) o e (by omega) (by simpa using h)
        rw [gm_L, if_pos c, gm_dt] at a1
        exact ⟨a1, a2, by omega, a4⟩
    · rw [if_neg c] at h
      by_cases c2 : K q = 21 ∨ K q = 24 ∨ K q = 25
      · rw [if_pos c2, gm_gt] at h
        obtain ⟨a1, a2, a3, a4⟩ := ih (q + 1) (o + 1) e (by omega) h
        rw [gm_L, if_neg c, if_pos c2] at a1
        exact ⟨a1, a2, by omega, a4⟩
      · rw [if_neg c2] at h
        obtain ⟨a1, a2, a3, a4⟩ := ih (q + 1) o e (by omega) h
        rw [gm_L, if_neg c, if_neg c2] at a1
        exact ⟨a1, a2, by omega, a4⟩
theorem gm_LU {K : Nat → Nat} {n : Nat} : ∀ q j p : Nat, q ≤ n → (gm_L K q)[j]? = some p → p < q ∧ (K p = 21 ∨ K p = 24 ∨ K p = 25) ∧ (gm_U K (n - (p + 1)) (p + 1))[0]? = (gm_U K (n - q) q)[j]? := by
  intro q
  induction q with
  | zero => intro j p _ h; simp [gm_L] at h
  | succ q ih =>
    intro j p hq h
    have hd : n - q = (n - (q + 1)) + 1 := by omega
    rw [gm_L] at h
    by_cases c : K q = 26
    · rw [if_pos c, gm_gt] at h
      obtain ⟨a1, a2, a3⟩ := ih _ _ (by omega) h
      refine ⟨by omega, a2, ?_⟩
      rw [a3, hd, gm_U, if_pos c]
      rfl
    · rw [if_neg c] at h
      by_cases c2 : K q = 21 ∨ K q = 24 ∨ K q = 25
      · rw [if_pos c2] at h
        cases j with
        | zero =>
          have h : q = p := by simpa using h
          subst h
          exact ⟨by omega, c2, rfl⟩
        | succ j =>
          obtain ⟨a1, a2, a3⟩ := ih j p (by omega) (by simpa using h)
          refine ⟨by omega, a2, ?_⟩
          rw [a3, hd, gm_U, if_neg c, if_pos c2, gm_gt]
      · rw [if_neg c2] at h
        obtain ⟨a1, a2, a3⟩ := ih _ _ (by omega) h
        refine ⟨by omega, a2, ?_⟩
        rw [a3, hd, gm_U, if_neg c, if_neg c2]
/-- what a token does to the bodies that are due -/
theorem gm_fc {x k : Nat} {l : List Nat} (h1 : 1 ≤ x) (h9 : x ≤ 9) (h : gm_f x k = some l) : (∀ y, y ∈ l → 1 ≤ y ∧ y ≤ 9 ∧ (y = 9 → x = 9)) ∧ ((k = 26 ∧ x = 8 ∧ l = []) ∨ (k ≠ 26 ∧ (k = 21 ∨ k = 24 ∨ k = 25) ∧ l.count 8 = [x].count 8 + 1) ∨ (k ≠ 26 ∧ ¬ (k = 21 ∨ k = 24 ∨ k = 25) ∧ l.count 8 = [x].count 8)) := by
  have hx : x = 1 ∨ x = 2 ∨ x = 3 ∨ x = 4 ∨ x = 5 ∨ x = 6 ∨ x = 7 ∨ x = 8 ∨ x = 9 := by omega
  rcases hx with rfl | rfl | rfl | rfl | rfl | rfl | rfl | rfl | rfl
  · rcases gm_f12 (Or.inl rfl) h with ⟨k1, rfl⟩ | ⟨k1, k2, rfl⟩ | ⟨k1, k2, rfl⟩ | ⟨k1, rfl⟩ <;> refine ⟨by simp, Or.inr (Or.inr ⟨by omega, by omega, by decide⟩)⟩
  · rcases gm_f12 (Or.inr rfl) h with ⟨k1, rfl⟩ | ⟨k1, k2, rfl⟩ | ⟨k1, k2, rfl⟩ | ⟨k1, rfl⟩ <;> refine ⟨by simp, Or.inr (Or.inr ⟨by omega, by omega, by decide⟩)⟩
  · obtain ⟨k1, rfl⟩ := gm_f34 (Or.inl rfl) h
    exact ⟨by simp, Or.inr (Or.inr ⟨by omega, by omega, by decide⟩)⟩
  · obtain ⟨k1, rfl⟩ := gm_f34 (Or.inr rfl) h
    exact ⟨by simp, Or.inr (Or.inr ⟨by omega, by omega, by decide⟩)⟩
  · rcases gm_f5 h with ⟨k1, rfl⟩ | ⟨k1, rfl⟩ <;> exact ⟨by simp, Or.inr (Or.inr ⟨by omega, by omega, by decide⟩)⟩
  · obtain ⟨k1, rfl⟩ := gm_f6 h
    exact ⟨by simp, Or.inr (Or.inr ⟨by omega, by omega, by decide⟩)⟩
  · obtain ⟨k1, rfl⟩ := gm_f7 h
    exact ⟨by simp, Or.inr (Or.inr ⟨by omega, by omega, by decide⟩)⟩
  · rcases gm_f8 (Or.inr (by omega)) h with ⟨k1, rfl⟩ | ⟨k1, rfl⟩ | ⟨k1, rfl⟩ | ⟨k1, rfl⟩ | ⟨k1, rfl⟩ | ⟨k1, rfl⟩ | ⟨k1, _, rfl⟩
    · exact ⟨by simp, Or.inr (Or.inr ⟨by omega, by omega, by decide⟩)⟩
    · exact ⟨by simp, Or.inr (Or.inl ⟨by omega, by omega, by decide⟩)⟩
    · exact ⟨by simp, Or.inr (Or.inr ⟨by omega, by omega, by decide⟩)⟩
    · exact ⟨by simp, Or.inr (Or.inr ⟨by omega, by omega, by decide⟩)⟩
    · exact ⟨by simp, Or.inr (Or.inl ⟨by omega, by omega, by decide⟩)⟩
    · exact ⟨by simp, Or.inr (Or.inl ⟨by omega, by omega, by decide⟩)⟩
    · exact ⟨by simp, Or.inl ⟨k1, rfl, rfl⟩⟩
  · rcases gm_f8 (Or.inr (by omega)) h with ⟨k1, rfl⟩ | ⟨k1, rfl⟩ | ⟨k1, rfl⟩ | ⟨k1, rfl⟩ | ⟨k1, rfl⟩ | ⟨k1, rfl⟩ | ⟨k1, z, rfl⟩
    · exact ⟨by simp, Or.inr (Or.inr ⟨by omega, by omega, by decide⟩)⟩
    · exact ⟨by simp, Or.inr (Or.inl ⟨by omega, by omega, by decide⟩)⟩
    · exact ⟨by simp, Or.inr (Or.inr ⟨by omega, by omega, by decide⟩)⟩
    · exact ⟨by simp, Or.inr (Or.inr ⟨by omega, by omega, by decide⟩)⟩
    · exact ⟨by simp, Or.inr (Or.inl ⟨by omega, by omega, by decide⟩)⟩
    · exact ⟨by simp, Or.inr (Or.inl ⟨by omega, by omega, by decide⟩)⟩
    · omega
theorem gm_pa (k : Nat) (s : List Nat) : ∀ X : List Nat, gm_p k (X ++ 8 :: s) = gm_p k X ++ 8 :: s := by
  intro X
  induction X with
  | nil => exact gm_p_ne (by omega) (by omega)
  | cons x t ih =>
    by_cases h : (x = 5 ∧ k ≠ 15 ∧ k ≠ 16) ∨ (x = 6 ∧ k ≠ 15)
    · rw [List.cons_append, gm_p_y h, gm_p_y h, ih]
    · rw [List.cons_append, gm_p_n h, gm_p_n h, List.cons_append]
theorem gm_pc (k : Nat) : ∀ X : List Nat, (gm_p k X).count 8 = X.count 8 := by
  intro X
  induction X with
  | nil => rfl
  | cons x t ih =>
    by_cases h : (x = 5 ∧ k ≠ 15 ∧ k ≠ 16) ∨ (x = 6 ∧ k ≠ 15)
    · rw [gm_p_y h, ih, List.count_cons_of_ne (by omega)]
    · rw [gm_p_n h]
theorem gm_pm (k : Nat) {y : Nat} : ∀ X : List Nat, y ∈ gm_p k X → y ∈ X := by
  intro X
  induction X with
  | nil => exact id
  | cons x t ih =>
    by_cases h : (x = 5 ∧ k ≠ 15 ∧ k ≠ 16) ∨ (x = 6 ∧ k ≠ 15)
    · rw [gm_p_y h]; exact fun z => List.mem_cons_of_mem _ (ih z)
    · rw [gm_p_n h]; exact id
theorem gm_U26 {K : Nat → Nat} {d q o : Nat} (h : K q = 26) : (gm_U K (d + 1) q)[o + 1]? = (gm_U K d (q + 1))[o]? := by
  rw [gm_U, if_pos h]; rfl
theorem gm_Ubl {K : Nat → Nat} {d q o : Nat} (h0 : K q ≠ 26) (h : K q = 21 ∨ K q = 24 ∨ K q = 25) : (gm_U K (d + 1) q)[o]? = (gm_U K d (q + 1))[o + 1]? := by
  rw [gm_U, if_neg h0, if_pos h, gm_gt]
theorem gm_Uno {K : Nat → Nat} {d q : Nat} (h0 : K q ≠ 26) (h : ¬ (K q = 21 ∨ K q = 24 ∨ K q = 25)) : gm_U K (d + 1) q = gm_U K d (q + 1) := by
  rw [gm_U, if_neg h0, if_neg h]
/-- a body that is due has its END -/
theorem gm_L7 {K : Nat → Nat} {n : Nat} {s : List Nat} : ∀ d q X, q + d = n → (∀ x, x ∈ X → 1 ≤ x ∧ x ≤ 8) → gm_rd K d q (X ++ 8 :: s) = none → ∃ e, (gm_U K d q)[X.count 8]? = some e ∧ q ≤ e ∧ e < n ∧ gm_rd K (n - e - 1) (e + 1) s = none := by
  intro d
  induction d with
  | zero =>
    intro q X hq hX h
    rw [gm_rd, gm_pa] at h
    cases hp : gm_p 99 X with
    | nil => rw [hp] at h; cases h
    | cons x t =>
      have := hX x (gm_pm 99 X (by rw [hp]; simp))
      rw [hp] at h
      dsimp only [List.cons_append] at h
      rw [if_neg (by omega)] at h
      cases h
  | succ d ih =>
    intro q X hq hX h
    obtain ⟨y, t, l, hp, hf, hr⟩ := gm_rd_s h
    rw [gm_pa] at hp
    have hcX := gm_pc (K q) X
    cases hx : gm_p (K q) X with
    | nil =>
      rw [hx] at hp hcX
      injection hp with e1 e2
      subst e1 e2
      rw [← hcX]
      have fin : ∀ l' : List Nat, l = l' ++ [8] → (∀ x, x ∈ l' → 1 ≤ x ∧ x ≤ 8) → ((K q ≠ 26 ∧ (K q = 21 ∨ K q = 24 ∨ K q = 25) ∧ l'.count 8 = 1) ∨ (K q ≠ 26 ∧ ¬ (K q = 21 ∨ K q = 24 ∨ K q = 25) ∧ l'.count 8 = 0)) → ∃ e, (gm_U K (d + 1) q)[([] : List Nat).count 8]? = some e ∧ q ≤ e ∧ e < n ∧ gm_rd K (n - e - 1) (e + 1) s = none := by
        intro l' hl hm hc
        rw [hl, List.append_assoc] at hr
        obtain ⟨e, a1, a2, a3, a4⟩ := ih (q + 1) l' (by omega) hm hr
        refine ⟨e, ?_, by omega, a3, a4⟩
        rcases hc with ⟨k1, k2, k3⟩ | ⟨k1, k2, k3⟩
        · rw [k3] at a1; rw [gm_Ubl k1 k2]; exact a1
        · rw [k3] at a1; rw [gm_Uno k1 k2]; exact a1
      rcases gm_f8 (Or.inr (by omega)) hf with ⟨k1, rfl⟩ | ⟨k1, rfl⟩ | ⟨k1, rfl⟩ | ⟨k1, rfl⟩ | ⟨k1, rfl⟩ | ⟨k1, rfl⟩ | ⟨k1, _, rfl⟩
      · exact fin [] rfl (by simp) (Or.inr ⟨by omega, by omega, by decide⟩)
      · exact fin [8] rfl (by simp) (Or.inl ⟨by omega, by omega, by decide⟩)
      · exact fin [1] rfl (by simp) (Or.inr ⟨by omega, by omega, by decide⟩)
      · exact fin [3] rfl (by simp) (Or.inr ⟨by omega, by omega, by decide⟩)
      · exact fin [1, 8] rfl (by simp) (Or.inl ⟨by omega, by omega, by decide⟩)
      · exact fin [3, 8] rfl (by simp) (Or.inl ⟨by omega, by omega, by decide⟩)
      · refine ⟨q, ?_, by omega, by omega, ?_⟩
        · rw [gm_U, if_pos k1]; rfl
        · rw [show n - q - 1 = d by omega]; exact hr
    | cons x X2 =>
      rw [hx] at hp hcX
      injection hp with e1 e2
      subst e1 e2
      have hmx : ∀ z, z ∈ x :: X2 → 1 ≤ z ∧ z ≤ 8 := fun z hz => hX z (gm_pm (K q) X (by rw [hx]; exact hz))
      have h18 := hmx x (by simp)
      obtain ⟨g1, g2⟩ := gm_fc h18.1 (by omega) hf
      replace hr : gm_rd K d (q + 1) ((l ++ X2) ++ 8 :: s) = none := by rw [List.append_assoc]; exact hr
      have hm : ∀ z, z ∈ l ++ X2 → 1 ≤ z ∧ z ≤ 8 := by
        intro z hz
        rcases List.mem_append.mp hz with w | w
        · have := g1 z w; omega
        · exact hmx z (List.mem_cons_of_mem _ w)
      obtain ⟨e, a1, a2, a3, a4⟩ := ih (q + 1) (l ++ X2) (by omega) hm hr
      refine ⟨e, ?_, by omega, a3, a4⟩
      rw [← hcX, ← List.singleton_append, List.count_append]
      rw [List.count_append] at a1
      rcases g2 with ⟨k1, k2, k3⟩ | ⟨k1, k2, k3⟩ | ⟨k1, k2, k3⟩
      · subst k2 k3
        rw [show ([8] : List Nat).count 8 + X2.count 8 = X2.count 8 + 1 by rw [show ([8] : List Nat).count 8 = 1 from by decide]; omega, gm_U26 k1]
        rw [show ([] : List Nat).count 8 + X2.count 8 = X2.count 8 by simp] at a1
        exact a1
      · rw [gm_Ubl k1 k2]
        rw [k3, show [x].count 8 + 1 + X2.count 8 = [x].count 8 + X2.count 8 + 1 by omega] at a1
        exact a1
      · rw [gm_Uno k1 k2]
        rw [k3] at a1
        exact a1
/-! every token of good tokens -/
def gm_sh : List Nat → Prop
  | [] => True
  | x :: t => (1 ≤ x ∧ x ≤ 9) ∧ ((x = 2 ∨ x = 4 ∨ x = 6) → ∃ y r, t = y :: r ∧ (y = 2 ∨ y = 7)) ∧ gm_sh t
theorem gm_shp (k : Nat) : ∀ s, gm_sh s → gm_sh (gm_p k s) := by
  intro s
  induction s with
  | nil => exact id
  | cons x t ih =>
    intro h
    by_cases c : (x = 5 ∧ k ≠ 15 ∧ k ≠ 16) ∨ (x = 6 ∧ k ≠ 15)
    · rw [gm_p_y c]; exact ih h.2.2
    · rw [gm_p_n c]; exact h
theorem gm_shf {x k : Nat} {l t : List Nat} (h : gm_sh (x :: t)) (hf : gm_f x k = some l) : gm_sh (l ++ t) := by
  obtain ⟨h0, h1, h2⟩ := h
  have no : ∀ z s, (1 ≤ z ∧ z ≤ 9) → ¬ (z = 2 ∨ z = 4 ∨ z = 6) → gm_sh s → gm_sh (z :: s) := fun z s a b c => ⟨a, fun w => (b w).elim, c⟩
  have hx : x = 1 ∨ x = 2 ∨ x = 3 ∨ x = 4 ∨ x = 5 ∨ x = 6 ∨ x = 7 ∨ 8 ≤ x := by omega
  rcases hx with rfl | rfl | rfl | rfl | rfl | rfl | rfl | hx
  · rcases gm_f12 (Or.inl rfl) hf with ⟨k1, rfl⟩ | ⟨k1, k2, rfl⟩ | ⟨k1, k2, rfl⟩ | ⟨k1, rfl⟩
    · exact h2
    · exact no _ _ (by omega) (by omega) h2
    · exact no _ _ (by omega) (by omega) (no _ _ (by omega) (by omega) h2)
    · exact no _ _ (by omega) (by omega) h2
  · have h3 := h1 (Or.inl rfl)
    rcases gm_f12 (Or.inr rfl) hf with ⟨k1, rfl⟩ | ⟨k1, k2, rfl⟩ | ⟨k1, k2, rfl⟩ | ⟨k1, rfl⟩
    · exact h2
    · exact ⟨by omega, fun _ => h3, h2⟩
    · exact ⟨by omega, fun _ => ⟨2, t, rfl, Or.inl rfl⟩, by omega, fun _ => h3, h2⟩
    · exact ⟨by omega, fun _ => h3, h2⟩
  · obtain ⟨k1, rfl⟩ := gm_f34 (Or.inl rfl) hf
    exact no _ _ (by omega) (by omega) h2
  · obtain ⟨k1, rfl⟩ := gm_f34 (Or.inr rfl) hf
    exact ⟨by omega, fun _ => h1 (by omega), h2⟩
  · rcases gm_f5 hf with ⟨k1, rfl⟩ | ⟨k1, rfl⟩
    · exact ⟨by omega, fun _ => ⟨7, 5 :: t, rfl, Or.inr rfl⟩, no _ _ (by omega) (by omega) (no _ _ (by omega) (by omega) h2)⟩
    · exact no _ _ (by omega) (by omega) h2
  · obtain ⟨k1, rfl⟩ := gm_f6 hf
    exact ⟨by omega, fun _ => h1 (by omega), h2⟩
  · obtain ⟨k1, rfl⟩ := gm_f7 hf
    exact h2
  · rcases gm_f8 (Or.inr (by omega)) hf with ⟨k1, rfl⟩ | ⟨k1, rfl⟩ | ⟨k1, rfl⟩ | ⟨k1, rfl⟩ | ⟨k1, rfl⟩ | ⟨k1, rfl⟩ | ⟨k1, _, rfl⟩
    · exact no _ _ (by omega) (by omega) h2
    · exact no _ _ (by omega) (by omega) (no _ _ (by omega) (by omega) h2)
    · exact no _ _ (by omega) (by omega) (no _ _ (by omega) (by omega) h2)
    · exact no _ _ (by omega) (by omega) (no _ _ (by omega) (by omega) h2)
    · exact no _ _ (by omega) (by omega) (no _ _ (by omega) (by omega) (no _ _ (by omega) (by omega) h2))
    · exact no _ _ (by omega) (by omega) (no _ _ (by omega) (by omega) (no _ _ (by omega) (by omega) h2))
    · exact h2
theorem gm_reach {K : Nat → Nat} {n : Nat} {s0 : List Nat} (h : gm_rd K n 0 s0 = none) (h0 : gm_sh s0) (h8 : s0.count 8 = 0) : ∀ q, q ≤ n → ∃ s, gm_sh s ∧ gm_rd K (n - q) q s = none ∧ s.count 8 = (gm_L K q).length := by
  intro q
  induction q with
  | zero => exact fun _ => ⟨s0, h0, h, h8⟩
  | succ q ih =>
    intro hq
    obtain ⟨s, a1, a2, a3⟩ := ih (by omega)
    rw [show n - q = (n - (q + 1)) + 1 by omega] at a2
    obtain ⟨x, t, l, hp, hf, hr⟩ := gm_rd_s a2
    have b1 := gm_shp (K q) s a1
    rw [hp] at b1
    refine ⟨l ++ t, gm_shf b1 hf, hr, ?_⟩
    have c1 := gm_pc (K q) s
    rw [hp, a3, ← List.singleton_append, List.count_append] at c1
    rw [List.count_append, gm_L]
    rcases (gm_fc b1.1.1 b1.1.2 hf).2 with ⟨k1, k2, k3⟩ | ⟨k1, k2, k3⟩ | ⟨k1, k2, k3⟩
    · subst k2 k3
      rw [if_pos k1, List.length_tail, ← c1, show ([8] : List Nat).count 8 = 1 from by decide, show ([] : List Nat).count 8 = 0 from rfl]
      omega
    · rw [if_neg k1, if_pos k2, k3, List.length_cons]; omega
    · rw [if_neg k1, if_neg k2, k3]; omega
theorem gm_sh2 : ∀ t, gm_sh (2 :: t) → ∃ m s, t = List.replicate m 2 ++ 7 :: s := by
  intro t
  induction t with
  | nil => intro h; obtain ⟨y, r, z, _⟩ := h.2.1 (Or.inl rfl); cases z
  | cons a t ih =>
    intro h
    obtain ⟨y, r, z, hy⟩ := h.2.1 (Or.inl rfl)
    injection z with e1 e2
    subst e1 e2
    rcases hy with rfl | rfl
    · obtain ⟨m, s, e⟩ := ih h.2.2
      exact ⟨m + 1, s, by rw [gm_rep, ← e]⟩
    · exact ⟨0, t, rfl⟩
/-- good tokens -/
def gm_OK (K : Nat → Nat) (n : Nat) (s0 : List Nat) : Prop := gm_rd K n 0 s0 = none ∧ gm_sh s0 ∧ s0.count 8 = 0
theorem gm_at {K : Nat → Nat} {n : Nat} {s0 : List Nat} (h : gm_OK K n s0) {q : Nat} (hq : q < n) : ∃ x t, gm_sh (x :: t) ∧ gm_rd K (n - q) q (x :: t) = none ∧ (∃ l, gm_f x (K q) = some l) ∧ gm_p (K q) (x :: t) = x :: t ∧ (x :: t).count 8 = (gm_L K q).length := by
  obtain ⟨s, a1, a2, a3⟩ := gm_reach h.1 h.2.1 h.2.2 q (by omega)
  have hd : n - q = (n - (q + 1)) + 1 := by omega
  rw [hd] at a2
  obtain ⟨x, t, l, hp, hf, hr⟩ := gm_rd_s a2
  have b1 := gm_shp (K q) s a1
  rw [hp] at b1
  have hpp : gm_p (K q) (x :: t) = x :: t := by rw [← hp, gm_p_id]
  refine ⟨x, t, b1, ?_, ⟨l, hf⟩, hpp, ?_⟩
  · rw [hd, ← gm_rd_eq (s := s) (by rw [hp, hpp])]; exact a2
  · rw [← hp, gm_pc, a3]
theorem gm_num {K : Nat → Nat} {n : Nat} {s0 : List Nat} (h : gm_OK K n s0) {q : Nat} (hq : q < n) (hk : K q ≤ 14) : ∃ its e, gm_N K n its q e ∧ gm_C K its 1 := by
  obtain ⟨x, t, a1, a2, ⟨l, a3⟩, -, -⟩ := gm_at h hq
  have hx : x = 1 ∨ x = 2 ∨ x = 3 ∨ x = 4 ∨ x = 5 ∨ x = 6 ∨ x = 7 ∨ 8 ≤ x := by have := a1.1; omega
  rcases hx with rfl | rfl | rfl | rfl | rfl | rfl | rfl | hx
  · obtain ⟨its, e, b1, b2, -⟩ := gm_L6 (n := n) (s := t) (n - q) q 1 (by omega) a2
    exact ⟨its, e, b1, b2⟩
  · obtain ⟨m, s, rfl⟩ := gm_sh2 t a1
    rw [← gm_rep] at a2
    obtain ⟨its, e, b1, b2, -⟩ := gm_L2 (n := n) (n - q) q (m + 1) (by omega) a2
    rw [Nat.add_comm] at b2
    obtain ⟨i1, i2, m, -, c2, c3, -⟩ := gm_sp _ _ _ 1 m b1 b2
    exact ⟨i1, _, c2, c3⟩
  · have := (gm_f34 (Or.inl rfl) a3).1; omega
  · have := (gm_f34 (Or.inr rfl) a3).1; omega
  · rcases gm_f5 a3 with ⟨z, -⟩ | ⟨z, -⟩ <;> omega
  · have := (gm_f6 a3).1; omega
  · have := (gm_f7 a3).1; omega
  · rcases gm_f8 (Or.inr hx) a3 with ⟨z, -⟩ | ⟨z, -⟩ | ⟨z, -⟩ | ⟨z, -⟩ | ⟨z, -⟩ | ⟨z, -⟩ | ⟨z, -⟩ <;> omega
theorem gm_pth {K : Nat → Nat} {n : Nat} {s0 : List Nat} (h : gm_OK K n s0) {q : Nat} (hq : q < n) (hk : K q = 15) : ∃ ps e, gm_S K n ps q e ∧ ps ≠ [] := by
  obtain ⟨x, t, a1, a2, ⟨l, a3⟩, -, -⟩ := gm_at h hq
  have ne : ∀ ps e, gm_S K n ps q e → ps ≠ [] := fun ps e hs z => by
    rw [z] at hs; exact hs.2.1 hq hk
  have hx : x = 1 ∨ x = 2 ∨ x = 3 ∨ x = 4 ∨ x = 5 ∨ x = 6 ∨ x = 7 ∨ 8 ≤ x := by have := a1.1; omega
  rcases hx with rfl | rfl | rfl | rfl | rfl | rfl | rfl | hx
  · rcases gm_f12 (Or.inl rfl) a3 with z | z | z | z <;> omega
  · rcases gm_f12 (Or.inr rfl) a3 with z | z | z | z <;> omega
  · obtain ⟨-, -, ps, e, b1, b2, -⟩ := gm_L5 (n := n) (by omega) a2
    exact ⟨ps, e, b2, b1⟩
  · obtain ⟨y, r, rfl, hy⟩ := a1.2.1 (by omega)
    rw [show n - q = (n - (q + 1)) + 1 by omega] at a2
    obtain ⟨l, hf, hr⟩ := gm_rd_1 (by omega) (by omega) a2
    obtain ⟨-, rfl⟩ := gm_f34 (Or.inr rfl) hf
    obtain ⟨ps, e, b1, b2, b3, b4, b5, b6, b7, b8⟩ := gm_L1 (n := n) hy (n - (q + 1)) (q + 1) (by omega) hr
    refine ⟨(q, []) :: ps, e, ⟨rfl, hq, hk, q + 1, ⟨rfl, fun _ => ?_⟩, b1⟩, by simp⟩
    by_cases z : q + 1 = e
    · rw [z]; exact b7
    · rw [b5 (q + 1) (by omega) (by omega)]; omega
  · obtain ⟨brs, c, ps, e, b1, b2, -⟩ := gm_L4 (n := n) (n - q) q (by omega) a2
    cases brs with
    | nil =>
      have e1 : q = c := b1.1
      subst e1
      exact ⟨ps, e, b2, ne _ _ b2⟩
    | cons b t' => have := b1.2.1.1; omega
  · obtain ⟨y, r, rfl, hy⟩ := a1.2.1 (by omega)
    obtain ⟨ps, e, b1, -⟩ := gm_L1 (n := n) hy (n - q) q (by omega) a2
    exact ⟨ps, e, b1, ne _ _ b1⟩
  · have := (gm_f7 a3).1; omega
  · rcases gm_f8 (Or.inr hx) a3 with ⟨z, -⟩ | ⟨z, -⟩ | ⟨z, -⟩ | ⟨z, -⟩ | ⟨z, -⟩ | ⟨z, -⟩ | ⟨z, -⟩ <;> omega
theorem gm_brk {K : Nat → Nat} {n : Nat} {s0 : List Nat} (h : gm_OK K n s0) {q : Nat} (hq : q < n) (hk : K q = 16) : ∃ c its, gm_PB K n q c ∧ gm_N K n its (q + 1) c ∧ gm_C K its 1 := by
  obtain ⟨x, t, a1, a2, ⟨l, a3⟩, -, -⟩ := gm_at h hq
  have hx : x = 1 ∨ x = 2 ∨ x = 3 ∨ x = 4 ∨ x = 5 ∨ x = 6 ∨ x = 7 ∨ 8 ≤ x := by have := a1.1; omega
  rcases hx with rfl | rfl | rfl | rfl | rfl | rfl | rfl | hx
  · rcases gm_f12 (Or.inl rfl) a3 with z | z | z | z <;> omega
  · rcases gm_f12 (Or.inr rfl) a3 with z | z | z | z <;> omega
  · have := (gm_f34 (Or.inl rfl) a3).1; omega
  · have := (gm_f34 (Or.inr rfl) a3).1; omega
  · obtain ⟨c, its, b1, b2, b3, -⟩ := gm_L3 (n := n) (by omega) hk (by omega) a2
    exact ⟨c, its, b1, b2, b3⟩
  · have := (gm_f6 a3).1; omega
  · have := (gm_f7 a3).1; omega
  · rcases gm_f8 (Or.inr hx) a3 with ⟨z, -⟩ | ⟨z, -⟩ | ⟨z, -⟩ | ⟨z, -⟩ | ⟨z, -⟩ | ⟨z, -⟩ | ⟨z, -⟩ <;> omega
theorem gm_blk {K : Nat → Nat} {n : Nat} {s0 : List Nat} (h : gm_OK K n s0) {q : Nat} (hq : q < n) (hk : K q = 21 ∨ K q = 24 ∨ K q = 25) : ∃ e, (gm_U K (n - (q + 1)) (q + 1))[0]? = some e := by
  obtain ⟨x, t, a1, a2, ⟨l, a3⟩, a4, -⟩ := gm_at h hq
  rw [show n - q = (n - (q + 1)) + 1 by omega] at a2
  obtain ⟨x', t', l', hp, hf, hr⟩ := gm_rd_s a2
  rw [a4] at hp
  injection hp with e1 e2
  subst e1 e2
  have hx : x = 1 ∨ x = 2 ∨ x = 3 ∨ x = 4 ∨ x = 5 ∨ x = 6 ∨ x = 7 ∨ 8 ≤ x := by have := a1.1; omega
  rcases hx with rfl | rfl | rfl | rfl | rfl | rfl | rfl | hx
  · rcases gm_f12 (Or.inl rfl) a3 with z | z | z | z <;> omega
  · rcases gm_f12 (Or.inr rfl) a3 with z | z | z | z <;> omega
  · have := (gm_f34 (Or.inl rfl) a3).1; omega
  · have := (gm_f34 (Or.inr rfl) a3).1; omega
  · rcases gm_f5 a3 with z | z <;> omega
  · have := (gm_f6 a3).1; omega
  · have := (gm_f7 a3).1; omega
  · rcases gm_f8 (Or.inr hx) hf with ⟨z, -⟩ | ⟨z, rfl⟩ | ⟨z, -⟩ | ⟨z, -⟩ | ⟨z, rfl⟩ | ⟨z, rfl⟩ | ⟨z, -⟩
    · omega
    · obtain ⟨e, b1, -⟩ := gm_L7 (n := n) (s := x :: t) (n - (q + 1)) (q + 1) [] (by omega) (by simp) hr
      exact ⟨e, b1⟩
    · omega
    · omega
    · obtain ⟨e, b1, -⟩ := gm_L7 (n := n) (s := x :: t) (n - (q + 1)) (q + 1) [1] (by omega) (by simp) hr
      exact ⟨e, b1⟩
    · obtain ⟨e, b1, -⟩ := gm_L7 (n := n) (s := x :: t) (n - (q + 1)) (q + 1) [3] (by omega) (by simp) hr
      exact ⟨e, b1⟩
    · omega
theorem gm_end {K : Nat → Nat} {n : Nat} {s0 : List Nat} (h : gm_OK K n s0) {q : Nat} (hq : q < n) (hk : K q = 26) : ∃ p t, gm_L K q = p :: t := by
  obtain ⟨x, t, a1, a2, ⟨l, a3⟩, -, a5⟩ := gm_at h hq
  rcases (gm_fc a1.1.1 a1.1.2 a3).2 with ⟨_, k2, _⟩ | ⟨k1, _, _⟩ | ⟨k1, _, _⟩
  · cases hl : gm_L K q with
    | nil =>
      rw [hl, k2, List.count_cons_self] at a5
      simp at a5
    | cons p t => exact ⟨p, t, rfl⟩
  · omega
  · omega
/-- a place in a body -/
def gm_BP (K : Nat → Nat) (n q m : Nat) : Prop := q ≤ n ∧ gm_rd K (n - q) q (List.replicate m 8 ++ [9]) = none
theorem gm_BPs {K : Nat → Nat} {n q m : Nat} (h : gm_BP K n q m) (hq : q < n) : (K q = 20 ∧ gm_BP K n (q + 1) m) ∨ (K q = 21 ∧ gm_BP K n (q + 1) (m + 1)) ∨ (K q = 22 ∧ ∃ its e, gm_N K n its (q + 1) e ∧ gm_C K its 1 ∧ gm_BP K n e m) ∨ (K q = 23 ∧ ∃ ps e, ps ≠ [] ∧ gm_S K n ps (q + 1) e ∧ gm_BP K n e m) ∨
    (K q = 24 ∧ ∃ its e z, gm_N K n its (q + 1) e ∧ gm_C K its 1 ∧ gm_BP K n e (m + 1) ∧ (gm_U K (n - (q + 1)) (q + 1))[0]? = some z ∧ q < z ∧ gm_BP K n (z + 1) m) ∨
    (K q = 25 ∧ ∃ ps e z, ps ≠ [] ∧ gm_S K n ps (q + 1) e ∧ gm_BP K n e (m + 1) ∧ (gm_U K (n - (q + 1)) (q + 1))[0]? = some z ∧ q < z ∧ gm_BP K n (z + 1) m) ∨
    (K q = 26 ∧ 0 < m ∧ gm_BP K n (q + 1) (m - 1)) := by
  obtain ⟨_, h⟩ := h
  have hx : ∃ x t, List.replicate m 8 ++ [9] = x :: t ∧ (x = 8 ∧ 0 < m ∧ t = List.replicate (m - 1) 8 ++ [9] ∨ x = 9) := by
    cases m with
    | zero => exact ⟨9, [], rfl, Or.inr rfl⟩
    | succ m => exact ⟨8, List.replicate m 8 ++ [9], gm_rep m 8 _, Or.inl ⟨rfl, by omega, rfl⟩⟩
  obtain ⟨x, t, ex, hx⟩ := hx
  have h8 : 8 :: x :: t = List.replicate (m + 1) 8 ++ [9] := by rw [gm_rep, ex]
  rw [show n - q = (n - (q + 1)) + 1 by omega, ex] at h
  obtain ⟨l, hf, hr⟩ := gm_rd_1 (by omega) (by omega) h
  rcases gm_f8 (Or.inr (by omega)) hf with ⟨k1, rfl⟩ | ⟨k1, rfl⟩ | ⟨k1, rfl⟩ | ⟨k1, rfl⟩ | ⟨k1, rfl⟩ | ⟨k1, rfl⟩ | ⟨k1, k2, rfl⟩
  · exact Or.inl ⟨k1, by omega, by rw [ex]; exact hr⟩
  · exact Or.inr (Or.inl ⟨k1, by omega, by rw [← h8]; exact hr⟩)
  · obtain ⟨its, e, b1, b2, b3, b4, b5⟩ := gm_L6 (n := n) (s := x :: t) (n - (q + 1)) (q + 1) 1 (by omega) hr
    exact Or.inr (Or.inr (Or.inl ⟨k1, its, e, b1, b2, b4, by rw [ex]; exact b5⟩))
  · obtain ⟨-, -, ps, e, b1, b2, b3, b4, b5⟩ := gm_L5 (n := n) (s := x :: t) (q := q + 1) (d := n - (q + 1)) (by omega) hr
    exact Or.inr (Or.inr (Or.inr (Or.inl ⟨k1, ps, e, b1, b2, b4, by rw [ex]; exact b5⟩)))
  · obtain ⟨its, e, b1, b2, b3, b4, b5⟩ := gm_L6 (n := n) (s := 8 :: x :: t) (n - (q + 1)) (q + 1) 1 (by omega) hr
    obtain ⟨z, c1, c2, c3, c4⟩ := gm_L7 (n := n) (s := x :: t) (n - (q + 1)) (q + 1) [1] (by omega) (by simp) hr
    exact Or.inr (Or.inr (Or.inr (Or.inr (Or.inl ⟨k1, its, e, z, b1, b2, ⟨b4, by rw [← h8]; exact b5⟩, c1, by omega, by omega, by rw [ex, Nat.sub_add_eq]; exact c4⟩))))
  · obtain ⟨-, -, ps, e, b1, b2, b3, b4, b5⟩ := gm_L5 (n := n) (s := 8 :: x :: t) (q := q + 1) (d := n - (q + 1)) (by omega) hr
    obtain ⟨z, c1, c2, c3, c4⟩ := gm_L7 (n := n) (s := x :: t) (n - (q + 1)) (q + 1) [3] (by omega) (by simp) hr
    exact Or.inr (Or.inr (Or.inr (Or.inr (Or.inr (Or.inl ⟨k1, ps, e, z, b1, b2, ⟨b4, by rw [← h8]; exact b5⟩, c1, by omega, by omega, by rw [ex, Nat.sub_add_eq]; exact c4⟩)))))
  · rcases hx with ⟨_, hm, rfl⟩ | z
    · exact Or.inr (Or.inr (Or.inr (Or.inr (Or.inr (Or.inr ⟨k1, hm, by omega, hr⟩)))))
    · omega
end
section
/-! the component's walks over sets -/
theorem xl_low {post : Int32 → Prop} {x : Int32} {l : Nat} (hl : l < 32) (h1 : bt x l = true) (h0 : ∀ j, j < l → bt x j = false) (hp : post (nI l)) : wpX_low post x := by
  have key : ∀ d i, i + d = l → wX_low_2 post x (d + 1) (nI i) := by
    intro d
    induction d with
    | zero =>
      intro i hi
      rw [show i = l by omega]
      exact br_f (ta_tstT x hl h1) hp
    | succ d ih =>
      intro i hi
      exact br_t (ta_tstF x (by omega) (h0 i (by omega))) (nm_r (nI_1 i) (ih (i + 1) (by omega)))
  exact ⟨l + 1, key l 0 (by omega)⟩
theorem xl_lowS {post : Int32 → Prop} {x : Int32} {a : Nat} {l : List Nat} (h : tm_S x (a :: l)) (hp : post (nI a)) : wpX_low post x := by
  obtain ⟨h1, h2, h3, -⟩ := tm_cons h
  exact xl_low (by omega) h2 h3 hp
theorem xl_high {post : Int32 → Prop} {x : Int32} {l : Nat} (hl : l < 24) (h1 : bt x l = true) (h0 : ∀ j, l < j → j < 32 → bt x j = false) (hp : post (nI l)) : wpX_high post x := by
  have key : ∀ d i, i = l + d → i < 32 → wX_high_3 post x (d + 1) (nI i) := by
    intro d
    induction d with
    | zero =>
      intro i hi _
      rw [show i = l by omega]
      exact br_f (ta_tstT x (by omega) h1) hp
    | succ d ih =>
      intro i hi h32
      exact br_t (ta_tstF x h32 (h0 i (by omega) h32)) (nm_r (sb_m1 (by omega)) (ih (i - 1) (by omega) (by omega)))
  exact ⟨23 - l + 1, key (23 - l) 23 (by omega) (by omega)⟩
theorem xl_highG {post : Int32 → Prop} {x : Int32} {a : Nat} {l : List Nat} (h : tm_G x (a :: l)) (hp : post (nI a)) : wpX_high post x := by
  obtain ⟨h1, h2, h3, -⟩ := tm_Gcons h
  exact xl_high h1 h2 h3 hp
theorem xl_bits4 {post : Int32 → Prop} : ∀ (l : List Nat) (x : Int32) (c : Nat), tm_S x l → post (nI (c + l.length)) → wX_bits_4 post (l.length + 1) (nI c) x := by
  intro l
  induction l with
  | nil => intro x c h hp; exact br_t (tm_nil h) hp
  | cons a l ih =>
    intro x c h hp
    obtain ⟨_, h2, _, h4, _⟩ := tm_cons h
    refine br_f (tm_nz h2) (nm_r (nI_1 c) (nm_e (ih _ (c + 1) h4 ?_)))
    rw [show c + 1 + l.length = c + (a :: l).length by rw [List.length_cons]; omega]
    exact hp
theorem xl_bits {post : Int32 → Prop} {x : Int32} {l : List Nat} (h : tm_S x l) (hp : post (nI l.length)) : wpX_bits post x := ⟨_, xl_bits4 l x 0 h (by rw [Nat.zero_add]; exact hp)⟩
theorem xl_m8 {w : Nat} (h : w < 72) : nI w &&& 7 = nI (w % 8) := pk_andN (by omega) 3 (by decide)
theorem xl_d8 {w : Nat} (h : w < 72) : nI w >>> ((3 : Int32) &&& 31) = nI (w / 8) := pk_shrN (by omega) _ 3 (by decide)
/-- the document as the component knows it -/
def xe_D (nn : Nat) (par nm axes named : Nat → Int32) : Prop := td_P nn par ∧ td_N nn nm ∧ td_AX nn par nm axes named
/-- the tokens of a row that begins at b -/
def xe_T (b n : Nat) (T : td_T) (kind num : Nat → Int32) : Prop := b + 30 < 217 ∧ n ≤ 30 ∧ ∀ i, i < n → kind (b + i) = nI (T.1 i) ∧ T.1 i ≤ 26 ∧ num (b + i) = T.2 i ∧ (T.1 i = 15 → ∃ w, T.2 i = nI w ∧ w ≤ 70 ∧ w % 8 ≤ 6)
theorem xl_alv {nn w : Nat} {par nm va axes named : Nat → Int32} {set acc : Int32} {l : List Nat} (hD : xe_D nn par nm axes named) (hw : w ≤ 70) (hw8 : w % 8 ≤ 6) (hS : tm_S set l) (hl : ∀ i, i ∈ l → i < nn) (ha : ∀ m, m < 32 → bt acc m = l.any (fun n => bt (axes (24 * (w / 8) + n)) m)) : acc &&& named (w % 8) = td_al (nn, par, nm, va) set w := by
  obtain ⟨⟨hn, _⟩, _, h1, h2⟩ := hD
  unfold td_al
  apply tm_ext (by dsimp only; omega)
  intro m hm
  dsimp only
  rw [b_and, ha m hm, h2 (w % 8) (by omega), tm_bt _ nn (by omega) m hm]
  by_cases c : m < nn
  · rw [decide_eq_true c, Bool.true_and, Bool.true_and]
    apply Bool.eq_iff_iff.mpr
    rw [Bool.and_eq_true, List.any_eq_true, List.any_eq_true]
    constructor
    · rintro ⟨⟨n, z1, z2⟩, z3⟩
      have hnn := hl n z1
      rw [h1 (w / 8) (by omega) n hnn, tm_bt _ nn (by omega) m hm, decide_eq_true c, Bool.true_and] at z2
      refine ⟨n, List.mem_range.mpr hnn, ?_⟩
      rw [hS.1 n (by omega), decide_eq_true z1, Bool.true_and]
      unfold td_os
      rw [z2, Bool.and_true]
      exact z3
    · rintro ⟨n, z1, z2⟩
      have hnn := List.mem_range.mp z1
      rw [Bool.and_eq_true] at z2
      unfold td_os at z2
      rw [Bool.and_eq_true] at z2
      rw [hS.1 n (by omega)] at z2
      refine ⟨⟨n, of_decide_eq_true z2.1, ?_⟩, z2.2.1⟩
      rw [h1 (w / 8) (by omega) n hnn, tm_bt _ nn (by omega) m hm, decide_eq_true c, Bool.true_and]
      exact z2.2.2
  · rw [decide_eq_false c, Bool.false_and, Bool.false_and, Bool.and_false]
section
variable {f_nodes f_depth f_known f_dues f_place f_gifts f_matched f_lists f_steps f_outcome f_made : Int32} {a_name a_parent a_lastOf a_way a_value a_axes a_named a_kind a_over a_ends a_count a_num a_placed a_asked a_holds a_due a_open a_there a_priority a_given a_matches a_stack a_rest a_position a_size a_at a_row a_pc a_first a_out a_large : Nat → Int32}
theorem xl_al13 {post : Int32 → Prop} {nn w : Nat} (hD : xe_D nn a_parent a_name a_axes a_named) (hw : w ≤ 70) (hw8 : w % 8 ≤ 6) : ∀ (l : List Nat) (set acc : Int32), tm_S set l → (∀ i, i ∈ l → i < nn) → (∀ acc', (∀ m, m < 32 → bt acc' m = (bt acc m || l.any (fun n => bt (a_axes (24 * (w / 8) + n)) m))) → post (acc' &&& a_named (w % 8))) → wX_along_13 post (nI w) (nI (24 * (w / 8))) f_nodes f_depth f_known f_dues f_place f_gifts f_matched f_lists f_steps f_outcome f_made a_name a_parent a_lastOf a_way a_value a_axes a_named a_kind a_over a_ends a_count a_num a_placed a_asked a_holds a_due a_open a_there a_priority a_given a_matches a_stack a_rest a_position a_size a_at a_row a_pc a_first a_out a_large (l.length + 1) acc set := by
  have h24 := hD.1.1
  intro l
  induction l with
  | nil =>
    intro set acc h _ hp
    refine br_t (tm_nil h) ?_
    rw [xl_m8 (by omega)]
    refine ⟨vp_in_nI (by omega) (by omega), ?_⟩
    rw [nI_clamp (by omega)]
    exact hp acc (fun m _ => by simp)
  | cons a l ih =>
    intro set acc h hl hp
    obtain ⟨h1, h2, _, h4, _⟩ := tm_cons h
    have ha := hl a (by simp)
    refine br_f (tm_nz h2) (xl_lowS h (nm_e ?_))
    rw [nI_add]
    refine ⟨vp_in_nI (by omega) (by omega), ?_⟩
    rw [nI_clamp (by omega)]
    refine nm_e (ih _ _ h4 (fun i hi => hl i (List.mem_cons_of_mem _ hi)) (fun acc' h' => hp acc' (fun m hm => ?_)))
    rw [h' m hm, b_or, List.any_cons, Bool.or_assoc]
/-- one step from all nodes of a set -/
theorem xl_along {post : Int32 → Prop} {nn w : Nat} {set : Int32} (hD : xe_D nn a_parent a_name a_axes a_named) (hw : w ≤ 70) (hw8 : w % 8 ≤ 6) (hs : tm_B nn set) (hp : post (td_al (nn, a_parent, a_name, a_value) set w)) : wpX_along post (f_nodes, f_depth, f_known, f_dues, f_place, f_gifts, f_matched, f_lists, f_steps, f_outcome, f_made, a_name, a_parent, a_lastOf, a_way, a_value, a_axes, a_named, a_kind, a_over, a_ends, a_count, a_num, a_placed, a_asked, a_holds, a_due, a_open, a_there, a_priority, a_given, a_matches, a_stack, a_rest, a_position, a_size, a_at, a_row, a_pc, a_first, a_out, a_large) set (nI w) := by
  have h24 := hD.1.1
  have hS := tm_Smem h24 hs
  have hm : ∀ i, i ∈ tm_mem nn set → i < nn := fun i hi => List.mem_range.mp (List.mem_filter.mp hi).1
  unfold wpX_along
  dsimp only
  rw [xl_d8 (by omega), show (24 : Int32) * nI (w / 8) = nI (24 * (w / 8)) from pk_mul 24 (w / 8)]
  refine nm_e ⟨_, xl_al13 hD hw hw8 _ _ 0 hS hm (fun acc' h' => ?_)⟩
  rw [xl_alv (va := a_value) hD hw hw8 hS hm (fun m hm => by rw [h' m hm, b_0, Bool.false_or])]
  exact hp
theorem xl_al0 (D : td_D) (w : Nat) : td_al D 0 w = tm_ms (fun _ => false) D.1 := by
  unfold td_al
  congr 1
  funext m
  rw [List.any_eq_false]
  intro n _
  rw [b_0]
  simp
theorem xl_ms0 (n : Nat) : tm_ms (fun _ => false) n = 0 := by
  induction n with
  | zero => rfl
  | succ n ih => rw [tm_ms, if_neg (by simp), ih]
theorem xl_pl0 (D : td_D) (T : td_T) : ∀ d q, td_pl D T d q 0 = 0 := by
  intro d
  induction d with
  | zero => intro q; rfl
  | succ d ih =>
    intro q
    rw [td_pl, xl_al0, xl_ms0, ih]
    simp
theorem xl_alB (D : td_D) (set : Int32) (w : Nat) (h : D.1 ≤ 24) : tm_B D.1 (td_al D set w) := tm_Bms _ (by omega)
theorem xl_pl7 {post : Int32 → Prop} {nn b n e : Nat} {T : td_T} (hD : xe_D nn a_parent a_name a_axes a_named) (hT : xe_T b n T a_kind a_num) (he : e < n) (hk : T.1 e ≠ 15) : ∀ d q set, q + d = e → tm_B nn set → post (td_pl (nn, a_parent, a_name, a_value) T d q set) → wX_plain_7 post f_nodes f_depth f_known f_dues f_place f_gifts f_matched f_lists f_steps f_outcome f_made a_name a_parent a_lastOf a_way a_value a_axes a_named a_kind a_over a_ends a_count a_num a_placed a_asked a_holds a_due a_open a_there a_priority a_given a_matches a_stack a_rest a_position a_size a_at a_row a_pc a_first a_out a_large (d + 1) set (nI (b + q)) := by
  obtain ⟨hb, hn, hT⟩ := hT
  intro d
  induction d with
  | zero =>
    intro q set hq _ hp
    obtain ⟨t1, t2, -⟩ := hT q (by omega)
    rw [show q = e by omega] at t1 t2 ⊢
    refine ⟨vp_in_nI (by omega) (by omega), ?_⟩
    rw [nI_clamp (by omega), t1]
    exact pk_eq (T.1 e) 15 (fun z => (hk z).elim) (fun _ => hp)
  | succ d ih =>
    intro q set hq hs hp
    obtain ⟨t1, t2, t3, t4⟩ := hT q (by omega)
    refine ⟨vp_in_nI (by omega) (by omega), ?_⟩
    rw [nI_clamp (by omega), t1]
    rw [td_pl] at hp
    refine pk_eq (T.1 q) 15 (fun z => ?_) (fun z => by rw [if_neg z] at hp; exact hp)
    rw [if_pos z] at hp
    obtain ⟨w, w1, w2, w3⟩ := t4 z
    refine br_c (fun z0 => ?_) (fun z0 => ⟨vp_in_nI (by omega) (by omega), ?_⟩)
    · rw [z0, xl_al0, xl_ms0, xl_pl0] at hp
      rw [z0]; exact hp
    · rw [t3, w1]
      rw [w1, nI_clamp (by omega)] at hp
      refine xl_along hD w2 w3 hs (nm_r (nI_1 (b + q)) ?_)
      exact ih (q + 1) _ (by omega) (xl_alB (nn, a_parent, a_name, a_value) set w hD.1.1) hp
theorem xl_1B {nn node : Nat} (h : node < nn) (h24 : nn ≤ 24) : tm_B nn (td_1 node) := fun i hi hb => by
  unfold td_1 at hb
  rw [ta_one node (by omega) i hi] at hb
  have := of_decide_eq_true hb
  omega
theorem xl_plain {post : Int32 → Prop} {nn b n e q node : Nat} {T : td_T} (hD : xe_D nn a_parent a_name a_axes a_named) (hT : xe_T b n T a_kind a_num) (he : e < n) (hk : T.1 e ≠ 15) (hq : q ≤ e) (hnode : node < nn) (hp : post (td_pl (nn, a_parent, a_name, a_value) T (e - q) q (td_1 node))) : wpX_plain post (f_nodes, f_depth, f_known, f_dues, f_place, f_gifts, f_matched, f_lists, f_steps, f_outcome, f_made, a_name, a_parent, a_lastOf, a_way, a_value, a_axes, a_named, a_kind, a_over, a_ends, a_count, a_num, a_placed, a_asked, a_holds, a_due, a_open, a_there, a_priority, a_given, a_matches, a_stack, a_rest, a_position, a_size, a_at, a_row, a_pc, a_first, a_out, a_large) (nI (b + q)) (nI node) := by
  refine nm_e ⟨_, xl_pl7 hD hT he hk (e - q) q _ (by omega) (xl_1B hnode hD.1.1) hp⟩
theorem xl_of39 {post : Int32 → Prop} : ∀ (l : List Nat) (x s : Int32), tm_S x l → post (l.foldl (fun s m => s + a_value m) s) → wX_ofSet_39 post f_nodes f_depth f_known f_dues f_place f_gifts f_matched f_lists f_steps f_outcome f_made a_name a_parent a_lastOf a_way a_value a_axes a_named a_kind a_over a_ends a_count a_num a_placed a_asked a_holds a_due a_open a_there a_priority a_given a_matches a_stack a_rest a_position a_size a_at a_row a_pc a_first a_out a_large (l.length + 1) s x := by
  intro l
  induction l with
  | nil => intro x s h hp; exact br_t (tm_nil h) hp
  | cons a l ih =>
    intro x s h hp
    obtain ⟨h1, h2, _, h4, _⟩ := tm_cons h
    refine br_f (tm_nz h2) (xl_lowS h ⟨vp_in_nI h1 (by omega), ?_⟩)
    rw [nI_clamp (by omega)]
    exact nm_e (nm_e (ih _ _ h4 hp))
theorem xl_ofSet {post : Int32 → Prop} {nn k : Nat} {set : Int32} (h24 : nn ≤ 24) (h4 : 4 ≤ k) (h6 : k ≤ 6) (hs : tm_B nn set) (hp : post (td_to (nn, a_parent, a_name, a_value) k set)) : wpX_ofSet post (f_nodes, f_depth, f_known, f_dues, f_place, f_gifts, f_matched, f_lists, f_steps, f_outcome, f_made, a_name, a_parent, a_lastOf, a_way, a_value, a_axes, a_named, a_kind, a_over, a_ends, a_count, a_num, a_placed, a_asked, a_holds, a_due, a_open, a_there, a_priority, a_given, a_matches, a_stack, a_rest, a_position, a_size, a_at, a_row, a_pc, a_first, a_out, a_large) (nI k) set := by
  have hS := tm_Smem h24 hs
  unfold td_to at hp
  dsimp only at hp
  refine pk_eq k 4 (fun z => ?_) (fun z => pk_eq k 6 (fun y => ?_) (fun y => ?_))
  · rw [if_pos z] at hp
    exact xl_bits hS hp
  · rw [if_neg z, if_pos y] at hp
    cases hm : tm_mem nn set with
    | nil =>
      rw [hm] at hp hS
      exact br_t (tm_nil hS) hp
    | cons a l =>
      rw [hm] at hp hS
      obtain ⟨h1, h2, -⟩ := tm_cons hS
      refine br_f (tm_nz h2) (xl_lowS hS ⟨vp_in_nI h1 (by omega), ?_⟩)
      rw [nI_clamp (by omega)]
      exact hp
  · rw [if_neg z, if_neg y] at hp
    exact ⟨_, xl_of39 _ _ _ hS hp⟩
theorem xl_comb {post : Int32 → Prop} {k : Nat} {x y : Int32} (h7 : 7 ≤ k) (h13 : k ≤ 13) (hp : post (td_cm k x y)) : wpX_combine post (nI k) x y := by
  unfold td_cm at hp
  refine pk_lt k 7 (fun z => by omega) (fun _ => pk_lt 12 k (fun z => ?_) (fun z => ?_))
  · rw [if_neg (by omega), if_neg (by omega), if_neg (by omega), if_neg (by omega), if_neg (by omega), if_neg (by omega)] at hp
    refine br_c (fun a => br_c (fun c => ?_) (fun c => ?_)) (fun a => ?_)
    · rw [if_pos a, if_pos c] at hp; exact hp
    · rw [if_pos a, if_neg c] at hp; exact hp
    · rw [if_neg a] at hp; exact hp
  · refine pk_eq k 7 (fun a => by rw [if_pos a] at hp; exact hp) (fun a => ?_)
    rw [if_neg a] at hp
    refine pk_eq k 8 (fun a => by rw [if_pos a] at hp; exact hp) (fun a => ?_)
    rw [if_neg a] at hp
    refine pk_eq k 9 (fun a => by rw [if_pos a] at hp; exact hp) (fun a => ?_)
    rw [if_neg a] at hp
    refine pk_eq k 10 (fun a => ?_) (fun a => ?_)
    · rw [if_pos a] at hp
      exact br_c (fun c => by rw [if_pos c] at hp; exact hp) (fun c => by rw [if_neg c] at hp; exact hp)
    · rw [if_neg a] at hp
      refine pk_eq k 11 (fun a => ?_) (fun a => ?_)
      · rw [if_pos a] at hp
        exact br_c (fun c => by rw [if_pos c] at hp; exact hp) (fun c => by rw [if_neg c] at hp; exact hp)
      · rw [if_neg a] at hp
        refine pk_eq k 12 (fun a => ?_) (fun a => by omega)
        rw [if_pos a] at hp
        exact br_c (fun c => by rw [if_pos c] at hp; exact hp) (fun c => br_c (fun d => by rw [if_neg c, if_pos d] at hp; exact hp) (fun d => by rw [if_neg c, if_neg d] at hp; exact hp))
theorem xl_simple {post : Int32 → Prop} {b n q node nn : Nat} {T : td_T} {pos many tv : Int32} {s : List Int32} (hT : xe_T b n T a_kind a_num) (hq : q < n) (hk : T.1 q ≤ 3) (hnode : node < nn) (h24 : nn ≤ 24) (hp : ∀ v, td_op (T.1 q) (T.2 q) (a_value node) pos many tv s = v :: s → post v) : wpX_simple post (f_nodes, f_depth, f_known, f_dues, f_place, f_gifts, f_matched, f_lists, f_steps, f_outcome, f_made, a_name, a_parent, a_lastOf, a_way, a_value, a_axes, a_named, a_kind, a_over, a_ends, a_count, a_num, a_placed, a_asked, a_holds, a_due, a_open, a_there, a_priority, a_given, a_matches, a_stack, a_rest, a_position, a_size, a_at, a_row, a_pc, a_first, a_out, a_large) (nI (b + q)) (nI node) pos many := by
  obtain ⟨hb, hn, hT⟩ := hT
  obtain ⟨t1, t2, t3, t4⟩ := hT q hq
  refine ⟨vp_in_nI (by omega) (by omega), ?_⟩
  rw [nI_clamp (by omega)]
  refine nm_r t1 (br_f (nI_pos (by omega)) ?_)
  refine pk_lt 2 (T.1 q) (fun z => ⟨vp_in_nI (by omega) (by omega), ?_⟩) (fun z => ?_)
  · rw [nI_clamp (by omega)]
    refine hp _ ?_
    unfold td_op
    rw [if_neg (by omega), if_neg (by omega), if_neg (by omega), if_neg (by omega), if_pos (by omega)]
  · refine pk_eq (T.1 q) 0 (fun z => ⟨vp_in_nI (by omega) (by omega), ?_⟩) (fun z => ?_)
    · rw [t3]
      refine hp _ ?_
      unfold td_op
      rw [if_neg (by omega), if_pos z]
    · refine pk_eq (T.1 q) 1 (fun z => hp _ ?_) (fun z => ?_)
      · unfold td_op
        rw [if_neg (by omega), if_neg (by omega), if_pos z]
      · refine pk_eq (T.1 q) 2 (fun z => hp _ ?_) (fun z => by omega)
        unfold td_op
        rw [if_neg (by omega), if_neg (by omega), if_neg (by omega), if_pos z]
end
end
section
/-! conditions in the component -/
def xs_k : List Int32 → (Nat → Int32) → Prop
  | [], _ => True
  | v :: t, st => st t.length = v ∧ xs_k t st
theorem xs_up {i : Nat} {v : Int32} : ∀ (l : List Int32) (st : Nat → Int32), l.length ≤ i → xs_k l st → xs_k l (upd st i v) := by
  intro l
  induction l with
  | nil => intro st _ _; trivial
  | cons a t ih =>
    intro st h hs
    rw [List.length_cons] at h
    exact ⟨(pk_un (by omega)).trans hs.1, ih st (by omega) hs.2⟩
theorem xs_push {v : Int32} {l : List Int32} {st : Nat → Int32} (h : xs_k l st) : xs_k (v :: l) (upd st l.length v) := ⟨pk_us, xs_up l st (Nat.le_refl _) h⟩
theorem gm_Wdn {K : Nat → Nat} : ∀ c d m q, gm_W K (c + d) m q → ∃ m', gm_W K d m' (q + c) := by
  intro c
  induction c with
  | zero => intro d m q h; rw [Nat.zero_add] at h; exact ⟨m, h⟩
  | succ c ih =>
    intro d m q h
    have key : ∀ m', gm_W K (c + d) m' (q + 1) → ∃ m', gm_W K d m' (q + (c + 1)) := by
      intro m' h'
      obtain ⟨m2, h2⟩ := ih d m' (q + 1) h'
      exact ⟨m2, by rw [show q + (c + 1) = q + 1 + c by omega]; exact h2⟩
    rw [show c + 1 + d = c + d + 1 by omega, gm_W] at h
    by_cases c1 : K q = 15
    · rw [if_pos c1] at h; exact key _ h
    · rw [if_neg c1] at h
      by_cases c2 : K q ≤ 6
      · rw [if_pos c2] at h; exact key _ h.2
      · rw [if_neg c2] at h
        by_cases c3 : K q = 14
        · rw [if_pos c3] at h; exact key _ h.2
        · rw [if_neg c3] at h; exact key _ h.2
/-- one token on numbers that wait: their count -/
theorem td_opl {k m d q : Nat} {K : Nat → Nat} {w vn pos many tv : Int32} {l : List Int32} (hk : K q = k) (h15 : k ≤ 15) (hw : gm_W K (d + 1) m q) (hl : ∀ m', gm_W K d m' (q + 1) → l.length = m') : (td_op k w vn pos many tv l).length = m ∧ (k = 15 → l.length = m) ∧ (k ≤ 6 → l.length + 1 = m) ∧ (k = 14 → l.length = m ∧ 0 < m) ∧ (7 ≤ k → k ≤ 13 → l.length = m + 1 ∧ 0 < m) := by
  rw [gm_W, hk] at hw
  unfold td_op
  by_cases c1 : k = 15
  · rw [if_pos c1] at hw
    have := hl _ hw
    rw [if_pos c1]
    exact ⟨this, fun _ => this, by omega, by omega, by omega⟩
  · rw [if_neg c1] at hw
    rw [if_neg c1]
    obtain ⟨h0, hw⟩ := hw
    by_cases c2 : k ≤ 6
    · rw [if_pos c2] at hw
      have := hl _ hw
      refine ⟨?_, by omega, by omega, by omega, by omega⟩
      by_cases d0 : k = 0
      · rw [if_pos d0, List.length_cons]; omega
      · rw [if_neg d0]
        by_cases d1 : k = 1
        · rw [if_pos d1, List.length_cons]; omega
        · rw [if_neg d1]
          by_cases d2 : k = 2
          · rw [if_pos d2, List.length_cons]; omega
          · rw [if_neg d2]
            by_cases d3 : k = 3
            · rw [if_pos d3, List.length_cons]; omega
            · rw [if_neg d3, if_pos c2, List.length_cons]; omega
    · rw [if_neg c2] at hw
      rw [if_neg (by omega), if_neg (by omega), if_neg (by omega), if_neg (by omega), if_neg c2]
      by_cases c3 : k = 14
      · rw [if_pos c3] at hw
        have := hl _ hw
        rw [if_pos c3]
        refine ⟨?_, by omega, by omega, by omega, by omega⟩
        cases l with
        | nil => simp at this; omega
        | cons a t => exact this
      · rw [if_neg c3] at hw
        have := hl _ hw
        rw [if_neg c3]
        refine ⟨?_, by omega, by omega, by omega, by omega⟩
        match l, this with
        | [], h => simp at h
        | [a], h => simp at h; omega
        | a :: c :: t, h =>
          simp only [List.length_cons] at h ⊢
          omega
theorem td_csl {D : td_D} {T : td_T} {e node : Nat} {pos many : Int32} : ∀ d m, d ≤ e → gm_W T.1 d m (e - d) → (∀ y, e - d ≤ y → y < e → T.1 y ≤ 15) → (td_cs D T e node pos many d).length = m := by
  intro d
  induction d with
  | zero => intro m _ h _; have h : m = 0 := h; rw [h]; rfl
  | succ d ih =>
    intro m hd h hy
    have e1 : e - (d + 1) + 1 = e - d := by omega
    have e2 : e - 1 - d = e - (d + 1) := by omega
    rw [td_cs, e2]
    refine (td_opl (K := T.1) (q := e - (d + 1)) rfl (hy _ (by omega) (by omega)) h (fun m' h' => ?_)).1
    rw [e1] at h'
    exact ih m' (by omega) h' (fun y h1 h2 => hy y (by omega) h2)
theorem td_plB (D : td_D) (T : td_T) (h : D.1 ≤ 24) : ∀ d q set, tm_B D.1 set → tm_B D.1 (td_pl D T d q set) := by
  intro d
  induction d with
  | zero => intro q set hs; exact hs
  | succ d ih =>
    intro q set hs
    rw [td_pl]
    by_cases c : T.1 q = 15
    · rw [if_pos c]; exact ih _ _ (xl_alB D set _ h)
    · rw [if_neg c]; exact hs
theorem td_op46 {k : Nat} {w vn pos many tv : Int32} {l : List Int32} (h4 : 4 ≤ k) (h6 : k ≤ 6) : td_op k w vn pos many tv l = tv :: l := by
  unfold td_op
  rw [if_neg (by omega), if_neg (by omega), if_neg (by omega), if_neg (by omega), if_neg (by omega), if_pos h6]
theorem td_op03 {k : Nat} {w vn pos many tv : Int32} {l : List Int32} (h3 : k ≤ 3) : ∃ v, td_op k w vn pos many tv l = v :: l := by
  unfold td_op
  rw [if_neg (by omega)]
  by_cases d0 : k = 0
  · rw [if_pos d0]; exact ⟨_, rfl⟩
  · rw [if_neg d0]
    by_cases d1 : k = 1
    · rw [if_pos d1]; exact ⟨_, rfl⟩
    · rw [if_neg d1]
      by_cases d2 : k = 2
      · rw [if_pos d2]; exact ⟨_, rfl⟩
      · rw [if_neg d2, if_pos (by omega)]; exact ⟨_, rfl⟩
theorem td_op14 {w vn pos many tv x : Int32} {l : List Int32} : td_op 14 w vn pos many tv (x :: l) = (if x = 0 then 1 else 0) :: l := rfl
theorem td_op713 {k : Nat} {w vn pos many tv x y : Int32} {l : List Int32} (h7 : 7 ≤ k) (h13 : k ≤ 13) : td_op k w vn pos many tv (x :: y :: l) = td_cm k x y :: l := by
  unfold td_op
  rw [if_neg (by omega), if_neg (by omega), if_neg (by omega), if_neg (by omega), if_neg (by omega), if_neg (by omega), if_neg (by omega)]
theorem td_op15 {w vn pos many tv : Int32} {l : List Int32} : td_op 15 w vn pos many tv l = l := rfl
section
variable {f_nodes f_depth f_known f_dues f_place f_gifts f_matched f_lists f_steps f_outcome f_made : Int32} {a_name a_parent a_lastOf a_way a_value a_axes a_named a_kind a_over a_ends a_count a_num a_placed a_asked a_holds a_due a_open a_there a_priority a_given a_matches a_stack a_rest a_position a_size a_at a_row a_pc a_first a_out a_large : Nat → Int32}
theorem xc_oper {post : Int32 → SX → Prop} {k : Nat} {w vn pos many tv : Int32} {l : List Int32} (hs : xs_k l a_stack) (h31 : l.length ≤ 31) (h7 : 7 ≤ k) (h14 : k ≤ 14) (ha : k = 14 → 0 < l.length) (hb : k ≤ 13 → 2 ≤ l.length) (hp : ∀ st', xs_k (td_op k w vn pos many tv l) st' → post (nI (td_op k w vn pos many tv l).length) (f_nodes, f_depth, f_known, f_dues, f_place, f_gifts, f_matched, f_lists, f_steps, f_outcome, f_made, a_name, a_parent, a_lastOf, a_way, a_value, a_axes, a_named, a_kind, a_over, a_ends, a_count, a_num, a_placed, a_asked, a_holds, a_due, a_open, a_there, a_priority, a_given, a_matches, st', a_rest, a_position, a_size, a_at, a_row, a_pc, a_first, a_out, a_large)) : wpX_operate post (f_nodes, f_depth, f_known, f_dues, f_place, f_gifts, f_matched, f_lists, f_steps, f_outcome, f_made, a_name, a_parent, a_lastOf, a_way, a_value, a_axes, a_named, a_kind, a_over, a_ends, a_count, a_num, a_placed, a_asked, a_holds, a_due, a_open, a_there, a_priority, a_given, a_matches, a_stack, a_rest, a_position, a_size, a_at, a_row, a_pc, a_first, a_out, a_large) (nI k) (nI l.length) := by
  refine pk_eq k 14 (fun z => ?_) (fun z => ?_)
  · subst z
    have h0 := ha rfl
    match l, hs, h31, h0, hp with
    | x :: t, hs, h31, _, hp =>
      rw [List.length_cons] at h31 ⊢
      rw [nI_pred]
      rw [td_op14] at hp
      refine ⟨vp_in_nI (by omega) (by omega), ?_⟩
      rw [nI_clamp (by omega), hs.1]
      refine br_c (fun c => ⟨vp_in_nI (by omega) (by omega), nm_e ?_⟩) (fun c => ⟨vp_in_nI (by omega) (by omega), nm_e ?_⟩)
      · rw [if_pos c] at hp; exact hp _ (xs_push hs.2)
      · rw [if_neg c] at hp; exact hp _ (xs_push hs.2)
  · have h0 := hb (by omega)
    match l, hs, h31, h0, hp with
    | [x], _, _, h0, _ => simp at h0
    | x :: y :: t, hs, h31, _, hp =>
      rw [td_op713 h7 (by omega)] at hp
      simp only [List.length_cons] at h31 ⊢
      have e1 : nI (t.length + 1 + 1) - 1 = nI (t.length + 1) := nI_pred _
      have e2 : nI (t.length + 1 + 1) - 2 = nI t.length := (pk_sub (a := t.length + 1 + 1) (b := 2) (by omega)).trans (congrArg nI (by omega))
      rw [e1, e2]
      have s1 : a_stack (t.length + 1) = x := hs.1
      have s2 : a_stack t.length = y := hs.2.1
      refine ⟨vp_in_nI (by omega) (by omega), vp_in_nI (by omega) (by omega), ?_⟩
      rw [nI_clamp (by omega), nI_clamp (by omega), s1, s2]
      exact xl_comb h7 (by omega) ⟨vp_in_nI (by omega) (by omega), nm_e (hp _ (xs_push hs.2.2))⟩
theorem xc_15 {post : Int32 → SX → Prop} {nn b n e p node : Nat} {T : td_T} {pos many : Int32} (hD : xe_D nn a_parent a_name a_axes a_named) (hT : xe_T b n T a_kind a_num) (hB : gm_PB T.1 n p e) (hnode : node < nn) (hp : ∀ st', post (if td_cv (nn, a_parent, a_name, a_value) T p e node pos many = 0 then 0 else 1) (f_nodes, f_depth, f_known, f_dues, f_place, f_gifts, f_matched, f_lists, f_steps, f_outcome, f_made, a_name, a_parent, a_lastOf, a_way, a_value, a_axes, a_named, a_kind, a_over, a_ends, a_count, a_num, a_placed, a_asked, a_holds, a_due, a_open, a_there, a_priority, a_given, a_matches, st', a_rest, a_position, a_size, a_at, a_row, a_pc, a_first, a_out, a_large)) : ∀ j d st, p + j + d + 1 = e → xs_k (td_cs (nn, a_parent, a_name, a_value) T e node pos many d) st → wX_condition_15 post (nI (b + p)) (nI node) pos many (j + 1) (nI (td_cs (nn, a_parent, a_name, a_value) T e node pos many d).length) (nI (b + p + j)) f_nodes f_depth f_known f_dues f_place f_gifts f_matched f_lists f_steps f_outcome f_made a_name a_parent a_lastOf a_way a_value a_axes a_named a_kind a_over a_ends a_count a_num a_placed a_asked a_holds a_due a_open a_there a_priority a_given a_matches st a_rest a_position a_size a_at a_row a_pc a_first a_out a_large := by
  have h24 := hD.1.1
  have hTb := hT.1
  have hTn := hT.2.1
  obtain ⟨_, p1, p2, p3, p4, p5⟩ := hB
  have hW : ∀ d, d ≤ e - 1 - p → ∃ m, gm_W T.1 d m (e - d) := by
    intro d hd
    rw [show e - 1 - p = (e - 1 - p - d) + d by omega] at p5
    obtain ⟨m, hm⟩ := gm_Wdn _ _ _ _ p5
    exact ⟨m, by rw [show e - d = p + 1 + (e - 1 - p - d) by omega]; exact hm⟩
  have hL : ∀ d, d ≤ e - 1 - p → ∀ m, gm_W T.1 d m (e - d) → (td_cs (nn, a_parent, a_name, a_value) T e node pos many d).length = m := fun d hd m hm => td_csl d m (by omega) hm (fun y h1 h2 => p4 y (by omega) h2)
  intro j
  induction j with
  | zero =>
    intro d st hd hs
    have h1 : (td_cs (nn, a_parent, a_name, a_value) T e node pos many d).length = 1 := by
      rw [show d = e - 1 - p by omega]
      exact hL _ (by omega) 1 (by rw [show e - (e - 1 - p) = p + 1 by omega]; exact p5)
    refine br_t (Int32.le_refl _) ?_
    have hv : st 0 = td_cv (nn, a_parent, a_name, a_value) T p e node pos many := by
      unfold td_cv
      rw [show e - 1 - p = d by omega]
      match td_cs (nn, a_parent, a_name, a_value) T e node pos many d, h1, hs with
      | [v], _, hs => exact hs.1
    rw [hv]
    exact br_c (fun c => by have := hp st; rw [if_pos c] at this; exact this) (fun c => by have := hp st; rw [if_neg c] at this; exact this)
  | succ j ih =>
    intro d st hd hs
    obtain ⟨m, hm⟩ := hW (d + 1) (by omega)
    have hy : e - (d + 1) = p + j + 1 := by omega
    have hy2 : e - 1 - d = p + j + 1 := by omega
    rw [hy] at hm
    obtain ⟨t1, t2, t3, t4⟩ := hT.2.2 (p + j + 1) (by omega)
    have hk15 := p4 (p + j + 1) (by omega) (by omega)
    have hcs : td_cs (nn, a_parent, a_name, a_value) T e node pos many (d + 1) = td_op (T.1 (p + j + 1)) (T.2 (p + j + 1)) (a_value node) pos many (td_to (nn, a_parent, a_name, a_value) (T.1 (p + j + 1)) (td_pl (nn, a_parent, a_name, a_value) T d (p + j + 1 + 1) (td_1 node))) (td_cs (nn, a_parent, a_name, a_value) T e node pos many d) := by
      rw [td_cs, hy2, show e - d = p + j + 1 + 1 by omega]
    have key := ih (d + 1)
    rw [hcs] at key
    obtain ⟨l0, l1, l2, l3, l4⟩ := td_opl (K := T.1) (w := T.2 (p + j + 1)) (vn := a_value node) (pos := pos) (many := many) (tv := td_to (nn, a_parent, a_name, a_value) (T.1 (p + j + 1)) (td_pl (nn, a_parent, a_name, a_value) T d (p + j + 1 + 1) (td_1 node))) (l := td_cs (nn, a_parent, a_name, a_value) T e node pos many d) rfl hk15 hm (fun m' h' => hL d (by omega) m' (by rw [show e - d = p + j + 1 + 1 by omega]; exact h'))
    have hmd := gm_Wle _ _ _ hm
    generalize td_cs (nn, a_parent, a_name, a_value) T e node pos many d = L at hs key l0 l1 l2 l3 l4 ⊢
    rw [show b + p + (j + 1) = b + (p + j + 1) by omega]
    refine br_f (nI_ge (by omega) (by omega)) ⟨vp_in_nI (by omega) (by omega), ?_⟩
    rw [nI_clamp (by omega)]
    have e1 : nI (b + (p + j + 1)) + (-1) = nI (b + p + j) := (sb_m1 (by omega)).trans (congrArg nI (by omega))
    refine nm_r t1 (pk_eq (T.1 (p + j + 1)) 15 (fun z => nm_r e1 ?_) (fun z15 => ?_))
    · rw [z] at key
      exact key st (by omega) hs
    · refine pk_lt 3 (T.1 (p + j + 1)) (fun z3 => pk_lt 6 (T.1 (p + j + 1)) (fun z6 => ?_) (fun z6 => ?_)) (fun z3 => ?_)
      · refine xc_oper hs (by omega) (by omega) (by omega) (fun z => by have := l3 z; omega) (fun z => by have := l4 (by omega) z; omega) (fun st' hs' => nm_r e1 (key st' (by omega) hs'))
      · have l5 := l2 z6
        have e2 : nI (b + (p + j + 1)) + 1 = nI (b + (p + j + 1 + 1)) := (nI_1 _).trans (congrArg nI (by omega))
        rw [e2]
        rw [td_op46 (by omega) z6] at key
        refine xl_plain (e := e) hD hT p2 (by omega) (by omega) hnode (nm_r (nI_1 L.length) ?_)
        rw [show e - (p + j + 1 + 1) = d by omega]
        refine xl_ofSet h24 (by omega) z6 (td_plB (nn, a_parent, a_name, a_value) T h24 _ _ _ (xl_1B hnode h24)) ⟨vp_in_nI (by omega) (by omega), ?_⟩
        rw [nI_clamp (by omega)]
        exact nm_e (nm_r e1 (key _ (by omega) (xs_push hs)))
      · have l5 := l2 (by omega)
        refine nm_r (nI_1 L.length) (xl_simple (s := L) (tv := td_to (nn, a_parent, a_name, a_value) (T.1 (p + j + 1)) (td_pl (nn, a_parent, a_name, a_value) T d (p + j + 1 + 1) (td_1 node))) hT (by omega) z3 hnode h24 (fun v hv => ⟨vp_in_nI (by omega) (by omega), ?_⟩))
        rw [hv] at key
        rw [nI_clamp (by omega)]
        exact nm_e (nm_r e1 (key _ (by omega) (xs_push hs)))
/-- whether a condition holds for a node -/
theorem xc_cond {post : Int32 → SX → Prop} {nn b n e p node : Nat} {T : td_T} {pos many : Int32} (hD : xe_D nn a_parent a_name a_axes a_named) (hT : xe_T b n T a_kind a_num) (hB : gm_PB T.1 n p e) (hov : a_over (b + p) = nI (e + 1)) (hnode : node < nn) (hp : ∀ st', post (if td_cv (nn, a_parent, a_name, a_value) T p e node pos many = 0 then 0 else 1) (f_nodes, f_depth, f_known, f_dues, f_place, f_gifts, f_matched, f_lists, f_steps, f_outcome, f_made, a_name, a_parent, a_lastOf, a_way, a_value, a_axes, a_named, a_kind, a_over, a_ends, a_count, a_num, a_placed, a_asked, a_holds, a_due, a_open, a_there, a_priority, a_given, a_matches, st', a_rest, a_position, a_size, a_at, a_row, a_pc, a_first, a_out, a_large)) : wpX_condition post (f_nodes, f_depth, f_known, f_dues, f_place, f_gifts, f_matched, f_lists, f_steps, f_outcome, f_made, a_name, a_parent, a_lastOf, a_way, a_value, a_axes, a_named, a_kind, a_over, a_ends, a_count, a_num, a_placed, a_asked, a_holds, a_due, a_open, a_there, a_priority, a_given, a_matches, a_stack, a_rest, a_position, a_size, a_at, a_row, a_pc, a_first, a_out, a_large) (nI (b + p)) (nI b) (nI node) pos many := by
  have hTb := hT.1
  have hTn := hT.2.1
  have h1 := hB.2.1
  have h2 := hB.2.2.1
  refine ⟨vp_in_nI (by omega) (by omega), ?_⟩
  rw [nI_clamp (by omega), hov, nI_add]
  have e2 : nI (b + (e + 1)) - 2 = nI (b + p + (e - 1 - p)) := (pk_sub (a := b + (e + 1)) (b := 2) (by omega)).trans (congrArg nI (by omega))
  exact nm_r e2 ⟨_, xc_15 hD hT hB hnode hp (e - 1 - p) 0 a_stack (by omega) trivial⟩
end
end
section
/-! filters: the lists of a step, conditions that are worked out once -/
def xr_T (kind num : Nat → Int32) (r : Nat) : td_T := (fun i => if i < 30 then (kind (31 * r + i)).toNatClampNeg else 0, fun i => if i < 30 then num (31 * r + i) else 0)
/-- the tokens of every row -/
def xr_K (kind num : Nat → Int32) : Prop := ∀ r, r < 7 → ∀ i, i < 30 → ∃ k, k ≤ 26 ∧ kind (31 * r + i) = nI k ∧ (k = 15 → ∃ w, num (31 * r + i) = nI w ∧ w ≤ 70 ∧ w % 8 ≤ 6)
theorem xr_KT {kind num : Nat → Int32} (h : xr_K kind num) {r n : Nat} (hr : r < 7) (hn : n ≤ 30) : xe_T (31 * r) n (xr_T kind num r) kind num := by
  refine ⟨by omega, hn, fun i hi => ?_⟩
  obtain ⟨k, k1, k2, k3⟩ := h r hr i (by omega)
  have e : (xr_T kind num r).1 i = k := by
    show (if i < 30 then (kind (31 * r + i)).toNatClampNeg else 0) = k
    rw [if_pos (by omega), k2, nI_clamp (by omega)]
  have e2 : (xr_T kind num r).2 i = num (31 * r + i) := if_pos (by omega)
  rw [e, e2]
  exact ⟨k2, k1, rfl, k3⟩
/-- what is known of conditions is right -/
def xr_CA (D : td_D) (kind num : Nat → Int32) (cnt : Nat → Nat) (asked holds : Nat → Int32) : Prop := ∀ r, r < 7 → ∀ i, i < cnt r → ∀ m, m < 32 → bt (asked (31 * r + i)) m = true → m < D.1 ∧ ∃ e, gm_PB (xr_T kind num r).1 (cnt r) i e ∧ bt (holds (31 * r + i)) m = !decide (td_cv D (xr_T kind num r) i e m 1 1 = 0)
theorem td_cs_np {D : td_D} {T : td_T} {e p node : Nat} {pos many pos' many' : Int32} (h : ∀ y, p < y → y < e → T.1 y ≠ 1 ∧ T.1 y ≠ 2) : ∀ d, p + d < e → td_cs D T e node pos many d = td_cs D T e node pos' many' d := by
  intro d
  induction d with
  | zero => intro _; rfl
  | succ d ih =>
    intro hd
    rw [td_cs, td_cs, ih (by omega)]
    have := h (e - 1 - d) (by omega) (by omega)
    unfold td_op
    rw [if_neg (c := T.1 (e - 1 - d) = 1) this.1, if_neg (c := T.1 (e - 1 - d) = 2) this.2, if_neg (c := T.1 (e - 1 - d) = 1) this.1, if_neg (c := T.1 (e - 1 - d) = 2) this.2]
theorem td_cv_np {D : td_D} {T : td_T} {e p node : Nat} {pos many pos' many' : Int32} (hp : p < e) (h : ∀ y, p < y → y < e → T.1 y ≠ 1 ∧ T.1 y ≠ 2) : td_cv D T p e node pos many = td_cv D T p e node pos' many' := by
  unfold td_cv
  rw [td_cs_np h (e - 1 - p) (by omega)]
theorem td_fl_np {c : Nat → Nat → Bool} {c' : Nat → Bool} (h : ∀ m k, c m k = c' m) : ∀ l k, td_fl c k l = l.filter c' := by
  intro l
  induction l with
  | nil => intro k; rfl
  | cons a l ih =>
    intro k
    rw [td_fl, h, ih]
    by_cases z : c' a = true
    · rw [if_pos z, List.filter_cons_of_pos z]
    · rw [if_neg z, List.filter_cons_of_neg z]
theorem td_fl_m {c : Nat → Nat → Bool} {m : Nat} : ∀ l k, m ∈ td_fl c k l → m ∈ l := by
  intro l
  induction l with
  | nil => intro k h; exact h
  | cons a l ih =>
    intro k h
    rw [td_fl] at h
    by_cases z : c a k = true
    · rw [if_pos z] at h
      rcases List.mem_cons.mp h with y | y
      · rw [y]; simp
      · exact List.mem_cons_of_mem _ (ih _ y)
    · rw [if_neg z] at h
      exact List.mem_cons_of_mem _ (ih _ h)
theorem td_fl_p {c : Nat → Nat → Bool} {R : Nat → Nat → Prop} : ∀ l k, l.Pairwise R → (td_fl c k l).Pairwise R := by
  intro l
  induction l with
  | nil => intro k h; exact h
  | cons a l ih =>
    intro k h
    rw [List.pairwise_cons] at h
    rw [td_fl]
    by_cases z : c a k = true
    · rw [if_pos z, List.pairwise_cons]
      exact ⟨fun b hb => h.1 b (td_fl_m _ _ hb), ih _ h.2⟩
    · rw [if_neg z]
      exact ih _ h.2
/-- a list in the order of its axis -/
def td_or (bk : Bool) (nn : Nat) (l : List Nat) : Prop := (∀ i, i ∈ l → i < nn) ∧ (if bk then l.Pairwise (· > ·) else l.Pairwise (· < ·))
theorem td_or_ft {D : td_D} {T : td_T} {bk : Bool} {nn : Nat} {b : Nat × Nat} {l : List Nat} (h : td_or bk nn l) : td_or bk nn (td_ft D T b l) := by
  refine ⟨fun i hi => h.1 i (td_fl_m _ _ hi), ?_⟩
  cases bk with
  | true => exact td_fl_p _ _ h.2
  | false => exact td_fl_p _ _ h.2
theorem td_or_ls {D : td_D} {w n : Nat} : td_or (td_bk w) D.1 (td_ls D w n) := by
  unfold td_ls
  cases td_bk w with
  | true =>
    refine ⟨fun i hi => ?_, ?_⟩
    · have := (List.mem_filter.mp hi).1
      simpa using this
    · exact List.Pairwise.filter _ (List.pairwise_reverse.mpr List.pairwise_lt_range)
  | false =>
    refine ⟨fun i hi => ?_, ?_⟩
    · exact List.mem_range.mp (List.mem_filter.mp hi).1
    · exact List.Pairwise.filter _ List.pairwise_lt_range
theorem td_orS {nn : Nat} {l : List Nat} (hn : nn ≤ 24) (h : td_or false nn l) : tm_S (tm_mk l) l := tm_mkS h.2 (fun i hi => by have := h.1 i hi; omega)
theorem td_orG {nn : Nat} {l : List Nat} (hn : nn ≤ 24) (h : td_or true nn l) : tm_G (tm_mk l) l := tm_mkG h.2 (fun i hi => by have := h.1 i hi; omega)
theorem td_orN {bk : Bool} {nn : Nat} {l : List Nat} (hn : nn ≤ 24) (h : td_or bk nn l) : ∃ l', tm_S (tm_mk l) l' ∧ l'.length = l.length := by
  cases bk with
  | false => exact ⟨l, td_orS hn h, rfl⟩
  | true =>
    obtain ⟨a, b, c⟩ := td_orG hn h
    exact ⟨l.reverse, ⟨fun i hi => by rw [a i hi]; simp, List.pairwise_reverse.mpr b, fun i hi => c i (List.mem_reverse.mp hi)⟩, List.length_reverse⟩
theorem td_orB {bk : Bool} {nn : Nat} {l : List Nat} (hn : nn ≤ 24) (h : td_or bk nn l) {m : Nat} (hm : m < 32) : bt (tm_mk l) m = decide (m ∈ l) := tm_mkb (fun i hi => by have := h.1 i hi; omega) hm
section
variable {f_nodes f_depth f_known f_dues f_place f_gifts f_matched f_lists f_steps f_outcome f_made : Int32} {a_name a_parent a_lastOf a_way a_value a_axes a_named a_kind a_over a_ends a_count a_num a_placed a_asked a_holds a_due a_open a_there a_priority a_given a_matches a_stack a_rest a_position a_size a_at a_row a_pc a_first a_out a_large : Nat → Int32}
theorem xf_44 {post : Int32 → SX → Prop} {nn b n e p : Nat} {T : td_T} {x3 : Int32} (hD : xe_D nn a_parent a_name a_axes a_named) (hT : xe_T b n T a_kind a_num) (hB : gm_PB T.1 n p e) (hov : a_over (b + p) = nI (e + 1)) : ∀ (lo : List Nat) (x5 : Int32) (st ho : Nat → Int32), tm_S x5 lo → (∀ i, i ∈ lo → i < nn) → (∀ st' ho', (∀ c, c ≠ b + p → ho' c = ho c) → (∀ m, m < 32 → bt (ho' (b + p)) m = (bt (ho (b + p)) m || (decide (m ∈ lo) && !decide (td_cv (nn, a_parent, a_name, a_value) T p e m 1 1 = 0)))) → post (x3 &&& ho' (b + p)) (f_nodes, f_depth, f_known, f_dues, f_place, f_gifts, f_matched, f_lists, f_steps, f_outcome, f_made, a_name, a_parent, a_lastOf, a_way, a_value, a_axes, a_named, a_kind, a_over, a_ends, a_count, a_num, a_placed, a_asked, ho', a_due, a_open, a_there, a_priority, a_given, a_matches, st', a_rest, a_position, a_size, a_at, a_row, a_pc, a_first, a_out, a_large)) → wX_filter_44 post (nI (b + p)) (nI b) x3 (lo.length + 1) x5 f_nodes f_depth f_known f_dues f_place f_gifts f_matched f_lists f_steps f_outcome f_made a_name a_parent a_lastOf a_way a_value a_axes a_named a_kind a_over a_ends a_count a_num a_placed a_asked ho a_due a_open a_there a_priority a_given a_matches st a_rest a_position a_size a_at a_row a_pc a_first a_out a_large := by
  have h24 := hD.1.1
  have hTb := hT.1
  have hTn := hT.2.1
  have hp1 := hB.2.1
  have hp2 := hB.2.2.1
  intro lo
  induction lo with
  | nil =>
    intro x5 st ho hS _ hp
    refine br_t (tm_nil hS) ⟨vp_in_nI (by omega) (by omega), ?_⟩
    rw [nI_clamp (by omega)]
    exact hp st ho (fun _ _ => rfl) (fun m _ => by simp)
  | cons a lo ih =>
    intro x5 st ho hS hlo hp
    obtain ⟨h1, h2, _, h4, _⟩ := tm_cons hS
    have hnl : a ∉ lo := fun z => Nat.lt_irrefl _ ((List.pairwise_cons.mp hS.2.1).1 a z)
    refine br_f (tm_nz h2) (xl_lowS hS (nm_e ?_))
    refine xc_cond hD hT hB hov (hlo a (by simp)) (fun st' => ?_)
    by_cases c : td_cv (nn, a_parent, a_name, a_value) T p e a 1 1 = 0
    · rw [if_pos c]
      refine br_t rfl (ih _ st' ho h4 (fun i hi => hlo i (List.mem_cons_of_mem _ hi)) (fun st2 ho2 g1 g2 => hp st2 ho2 g1 (fun m hm => ?_)))
      rw [g2 m hm]
      by_cases z : m = a
      · subst z
        simp [hnl, c]
      · simp [z]
    · rw [if_neg c]
      refine br_f (by decide) ⟨vp_in_nI (by omega) (by omega), vp_in_nI (by omega) (by omega), ?_⟩
      rw [nI_clamp (by omega)]
      refine nm_e (ih _ st' _ h4 (fun i hi => hlo i (List.mem_cons_of_mem _ hi)) (fun st2 ho2 g1 g2 => hp st2 ho2 (fun q hq => ?_) (fun m hm => ?_)))
      · rw [g1 q hq, pk_un hq]
      · rw [g2 m hm, pk_us, b_or, ta_one a (by omega) m hm]
        by_cases z : m = a
        · subst z
          simp [c]
        · simp [z]
theorem xf_118 {post : Int32 → SX → Prop} {nn b n e p M : Nat} {T : td_T} {bk : Bool} (hD : xe_D nn a_parent a_name a_axes a_named) (hT : xe_T b n T a_kind a_num) (hB : gm_PB T.1 n p e) (hov : a_over (b + p) = nI (e + 1)) (hM : M ≤ 24) : ∀ (lr : List Nat) (kept rest : Int32) (k : Nat) (st : Nat → Int32), k + lr.length = M + 1 → (∀ i, i ∈ lr → i < nn) → (if bk then tm_G rest lr else tm_S rest lr) → (∀ st' kept', (∀ m, m < 32 → bt kept' m = (bt kept m || decide (m ∈ td_fl (td_cb (nn, a_parent, a_name, a_value) T p e M) k lr))) → post kept' (f_nodes, f_depth, f_known, f_dues, f_place, f_gifts, f_matched, f_lists, f_steps, f_outcome, f_made, a_name, a_parent, a_lastOf, a_way, a_value, a_axes, a_named, a_kind, a_over, a_ends, a_count, a_num, a_placed, a_asked, a_holds, a_due, a_open, a_there, a_priority, a_given, a_matches, st', a_rest, a_position, a_size, a_at, a_row, a_pc, a_first, a_out, a_large)) → wX_filter_118 post (nI (b + p)) (nI b) (if bk then 1 else 0) (nI M) (lr.length + 1) kept rest (nI k) f_nodes f_depth f_known f_dues f_place f_gifts f_matched f_lists f_steps f_outcome f_made a_name a_parent a_lastOf a_way a_value a_axes a_named a_kind a_over a_ends a_count a_num a_placed a_asked a_holds a_due a_open a_there a_priority a_given a_matches st a_rest a_position a_size a_at a_row a_pc a_first a_out a_large := by
  have h24 := hD.1.1
  intro lr
  induction lr with
  | nil =>
    intro kept rest k st hk _ _ hp
    rw [List.length_nil] at hk
    exact br_t (nI_lt (by omega) (by omega)) (hp st kept (fun m _ => by simp [td_fl]))
  | cons a lr ih =>
    intro kept rest k st hk hl hS hp
    rw [List.length_cons] at hk
    have ha := hl a (by simp)
    have ha24 : a < 24 := by omega
    have step : ∀ rest' : Int32, (if bk then tm_G rest' lr else tm_S rest' lr) → rest' = rest &&& (((1 : Int32) <<< (nI a &&& 31)) ^^^ (-1)) → wX_filter_143 post (wX_filter_118 post (nI (b + p)) (nI b) (if bk then 1 else 0) (nI M) (lr.length + 1)) (nI (b + p)) (nI b) (if bk then 1 else 0) (nI M) kept rest (nI k) (nI a) f_nodes f_depth f_known f_dues f_place f_gifts f_matched f_lists f_steps f_outcome f_made a_name a_parent a_lastOf a_way a_value a_axes a_named a_kind a_over a_ends a_count a_num a_placed a_asked a_holds a_due a_open a_there a_priority a_given a_matches st a_rest a_position a_size a_at a_row a_pc a_first a_out a_large := by
      intro rest' hS' er
      refine nm_r er.symm ?_
      refine xc_cond hD hT hB hov ha (fun st' => ?_)
      by_cases c : td_cv (nn, a_parent, a_name, a_value) T p e a (nI k) (nI M) = 0
      · rw [if_pos c]
        have hc : ¬ td_cb (nn, a_parent, a_name, a_value) T p e M a k = true := by simp [td_cb, c]
        refine br_t rfl (nm_r (nI_1 k) (ih kept rest' (k + 1) st' (by omega) (fun i hi => hl i (List.mem_cons_of_mem _ hi)) hS' (fun st2 kept2 g => hp st2 kept2 (fun m hm => ?_))))
        rw [g m hm, td_fl, if_neg hc]
      · rw [if_neg c]
        have hc : td_cb (nn, a_parent, a_name, a_value) T p e M a k = true := by simp [td_cb, c]
        refine br_f (by decide) (nm_e (nm_r (nI_1 k) (ih _ rest' (k + 1) st' (by omega) (fun i hi => hl i (List.mem_cons_of_mem _ hi)) hS' (fun st2 kept2 g => hp st2 kept2 (fun m hm => ?_)))))
        rw [g m hm, td_fl, if_pos hc, b_or, ta_one a (by omega) m hm]
        by_cases z : m = a
        · simp [z]
        · simp [z]
    refine br_f (nI_nlt (by omega) (by omega)) ?_
    cases bk with
    | false =>
      refine br_t rfl (xl_lowS hS ?_)
      exact step _ (tm_cons hS).2.2.2.2 rfl
    | true =>
      refine br_f (by decide) (xl_highG hS ?_)
      exact step _ (tm_Gcons hS).2.2.2 rfl
/-- those of a list for which a condition holds -/
theorem xf_filter {post : Int32 → SX → Prop} {nn r e p : Nat} {cnt : Nat → Nat} {bk : Bool} {l : List Nat} (hD : xe_D nn a_parent a_name a_axes a_named) (hK : xr_K a_kind a_num) (hr : r < 7) (hcn : ∀ q, q < 7 → cnt q ≤ 30) (hB : gm_PB (xr_T a_kind a_num r).1 (cnt r) p e) (hov : a_over (31 * r + p) = nI (e + 1)) (hpl : a_placed (31 * r + p) = 0 → ∀ y, p < y → y < e → (xr_T a_kind a_num r).1 y ≠ 1 ∧ (xr_T a_kind a_num r).1 y ≠ 2) (hl : td_or bk nn l) (hC : xr_CA (nn, a_parent, a_name, a_value) a_kind a_num cnt a_asked a_holds)
    (hp : ∀ st' as' ho', xr_CA (nn, a_parent, a_name, a_value) a_kind a_num cnt as' ho' → post (tm_mk (td_ft (nn, a_parent, a_name, a_value) (xr_T a_kind a_num r) (p, e) l)) (f_nodes, f_depth, f_known, f_dues, f_place, f_gifts, f_matched, f_lists, f_steps, f_outcome, f_made, a_name, a_parent, a_lastOf, a_way, a_value, a_axes, a_named, a_kind, a_over, a_ends, a_count, a_num, a_placed, as', ho', a_due, a_open, a_there, a_priority, a_given, a_matches, st', a_rest, a_position, a_size, a_at, a_row, a_pc, a_first, a_out, a_large)) : wpX_filter post (f_nodes, f_depth, f_known, f_dues, f_place, f_gifts, f_matched, f_lists, f_steps, f_outcome, f_made, a_name, a_parent, a_lastOf, a_way, a_value, a_axes, a_named, a_kind, a_over, a_ends, a_count, a_num, a_placed, a_asked, a_holds, a_due, a_open, a_there, a_priority, a_given, a_matches, a_stack, a_rest, a_position, a_size, a_at, a_row, a_pc, a_first, a_out, a_large) (nI (31 * r + p)) (nI (31 * r)) (tm_mk l) (if bk then 1 else 0) := by
  have h24 := hD.1.1
  have hT := xr_KT hK hr (hcn r hr)
  have hTb := hT.1
  have hTn := hT.2.1
  have hp1 := hB.2.1
  have hp2 := hB.2.2.1
  have hmkb := fun m (hm : m < 32) => td_orB h24 hl hm
  refine ⟨vp_in_nI (by omega) (by omega), ?_⟩
  rw [nI_clamp (by omega)]
  refine br_c (fun c => ?_) (fun c => ?_)
  · have np := hpl c
    refine ⟨vp_in_nI (by omega) (by omega), nm_e ⟨vp_in_nI (by omega) (by omega), vp_in_nI (by omega) (by omega), nm_e ⟨vp_in_nI (by omega) (by omega), vp_in_nI (by omega) (by omega), nm_e ?_⟩⟩⟩
    have hob : tm_B nn (tm_mk l &&& (a_asked (31 * r + p) ^^^ (-1))) := by
      intro i hi hb
      rw [b_and, hmkb i hi] at hb
      exact hl.1 i (of_decide_eq_true (Bool.and_eq_true_iff.mp hb).1)
    have hS := tm_Smem h24 hob
    have hmo : ∀ m, m < 32 → decide (m ∈ tm_mem nn (tm_mk l &&& (a_asked (31 * r + p) ^^^ (-1)))) = (decide (m ∈ l) && !bt (a_asked (31 * r + p)) m) := by
      intro m hm
      rw [← hS.1 m hm, b_and, hmkb m hm, ta_not _ hm]
    refine ⟨_, xf_44 hD hT hB hov _ _ a_stack _ hS (fun i hi => List.mem_range.mp (List.mem_filter.mp hi).1) (fun st' ho' g1 g2 => ?_)⟩
    rw [pk_us] at g2
    have hbits : ∀ m, m < 32 → bt (ho' (31 * r + p)) m = ((bt (a_holds (31 * r + p)) m && !(decide (m ∈ l) && !bt (a_asked (31 * r + p)) m)) || ((decide (m ∈ l) && !bt (a_asked (31 * r + p)) m) && !decide (td_cv (nn, a_parent, a_name, a_value) (xr_T a_kind a_num r) p e m 1 1 = 0))) := by
      intro m hm
      rw [g2 m hm, b_and, ta_not _ hm, b_and, hmkb m hm, ta_not _ hm, hmo m hm]
    have hin : ∀ m, m < 32 → m ∈ l → bt (ho' (31 * r + p)) m = !decide (td_cv (nn, a_parent, a_name, a_value) (xr_T a_kind a_num r) p e m 1 1 = 0) := by
      intro m hm hml
      rw [hbits m hm]
      cases ha : bt (a_asked (31 * r + p)) m with
      | false => simp [hml]
      | true =>
        obtain ⟨_, e', q1, q2⟩ := hC r hr p (by omega) m hm ha
        rw [gm_PBd q1 hB] at q2
        rw [q2]
        simp
    have hft : tm_mk l &&& ho' (31 * r + p) = tm_mk (td_ft (nn, a_parent, a_name, a_value) (xr_T a_kind a_num r) (p, e) l) := by
      apply b_ext
      intro m hm
      rw [b_and, hmkb m hm, td_orB h24 (td_or_ft hl) hm]
      unfold td_ft
      dsimp only
      rw [td_fl_np (c' := fun m => !decide (td_cv (nn, a_parent, a_name, a_value) (xr_T a_kind a_num r) p e m 1 1 = 0)) (fun m k => by unfold td_cb; rw [td_cv_np hp1 np])]
      by_cases z : m ∈ l
      · rw [hin m hm z]
        simp [z]
      · simp [z]
    rw [hft]
    refine hp _ _ _ ?_
    intro r2 hr2 i hi m hm ha
    by_cases z : r2 = r ∧ i = p
    · obtain ⟨rfl, rfl⟩ := z
      rw [pk_us, b_or, hmkb m hm] at ha
      have hml : m < nn := by
        rcases Bool.or_eq_true_iff.mp ha with y | y
        · exact (hC r2 hr2 i hi m hm y).1
        · exact hl.1 m (of_decide_eq_true y)
      refine ⟨hml, e, hB, ?_⟩
      by_cases y : m ∈ l
      · exact hin m hm y
      · rw [decide_eq_false y, Bool.or_false] at ha
        obtain ⟨_, e', q1, q2⟩ := hC r2 hr2 i hi m hm ha
        rw [gm_PBd q1 hB] at q2
        rw [hbits m hm, q2]
        simp [y]
    · have hne : 31 * r2 + i ≠ 31 * r + p := by
        have := hcn r2 hr2
        omega
      rw [pk_un hne] at ha
      rw [g1 _ hne, pk_un hne]
      exact hC r2 hr2 i hi m hm ha
  · obtain ⟨l', hS, hlen⟩ := td_orN h24 hl
    have hlen24 : l.length ≤ 24 := by
      have h1 : l'.length ≤ (List.range 24).length := List.Nodup.length_le_of_subset (List.Pairwise.imp (fun h => Nat.ne_of_lt h) hS.2.1) (fun i hi => List.mem_range.mpr (hS.2.2 i hi))
      rw [List.length_range] at h1
      omega
    refine xl_bits hS ?_
    rw [hlen]
    refine ⟨_, xf_118 (bk := bk) hD hT hB hov hlen24 l 0 (tm_mk l) 1 a_stack (by omega) hl.1 (by cases bk with | false => exact td_orS h24 hl | true => exact td_orG h24 hl) (fun st' kept' g => ?_)⟩
    have : kept' = tm_mk (td_ft (nn, a_parent, a_name, a_value) (xr_T a_kind a_num r) (p, e) l) := by
      apply b_ext
      intro m hm
      rw [g m hm, b_0, Bool.false_or, td_orB h24 (td_or_ft hl) hm]
      rfl
    rw [this]
    exact hp st' a_asked a_holds hC
end
end
section
/-! paths in the component -/
theorem td_mls {D : td_D} {w n m : Nat} : m ∈ td_ls D w n ↔ m < D.1 ∧ td_os D w n m = true := by
  unfold td_ls
  cases td_bk w <;> simp
theorem td_mse {D : td_D} {T : td_T} {bk : Bool} {nn : Nat} : ∀ (brs : List (Nat × Nat)) (l : List Nat), td_or bk nn l → td_or bk nn (brs.foldl (fun l b => td_ft D T b l) l) := by
  intro brs
  induction brs with
  | nil => intro l h; exact h
  | cons b t ih => intro l h; exact ih _ (td_or_ft h)
theorem td_st0 {D : td_D} {T : td_T} {s : Nat × List (Nat × Nat)} : td_st D T s 0 = 0 := by
  have e : td_st D T s 0 = tm_ms (fun _ => false) D.1 := by
    unfold td_st
    congr 1
    funext m
    rw [List.any_eq_false]
    intro n _
    rw [b_0]
    simp
  rw [e, xl_ms0]
theorem td_pv0 {D : td_D} {T : td_T} : ∀ ps : List (Nat × List (Nat × Nat)), td_pv D T ps 0 = 0 := by
  intro ps
  unfold td_pv
  induction ps with
  | nil => rfl
  | cons s t ih => rw [List.foldl_cons, td_st0]; exact ih
theorem td_stN {D : td_D} {T : td_T} {q : Nat} {set : Int32} (h : D.1 ≤ 24) : td_st D T (q, []) set = td_al D set (T.2 q).toNatClampNeg := by
  unfold td_st td_al
  apply tm_congr (by omega)
  intro m hm
  congr 1
  funext n
  congr 1
  show decide (m ∈ td_ls D (T.2 q).toNatClampNeg n) = _
  apply Bool.eq_iff_iff.mpr
  rw [decide_eq_true_eq, td_mls]
  exact ⟨fun z => z.2, fun z => ⟨hm, z⟩⟩
theorem td_stB {D : td_D} {T : td_T} {s : Nat × List (Nat × Nat)} {set : Int32} (h : D.1 ≤ 24) : tm_B D.1 (td_st D T s set) := tm_Bms _ (by omega)
theorem td_pvB {D : td_D} {T : td_T} (h : D.1 ≤ 24) : ∀ (ps : List (Nat × List (Nat × Nat))) (set : Int32), tm_B D.1 set → tm_B D.1 (td_pv D T ps set) := by
  intro ps
  unfold td_pv
  induction ps with
  | nil => intro set hs; exact hs
  | cons s t ih => intro set _; exact ih _ (td_stB h)
/-- what the component keeps of the brackets of a row -/
def xr_BR (K : Nat → Nat) (n b : Nat) (over placed : Nat → Int32) : Prop := ∀ p c, gm_PB K n p c → over (b + p) = nI (c + 1) ∧ (placed (b + p) = 0 → ∀ y, p < y → y < c → K y ≠ 1 ∧ K y ≠ 2)
theorem xp_ls {nn w n : Nat} {par nm va axes named : Nat → Int32} (hD : xe_D nn par nm axes named) (hw : w ≤ 70) (hw8 : w % 8 ≤ 6) (hn : n < nn) : axes (24 * (w / 8) + n) &&& named (w % 8) = tm_mk (td_ls (nn, par, nm, va) w n) := by
  have h24 := hD.1.1
  apply b_ext
  intro m hm
  rw [td_orB (bk := td_bk w) h24 td_or_ls hm, b_and, hD.2.2.1 (w / 8) (by omega) n hn, hD.2.2.2 (w % 8) (by omega), tm_bt _ nn (by omega) m hm, tm_bt _ nn (by omega) m hm]
  apply Bool.eq_iff_iff.mpr
  rw [decide_eq_true_eq, td_mls]
  unfold td_os
  simp only [Bool.and_eq_true, decide_eq_true_eq]
  exact ⟨fun ⟨⟨a, b⟩, c, d⟩ => ⟨a, d, b⟩, fun ⟨a, d, b⟩ => ⟨⟨a, b⟩, a, d⟩⟩
section
variable {f_nodes f_depth f_known f_dues f_place f_gifts f_matched f_lists f_steps f_outcome f_made : Int32} {a_name a_parent a_lastOf a_way a_value a_axes a_named a_kind a_over a_ends a_count a_num a_placed a_asked a_holds a_due a_open a_there a_priority a_given a_matches a_stack a_rest a_position a_size a_at a_row a_pc a_first a_out a_large : Nat → Int32}
theorem xp_183 {post : Int32 → SX → Prop} {J18 : Int32 → Int32 → Int32 → Int32 → Int32 → Int32 → Int32 → Int32 → Int32 → Int32 → Int32 → Int32 → Int32 → (Nat → Int32) → (Nat → Int32) → (Nat → Int32) → (Nat → Int32) → (Nat → Int32) → (Nat → Int32) → (Nat → Int32) → (Nat → Int32) → (Nat → Int32) → (Nat → Int32) → (Nat → Int32) → (Nat → Int32) → (Nat → Int32) → (Nat → Int32) → (Nat → Int32) → (Nat → Int32) → (Nat → Int32) → (Nat → Int32) → (Nat → Int32) → (Nat → Int32) → (Nat → Int32) → (Nat → Int32) → (Nat → Int32) → (Nat → Int32) → (Nat → Int32) → (Nat → Int32) → (Nat → Int32) → (Nat → Int32) → (Nat → Int32) → (Nat → Int32) → (Nat → Int32) → Prop} {J130 : Int32 → Int32 → Int32 → Int32 → Int32 → Int32 → Int32 → Int32 → Int32 → Int32 → Int32 → Int32 → Int32 → Int32 → (Nat → Int32) → (Nat → Int32) → (Nat → Int32) → (Nat → Int32) → (Nat → Int32) → (Nat → Int32) → (Nat → Int32) → (Nat → Int32) → (Nat → Int32) → (Nat → Int32) → (Nat → Int32) → (Nat → Int32) → (Nat → Int32) → (Nat → Int32) → (Nat → Int32) → (Nat → Int32) → (Nat → Int32) → (Nat → Int32) → (Nat → Int32) → (Nat → Int32) → (Nat → Int32) → (Nat → Int32) → (Nat → Int32) → (Nat → Int32) → (Nat → Int32) → (Nat → Int32) → (Nat → Int32) → (Nat → Int32) → (Nat → Int32) → (Nat → Int32) → (Nat → Int32) → Prop} {nn r s c : Nat} {cnt : Nat → Nat} {bk : Bool} {x5 x7 x8 x10 x11 : Int32} (hD : xe_D nn a_parent a_name a_axes a_named) (hK : xr_K a_kind a_num) (hr : r < 7) (hcn : ∀ q, q < 7 → cnt q ≤ 30) (hBR : xr_BR (xr_T a_kind a_num r).1 (cnt r) (31 * r) a_over a_placed) (hc : c ≤ s) (hs : s ≤ cnt r) : ∀ (brs : List (Nat × Nat)) (q : Nat) (l : List Nat) (st as ho : Nat → Int32), gm_B (xr_T a_kind a_num r).1 (cnt r) brs q c → q ≤ cnt r → td_or bk nn l → xr_CA (nn, a_parent, a_name, a_value) a_kind a_num cnt as ho →
    (∀ st' as' ho', xr_CA (nn, a_parent, a_name, a_value) a_kind a_num cnt as' ho' → J130 (x10 ||| tm_mk (brs.foldl (fun l b => td_ft (nn, a_parent, a_name, a_value) (xr_T a_kind a_num r) b l) l)) x11 (nI (31 * r + c)) f_nodes f_depth f_known f_dues f_place f_gifts f_matched f_lists f_steps f_outcome f_made a_name a_parent a_lastOf a_way a_value a_axes a_named a_kind a_over a_ends a_count a_num a_placed as' ho' a_due a_open a_there a_priority a_given a_matches st' a_rest a_position a_size a_at a_row a_pc a_first a_out a_large) → wX_path_183 post J18 J130 (nI (31 * r)) x5 (nI (31 * r + s)) x7 x8 (if bk then 1 else 0) x10 x11 (brs.length + 1) (nI (31 * r + q)) (tm_mk l) f_nodes f_depth f_known f_dues f_place f_gifts f_matched f_lists f_steps f_outcome f_made a_name a_parent a_lastOf a_way a_value a_axes a_named a_kind a_over a_ends a_count a_num a_placed as ho a_due a_open a_there a_priority a_given a_matches st a_rest a_position a_size a_at a_row a_pc a_first a_out a_large := by
  have hn30 := hcn r hr
  have hT := xr_KT hK hr hn30
  intro brs
  induction brs with
  | nil =>
    intro q l st as ho hB hq hl hC hp
    obtain ⟨rfl, hB⟩ := hB
    refine pk_le (31 * r + s) (31 * r + q) (fun z => nm_e (hp _ _ _ hC)) (fun z => ⟨vp_in_nI (by omega) (by omega), ?_⟩)
    obtain ⟨t1, t2, -⟩ := hT.2.2 q (by omega)
    rw [nI_clamp (by omega), t1]
    exact pk_eq ((xr_T a_kind a_num r).1 q) 16 (fun z => (hB (by omega) z).elim) (fun z => nm_e (hp _ _ _ hC))
  | cons b t ih =>
    intro q l st as ho hB hq hl hC hp
    obtain ⟨b1, b2⟩ := b
    obtain ⟨e1, hPB, hB⟩ := hB
    have e1 : b1 = q := e1
    subst e1
    dsimp only at hPB hB
    obtain ⟨o1, o2⟩ := hBR b1 b2 hPB
    have hPB2 := hPB
    obtain ⟨g1, g2, g3, -⟩ := hPB
    have hle := gm_Ble _ _ _ hB (by omega)
    obtain ⟨t1, t2, -⟩ := hT.2.2 b1 (by omega)
    refine br_f (nI_ge (by omega) (by omega)) ⟨vp_in_nI (by omega) (by omega), ?_⟩
    rw [nI_clamp (by omega), t1]
    refine pk_eq ((xr_T a_kind a_num r).1 b1) 16 (fun z => ?_) (fun z => (z g1).elim)
    refine xf_filter (bk := bk) hD hK hr hcn hPB2 o1 o2 hl hC (fun st' as' ho' hC' => ⟨vp_in_nI (by omega) (by omega), ?_⟩)
    rw [o1, nI_add]
    exact nm_e (ih (b2 + 1) _ st' as' ho' hB (by omega) (td_or_ft hl) hC' (fun st2 as2 ho2 hC2 => hp st2 as2 ho2 hC2))
theorem xp_130 {post : Int32 → SX → Prop} {J18 : Int32 → Int32 → Int32 → Int32 → Int32 → Int32 → Int32 → Int32 → Int32 → Int32 → Int32 → Int32 → Int32 → (Nat → Int32) → (Nat → Int32) → (Nat → Int32) → (Nat → Int32) → (Nat → Int32) → (Nat → Int32) → (Nat → Int32) → (Nat → Int32) → (Nat → Int32) → (Nat → Int32) → (Nat → Int32) → (Nat → Int32) → (Nat → Int32) → (Nat → Int32) → (Nat → Int32) → (Nat → Int32) → (Nat → Int32) → (Nat → Int32) → (Nat → Int32) → (Nat → Int32) → (Nat → Int32) → (Nat → Int32) → (Nat → Int32) → (Nat → Int32) → (Nat → Int32) → (Nat → Int32) → (Nat → Int32) → (Nat → Int32) → (Nat → Int32) → (Nat → Int32) → (Nat → Int32) → Prop} {nn r s c q w : Nat} {cnt : Nat → Nat} {brs : List (Nat × Nat)} (hD : xe_D nn a_parent a_name a_axes a_named) (hK : xr_K a_kind a_num) (hr : r < 7) (hcn : ∀ q, q < 7 → cnt q ≤ 30) (hBR : xr_BR (xr_T a_kind a_num r).1 (cnt r) (31 * r) a_over a_placed) (hc : c ≤ s) (hs : s ≤ cnt r) (hq : q < s) (hB : gm_B (xr_T a_kind a_num r).1 (cnt r) brs (q + 1) c) (hcw : ((xr_T a_kind a_num r).2 q).toNatClampNeg = w) (hw70 : w ≤ 70) (hw8 : w % 8 ≤ 6) : ∀ (ls : List Nat) (x10 x11 x12 : Int32) (st as ho : Nat → Int32), tm_S x11 ls → (∀ i, i ∈ ls → i < nn) → (ls = [] → x12 = nI (31 * r + c)) → xr_CA (nn, a_parent, a_name, a_value) a_kind a_num cnt as ho →
    (∀ all st' as' ho', xr_CA (nn, a_parent, a_name, a_value) a_kind a_num cnt as' ho' → (∀ m, m < 32 → bt all m = (bt x10 m || ls.any (fun n => decide (m ∈ td_se (nn, a_parent, a_name, a_value) (xr_T a_kind a_num r) (q, brs) n)))) → J18 all (nI (31 * r + c)) f_nodes f_depth f_known f_dues f_place f_gifts f_matched f_lists f_steps f_outcome f_made a_name a_parent a_lastOf a_way a_value a_axes a_named a_kind a_over a_ends a_count a_num a_placed as' ho' a_due a_open a_there a_priority a_given a_matches st' a_rest a_position a_size a_at a_row a_pc a_first a_out a_large) → wX_path_130 post J18 (nI (31 * r)) (nI (31 * r + q)) (nI (31 * r + s)) (nI w) (nI (w / 8)) (if td_bk w then 1 else 0) (ls.length + 1) x10 x11 x12 f_nodes f_depth f_known f_dues f_place f_gifts f_matched f_lists f_steps f_outcome f_made a_name a_parent a_lastOf a_way a_value a_axes a_named a_kind a_over a_ends a_count a_num a_placed as ho a_due a_open a_there a_priority a_given a_matches st a_rest a_position a_size a_at a_row a_pc a_first a_out a_large := by
  have h24 := hD.1.1
  have hn30 := hcn r hr
  intro ls
  induction ls with
  | nil =>
    intro x10 x11 x12 st as ho hS _ hx hC hp
    refine br_t (tm_nil hS) ?_
    rw [hx rfl]
    exact hp x10 st as ho hC (fun m _ => by simp)
  | cons a ls ih =>
    intro x10 x11 x12 st as ho hS hl _ hC hp
    obtain ⟨h1, h2, _, h4, _⟩ := tm_cons hS
    have ha := hl a (by simp)
    refine br_f (tm_nz h2) (xl_lowS hS ?_)
    rw [show (24 : Int32) * nI (w / 8) = nI (24 * (w / 8)) from pk_mul 24 (w / 8), nI_add, xl_m8 (by omega)]
    refine ⟨vp_in_nI (by omega) (by omega), vp_in_nI (by omega) (by omega), ?_⟩
    rw [nI_clamp (by omega), nI_clamp (by omega), xp_ls (va := a_value) hD hw70 hw8 ha]
    refine nm_e (nm_e (nm_r ((nI_1 _).trans (congrArg nI (show 31 * r + q + 1 = 31 * r + (q + 1) by omega))) ⟨_, xp_183 (bk := td_bk w) hD hK hr hcn hBR hc hs brs (q + 1) _ st as ho hB (by omega) td_or_ls hC (fun st' as' ho' hC' => ?_)⟩))
    refine ih _ _ _ st' as' ho' h4 (fun i hi => hl i (List.mem_cons_of_mem _ hi)) (fun _ => rfl) hC' (fun all st2 as2 ho2 hC2 g => hp all st2 as2 ho2 hC2 (fun m hm => ?_))
    have hor : td_or (td_bk w) nn (td_se (nn, a_parent, a_name, a_value) (xr_T a_kind a_num r) (q, brs) a) := by
      unfold td_se
      rw [show ((xr_T a_kind a_num r).2 (q, brs).1).toNatClampNeg = w from hcw]
      exact td_mse _ _ td_or_ls
    rw [g m hm, b_or, List.any_cons, ← td_orB h24 hor hm, Bool.or_assoc]
    unfold td_se
    rw [show ((xr_T a_kind a_num r).2 (q, brs).1).toNatClampNeg = w from hcw]
theorem xp_68 {post : Int32 → SX → Prop} {J18 : Int32 → Int32 → Int32 → Int32 → Int32 → Int32 → Int32 → Int32 → Int32 → Int32 → Int32 → Int32 → Int32 → (Nat → Int32) → (Nat → Int32) → (Nat → Int32) → (Nat → Int32) → (Nat → Int32) → (Nat → Int32) → (Nat → Int32) → (Nat → Int32) → (Nat → Int32) → (Nat → Int32) → (Nat → Int32) → (Nat → Int32) → (Nat → Int32) → (Nat → Int32) → (Nat → Int32) → (Nat → Int32) → (Nat → Int32) → (Nat → Int32) → (Nat → Int32) → (Nat → Int32) → (Nat → Int32) → (Nat → Int32) → (Nat → Int32) → (Nat → Int32) → (Nat → Int32) → (Nat → Int32) → (Nat → Int32) → (Nat → Int32) → (Nat → Int32) → (Nat → Int32) → (Nat → Int32) → Prop} {nn w c : Nat} {x2 x6 set : Int32} (hD : xe_D nn a_parent a_name a_axes a_named) (hw70 : w ≤ 70) (hw8 : w % 8 ≤ 6) (hs : tm_B nn set) (hJ : J18 (td_al (nn, a_parent, a_name, a_value) set w) (nI (c + 1)) f_nodes f_depth f_known f_dues f_place f_gifts f_matched f_lists f_steps f_outcome f_made a_name a_parent a_lastOf a_way a_value a_axes a_named a_kind a_over a_ends a_count a_num a_placed a_asked a_holds a_due a_open a_there a_priority a_given a_matches a_stack a_rest a_position a_size a_at a_row a_pc a_first a_out a_large) : wX_path_68 post J18 x2 set (nI c) x6 (nI w) f_nodes f_depth f_known f_dues f_place f_gifts f_matched f_lists f_steps f_outcome f_made a_name a_parent a_lastOf a_way a_value a_axes a_named a_kind a_over a_ends a_count a_num a_placed a_asked a_holds a_due a_open a_there a_priority a_given a_matches a_stack a_rest a_position a_size a_at a_row a_pc a_first a_out a_large := by
  exact xl_along hD hw70 hw8 hs (nm_r (nI_1 c) hJ)
theorem xp_18 {post : Int32 → SX → Prop} {nn r s : Nat} {cnt : Nat → Nat} (hD : xe_D nn a_parent a_name a_axes a_named) (hK : xr_K a_kind a_num) (hr : r < 7) (hcn : ∀ q, q < 7 → cnt q ≤ 30) (hBR : xr_BR (xr_T a_kind a_num r).1 (cnt r) (31 * r) a_over a_placed) (hs : s ≤ cnt r) : ∀ (ps : List (Nat × List (Nat × Nat))) (q : Nat) (set : Int32) (st as ho : Nat → Int32), gm_S (xr_T a_kind a_num r).1 (cnt r) ps q s → tm_B nn set → xr_CA (nn, a_parent, a_name, a_value) a_kind a_num cnt as ho →
    (∀ st' as' ho', xr_CA (nn, a_parent, a_name, a_value) a_kind a_num cnt as' ho' → post (td_pv (nn, a_parent, a_name, a_value) (xr_T a_kind a_num r) ps set) (f_nodes, f_depth, f_known, f_dues, f_place, f_gifts, f_matched, f_lists, f_steps, f_outcome, f_made, a_name, a_parent, a_lastOf, a_way, a_value, a_axes, a_named, a_kind, a_over, a_ends, a_count, a_num, a_placed, as', ho', a_due, a_open, a_there, a_priority, a_given, a_matches, st', a_rest, a_position, a_size, a_at, a_row, a_pc, a_first, a_out, a_large)) → wX_path_18 post (nI (31 * r)) (nI (31 * r + s)) (ps.length + 1) set (nI (31 * r + q)) f_nodes f_depth f_known f_dues f_place f_gifts f_matched f_lists f_steps f_outcome f_made a_name a_parent a_lastOf a_way a_value a_axes a_named a_kind a_over a_ends a_count a_num a_placed as ho a_due a_open a_there a_priority a_given a_matches st a_rest a_position a_size a_at a_row a_pc a_first a_out a_large := by
  have h24 := hD.1.1
  have hn30 := hcn r hr
  have hT := xr_KT hK hr hn30
  intro ps
  induction ps with
  | nil =>
    intro q set st as ho hS hB hC hp
    obtain ⟨rfl, -⟩ := hS
    exact br_t (Int32.le_refl _) (hp st as ho hC)
  | cons b t ih =>
    intro q set st as ho hS hB hC hp
    obtain ⟨e1, g1, g2, c, hBr, hSt⟩ := hS
    obtain ⟨b1, brs⟩ := b
    have e1 : b1 = q := e1
    subst e1
    have hle := gm_Ble _ _ _ hBr (by omega)
    have hle2 := gm_Sle _ _ _ hSt
    obtain ⟨t1, t2, t3, t4⟩ := hT.2.2 b1 g1
    obtain ⟨w, w1, w2, w3⟩ := t4 g2
    have hw : a_num (31 * r + b1) = nI w := t3.trans w1
    have hcw : ((xr_T a_kind a_num r).2 b1).toNatClampNeg = w := by rw [w1, nI_clamp (by omega)]
    refine br_f (nI_ge (by omega) (by omega)) (br_c (fun z => ?_) (fun z => ⟨vp_in_nI (by omega) (by omega), ?_⟩))
    · rw [z, td_pv0] at hp
      rw [z]
      exact hp st as ho hC
    rw [nI_clamp (by omega)]
    refine nm_r hw (nm_r (xl_d8 (by omega)) ?_)
    rw [nI_1]
    have along : brs = [] → wX_path_68 post (wX_path_18 post (nI (31 * r)) (nI (31 * r + s)) (t.length + 1)) (nI (31 * r)) set (nI (31 * r + b1)) (nI (31 * r + s)) (nI w) f_nodes f_depth f_known f_dues f_place f_gifts f_matched f_lists f_steps f_outcome f_made a_name a_parent a_lastOf a_way a_value a_axes a_named a_kind a_over a_ends a_count a_num a_placed as ho a_due a_open a_there a_priority a_given a_matches st a_rest a_position a_size a_at a_row a_pc a_first a_out a_large := by
      intro hb
      subst hb
      obtain ⟨e2, -⟩ := hBr
      subst e2
      refine xp_68 hD w2 w3 hB ?_
      rw [show 31 * r + b1 + 1 = 31 * r + (b1 + 1) by omega]
      refine ih (b1 + 1) _ st as ho hSt (xl_alB (nn, a_parent, a_name, a_value) set w h24) hC (fun st' as' ho' hC' => ?_)
      have := hp st' as' ho' hC'
      unfold td_pv at this
      rw [List.foldl_cons, td_stN h24, hcw] at this
      exact this
    have loops : wX_path_115 post (wX_path_18 post (nI (31 * r)) (nI (31 * r + s)) (t.length + 1)) (nI (31 * r)) set (nI (31 * r + b1)) (nI (31 * r + s)) (nI w) (nI (w / 8)) (if td_bk w then 1 else 0) f_nodes f_depth f_known f_dues f_place f_gifts f_matched f_lists f_steps f_outcome f_made a_name a_parent a_lastOf a_way a_value a_axes a_named a_kind a_over a_ends a_count a_num a_placed as ho a_due a_open a_there a_priority a_given a_matches st a_rest a_position a_size a_at a_row a_pc a_first a_out a_large := by
      have hS := tm_Smem h24 hB
      have hm : ∀ i, i ∈ tm_mem nn set → i < nn := fun i hi => List.mem_range.mp (List.mem_filter.mp hi).1
      have hne : tm_mem nn set = [] → False := fun y => by rw [y] at hS; exact z (tm_nil hS)
      refine nm_e ⟨_, xp_130 hD hK hr hcn hBR hle2.1 hs (by omega) hBr hcw w2 w3 _ 0 set _ st as ho hS hm (fun y => (hne y).elim) hC (fun all st' as' ho' hC' g => ?_)⟩
      have hall : all = td_st (nn, a_parent, a_name, a_value) (xr_T a_kind a_num r) (b1, brs) set := by
        unfold td_st
        apply tm_ext (by dsimp only; omega)
        intro m hm32
        rw [g m hm32, b_0, Bool.false_or]
        apply Bool.eq_iff_iff.mpr
        rw [Bool.and_eq_true, List.any_eq_true, List.any_eq_true, decide_eq_true_eq]
        have hor : ∀ n, td_or (td_bk w) nn (td_se (nn, a_parent, a_name, a_value) (xr_T a_kind a_num r) (b1, brs) n) := by
          intro n
          unfold td_se
          rw [show ((xr_T a_kind a_num r).2 (b1, brs).1).toNatClampNeg = w from hcw]
          exact td_mse _ _ td_or_ls
        constructor
        · rintro ⟨n, y1, y2⟩
          refine ⟨(hor n).1 m (of_decide_eq_true y2), n, List.mem_range.mpr (hm n y1), ?_⟩
          rw [y2, Bool.and_true]
          exact (List.mem_filter.mp y1).2
        · rintro ⟨y0, n, y1, y2⟩
          rw [Bool.and_eq_true] at y2
          exact ⟨n, List.mem_filter.mpr ⟨y1, y2.1⟩, y2.2⟩
      rw [hall]
      refine ih c _ st' as' ho' hSt (td_stB h24) hC' (fun st2 as2 ho2 hC2 => ?_)
      have := hp st2 as2 ho2 hC2
      unfold td_pv at this
      rw [List.foldl_cons] at this
      exact this
    refine pk_eq (31 * r + b1 + 1) (31 * r + s) (fun y => ?_) (fun y => ⟨vp_in_nI (by omega) (by omega), ?_⟩)
    · apply along
      cases brs with
      | nil => rfl
      | cons b2 t2 => have h1 := hBr.2.1.2.1; have h2 := gm_Ble _ _ _ hBr.2.2 (by have := hBr.2.1.2.2.1; omega); omega
    · obtain ⟨t5, t6, -⟩ := hT.2.2 (b1 + 1) (by omega)
      rw [nI_clamp (by omega), show 31 * r + b1 + 1 = 31 * r + (b1 + 1) by omega, t5]
      refine pk_eq ((xr_T a_kind a_num r).1 (b1 + 1)) 15 (fun y2 => ?_) (fun y2 => ?_)
      · apply along
        cases brs with
        | nil => rfl
        | cons b2 t2 => have := hBr.2.1.1; omega
      · have fl : ∀ x, w / 8 = x → (x = 2 ∨ x = 4 ∨ x = 6 ∨ x = 8) → td_bk w = true := by
          intro x hx hx2
          unfold td_bk
          rw [hx]
          rcases hx2 with rfl | rfl | rfl | rfl <;> decide
        refine pk_eq (w / 8) 2 (fun x => ?_) (fun x2 => ?_)
        · rw [if_pos (fl 2 x (by omega))] at loops; exact loops
        · refine pk_eq (w / 8) 4 (fun x => ?_) (fun x4 => ?_)
          · rw [if_pos (fl 4 x (by omega))] at loops; exact loops
          · refine pk_eq (w / 8) 6 (fun x => ?_) (fun x6 => ?_)
            · rw [if_pos (fl 6 x (by omega))] at loops; exact loops
            · refine pk_eq (w / 8) 8 (fun x => ?_) (fun x8 => ?_)
              · rw [if_pos (fl 8 x (by omega))] at loops; exact loops
              · have hf : ¬ td_bk w = true := by
                  unfold td_bk
                  simp
                  omega
                rw [if_neg hf] at loops
                exact loops
/-- what a path selects -/
theorem xp_path {post : Int32 → SX → Prop} {nn r s q node : Nat} {cnt : Nat → Nat} {ps : List (Nat × List (Nat × Nat))} (hD : xe_D nn a_parent a_name a_axes a_named) (hK : xr_K a_kind a_num) (hr : r < 7) (hcn : ∀ q, q < 7 → cnt q ≤ 30) (hBR : xr_BR (xr_T a_kind a_num r).1 (cnt r) (31 * r) a_over a_placed) (hS : gm_S (xr_T a_kind a_num r).1 (cnt r) ps q s) (hov : a_over (31 * r + q) = nI s) (hnode : node < nn) (hC : xr_CA (nn, a_parent, a_name, a_value) a_kind a_num cnt a_asked a_holds)
    (hp : ∀ st' as' ho', xr_CA (nn, a_parent, a_name, a_value) a_kind a_num cnt as' ho' → post (td_pv (nn, a_parent, a_name, a_value) (xr_T a_kind a_num r) ps (td_1 node)) (f_nodes, f_depth, f_known, f_dues, f_place, f_gifts, f_matched, f_lists, f_steps, f_outcome, f_made, a_name, a_parent, a_lastOf, a_way, a_value, a_axes, a_named, a_kind, a_over, a_ends, a_count, a_num, a_placed, as', ho', a_due, a_open, a_there, a_priority, a_given, a_matches, st', a_rest, a_position, a_size, a_at, a_row, a_pc, a_first, a_out, a_large)) : wpX_path post (f_nodes, f_depth, f_known, f_dues, f_place, f_gifts, f_matched, f_lists, f_steps, f_outcome, f_made, a_name, a_parent, a_lastOf, a_way, a_value, a_axes, a_named, a_kind, a_over, a_ends, a_count, a_num, a_placed, a_asked, a_holds, a_due, a_open, a_there, a_priority, a_given, a_matches, a_stack, a_rest, a_position, a_size, a_at, a_row, a_pc, a_first, a_out, a_large) (nI (31 * r + q)) (nI (31 * r)) (nI node) := by
  have hn30 := hcn r hr
  have hle := gm_Sle _ _ _ hS
  refine nm_e ⟨vp_in_nI (by omega) (by omega), ?_⟩
  rw [nI_clamp (by omega), hov, nI_add]
  exact nm_e ⟨_, xp_18 hD hK hr hcn hBR hle.2 ps q _ a_stack a_asked a_holds hS (xl_1B hnode hD.1.1) hC hp⟩
end
end
section
/-! numbers outside of conditions in the component -/
theorem td_nvl {D : td_D} {T : td_T} {n node : Nat} {pos many : Int32} : ∀ its q e m, gm_N T.1 n its q e → gm_C T.1 its m → (td_nv D T node pos many its).length = m := by
  intro its
  induction its with
  | nil => intro q e m _ h; have h : m = 0 := h; rw [h]; rfl
  | cons i t ih =>
    intro q e m hN hC
    obtain ⟨a1, a2, a0, a3⟩ := hN
    obtain ⟨b1, b2⟩ := hC
    have key : ∃ c, gm_N T.1 n t c e := by
      rcases a3 with ⟨_, _, _, c, _, a5⟩ | ⟨_, _, a5⟩
      · exact ⟨c, a5⟩
      · exact ⟨_, a5⟩
    obtain ⟨c, a5⟩ := key
    rw [td_nv]
    rw [a1] at b2 ⊢
    by_cases z : T.1 q ≤ 6
    · rw [if_pos z] at b2
      have := ih _ _ _ a5 b2
      by_cases z3 : T.1 q ≤ 3
      · obtain ⟨v, hv⟩ := td_op03 (w := T.2 q) (vn := D.2.2.2 node) (pos := pos) (many := many) (tv := td_to D (T.1 q) (td_pv D T i.2 (td_1 node))) (l := td_nv D T node pos many t) z3
        rw [hv, List.length_cons]; omega
      · rw [td_op46 (by omega) z, List.length_cons]; omega
    · rw [if_neg z] at b2
      by_cases z2 : T.1 q = 14
      · rw [if_pos z2] at b2
        have := ih _ _ _ a5 b2
        rw [z2]
        cases hl : td_nv D T node pos many t with
        | nil => rw [hl] at this; simp at this; omega
        | cons x l => rw [hl] at this; exact this
      · rw [if_neg z2] at b2
        have := ih _ _ _ a5 b2
        match hl : td_nv D T node pos many t, this with
        | [], h => simp at h
        | [x], h => simp at h; omega
        | x :: y :: l, h =>
          rw [td_op713 (by omega) (by omega)]
          simp only [List.length_cons] at h ⊢
          omega
section
variable {f_nodes f_depth f_known f_dues f_place f_gifts f_matched f_lists f_steps f_outcome f_made : Int32} {a_name a_parent a_lastOf a_way a_value a_axes a_named a_kind a_over a_ends a_count a_num a_placed a_asked a_holds a_due a_open a_there a_priority a_given a_matches a_stack a_rest a_position a_size a_at a_row a_pc a_first a_out a_large : Nat → Int32}
theorem xn_37 {post : Int32 → SX → Prop} {J15 : Int32 → Int32 → Int32 → Int32 → Int32 → Int32 → Int32 → Int32 → Int32 → Int32 → Int32 → Int32 → Int32 → (Nat → Int32) → (Nat → Int32) → (Nat → Int32) → (Nat → Int32) → (Nat → Int32) → (Nat → Int32) → (Nat → Int32) → (Nat → Int32) → (Nat → Int32) → (Nat → Int32) → (Nat → Int32) → (Nat → Int32) → (Nat → Int32) → (Nat → Int32) → (Nat → Int32) → (Nat → Int32) → (Nat → Int32) → (Nat → Int32) → (Nat → Int32) → (Nat → Int32) → (Nat → Int32) → (Nat → Int32) → (Nat → Int32) → (Nat → Int32) → (Nat → Int32) → (Nat → Int32) → (Nat → Int32) → (Nat → Int32) → (Nat → Int32) → (Nat → Int32) → (Nat → Int32) → Prop} {b n p c : Nat} {T : td_T} {x1 x2 x3 x4 x5 x6 : Int32} (hT : xe_T b n T a_kind a_num) (hB : gm_PB T.1 n p c) (hb : 0 < b + p) (hJ : J15 x6 (nI (b + p - 1)) f_nodes f_depth f_known f_dues f_place f_gifts f_matched f_lists f_steps f_outcome f_made a_name a_parent a_lastOf a_way a_value a_axes a_named a_kind a_over a_ends a_count a_num a_placed a_asked a_holds a_due a_open a_there a_priority a_given a_matches a_stack a_rest a_position a_size a_at a_row a_pc a_first a_out a_large) : ∀ d y, y = p + d → y ≤ c → wX_numberAt_37 post J15 x1 x2 x3 x4 x5 x6 f_nodes f_depth f_known f_dues f_place f_gifts f_matched f_lists f_steps f_outcome f_made a_name a_parent a_lastOf a_way a_value a_axes a_named a_kind a_over a_ends a_count a_num a_placed a_asked a_holds a_due a_open a_there a_priority a_given a_matches a_stack a_rest a_position a_size a_at a_row a_pc a_first a_out a_large (d + 1) (nI (b + y)) := by
  obtain ⟨hTb, hTn, hT⟩ := hT
  obtain ⟨g1, g2, g3, g4, g5, -⟩ := hB
  intro d
  induction d with
  | zero =>
    intro y hy hyc
    obtain ⟨t1, t2, -⟩ := hT y (by omega)
    refine ⟨vp_in_nI (by omega) (by omega), ?_⟩
    rw [nI_clamp (by omega), t1, show y = p by omega]
    exact pk_eq (T.1 p) 16 (fun _ => nm_r (sb_m1 (by omega)) hJ) (fun z => (z g1).elim)
  | succ d ih =>
    intro y hy hyc
    obtain ⟨t1, t2, -⟩ := hT y (by omega)
    refine ⟨vp_in_nI (by omega) (by omega), ?_⟩
    rw [nI_clamp (by omega), t1]
    refine pk_eq (T.1 y) 16 (fun z => ?_) (fun z => nm_r ((sb_m1 (by omega)).trans (congrArg nI (show b + y - 1 = b + (y - 1) by omega))) (ih (y - 1) (by omega) (by omega)))
    by_cases e : y = c
    · rw [e] at z; omega
    · have := g5 y (by omega) (by omega); omega
theorem xn_br {post : Int32 → SX → Prop} {b n q0 h : Nat} {T : td_T} {x2 x3 x4 x5 : Int32} (hT : xe_T b n T a_kind a_num) (h0 : 0 < b + q0) : ∀ (brs : List (Nat × Nat)) (q c : Nat), gm_B T.1 n brs q c → q0 ≤ q → (∀ f, q < f → wX_numberAt_15 post (nI (b + q0)) x2 x3 x4 x5 f (nI h) (nI (b + q - 1)) f_nodes f_depth f_known f_dues f_place f_gifts f_matched f_lists f_steps f_outcome f_made a_name a_parent a_lastOf a_way a_value a_axes a_named a_kind a_over a_ends a_count a_num a_placed a_asked a_holds a_due a_open a_there a_priority a_given a_matches a_stack a_rest a_position a_size a_at a_row a_pc a_first a_out a_large) → ∀ f, c < f → wX_numberAt_15 post (nI (b + q0)) x2 x3 x4 x5 f (nI h) (nI (b + c - 1)) f_nodes f_depth f_known f_dues f_place f_gifts f_matched f_lists f_steps f_outcome f_made a_name a_parent a_lastOf a_way a_value a_axes a_named a_kind a_over a_ends a_count a_num a_placed a_asked a_holds a_due a_open a_there a_priority a_given a_matches a_stack a_rest a_position a_size a_at a_row a_pc a_first a_out a_large := by
  have hTb := hT.1
  have hTn := hT.2.1
  intro brs
  induction brs with
  | nil => intro q c hB _ hW; obtain ⟨rfl, -⟩ := hB; exact hW
  | cons d t ih =>
    intro q c hB hq hW
    obtain ⟨e1, hPB, hB⟩ := hB
    have hPB2 := hPB
    obtain ⟨g1, g2, g3, g4, g5, -⟩ := hPB
    refine ih (d.2 + 1) c hB (by omega) (fun f hf => ?_)
    obtain ⟨f, rfl⟩ : ∃ k, f = k + 1 := ⟨f - 1, by omega⟩
    obtain ⟨t1, t2, -⟩ := hT.2.2 d.2 (by omega)
    rw [show b + (d.2 + 1) - 1 = b + d.2 by omega]
    refine br_f (nI_nlt (by omega) (by omega)) ⟨vp_in_nI (by omega) (by omega), ?_⟩
    rw [nI_clamp (by omega)]
    refine nm_r t1 (pk_eq (T.1 d.2) 17 (fun _ => ⟨_, xn_37 hT hPB2 (by omega) (hW f (by omega)) (d.2 - q) d.2 (by omega) (Nat.le_refl _)⟩) (fun z => (z g4).elim))
theorem xn_pa {post : Int32 → SX → Prop} {b n q0 h : Nat} {T : td_T} {x2 x3 x4 x5 : Int32} (hT : xe_T b n T a_kind a_num) (h0 : 0 < b + q0) : ∀ (ps : List (Nat × List (Nat × Nat))) (q e : Nat), gm_S T.1 n ps q e → q0 ≤ q → (∀ f, q < f → wX_numberAt_15 post (nI (b + q0)) x2 x3 x4 x5 f (nI h) (nI (b + q - 1)) f_nodes f_depth f_known f_dues f_place f_gifts f_matched f_lists f_steps f_outcome f_made a_name a_parent a_lastOf a_way a_value a_axes a_named a_kind a_over a_ends a_count a_num a_placed a_asked a_holds a_due a_open a_there a_priority a_given a_matches a_stack a_rest a_position a_size a_at a_row a_pc a_first a_out a_large) → ∀ f, e < f → wX_numberAt_15 post (nI (b + q0)) x2 x3 x4 x5 f (nI h) (nI (b + e - 1)) f_nodes f_depth f_known f_dues f_place f_gifts f_matched f_lists f_steps f_outcome f_made a_name a_parent a_lastOf a_way a_value a_axes a_named a_kind a_over a_ends a_count a_num a_placed a_asked a_holds a_due a_open a_there a_priority a_given a_matches a_stack a_rest a_position a_size a_at a_row a_pc a_first a_out a_large := by
  have hTb := hT.1
  have hTn := hT.2.1
  intro ps
  induction ps with
  | nil => intro q e hS _ hW; obtain ⟨rfl, -⟩ := hS; exact hW
  | cons s t ih =>
    intro q e hS hq hW
    obtain ⟨e1, g1, g2, c, hBr, hSt⟩ := hS
    have hle := gm_Ble _ _ _ hBr (by omega)
    refine ih c e hSt (by omega) (xn_br hT h0 s.2 (q + 1) c hBr (by omega) (fun f hf => ?_))
    obtain ⟨f, rfl⟩ : ∃ k, f = k + 1 := ⟨f - 1, by omega⟩
    obtain ⟨t1, t2, -⟩ := hT.2.2 q g1
    rw [show b + (q + 1) - 1 = b + q by omega]
    refine br_f (nI_nlt (by omega) (by omega)) ⟨vp_in_nI (by omega) (by omega), ?_⟩
    rw [nI_clamp (by omega)]
    refine nm_r t1 (pk_eq (T.1 q) 17 (fun z => by omega) (fun _ => pk_lt 3 (T.1 q) (fun _ => pk_lt 6 (T.1 q) (fun _ => pk_eq (T.1 q) 14 (fun z => by omega) (fun _ => pk_le 14 (T.1 q) (fun _ => nm_r (sb_m1 (by omega)) (hW f (by omega))) (fun z => by omega))) (fun z => by omega)) (fun z => by omega)))
theorem xn_15 {post : Int32 → SX → Prop} {nn r q0 e node : Nat} {cnt : Nat → Nat} {pos many : Int32} (hD : xe_D nn a_parent a_name a_axes a_named) (hK : xr_K a_kind a_num) (hr : r < 7) (hcn : ∀ q, q < 7 → cnt q ≤ 30) (hBR : xr_BR (xr_T a_kind a_num r).1 (cnt r) (31 * r) a_over a_placed) (hov : ∀ ps q s, gm_S (xr_T a_kind a_num r).1 (cnt r) ps q s → ps ≠ [] → a_over (31 * r + q) = nI s) (hnode : node < nn) (h0 : 0 < 31 * r + q0) : ∀ (its : List (Nat × List (Nat × List (Nat × Nat)))) (q m : Nat), gm_N (xr_T a_kind a_num r).1 (cnt r) its q e → gm_C (xr_T a_kind a_num r).1 its m → q0 ≤ q →
    (∀ f lg st as ho, q < f → xr_CA (nn, a_parent, a_name, a_value) a_kind a_num cnt as ho → xs_k (td_nv (nn, a_parent, a_name, a_value) (xr_T a_kind a_num r) node pos many its) lg → wX_numberAt_15 post (nI (31 * r + q0)) (nI (31 * r)) (nI node) pos many f (nI m) (nI (31 * r + q - 1)) f_nodes f_depth f_known f_dues f_place f_gifts f_matched f_lists f_steps f_outcome f_made a_name a_parent a_lastOf a_way a_value a_axes a_named a_kind a_over a_ends a_count a_num a_placed as ho a_due a_open a_there a_priority a_given a_matches st a_rest a_position a_size a_at a_row a_pc a_first a_out lg) →
    ∀ f lg st as ho, e < f → xr_CA (nn, a_parent, a_name, a_value) a_kind a_num cnt as ho → wX_numberAt_15 post (nI (31 * r + q0)) (nI (31 * r)) (nI node) pos many f 0 (nI (31 * r + e - 1)) f_nodes f_depth f_known f_dues f_place f_gifts f_matched f_lists f_steps f_outcome f_made a_name a_parent a_lastOf a_way a_value a_axes a_named a_kind a_over a_ends a_count a_num a_placed as ho a_due a_open a_there a_priority a_given a_matches st a_rest a_position a_size a_at a_row a_pc a_first a_out lg := by
  have h24 := hD.1.1
  have hn30 := hcn r hr
  have hT := xr_KT hK hr hn30
  intro its
  induction its with
  | nil =>
    intro q m hN hC _ hW f lg st as ho hf hA
    obtain ⟨rfl, -⟩ := hN
    have hm : m = 0 := hC
    subst hm
    exact hW f lg st as ho hf hA trivial
  | cons i t ih =>
    intro q m hN hC hq hW
    obtain ⟨i1, ps⟩ := i
    have hle := gm_Nle _ _ _ _ hN hC
    obtain ⟨e1, g1, g2, g3⟩ := hN
    have e1 : i1 = q := e1
    subst e1
    obtain ⟨b1, b2⟩ := hC
    dsimp only at b2 g3
    obtain ⟨t1, t2, t3, t4⟩ := hT.2.2 i1 g1
    have hx1 : nI (31 * r + i1) + (-1) = nI (31 * r + i1 - 1) := sb_m1 (by omega)
    rw [show td_nv (nn, a_parent, a_name, a_value) (xr_T a_kind a_num r) node pos many ((i1, ps) :: t) = td_op ((xr_T a_kind a_num r).1 i1) ((xr_T a_kind a_num r).2 i1) (a_value node) pos many (td_to (nn, a_parent, a_name, a_value) ((xr_T a_kind a_num r).1 i1) (td_pv (nn, a_parent, a_name, a_value) (xr_T a_kind a_num r) ps (td_1 node))) (td_nv (nn, a_parent, a_name, a_value) (xr_T a_kind a_num r) node pos many t) from rfl] at hW
    rcases g3 with ⟨k1, k2, k3, c, hS, hNt⟩ | ⟨k1, k3, hNt⟩
    · rw [if_pos k2] at b2
      have hlc := gm_Nle _ _ _ _ hNt b2
      have hls := gm_Slt hS k3
      have hnl := td_nvl (D := (nn, a_parent, a_name, a_value)) (node := node) (pos := pos) (many := many) _ _ _ _ hNt b2
      rw [td_op46 k1 k2] at hW
      refine ih c (m - 1) hNt b2 (by omega) (fun f lg st as ho hf hA hs => ?_)
      refine xn_pa hT h0 ps (i1 + 1) c hS (by omega) (fun f hf => ?_) f hf
      obtain ⟨f, rfl⟩ : ∃ k, f = k + 1 := ⟨f - 1, by omega⟩
      rw [show 31 * r + (i1 + 1) - 1 = 31 * r + i1 by omega]
      refine br_f (nI_nlt (by omega) (by omega)) ⟨vp_in_nI (by omega) (by omega), ?_⟩
      rw [nI_clamp (by omega)]
      refine nm_r t1 (pk_eq ((xr_T a_kind a_num r).1 i1) 17 (fun z => by omega) (fun _ => pk_lt 3 ((xr_T a_kind a_num r).1 i1) (fun _ => pk_lt 6 ((xr_T a_kind a_num r).1 i1) (fun z => by omega) (fun _ => ?_)) (fun z => by omega)))
      rw [show nI (31 * r + i1) + 1 = nI (31 * r + (i1 + 1)) from (nI_1 _).trans (congrArg nI (show 31 * r + i1 + 1 = 31 * r + (i1 + 1) by omega))]
      refine xp_path hD hK hr hcn hBR hS (hov _ _ _ hS k3) hnode hA (fun st' as' ho' hA' => nm_r (nI_1 (m - 1)) ?_)
      refine xl_ofSet h24 k1 k2 (td_pvB h24 ps _ (xl_1B hnode h24)) ⟨vp_in_nI (by omega) (by omega), ?_⟩
      rw [nI_clamp (by omega)]
      refine nm_e (nm_r hx1 ?_)
      rw [show m - 1 + 1 = m by omega]
      refine hW f _ st' as' ho' (by omega) hA' ?_
      have := xs_push (v := td_to (nn, a_parent, a_name, a_value) ((xr_T a_kind a_num r).1 i1) (td_pv (nn, a_parent, a_name, a_value) (xr_T a_kind a_num r) ps (td_1 node))) hs
      rw [hnl] at this
      exact this
    · by_cases z6 : (xr_T a_kind a_num r).1 i1 ≤ 6
      · rw [if_pos z6] at b2
        have hlc := gm_Nle _ _ _ _ hNt b2
        have hnl := td_nvl (D := (nn, a_parent, a_name, a_value)) (node := node) (pos := pos) (many := many) _ _ _ _ hNt b2
        refine ih (i1 + 1) (m - 1) hNt b2 (by omega) (fun f lg st as ho hf hA hs => ?_)
        obtain ⟨f, rfl⟩ : ∃ k, f = k + 1 := ⟨f - 1, by omega⟩
        rw [show 31 * r + (i1 + 1) - 1 = 31 * r + i1 by omega]
        refine br_f (nI_nlt (by omega) (by omega)) ⟨vp_in_nI (by omega) (by omega), ?_⟩
        rw [nI_clamp (by omega)]
        refine nm_r t1 (pk_eq ((xr_T a_kind a_num r).1 i1) 17 (fun z => by omega) (fun _ => pk_lt 3 ((xr_T a_kind a_num r).1 i1) (fun _ => by omega) (fun z3 => nm_r (nI_1 (m - 1)) ?_)))
        refine xl_simple (s := td_nv (nn, a_parent, a_name, a_value) (xr_T a_kind a_num r) node pos many t) (tv := td_to (nn, a_parent, a_name, a_value) ((xr_T a_kind a_num r).1 i1) (td_pv (nn, a_parent, a_name, a_value) (xr_T a_kind a_num r) ps (td_1 node))) hT g1 z3 hnode h24 (fun v hv => ⟨vp_in_nI (by omega) (by omega), ?_⟩)
        rw [hv] at hW
        rw [nI_clamp (by omega)]
        refine nm_e (nm_r hx1 ?_)
        rw [show m - 1 + 1 = m by omega]
        refine hW f _ st as ho (by omega) hA ?_
        have := xs_push (v := v) hs
        rw [hnl] at this
        exact this
      · rw [if_neg z6] at b2
        by_cases z14 : (xr_T a_kind a_num r).1 i1 = 14
        · rw [if_pos z14] at b2
          have hlc := gm_Nle _ _ _ _ hNt b2
          have hnl := td_nvl (D := (nn, a_parent, a_name, a_value)) (node := node) (pos := pos) (many := many) _ _ _ _ hNt b2
          refine ih (i1 + 1) m hNt b2 (by omega) (fun f lg st as ho hf hA hs => ?_)
          obtain ⟨f, rfl⟩ : ∃ k, f = k + 1 := ⟨f - 1, by omega⟩
          rw [show 31 * r + (i1 + 1) - 1 = 31 * r + i1 by omega]
          refine br_f (nI_nlt (by omega) (by omega)) ⟨vp_in_nI (by omega) (by omega), ?_⟩
          rw [nI_clamp (by omega)]
          obtain ⟨m, rfl⟩ : ∃ k, m = k + 1 := ⟨m - 1, by omega⟩
          refine nm_r t1 (pk_eq ((xr_T a_kind a_num r).1 i1) 17 (fun z => by omega) (fun _ => pk_lt 3 ((xr_T a_kind a_num r).1 i1) (fun _ => pk_lt 6 ((xr_T a_kind a_num r).1 i1) (fun _ => pk_eq ((xr_T a_kind a_num r).1 i1) 14 (fun _ => ?_) (fun z => by omega)) (fun z => by omega)) (fun z => by omega)))
          rw [nI_pred]
          refine ⟨vp_in_nI (by omega) (by omega), ?_⟩
          rw [nI_clamp (by omega)]
          rw [z14] at hW
          match hl : td_nv (nn, a_parent, a_name, a_value) (xr_T a_kind a_num r) node pos many t, hnl, hs with
          | x :: l, hnl, hs =>
            rw [hl] at hW
            have hll : l.length = m := by simpa using hnl
            have s1 : lg m = x := by rw [← hll]; exact hs.1
            rw [s1]
            refine br_c (fun c => ⟨vp_in_nI (by omega) (by omega), nm_e (nm_r hx1 (hW f _ st as ho (by omega) hA ?_))⟩) (fun c => ⟨vp_in_nI (by omega) (by omega), nm_e (nm_r hx1 (hW f _ st as ho (by omega) hA ?_))⟩)
            · rw [td_op14, if_pos c, ← hll]; exact xs_push hs.2
            · rw [td_op14, if_neg c, ← hll]; exact xs_push hs.2
        · rw [if_neg z14] at b2
          have hlc := gm_Nle _ _ _ _ hNt b2
          have hnl := td_nvl (D := (nn, a_parent, a_name, a_value)) (node := node) (pos := pos) (many := many) _ _ _ _ hNt b2
          refine ih (i1 + 1) (m + 1) hNt b2 (by omega) (fun f lg st as ho hf hA hs => ?_)
          obtain ⟨f, rfl⟩ : ∃ k, f = k + 1 := ⟨f - 1, by omega⟩
          rw [show 31 * r + (i1 + 1) - 1 = 31 * r + i1 by omega]
          refine br_f (nI_nlt (by omega) (by omega)) ⟨vp_in_nI (by omega) (by omega), ?_⟩
          rw [nI_clamp (by omega)]
          obtain ⟨m, rfl⟩ : ∃ k, m = k + 1 := ⟨m - 1, by omega⟩
          refine nm_r t1 (pk_eq ((xr_T a_kind a_num r).1 i1) 17 (fun z => by omega) (fun _ => pk_lt 3 ((xr_T a_kind a_num r).1 i1) (fun _ => pk_lt 6 ((xr_T a_kind a_num r).1 i1) (fun _ => pk_eq ((xr_T a_kind a_num r).1 i1) 14 (fun z => by omega) (fun _ => pk_le 14 ((xr_T a_kind a_num r).1 i1) (fun z => by omega) (fun _ => nm_r (pk_m1 (m + 1)) ⟨vp_in_nI (by omega) (by omega), ?_⟩))) (fun z => by omega)) (fun z => by omega)))
          rw [nI_pred]
          refine ⟨vp_in_nI (by omega) (by omega), ?_⟩
          rw [nI_clamp (by omega), nI_clamp (by omega)]
          match hl : td_nv (nn, a_parent, a_name, a_value) (xr_T a_kind a_num r) node pos many t, hnl, hs with
          | x :: y :: l, hnl, hs =>
            rw [hl] at hW
            have hll : l.length = m := by simpa using hnl
            have s1 : lg (m + 1) = x := by rw [← hll]; exact hs.1
            have s2 : lg m = y := by rw [← hll]; exact hs.2.1
            rw [s1, s2]
            refine xl_comb (by omega) (by omega) ⟨vp_in_nI (by omega) (by omega), nm_e (nm_r hx1 (hW f _ st as ho (by omega) hA ?_))⟩
            rw [td_op713 (by omega) (by omega), ← hll]
            exact xs_push hs.2.2
/-- a number -/
theorem xn_number {post : Int32 → SX → Prop} {nn r q e node : Nat} {cnt : Nat → Nat} {pos many : Int32} {its : List (Nat × List (Nat × List (Nat × Nat)))} (hD : xe_D nn a_parent a_name a_axes a_named) (hK : xr_K a_kind a_num) (hr : r < 7) (hcn : ∀ q, q < 7 → cnt q ≤ 30) (hBR : xr_BR (xr_T a_kind a_num r).1 (cnt r) (31 * r) a_over a_placed) (hov : ∀ ps q s, gm_S (xr_T a_kind a_num r).1 (cnt r) ps q s → ps ≠ [] → a_over (31 * r + q) = nI s) (hnode : node < nn) (h0 : 0 < 31 * r + q) (hN : gm_N (xr_T a_kind a_num r).1 (cnt r) its q e) (hC : gm_C (xr_T a_kind a_num r).1 its 1) (hov1 : a_over (31 * r + q) = nI e) (hA : xr_CA (nn, a_parent, a_name, a_value) a_kind a_num cnt a_asked a_holds)
    (hp : ∀ lg st as ho, xr_CA (nn, a_parent, a_name, a_value) a_kind a_num cnt as ho → post ((td_nv (nn, a_parent, a_name, a_value) (xr_T a_kind a_num r) node pos many its).headD 0) (f_nodes, f_depth, f_known, f_dues, f_place, f_gifts, f_matched, f_lists, f_steps, f_outcome, f_made, a_name, a_parent, a_lastOf, a_way, a_value, a_axes, a_named, a_kind, a_over, a_ends, a_count, a_num, a_placed, as, ho, a_due, a_open, a_there, a_priority, a_given, a_matches, st, a_rest, a_position, a_size, a_at, a_row, a_pc, a_first, a_out, lg)) : wpX_numberAt post (f_nodes, f_depth, f_known, f_dues, f_place, f_gifts, f_matched, f_lists, f_steps, f_outcome, f_made, a_name, a_parent, a_lastOf, a_way, a_value, a_axes, a_named, a_kind, a_over, a_ends, a_count, a_num, a_placed, a_asked, a_holds, a_due, a_open, a_there, a_priority, a_given, a_matches, a_stack, a_rest, a_position, a_size, a_at, a_row, a_pc, a_first, a_out, a_large) (nI (31 * r + q)) (nI (31 * r)) (nI node) pos many := by
  have hn30 := hcn r hr
  have hle := gm_Nle _ _ _ _ hN hC
  refine ⟨vp_in_nI (by omega) (by omega), ?_⟩
  rw [nI_clamp (by omega), hov1, nI_add]
  have e2 : nI (31 * r + e) - 1 = nI (31 * r + e - 1) := (pk_sub (a := 31 * r + e) (b := 1) (by omega))
  refine nm_r e2 ⟨e + 1, xn_15 hD hK hr hcn hBR hov hnode h0 its q 1 hN hC (Nat.le_refl _) (fun f lg st as ho hf hA' hs => ?_) (e + 1) a_large a_stack a_asked a_holds (by omega) hA⟩
  obtain ⟨f, rfl⟩ : ∃ k, f = k + 1 := ⟨f - 1, by omega⟩
  refine br_t (nI_lt (by omega) (by omega)) ?_
  have hnl := td_nvl (D := (nn, a_parent, a_name, a_value)) (node := node) (pos := pos) (many := many) _ _ _ _ hN hC
  have hv : lg 0 = (td_nv (nn, a_parent, a_name, a_value) (xr_T a_kind a_num r) node pos many its).headD 0 := by
    match td_nv (nn, a_parent, a_name, a_value) (xr_T a_kind a_num r) node pos many its, hnl, hs with
    | [v], _, hs => exact hs.1
  rw [hv]
  exact hp lg st as ho hA'
end
end
section
/-! the reference's walks over nodes -/
def yl_b (b : Bool) : Int32 := if b then 1 else 0
theorem yl_bt {A B : Prop} {b : Bool} (f : b = false → A) (g : b = true → B) : (yl_b b = 0 → A) ∧ (¬ yl_b b = 0 → B) := by
  cases b with
  | false => exact br_t rfl (f rfl)
  | true => exact br_f (by decide) (g rfl)
theorem yl_bn (b : Bool) : narrow .boolean (.int (yl_b b)) = .int (yl_b b) := by cases b <;> rfl
/-- the tokens of a row of the reference that begins at b -/
def ye_T (b n : Nat) (T : td_T) (kind num : Nat → Int32) : Prop := b + 30 ≤ 210 ∧ n ≤ 30 ∧ ∀ i, i < n → kind (b + i) = nI (T.1 i) ∧ T.1 i ≤ 26 ∧ num (b + i) = T.2 i ∧ (T.1 i = 15 → ∃ w, T.2 i = nI w ∧ w ≤ 70 ∧ w % 8 ≤ 6)
theorem yl_m1 : (-1 : Int32) < 0 := by decide
theorem yl_ne {a : Nat} (h : a < 2 ^ 31) : ¬ (-1 : Int32) = nI a := fun z => by
  have := nI_pos h
  rw [← z] at this
  exact this yl_m1
section
variable {g_nodes g_inner g_rules g_place g_listed g_depth g_row g_pc g_node g_position g_size g_fault g_put g_steps : Int32} {b_name b_parent b_value b_kind b_with b_count b_bodyAt b_priority b_given b_there b_wanted b_waiting b_within b_list b_left b_reached b_sizes b_each b_backRow b_backPc b_backNode b_backPosition b_backSize b_output : Nat → Int32}
theorem yl_ab7 {post : Int32 → Prop} {nn a : Nat} (hP : td_P nn b_parent) (ha : a < 2 ^ 31) : ∀ n, n < nn → ∀ f, n < f → post (yl_b (td_A b_parent a n)) → wY_above_7 post (nI a) g_nodes g_inner g_rules g_place g_listed g_depth g_row g_pc g_node g_position g_size g_fault g_put g_steps b_name b_parent b_value b_kind b_with b_count b_bodyAt b_priority b_given b_there b_wanted b_waiting b_within b_list b_left b_reached b_sizes b_each b_backRow b_backPc b_backNode b_backPosition b_backSize b_output f (b_parent n) := by
  have h24 := hP.1
  intro n
  induction n using Nat.strongRecOn with
  | _ n ih =>
    intro hn f hf hp
    obtain ⟨f, rfl⟩ : ∃ k, f = k + 1 := ⟨f - 1, by omega⟩
    rcases hP.2 n hn with ⟨_, e⟩ | ⟨_, q, hq, e⟩
    · rw [td_A0 (nn := nn) e] at hp
      rw [e]
      exact br_t yl_m1 (br_f (yl_ne ha) hp)
    · rw [td_As hP hn hq e] at hp
      rw [e]
      refine br_f (nI_pos (by omega)) (pk_eq q a (fun z => ?_) (fun z => ⟨vp_in_nI (by omega) (by omega), ?_⟩))
      · rw [z, decide_eq_true rfl, Bool.true_or] at hp
        rw [z]
        exact br_t rfl (br_f (nI_pos ha) hp)
      · rw [nI_clamp (by omega)]
        rw [decide_eq_false z, Bool.false_or] at hp
        exact nm_e (ih q hq (by omega) f (by omega) hp)
theorem yl_above {post : Int32 → Prop} {nn a n : Nat} (hP : td_P nn b_parent) (ha : a < 2 ^ 31) (hn : n < nn) (hp : post (yl_b (td_A b_parent a n))) : wpY_above post (g_nodes, g_inner, g_rules, g_place, g_listed, g_depth, g_row, g_pc, g_node, g_position, g_size, g_fault, g_put, g_steps, b_name, b_parent, b_value, b_kind, b_with, b_count, b_bodyAt, b_priority, b_given, b_there, b_wanted, b_waiting, b_within, b_list, b_left, b_reached, b_sizes, b_each, b_backRow, b_backPc, b_backNode, b_backPosition, b_backSize, b_output) (nI a) (nI n) := by
  have h24 := hP.1
  refine ⟨vp_in_nI (by omega) (by omega), ?_⟩
  rw [nI_clamp (by omega)]
  exact nm_e ⟨n + 1, yl_ab7 hP ha n hn (n + 1) (by omega) hp⟩
theorem yl_on {post : Int32 → Prop} {nn x n m : Nat} (hP : td_P nn b_parent) (hx : x ≤ 8) (hn : n < nn) (hm : m < nn) (hp : post (yl_b (td_on b_parent x n m))) : wpY_on post (g_nodes, g_inner, g_rules, g_place, g_listed, g_depth, g_row, g_pc, g_node, g_position, g_size, g_fault, g_put, g_steps, b_name, b_parent, b_value, b_kind, b_with, b_count, b_bodyAt, b_priority, b_given, b_there, b_wanted, b_waiting, b_within, b_list, b_left, b_reached, b_sizes, b_each, b_backRow, b_backPc, b_backNode, b_backPosition, b_backSize, b_output) (nI x) (nI n) (nI m) := by
  have h24 := hP.1
  have dp : ∀ (c : Prop) [Decidable c], post (yl_b (decide c)) → (c → post 1) ∧ (¬ c → post 0) := by
    intro c _ h
    refine ⟨fun z => ?_, fun z => ?_⟩
    · rw [decide_eq_true z] at h; exact h
    · rw [decide_eq_false z] at h; exact h
  refine br_f (nI_pos (by omega)) (pk_lt 7 x (fun z => ?_) (fun z => ?_))
  · rw [show x = 8 by omega] at hp
    refine pk_le n m (fun y => ?_) (fun y => ?_)
    · rw [show td_on b_parent 8 n m = (decide (m < n) && !td_A b_parent m n) from rfl, decide_eq_false (by omega), Bool.false_and] at hp
      exact hp
    · rw [show td_on b_parent 8 n m = (decide (m < n) && !td_A b_parent m n) from rfl, decide_eq_true (by omega), Bool.true_and] at hp
      refine yl_above hP (by omega) hn (yl_bt (fun w => ?_) (fun w => ?_))
      · rw [w] at hp; exact hp
      · rw [w] at hp; exact hp
  · refine pk_eq x 0 (fun y => ?_) (fun y0 => ?_)
    · subst y
      have h := dp (m = n) hp
      exact pk_eq m n h.1 h.2
    · refine pk_eq x 1 (fun y => ⟨vp_in_nI (by omega) (by omega), ?_⟩) (fun y1 => ?_)
      · subst y
        rw [nI_clamp (by omega)]
        exact dp _ hp
      · refine pk_eq x 2 (fun y => ⟨vp_in_nI (by omega) (by omega), ?_⟩) (fun y2 => ?_)
        · subst y
          rw [nI_clamp (by omega)]
          exact dp _ hp
        · refine pk_eq x 3 (fun y => ?_) (fun y3 => ?_)
          · subst y
            exact yl_above hP (by omega) hm ⟨yl_bn _, hp⟩
          · refine pk_eq x 4 (fun y => ?_) (fun y4 => ?_)
            · subst y
              exact yl_above hP (by omega) hn ⟨yl_bn _, hp⟩
            · refine pk_eq x 5 (fun y => ⟨vp_in_nI (by omega) (by omega), vp_in_nI (by omega) (by omega), ?_⟩) (fun y5 => ?_)
              · subst y
                rw [nI_clamp (by omega), nI_clamp (by omega)]
                rw [show td_on b_parent 5 n m = (decide (b_parent m = b_parent n) && decide (n < m)) from rfl] at hp
                refine br_c (fun c => ?_) (fun c => ?_)
                · rw [decide_eq_true c, Bool.true_and] at hp
                  exact pk_le m n (fun d => by rw [decide_eq_false (by omega)] at hp; exact hp) (fun d => by rw [decide_eq_true d] at hp; exact hp)
                · rw [decide_eq_false c, Bool.false_and] at hp
                  exact hp
              · refine pk_eq x 6 (fun y => ⟨vp_in_nI (by omega) (by omega), vp_in_nI (by omega) (by omega), ?_⟩) (fun y6 => ?_)
                · subst y
                  rw [nI_clamp (by omega), nI_clamp (by omega)]
                  rw [show td_on b_parent 6 n m = (decide (b_parent m = b_parent n) && decide (m < n)) from rfl] at hp
                  refine br_c (fun c => ?_) (fun c => ?_)
                  · rw [decide_eq_true c, Bool.true_and] at hp
                    exact pk_le n m (fun d => by rw [decide_eq_false (by omega)] at hp; exact hp) (fun d => by rw [decide_eq_true d] at hp; exact hp)
                  · rw [decide_eq_false c, Bool.false_and] at hp
                    exact hp
                · refine pk_eq x 7 (fun y => ?_) (fun y7 => by omega)
                  subst y
                  rw [show td_on b_parent 7 n m = (decide (n < m) && !td_A b_parent n m) from rfl] at hp
                  refine pk_le m n (fun d => by rw [decide_eq_false (by omega), Bool.false_and] at hp; exact hp) (fun d => ?_)
                  rw [decide_eq_true d, Bool.true_and] at hp
                  refine yl_above hP (by omega) hm (yl_bt (fun w => ?_) (fun w => ?_))
                  · rw [w] at hp; exact hp
                  · rw [w] at hp; exact hp
theorem yl_os {post : Int32 → Prop} {nn at' w n m : Nat} (hP : td_P nn b_parent) (ha : at' < 210) (hw : b_with at' = nI w) (hw70 : w ≤ 70) (hn : n < nn) (hm : m < nn) (hp : post (yl_b (td_os (nn, b_parent, b_name, b_value) w n m))) : wpY_onStep post (g_nodes, g_inner, g_rules, g_place, g_listed, g_depth, g_row, g_pc, g_node, g_position, g_size, g_fault, g_put, g_steps, b_name, b_parent, b_value, b_kind, b_with, b_count, b_bodyAt, b_priority, b_given, b_there, b_wanted, b_waiting, b_within, b_list, b_left, b_reached, b_sizes, b_each, b_backRow, b_backPc, b_backNode, b_backPosition, b_backSize, b_output) (nI at') (nI n) (nI m) := by
  have h24 := hP.1
  have key : (decide (w % 8 = 6) || decide (b_name m = nI (w % 8))) = true → wY_onStep_29 post (nI at') (nI n) (nI m) g_nodes g_inner g_rules g_place g_listed g_depth g_row g_pc g_node g_position g_size g_fault g_put g_steps b_name b_parent b_value b_kind b_with b_count b_bodyAt b_priority b_given b_there b_wanted b_waiting b_within b_list b_left b_reached b_sizes b_each b_backRow b_backPc b_backNode b_backPosition b_backSize b_output := by
    intro h
    refine ⟨vp_in_nI (by omega) (by omega), ?_⟩
    rw [nI_clamp (by omega), hw, xl_d8 (by omega)]
    unfold td_os at hp
    dsimp only at hp
    rw [h, Bool.true_and] at hp
    refine yl_on hP (by omega) hn hm (yl_bt (fun z => ?_) (fun z => ?_))
    · rw [z] at hp; exact hp
    · rw [z] at hp; exact hp
  refine ⟨vp_in_nI (by omega) (by omega), ?_⟩
  rw [nI_clamp (by omega), hw, xl_m8 (by omega)]
  refine nm_e (pk_eq (w % 8) 6 (fun z => key (by simp [z])) (fun z => ⟨vp_in_nI (by omega) (by omega), ?_⟩))
  rw [nI_clamp (by omega)]
  refine br_c (fun c => key (by simp [c])) (fun c => ?_)
  unfold td_os at hp
  dsimp only at hp
  rw [decide_eq_false z, decide_eq_false c, Bool.false_or, Bool.false_and] at hp
  exact hp
/-! count, sum, first -/
def yl_F (k : Nat) (va : Nat → Int32) (i : Nat) (s : Int32) : Int32 := if k = 4 then s + 1 else if k = 5 then s + va i else va i
theorem yl_F4 (va : Nat → Int32) : ∀ l : List Nat, l.foldr (yl_F 4 va) 0 = nI l.length := by
  intro l
  induction l with
  | nil => rfl
  | cons a l ih => rw [List.foldr_cons, ih, List.length_cons, ← nI_1]; rfl
theorem yl_F5 (va : Nat → Int32) : ∀ (l : List Nat) (s : Int32), l.foldl (fun s m => s + va m) s = s + l.foldr (yl_F 5 va) 0 := by
  intro l
  induction l with
  | nil => intro s; show s = s + 0; rw [Int32.add_zero]
  | cons a l ih =>
    intro s
    rw [List.foldl_cons, ih, List.foldr_cons]
    show s + va a + _ = s + (_ + va a)
    rw [Int32.add_assoc, Int32.add_comm (va a)]
theorem yl_Fto (D : td_D) (k : Nat) (set : Int32) (h4 : 4 ≤ k) (h6 : k ≤ 6) : (tm_mem D.1 set).foldr (yl_F k D.2.2.2) 0 = td_to D k set := by
  unfold td_to
  by_cases z : k = 4
  · rw [if_pos z, z, yl_F4]
  · rw [if_neg z]
    by_cases y : k = 6
    · rw [if_pos y, y]
      cases tm_mem D.1 set with
      | nil => rfl
      | cons a l => rfl
    · rw [if_neg y, show k = 5 by omega]
      unfold td_sm
      rw [yl_F5, Int32.zero_add]
theorem yl_mem1 (m : Nat) (set : Int32) : tm_mem (m + 1) set = tm_mem m set ++ (if bt set m then [m] else []) := by
  unfold tm_mem
  rw [List.range_succ, List.filter_append]
  congr 1
  cases h : bt set m
  · simp [h]
  · simp [h]
theorem yl_to10 {post : Int32 → Prop} {k : Nat} {set : Int32} (h4 : 4 ≤ k) (h6 : k ≤ 6) : ∀ m acc, m ≤ 24 → post ((tm_mem m set).foldr (yl_F k b_value) acc) → wY_told_10 post (nI k) set g_nodes g_inner g_rules g_place g_listed g_depth g_row g_pc g_node g_position g_size g_fault g_put g_steps b_name b_parent b_value b_kind b_with b_count b_bodyAt b_priority b_given b_there b_wanted b_waiting b_within b_list b_left b_reached b_sizes b_each b_backRow b_backPc b_backNode b_backPosition b_backSize b_output (m + 1) acc (nI m + (-1)) := by
  intro m
  induction m with
  | zero => intro acc _ hp; exact br_t (by decide) hp
  | succ m ih =>
    intro acc hm hp
    rw [yl_mem1, List.foldr_append] at hp
    rw [pk_m1]
    refine br_f (nI_pos (by omega)) (br_c (fun z => nm_e (ih acc (by omega) ?_)) (fun z => ?_))
    · rw [(ta_tst set (by omega)).mp z] at hp
      exact hp
    · have hb : bt set m = true := by
        cases h : bt set m with
        | true => rfl
        | false => exact (z ((ta_tst set (by omega)).mpr h)).elim
      rw [hb] at hp
      have hp : post ((tm_mem m set).foldr (yl_F k b_value) (yl_F k b_value m acc)) := hp
      unfold yl_F at hp
      refine pk_eq k 4 (fun y => nm_e (nm_e (ih _ (by omega) ?_))) (fun y => pk_eq k 5 (fun x => ⟨vp_in_nI (by omega) (by omega), ?_⟩) (fun x => ⟨vp_in_nI (by omega) (by omega), ?_⟩))
      · rw [if_pos y] at hp; exact hp
      · rw [nI_clamp (by omega)]
        refine nm_e (nm_e (ih _ (by omega) ?_))
        rw [if_neg y, if_pos x] at hp; exact hp
      · rw [nI_clamp (by omega)]
        refine nm_e (nm_e (ih _ (by omega) ?_))
        rw [if_neg y, if_neg x] at hp; exact hp
theorem yl_told {post : Int32 → Prop} {nn k : Nat} {set : Int32} (hg : g_nodes = nI nn) (h24 : nn ≤ 24) (h4 : 4 ≤ k) (h6 : k ≤ 6) (hp : post (td_to (nn, b_parent, b_name, b_value) k set)) : wpY_told post (g_nodes, g_inner, g_rules, g_place, g_listed, g_depth, g_row, g_pc, g_node, g_position, g_size, g_fault, g_put, g_steps, b_name, b_parent, b_value, b_kind, b_with, b_count, b_bodyAt, b_priority, b_given, b_there, b_wanted, b_waiting, b_within, b_list, b_left, b_reached, b_sizes, b_each, b_backRow, b_backPc, b_backNode, b_backPosition, b_backSize, b_output) (nI k) set := by
  rw [← yl_Fto _ _ _ h4 h6] at hp
  subst hg
  exact nm_r (Int32.sub_eq_add_neg _ _) ⟨nn + 1, yl_to10 h4 h6 nn 0 h24 hp⟩
/-! plain paths -/
theorem yl_57 {post : Int32 → Prop} {J8 J32 : Int32 → Int32 → Prop} {nn at' w n : Nat} {x2 x4 : Int32} (hg : g_nodes = nI nn) (hP : td_P nn b_parent) (ha : at' < 210) (hw : b_with at' = nI w) (hw70 : w ≤ 70) (hn : n < nn) : ∀ d i acc, i + d = nn → (∀ acc', (∀ m, m < 32 → bt acc' m = (bt acc m || (decide (i ≤ m) && decide (m < nn) && td_os (nn, b_parent, b_name, b_value) w n m))) → J32 acc' (nI (n + 1))) → wY_plainPath_57 post J8 J32 x2 x4 (nI at') (nI n) g_nodes g_inner g_rules g_place g_listed g_depth g_row g_pc g_node g_position g_size g_fault g_put g_steps b_name b_parent b_value b_kind b_with b_count b_bodyAt b_priority b_given b_there b_wanted b_waiting b_within b_list b_left b_reached b_sizes b_each b_backRow b_backPc b_backNode b_backPosition b_backSize b_output (d + 1) acc (nI i) := by
  have h24 := hP.1
  subst hg
  intro d
  induction d with
  | zero =>
    intro i acc hi hp
    refine br_t (nI_le (by omega) (by omega)) (nm_r (nI_1 n) (hp acc (fun m _ => ?_)))
    have : (decide (i ≤ m) && decide (m < nn)) = false := by
      by_cases c : m < nn
      · rw [decide_eq_false (show ¬ i ≤ m by omega), Bool.false_and]
      · rw [decide_eq_false c, Bool.and_false]
    rw [this, Bool.false_and, Bool.or_false]
  | succ d ih =>
    intro i acc hi hp
    refine br_f (nI_ge (by omega) (by omega)) (yl_os hP ha hw hw70 hn (by omega) (yl_bt (fun z => nm_r (nI_1 i) (ih (i + 1) acc (by omega) (fun acc' g => hp acc' (fun m hm => ?_)))) (fun z => nm_e (nm_r (nI_1 i) (ih (i + 1) _ (by omega) (fun acc' g => hp acc' (fun m hm => ?_)))))))
    · rw [g m hm]
      by_cases c : m = i
      · subst c
        rw [z]; simp
      · have e : decide (i + 1 ≤ m) = decide (i ≤ m) := by
          by_cases c2 : i ≤ m
          · rw [decide_eq_true c2, decide_eq_true (by omega)]
          · rw [decide_eq_false c2, decide_eq_false (by omega)]
        rw [e]
    · rw [g m hm, b_or, ta_one i (by omega) m hm]
      by_cases c : m = i
      · subst c
        rw [z, decide_eq_true (show m < nn by omega)]; simp
      · have e : decide (i + 1 ≤ m) = decide (i ≤ m) := by
          by_cases c2 : i ≤ m
          · rw [decide_eq_true c2, decide_eq_true (by omega)]
          · rw [decide_eq_false c2, decide_eq_false (by omega)]
        rw [e, decide_eq_false c, Bool.or_false]
theorem yl_32 {post : Int32 → Prop} {J8 : Int32 → Int32 → Prop} {nn at' w : Nat} {x2 set : Int32} (hg : g_nodes = nI nn) (hP : td_P nn b_parent) (ha : at' < 210) (hw : b_with at' = nI w) (hw70 : w ≤ 70) : ∀ d j acc, j + d = nn → (∀ acc', (∀ m, m < 32 → bt acc' m = (bt acc m || (decide (m < nn) && (List.range nn).any (fun n => decide (j ≤ n) && (bt set n && td_os (nn, b_parent, b_name, b_value) w n m))))) → J8 acc' (nI (at' + 1))) → wY_plainPath_32 post J8 x2 set (nI at') g_nodes g_inner g_rules g_place g_listed g_depth g_row g_pc g_node g_position g_size g_fault g_put g_steps b_name b_parent b_value b_kind b_with b_count b_bodyAt b_priority b_given b_there b_wanted b_waiting b_within b_list b_left b_reached b_sizes b_each b_backRow b_backPc b_backNode b_backPosition b_backSize b_output (d + 1) acc (nI j) := by
  have h24 := hP.1
  have hg2 := hg
  subst hg
  intro d
  induction d with
  | zero =>
    intro j acc hj hp
    refine br_t (nI_le (by omega) (by omega)) (nm_r (nI_1 at') (hp acc (fun m _ => ?_)))
    have : (List.range nn).any (fun n => decide (j ≤ n) && (bt set n && td_os (nn, b_parent, b_name, b_value) w n m)) = false := by
      rw [List.any_eq_false]
      intro n hn
      have := List.mem_range.mp hn
      rw [decide_eq_false (by omega)]; simp
    rw [this, Bool.and_false, Bool.or_false]
  | succ d ih =>
    intro j acc hj hp
    have split : ∀ m, (List.range nn).any (fun n => decide (j ≤ n) && (bt set n && td_os (nn, b_parent, b_name, b_value) w n m)) = ((bt set j && td_os (nn, b_parent, b_name, b_value) w j m) || (List.range nn).any (fun n => decide (j + 1 ≤ n) && (bt set n && td_os (nn, b_parent, b_name, b_value) w n m))) := by
      intro m
      apply Bool.eq_iff_iff.mpr
      rw [Bool.or_eq_true, List.any_eq_true, List.any_eq_true]
      constructor
      · rintro ⟨n, z1, z2⟩
        by_cases c : n = j
        · subst c
          rw [Bool.and_eq_true] at z2
          exact Or.inl z2.2
        · refine Or.inr ⟨n, z1, ?_⟩
          rw [Bool.and_eq_true, decide_eq_true_eq] at z2 ⊢
          exact ⟨by omega, z2.2⟩
      · rintro (z | ⟨n, z1, z2⟩)
        · exact ⟨j, List.mem_range.mpr (by omega), by rw [z, decide_eq_true (Nat.le_refl j)]; rfl⟩
        · refine ⟨n, z1, ?_⟩
          rw [Bool.and_eq_true, decide_eq_true_eq] at z2 ⊢
          exact ⟨by omega, z2.2⟩
    refine br_f (nI_ge (by omega) (by omega)) (br_c (fun z => nm_r (nI_1 j) (ih (j + 1) acc (by omega) (fun acc' g => hp acc' (fun m hm => ?_)))) (fun z => ?_))
    · rw [g m hm, split m, (ta_tst set (by omega)).mp z, Bool.false_and, Bool.false_or]
    · have hb : bt set j = true := by
        cases h : bt set j with
        | true => rfl
        | false => exact (z ((ta_tst set (by omega)).mpr h)).elim
      refine ⟨nn + 1, yl_57 rfl hP ha hw hw70 (by omega) nn 0 acc (by omega) (fun acc1 g1 => ih (j + 1) acc1 (by omega) (fun acc' g => hp acc' (fun m hm => ?_)))⟩
      rw [g m hm, g1 m hm, split m, hb, Bool.true_and, decide_eq_true (Nat.zero_le m), Bool.true_and, Bool.or_assoc, Bool.and_or_distrib_left]
theorem yl_pl8 {post : Int32 → Prop} {nn b n e : Nat} {T : td_T} (hg : g_nodes = nI nn) (hP : td_P nn b_parent) (hT : ye_T b n T b_kind b_with) (he : e < n) : ∀ d q set, q + d = e → post (td_pl (nn, b_parent, b_name, b_value) T d q set) → wY_plainPath_8 post (nI (b + e)) g_nodes g_inner g_rules g_place g_listed g_depth g_row g_pc g_node g_position g_size g_fault g_put g_steps b_name b_parent b_value b_kind b_with b_count b_bodyAt b_priority b_given b_there b_wanted b_waiting b_within b_list b_left b_reached b_sizes b_each b_backRow b_backPc b_backNode b_backPosition b_backSize b_output (d + 1) set (nI (b + q)) := by
  have h24 := hP.1
  obtain ⟨hb, hn, hT⟩ := hT
  intro d
  induction d with
  | zero =>
    intro q set hq hp
    exact br_t (nI_le (by omega) (by omega)) hp
  | succ d ih =>
    intro q set hq hp
    obtain ⟨t1, t2, t3, t4⟩ := hT q (by omega)
    refine br_f (nI_ge (by omega) (by omega)) ⟨vp_in_nI (by omega) (by omega), ?_⟩
    rw [nI_clamp (by omega), t1]
    rw [td_pl] at hp
    refine pk_eq (T.1 q) 15 (fun z => ?_) (fun z => by rw [if_neg z] at hp; exact hp)
    rw [if_pos z] at hp
    obtain ⟨w, w1, w2, w3⟩ := t4 z
    rw [w1, nI_clamp (by omega)] at hp
    refine ⟨nn + 1, yl_32 hg hP (by omega) (t3.trans w1) w2 nn 0 0 (by omega) (fun acc' g => ?_)⟩
    have e1 : acc' = td_al (nn, b_parent, b_name, b_value) set w := by
      unfold td_al
      apply tm_ext (by dsimp only; omega)
      intro m hm
      rw [g m hm, b_0, Bool.false_or]
      simp
    rw [e1, show b + q + 1 = b + (q + 1) by omega]
    exact ih (q + 1) _ (by omega) hp
theorem yl_plain {post : Int32 → Prop} {nn b n e q node : Nat} {T : td_T} (hg : g_nodes = nI nn) (hP : td_P nn b_parent) (hT : ye_T b n T b_kind b_with) (he : e < n) (hq : q ≤ e) (hp : post (td_pl (nn, b_parent, b_name, b_value) T (e - q) q (td_1 node))) : wpY_plainPath post (g_nodes, g_inner, g_rules, g_place, g_listed, g_depth, g_row, g_pc, g_node, g_position, g_size, g_fault, g_put, g_steps, b_name, b_parent, b_value, b_kind, b_with, b_count, b_bodyAt, b_priority, b_given, b_there, b_wanted, b_waiting, b_within, b_list, b_left, b_reached, b_sizes, b_each, b_backRow, b_backPc, b_backNode, b_backPosition, b_backSize, b_output) (nI (b + q)) (nI (b + e)) (nI node) :=
  nm_e ⟨_, yl_pl8 hg hP hT he (e - q) q _ (by omega) hp⟩
theorem yl_calc {post : Int32 → Prop} {k : Nat} {x y : Int32} (h7 : 7 ≤ k) (h13 : k ≤ 13) (hp : post (td_cm k x y)) : wpY_calculate post (g_nodes, g_inner, g_rules, g_place, g_listed, g_depth, g_row, g_pc, g_node, g_position, g_size, g_fault, g_put, g_steps, b_name, b_parent, b_value, b_kind, b_with, b_count, b_bodyAt, b_priority, b_given, b_there, b_wanted, b_waiting, b_within, b_list, b_left, b_reached, b_sizes, b_each, b_backRow, b_backPc, b_backNode, b_backPosition, b_backSize, b_output) (nI k) x y := xl_comb h7 h13 hp
end
end
section
/-! conditions in the reference -/
section
variable {g_nodes g_inner g_rules g_place g_listed g_depth g_row g_pc g_node g_position g_size g_fault g_put g_steps : Int32} {b_name b_parent b_value b_kind b_with b_count b_bodyAt b_priority b_given b_there b_wanted b_waiting b_within b_list b_left b_reached b_sizes b_each b_backRow b_backPc b_backNode b_backPosition b_backSize b_output : Nat → Int32}
theorem yc_79 {post : Int32 → SY → Prop} {J8 : Int32 → Int32 → (Nat → Int32) → (Nat → Int32) → (Nat → Int32) → (Nat → Int32) → (Nat → Int32) → (Nat → Int32) → (Nat → Int32) → (Nat → Int32) → (Nat → Int32) → (Nat → Int32) → (Nat → Int32) → (Nat → Int32) → (Nat → Int32) → (Nat → Int32) → (Nat → Int32) → (Nat → Int32) → (Nat → Int32) → (Nat → Int32) → (Nat → Int32) → (Nat → Int32) → (Nat → Int32) → (Nat → Int32) → (Nat → Int32) → (Nat → Int32) → Prop} {b n q node nn : Nat} {T : td_T} {x1 x2 pos many tv : Int32} {l : List Int32} (hT : ye_T b n T b_kind b_with) (hq : q < n) (hnode : node < nn) (h24 : nn ≤ 24) (h0 : 0 < b + q) (hk : T.1 q ≤ 3 ∨ 7 ≤ T.1 q) (hk2 : T.1 q ≤ 14) (hs : xs_k l b_within) (h31 : l.length < 32) (ha : T.1 q = 14 → 0 < l.length) (hb : 7 ≤ T.1 q → T.1 q ≤ 13 → 2 ≤ l.length)
    (hp : ∀ wi, xs_k (td_op (T.1 q) (T.2 q) (b_value node) pos many tv l) wi → J8 (nI (td_op (T.1 q) (T.2 q) (b_value node) pos many tv l).length) (nI (b + q - 1)) b_name b_parent b_value b_kind b_with b_count b_bodyAt b_priority b_given b_there b_wanted b_waiting wi b_list b_left b_reached b_sizes b_each b_backRow b_backPc b_backNode b_backPosition b_backSize b_output) : wY_innerNumber_79 post J8 x1 x2 (nI node) pos many (nI l.length) (nI (b + q)) (nI (T.1 q)) g_nodes g_inner g_rules g_place g_listed g_depth g_row g_pc g_node g_position g_size g_fault g_put g_steps b_name b_parent b_value b_kind b_with b_count b_bodyAt b_priority b_given b_there b_wanted b_waiting b_within b_list b_left b_reached b_sizes b_each b_backRow b_backPc b_backNode b_backPosition b_backSize b_output := by
  obtain ⟨hTb, hTn, hT⟩ := hT
  obtain ⟨t1, t2, t3, -⟩ := hT q hq
  have hx1 : nI (b + q) + (-1) = nI (b + q - 1) := sb_m1 h0
  refine pk_le 4 (T.1 q) (fun z4 => pk_eq (T.1 q) 14 (fun z => ?_) (fun z => ?_)) (fun z4 => nm_r (nI_1 l.length) ?_)
  · have h0 := ha z
    rw [z] at hp
    match l, hs, h31, h0, hp with
    | x :: t, hs, h31, _, hp =>
      rw [List.length_cons] at h31 ⊢
      rw [nI_pred]
      rw [td_op14] at hp
      refine ⟨vp_in_nI (by omega) (by omega), ?_⟩
      rw [nI_clamp (by omega), hs.1]
      refine br_c (fun c => ⟨vp_in_nI (by omega) (by omega), nm_e (nm_r hx1 ?_)⟩) (fun c => ⟨vp_in_nI (by omega) (by omega), nm_e (nm_r hx1 ?_)⟩)
      · rw [if_pos c] at hp; exact hp _ (xs_push hs.2)
      · rw [if_neg c] at hp; exact hp _ (xs_push hs.2)
  · have h0 := hb (by omega) (by omega)
    match l, hs, h31, h0, hp with
    | [x], _, _, h0, _ => simp at h0
    | x :: y :: t, hs, h31, _, hp =>
      rw [td_op713 (by omega) (by omega)] at hp
      simp only [List.length_cons] at h31 ⊢
      refine nm_r (pk_m1 (t.length + 1)) ⟨vp_in_nI (by omega) (by omega), ?_⟩
      rw [nI_pred]
      have s1 : b_within (t.length + 1) = x := hs.1
      have s2 : b_within t.length = y := hs.2.1
      refine ⟨vp_in_nI (by omega) (by omega), ?_⟩
      rw [nI_clamp (by omega), nI_clamp (by omega), s1, s2]
      exact yl_calc (by omega) (by omega) ⟨vp_in_nI (by omega) (by omega), nm_e (nm_r hx1 (hp _ (xs_push hs.2.2)))⟩
  · have hop : ∀ v, td_op (T.1 q) (T.2 q) (b_value node) pos many tv l = v :: l → J8 (nI (l.length + 1)) (nI (b + q - 1)) b_name b_parent b_value b_kind b_with b_count b_bodyAt b_priority b_given b_there b_wanted b_waiting (upd b_within l.length v) b_list b_left b_reached b_sizes b_each b_backRow b_backPc b_backNode b_backPosition b_backSize b_output := by
      intro v hv
      rw [hv] at hp
      exact hp _ (xs_push hs)
    rw [nI_clamp (show l.length < 2 ^ 31 by omega), nI_clamp (show b + q < 2 ^ 31 by omega), nI_clamp (show node < 2 ^ 31 by omega)]
    refine pk_eq (T.1 q) 0 (fun z => ⟨vp_in_nI (by omega) (by omega), vp_in_nI (by omega) (by omega), ?_⟩) (fun z0 => ?_)
    · rw [t3]
      refine nm_e (nm_r hx1 (hop _ ?_))
      unfold td_op
      rw [if_neg (by omega), if_pos z]
    · refine pk_eq (T.1 q) 1 (fun z => ⟨vp_in_nI (by omega) (by omega), nm_e (nm_r hx1 (hop _ ?_))⟩) (fun z1 => ?_)
      · unfold td_op
        rw [if_neg (by omega), if_neg (by omega), if_pos z]
      · refine pk_eq (T.1 q) 2 (fun z => ⟨vp_in_nI (by omega) (by omega), nm_e (nm_r hx1 (hop _ ?_))⟩) (fun z2 => ⟨vp_in_nI (by omega) (by omega), vp_in_nI (by omega) (by omega), nm_e (nm_r hx1 (hop _ ?_))⟩)
        · unfold td_op
          rw [if_neg (by omega), if_neg (by omega), if_neg (by omega), if_pos z]
        · unfold td_op
          rw [if_neg (by omega), if_neg (by omega), if_neg (by omega), if_neg (by omega), if_pos (by omega)]
theorem yc_8 {post : Int32 → SY → Prop} {nn b n e p node : Nat} {T : td_T} {pos many : Int32} (hg : g_nodes = nI nn) (hP : td_P nn b_parent) (hT : ye_T b n T b_kind b_with) (hB : gm_PB T.1 n p e) (hnode : node < nn) (hp : ∀ wi, post (td_cv (nn, b_parent, b_name, b_value) T p e node pos many) (g_nodes, g_inner, g_rules, g_place, g_listed, g_depth, g_row, g_pc, g_node, g_position, g_size, g_fault, g_put, g_steps, b_name, b_parent, b_value, b_kind, b_with, b_count, b_bodyAt, b_priority, b_given, b_there, b_wanted, b_waiting, wi, b_list, b_left, b_reached, b_sizes, b_each, b_backRow, b_backPc, b_backNode, b_backPosition, b_backSize, b_output)) : ∀ j d wi, p + j + d + 1 = e → xs_k (td_cs (nn, b_parent, b_name, b_value) T e node pos many d) wi → wY_innerNumber_8 post (nI (b + p + 1)) (nI (b + e)) (nI node) pos many g_nodes g_inner g_rules g_place g_listed g_depth g_row g_pc g_node g_position g_size g_fault g_put g_steps (j + 1) (nI (td_cs (nn, b_parent, b_name, b_value) T e node pos many d).length) (nI (b + p + j)) b_name b_parent b_value b_kind b_with b_count b_bodyAt b_priority b_given b_there b_wanted b_waiting wi b_list b_left b_reached b_sizes b_each b_backRow b_backPc b_backNode b_backPosition b_backSize b_output := by
  have h24 := hP.1
  have hTb := hT.1
  have hTn := hT.2.1
  obtain ⟨_, p1, p2, p3, p4, p5⟩ := hB
  have hW : ∀ d, d ≤ e - 1 - p → ∃ m, gm_W T.1 d m (e - d) := by
    intro d hd
    rw [show e - 1 - p = (e - 1 - p - d) + d by omega] at p5
    obtain ⟨m, hm⟩ := gm_Wdn _ _ _ _ p5
    exact ⟨m, by rw [show e - d = p + 1 + (e - 1 - p - d) by omega]; exact hm⟩
  have hL : ∀ d, d ≤ e - 1 - p → ∀ m, gm_W T.1 d m (e - d) → (td_cs (nn, b_parent, b_name, b_value) T e node pos many d).length = m := fun d hd m hm => td_csl d m (by omega) hm (fun y h1 h2 => p4 y (by omega) h2)
  intro j
  induction j with
  | zero =>
    intro d wi hd hs
    have h1 : (td_cs (nn, b_parent, b_name, b_value) T e node pos many d).length = 1 := by
      rw [show d = e - 1 - p by omega]
      exact hL _ (by omega) 1 (by rw [show e - (e - 1 - p) = p + 1 by omega]; exact p5)
    refine br_t (nI_lt (by omega) (by omega)) ?_
    have hv : wi 0 = td_cv (nn, b_parent, b_name, b_value) T p e node pos many := by
      unfold td_cv
      rw [show e - 1 - p = d by omega]
      match td_cs (nn, b_parent, b_name, b_value) T e node pos many d, h1, hs with
      | [v], _, hs => exact hs.1
    rw [hv]
    exact hp wi
  | succ j ih =>
    intro d wi hd hs
    obtain ⟨m, hm⟩ := hW (d + 1) (by omega)
    have hy : e - (d + 1) = p + j + 1 := by omega
    have hy2 : e - 1 - d = p + j + 1 := by omega
    rw [hy] at hm
    obtain ⟨t1, t2, t3, -⟩ := hT.2.2 (p + j + 1) (by omega)
    have hk15 := p4 (p + j + 1) (by omega) (by omega)
    have hcs : td_cs (nn, b_parent, b_name, b_value) T e node pos many (d + 1) = td_op (T.1 (p + j + 1)) (T.2 (p + j + 1)) (b_value node) pos many (td_to (nn, b_parent, b_name, b_value) (T.1 (p + j + 1)) (td_pl (nn, b_parent, b_name, b_value) T d (p + j + 1 + 1) (td_1 node))) (td_cs (nn, b_parent, b_name, b_value) T e node pos many d) := by
      rw [td_cs, hy2, show e - d = p + j + 1 + 1 by omega]
    have key := ih (d + 1)
    rw [hcs] at key
    obtain ⟨l0, l1, l2, l3, l4⟩ := td_opl (K := T.1) (w := T.2 (p + j + 1)) (vn := b_value node) (pos := pos) (many := many) (tv := td_to (nn, b_parent, b_name, b_value) (T.1 (p + j + 1)) (td_pl (nn, b_parent, b_name, b_value) T d (p + j + 1 + 1) (td_1 node))) (l := td_cs (nn, b_parent, b_name, b_value) T e node pos many d) rfl hk15 hm (fun m' h' => hL d (by omega) m' (by rw [show e - d = p + j + 1 + 1 by omega]; exact h'))
    have hmd := gm_Wle _ _ _ hm
    generalize td_cs (nn, b_parent, b_name, b_value) T e node pos many d = L at hs key l0 l1 l2 l3 l4 ⊢
    have e0 : b + (p + j + 1) - 1 = b + p + j := by omega
    rw [show b + p + (j + 1) = b + (p + j + 1) by omega]
    refine br_f (nI_nlt (by omega) (by omega)) ⟨vp_in_nI (by omega) (by omega), ?_⟩
    rw [nI_clamp (by omega)]
    have e1 : nI (b + (p + j + 1)) + (-1) = nI (b + p + j) := (sb_m1 (by omega)).trans (congrArg nI (by omega))
    refine nm_r t1 (pk_eq (T.1 (p + j + 1)) 15 (fun z => nm_r e1 ?_) (fun z15 => ?_))
    · rw [z] at key
      exact key wi (by omega) hs
    · have fin : (T.1 (p + j + 1) ≤ 3 ∨ 7 ≤ T.1 (p + j + 1)) → wY_innerNumber_79 post (wY_innerNumber_8 post (nI (b + p + 1)) (nI (b + e)) (nI node) pos many g_nodes g_inner g_rules g_place g_listed g_depth g_row g_pc g_node g_position g_size g_fault g_put g_steps (j + 1)) (nI (b + p + 1)) (nI (b + e)) (nI node) pos many (nI L.length) (nI (b + (p + j + 1))) (nI (T.1 (p + j + 1))) g_nodes g_inner g_rules g_place g_listed g_depth g_row g_pc g_node g_position g_size g_fault g_put g_steps b_name b_parent b_value b_kind b_with b_count b_bodyAt b_priority b_given b_there b_wanted b_waiting wi b_list b_left b_reached b_sizes b_each b_backRow b_backPc b_backNode b_backPosition b_backSize b_output := by
        intro hk
        refine yc_79 (tv := td_to (nn, b_parent, b_name, b_value) (T.1 (p + j + 1)) (td_pl (nn, b_parent, b_name, b_value) T d (p + j + 1 + 1) (td_1 node))) hT (by omega) hnode h24 (by omega) hk (by omega) hs (by omega) (fun z => by have := l3 z; omega) (fun z y => by have := l4 z y; omega) (fun wi' hs' => ?_)
        rw [e0]
        exact key wi' (by omega) hs'
      refine pk_le (T.1 (p + j + 1)) 3 (fun z3 => fin (Or.inl z3)) (fun z3 => pk_le 7 (T.1 (p + j + 1)) (fun z7 => fin (Or.inr z7)) (fun z7 => ?_))
      have l5 := l2 (by omega)
      have e2 : nI (b + (p + j + 1)) + 1 = nI (b + (p + j + 1 + 1)) := (nI_1 _).trans (congrArg nI (by omega))
      rw [e2]
      rw [td_op46 (by omega) (by omega)] at key
      refine yl_plain (e := e) hg hP hT p2 (by omega) (nm_r (nI_1 L.length) ?_)
      rw [show e - (p + j + 1 + 1) = d by omega]
      refine yl_told hg h24 (by omega) (by omega) ⟨vp_in_nI (by omega) (by omega), ?_⟩
      rw [nI_clamp (by omega)]
      exact nm_e (nm_r e1 (key _ (by omega) (xs_push hs)))
theorem yc_inner {post : Int32 → SY → Prop} {nn b n e p node : Nat} {T : td_T} {pos many : Int32} (hg : g_nodes = nI nn) (hP : td_P nn b_parent) (hT : ye_T b n T b_kind b_with) (hB : gm_PB T.1 n p e) (hnode : node < nn) (hp : ∀ wi, post (td_cv (nn, b_parent, b_name, b_value) T p e node pos many) (g_nodes, g_inner, g_rules, g_place, g_listed, g_depth, g_row, g_pc, g_node, g_position, g_size, g_fault, g_put, g_steps, b_name, b_parent, b_value, b_kind, b_with, b_count, b_bodyAt, b_priority, b_given, b_there, b_wanted, b_waiting, wi, b_list, b_left, b_reached, b_sizes, b_each, b_backRow, b_backPc, b_backNode, b_backPosition, b_backSize, b_output)) : wpY_innerNumber post (g_nodes, g_inner, g_rules, g_place, g_listed, g_depth, g_row, g_pc, g_node, g_position, g_size, g_fault, g_put, g_steps, b_name, b_parent, b_value, b_kind, b_with, b_count, b_bodyAt, b_priority, b_given, b_there, b_wanted, b_waiting, b_within, b_list, b_left, b_reached, b_sizes, b_each, b_backRow, b_backPc, b_backNode, b_backPosition, b_backSize, b_output) (nI (b + p + 1)) (nI (b + e)) (nI node) pos many := by
  have hTb := hT.1
  have hTn := hT.2.1
  have h1 := hB.2.1
  have h2 := hB.2.2.1
  have e2 : nI (b + e) - 1 = nI (b + p + (e - 1 - p)) := (pk_sub (a := b + e) (b := 1) (by omega)).trans (congrArg nI (by omega))
  exact nm_r e2 ⟨_, yc_8 hg hP hT hB hnode hp (e - 1 - p) 0 b_within (by omega) trivial⟩
end
end
section
/-! the list of a step in the reference -/
theorem nb_1 : ∀ m, m < 128 → (nI m).toInt8.toInt32 = nI m := by decide +kernel
theorem nb_2 {m : Nat} (h : m < 128) : vp_nar .byte (nI m) = nI m := by rw [vp_nar_byte, nb_1 m h]
theorem nb_3 {m : Nat} (h : m < 128) : vp_nar .byte (nI m).toInt8.toInt32 = nI m := by rw [nb_1 m h, nb_2 h]
def yi_l (l : List Nat) (a : Nat → Int32) : Prop := ∀ i m, l[i]? = some m → a i = nI m
theorem yi_push {l : List Nat} {a : Nat → Int32} {m : Nat} (h : yi_l l a) : yi_l (l ++ [m]) (upd a l.length (nI m)) := by
  intro i x hx
  by_cases c : i = l.length
  · subst c
    rw [List.getElem?_append_right (Nat.le_refl _), Nat.sub_self] at hx
    have hx : m = x := by simpa using hx
    rw [pk_us, hx]
  · have hi : i < l.length := by
      have := (List.getElem?_eq_some_iff.mp hx).1
      rw [List.length_append, List.length_singleton] at this
      omega
    rw [List.getElem?_append_left hi] at hx
    rw [pk_un c]
    exact h i x hx
section
variable {g_nodes g_inner g_rules g_place g_listed g_depth g_row g_pc g_node g_position g_size g_fault g_put g_steps : Int32} {b_name b_parent b_value b_kind b_with b_count b_bodyAt b_priority b_given b_there b_wanted b_waiting b_within b_list b_left b_reached b_sizes b_each b_backRow b_backPc b_backNode b_backPosition b_backSize b_output : Nat → Int32}
theorem yi_37 {post : SY → Prop} {nn at' w n : Nat} {bk : Bool} {x2 : Int32} (hg : g_nodes = nI nn) (hP : td_P nn b_parent) (ha : at' < 210) (hw : b_with at' = nI w) (hw70 : w ≤ 70) (hn : n < nn) : ∀ (rem : List Nat) (k : Nat) (cur : List Nat) (li : Nat → Int32), k + rem.length = nn → (∀ j m, rem[j]? = some m → m = if bk then nn - 1 - (k + j) else k + j) → cur.length ≤ k → yi_l cur li →
    (∀ li', yi_l (cur ++ rem.filter (td_os (nn, b_parent, b_name, b_value) w n)) li' → ∃ f, wY_listOf_108 post x2 f (nI (at' + 1)) g_nodes g_inner g_rules g_place (nI (cur ++ rem.filter (td_os (nn, b_parent, b_name, b_value) w n)).length) g_depth g_row g_pc g_node g_position g_size g_fault g_put g_steps b_name b_parent b_value b_kind b_with b_count b_bodyAt b_priority b_given b_there b_wanted b_waiting b_within li' b_left b_reached b_sizes b_each b_backRow b_backPc b_backNode b_backPosition b_backSize b_output) → wY_listOf_37 post (nI at') x2 (nI n) (if bk then 1 else 0) g_nodes g_inner g_rules g_place g_depth g_row g_pc g_node g_position g_size g_fault g_put g_steps (rem.length + 1) (nI k) (nI cur.length) b_name b_parent b_value b_kind b_with b_count b_bodyAt b_priority b_given b_there b_wanted b_waiting b_within li b_left b_reached b_sizes b_each b_backRow b_backPc b_backNode b_backPosition b_backSize b_output := by
  have h24 := hP.1
  subst hg
  intro rem
  induction rem with
  | nil =>
    intro k cur li hk _ _ hl hp
    rw [List.length_nil] at hk
    refine br_t (nI_le (by omega) (by omega)) (nm_r (nI_1 at') ?_)
    rw [List.filter_nil, List.append_nil] at hp
    exact hp li hl
  | cons m rem ih =>
    intro k cur li hk ho hc hl hp
    rw [List.length_cons] at hk
    have hm := ho 0 m rfl
    have hmn : m < nn := by
      cases bk <;> simp at hm <;> omega
    have step : wY_listOf_65 post (wY_listOf_37 post (nI at') x2 (nI n) (if bk then 1 else 0) (nI nn) g_inner g_rules g_place g_depth g_row g_pc g_node g_position g_size g_fault g_put g_steps (rem.length + 1)) (nI at') x2 (nI n) (if bk then 1 else 0) (nI k) (nI m) (nI nn) g_inner g_rules g_place (nI cur.length) g_depth g_row g_pc g_node g_position g_size g_fault g_put g_steps b_name b_parent b_value b_kind b_with b_count b_bodyAt b_priority b_given b_there b_wanted b_waiting b_within li b_left b_reached b_sizes b_each b_backRow b_backPc b_backNode b_backPosition b_backSize b_output := by
      refine yl_os hP ha hw hw70 hn hmn (yl_bt (fun z => nm_r (nI_1 k) ?_) (fun z => nm_r (nI_1 cur.length) ⟨vp_in_nI (by omega) (by omega), ?_⟩))
      · refine ih (k + 1) cur li (by omega) (fun j x hx => ?_) (by omega) hl ?_
        · have := ho (j + 1) x hx
          rw [show k + 1 + j = k + (j + 1) by omega]; exact this
        · rw [List.filter_cons_of_neg (by rw [z]; simp)] at hp
          exact hp
      · rw [nI_clamp (by omega), nb_3 (by omega)]
        refine nm_e (nm_r (nI_1 k) ?_)
        have e1 : cur.length + 1 = (cur ++ [m]).length := by simp
        rw [e1]
        refine ih (k + 1) (cur ++ [m]) _ (by omega) (fun j x hx => ?_) (by omega) (yi_push hl) ?_
        · have := ho (j + 1) x hx
          rw [show k + 1 + j = k + (j + 1) by omega]; exact this
        · rw [List.filter_cons_of_pos z] at hp
          rw [List.append_assoc]
          exact hp
    refine br_f (nI_ge (by omega) (by omega)) ?_
    cases bk with
    | false =>
      rw [show m = k from hm] at step
      exact br_t rfl step
    | true =>
      refine br_f (by decide) ?_
      have e1 : nI nn - 1 - nI k = nI m := by
        rw [show nI nn - 1 = nI (nn - 1) from pk_sub (a := nn) (b := 1) (by omega), pk_sub (by omega), show m = nn - 1 - k from hm]
      rw [e1]
      exact step
theorem yi_162 {post : SY → Prop} {J108 : Int32 → Int32 → Int32 → Int32 → Int32 → Int32 → Int32 → Int32 → Int32 → Int32 → Int32 → Int32 → Int32 → Int32 → Int32 → (Nat → Int32) → (Nat → Int32) → (Nat → Int32) → (Nat → Int32) → (Nat → Int32) → (Nat → Int32) → (Nat → Int32) → (Nat → Int32) → (Nat → Int32) → (Nat → Int32) → (Nat → Int32) → (Nat → Int32) → (Nat → Int32) → (Nat → Int32) → (Nat → Int32) → (Nat → Int32) → (Nat → Int32) → (Nat → Int32) → (Nat → Int32) → (Nat → Int32) → (Nat → Int32) → (Nat → Int32) → (Nat → Int32) → (Nat → Int32) → Prop} {nn b n p e M : Nat} {T : td_T} {x2 : Int32} (hg : g_nodes = nI nn) (hP : td_P nn b_parent) (hT : ye_T b n T b_kind b_with) (hB : gm_PB T.1 n p e) (hM : M ≤ 24) : ∀ (rem : List Nat) (k : Nat) (kept : List Nat) (li wi : Nat → Int32), k + rem.length = M → (∀ j m, rem[j]? = some m → li (k + j) = nI m) → (∀ m, m ∈ rem → m < nn) → kept.length ≤ k → yi_l kept li →
    (∀ li' wi', yi_l (kept ++ td_fl (td_cb (nn, b_parent, b_name, b_value) T p e M) (k + 1) rem) li' → J108 (nI (b + e + 1)) g_nodes g_inner g_rules g_place (nI (kept ++ td_fl (td_cb (nn, b_parent, b_name, b_value) T p e M) (k + 1) rem).length) g_depth g_row g_pc g_node g_position g_size g_fault g_put g_steps b_name b_parent b_value b_kind b_with b_count b_bodyAt b_priority b_given b_there b_wanted b_waiting wi' li' b_left b_reached b_sizes b_each b_backRow b_backPc b_backNode b_backPosition b_backSize b_output) → wY_listOf_162 post J108 x2 (nI (b + p)) (nI (b + e)) (nI M) (rem.length + 1) (nI k) g_nodes g_inner g_rules g_place (nI kept.length) g_depth g_row g_pc g_node g_position g_size g_fault g_put g_steps b_name b_parent b_value b_kind b_with b_count b_bodyAt b_priority b_given b_there b_wanted b_waiting wi li b_left b_reached b_sizes b_each b_backRow b_backPc b_backNode b_backPosition b_backSize b_output := by
  have h24 := hP.1
  have hTb := hT.1
  have hTn := hT.2.1
  have hp1 := hB.2.1
  have hp2 := hB.2.2.1
  intro rem
  induction rem with
  | nil =>
    intro k kept li wi hk _ _ _ hl hp
    rw [List.length_nil] at hk
    refine br_t (nI_le (by omega) (by omega)) (nm_r (nI_1 _) ?_)
    have := hp li wi
    rw [td_fl, List.append_nil] at this
    exact this hl
  | cons m rem ih =>
    intro k kept li wi hk ho hmn hc hl hp
    rw [List.length_cons] at hk
    have hm := ho 0 m rfl
    have hmn1 := hmn m (by simp)
    refine br_f (nI_ge (by omega) (by omega)) ⟨vp_in_nI (by omega) (by omega), ?_⟩
    rw [nI_clamp (by omega)]
    refine nm_r hm ?_
    rw [nI_1, nI_1]
    refine yc_inner hg hP hT hB hmn1 (fun wi' => br_c (fun z => nm_e ?_) (fun z => nm_r (nI_1 kept.length) ⟨vp_in_nI (by omega) (by omega), ?_⟩))
    · have hcb : ¬ td_cb (nn, b_parent, b_name, b_value) T p e M m (k + 1) = true := by
        unfold td_cb
        rw [z]; simp
      refine ih (k + 1) kept li wi' (by omega) (fun j x hx => ?_) (fun x hx => hmn x (List.mem_cons_of_mem _ hx)) (by omega) hl ?_
      · have := ho (j + 1) x hx
        rw [show k + 1 + j = k + (j + 1) by omega]; exact this
      · rw [td_fl, if_neg hcb] at hp
        exact hp
    · have hcb : td_cb (nn, b_parent, b_name, b_value) T p e M m (k + 1) = true := by
        unfold td_cb
        rw [decide_eq_false z]; rfl
      rw [nI_clamp (by omega), nb_3 (by omega)]
      refine nm_e (nm_e ?_)
      have e1 : kept.length + 1 = (kept ++ [m]).length := by simp
      rw [e1]
      refine ih (k + 1) (kept ++ [m]) _ wi' (by omega) (fun j x hx => ?_) (fun x hx => hmn x (List.mem_cons_of_mem _ hx)) (by omega) (yi_push hl) ?_
      · have := ho (j + 1) x hx
        rw [pk_un (by omega), show k + 1 + j = k + (j + 1) by omega]; exact this
      · rw [td_fl, if_pos hcb] at hp
        rw [List.append_assoc]
        exact hp
theorem yi_130 {post : SY → Prop} {J108 : Int32 → Int32 → Int32 → Int32 → Int32 → Int32 → Int32 → Int32 → Int32 → Int32 → Int32 → Int32 → Int32 → Int32 → Int32 → (Nat → Int32) → (Nat → Int32) → (Nat → Int32) → (Nat → Int32) → (Nat → Int32) → (Nat → Int32) → (Nat → Int32) → (Nat → Int32) → (Nat → Int32) → (Nat → Int32) → (Nat → Int32) → (Nat → Int32) → (Nat → Int32) → (Nat → Int32) → (Nat → Int32) → (Nat → Int32) → (Nat → Int32) → (Nat → Int32) → (Nat → Int32) → (Nat → Int32) → (Nat → Int32) → (Nat → Int32) → (Nat → Int32) → (Nat → Int32) → Prop} {b n p c : Nat} {T : td_T} {x2 x6 : Int32} (hT : ye_T b n T b_kind b_with) (hB : gm_PB T.1 n p c) (hJ : ∃ f, wY_listOf_162 post J108 x2 x6 (nI (b + c)) g_listed f 0 g_nodes g_inner g_rules g_place 0 g_depth g_row g_pc g_node g_position g_size g_fault g_put g_steps b_name b_parent b_value b_kind b_with b_count b_bodyAt b_priority b_given b_there b_wanted b_waiting b_within b_list b_left b_reached b_sizes b_each b_backRow b_backPc b_backNode b_backPosition b_backSize b_output) : ∀ d y, y + d = c → p ≤ y → wY_listOf_130 post J108 x2 x6 g_nodes g_inner g_rules g_place g_listed g_depth g_row g_pc g_node g_position g_size g_fault g_put g_steps b_name b_parent b_value b_kind b_with b_count b_bodyAt b_priority b_given b_there b_wanted b_waiting b_within b_list b_left b_reached b_sizes b_each b_backRow b_backPc b_backNode b_backPosition b_backSize b_output (d + 1) (nI (b + y)) := by
  obtain ⟨hTb, hTn, hT⟩ := hT
  obtain ⟨g1, g2, g3, g4, g5, -⟩ := hB
  intro d
  induction d with
  | zero =>
    intro y hy hyp
    obtain ⟨t1, t2, -⟩ := hT y (by omega)
    refine ⟨vp_in_nI (by omega) (by omega), ?_⟩
    rw [nI_clamp (by omega), t1, show y = c by omega]
    exact pk_eq (T.1 c) 17 (fun _ => hJ) (fun z => (z g4).elim)
  | succ d ih =>
    intro y hy hyp
    obtain ⟨t1, t2, -⟩ := hT y (by omega)
    refine ⟨vp_in_nI (by omega) (by omega), ?_⟩
    rw [nI_clamp (by omega), t1]
    refine pk_eq (T.1 y) 17 (fun z => ?_) (fun z => nm_r ((nI_1 _).trans (congrArg nI (show b + y + 1 = b + (y + 1) by omega))) (ih (y + 1) (by omega) (by omega)))
    by_cases e : y = p
    · rw [e] at z; omega
    · have := g5 y (by omega) (by omega); omega
theorem yi_108 {post : SY → Prop} {nn b n s c : Nat} {T : td_T} (hg : g_nodes = nI nn) (hP : td_P nn b_parent) (hT : ye_T b n T b_kind b_with) (hc : c ≤ s) (hs : s ≤ n) : ∀ (brs : List (Nat × Nat)) (q : Nat) (l : List Nat) (li wi : Nat → Int32), gm_B T.1 n brs q c → q ≤ n → (∀ m, m ∈ l → m < nn) → l.length ≤ 24 → yi_l l li →
    (∀ li' wi', yi_l (brs.foldl (fun l b => td_ft (nn, b_parent, b_name, b_value) T b l) l) li' → post (g_nodes, g_inner, g_rules, g_place, nI (brs.foldl (fun l b => td_ft (nn, b_parent, b_name, b_value) T b l) l).length, g_depth, g_row, g_pc, g_node, g_position, g_size, g_fault, g_put, g_steps, b_name, b_parent, b_value, b_kind, b_with, b_count, b_bodyAt, b_priority, b_given, b_there, b_wanted, b_waiting, wi', li', b_left, b_reached, b_sizes, b_each, b_backRow, b_backPc, b_backNode, b_backPosition, b_backSize, b_output)) → wY_listOf_108 post (nI (b + s)) (brs.length + 1) (nI (b + q)) g_nodes g_inner g_rules g_place (nI l.length) g_depth g_row g_pc g_node g_position g_size g_fault g_put g_steps b_name b_parent b_value b_kind b_with b_count b_bodyAt b_priority b_given b_there b_wanted b_waiting wi li b_left b_reached b_sizes b_each b_backRow b_backPc b_backNode b_backPosition b_backSize b_output := by
  have hTb := hT.1
  have hTn := hT.2.1
  intro brs
  induction brs with
  | nil =>
    intro q l li wi hB hq _ _ hl hp
    obtain ⟨rfl, hB⟩ := hB
    refine pk_le (b + s) (b + q) (fun z => hp li wi hl) (fun z => ⟨vp_in_nI (by omega) (by omega), ?_⟩)
    obtain ⟨t1, t2, -⟩ := hT.2.2 q (by omega)
    rw [nI_clamp (by omega), t1]
    exact pk_eq (T.1 q) 16 (fun z => (hB (by omega) z).elim) (fun z => hp li wi hl)
  | cons d t ih =>
    intro q l li wi hB hq hln hl24 hl hp
    obtain ⟨e1, hPB, hB⟩ := hB
    have hPB2 := hPB
    obtain ⟨g1, g2, g3, -⟩ := hPB
    have hle := gm_Ble _ _ _ hB (by omega)
    obtain ⟨t1, t2, -⟩ := hT.2.2 q (by omega)
    refine br_f (nI_ge (by omega) (by omega)) ⟨vp_in_nI (by omega) (by omega), ?_⟩
    rw [nI_clamp (by omega), t1]
    refine pk_eq (T.1 q) 16 (fun z => ?_) (fun z => (z g1).elim)
    refine ⟨_, yi_130 hT hPB2 ⟨l.length + 1, ?_⟩ (d.2 - q) q (by omega) (Nat.le_refl _)⟩
    refine yi_162 hg hP hT hPB2 hl24 l 0 [] li wi (by omega) (fun j m h => by rw [Nat.zero_add]; exact hl j m h) hln (Nat.zero_le _) (fun i m h => by simp at h) (fun li' wi' hl' => ?_)
    rw [List.nil_append, Nat.zero_add] at hl' ⊢
    rw [show b + d.2 + 1 = b + (d.2 + 1) by omega]
    have hft : td_ft (nn, b_parent, b_name, b_value) T d l = td_fl (td_cb (nn, b_parent, b_name, b_value) T q d.2 l.length) 1 l := by
      unfold td_ft
      rw [e1]
    rw [← hft] at hl' ⊢
    refine ih (d.2 + 1) _ li' wi' hB (by omega) (fun m hm => hln m (td_fl_m _ _ hm)) ?_ hl' hp
    rw [hft]
    have hlen : ∀ (c : Nat → Nat → Bool) (l : List Nat) (k : Nat), (td_fl c k l).length ≤ l.length := by
      intro c l
      induction l with
      | nil => intro k; exact Nat.le_refl _
      | cons a l ih =>
        intro k
        rw [td_fl]
        by_cases z : c a k = true
        · rw [if_pos z, List.length_cons, List.length_cons]; have := ih (k + 1); omega
        · rw [if_neg z, List.length_cons]; have := ih (k + 1); omega
    have := hlen (td_cb (nn, b_parent, b_name, b_value) T q d.2 l.length) l 1
    omega
theorem yi_list {post : SY → Prop} {nn b n s c q node : Nat} {T : td_T} {brs : List (Nat × Nat)} (hg : g_nodes = nI nn) (hP : td_P nn b_parent) (hT : ye_T b n T b_kind b_with) (hc : c ≤ s) (hs : s ≤ n) (hq : q < n) (hk : T.1 q = 15) (hB : gm_B T.1 n brs (q + 1) c) (hnode : node < nn) (hp : ∀ li wi, yi_l (td_se (nn, b_parent, b_name, b_value) T (q, brs) node) li → post (g_nodes, g_inner, g_rules, g_place, nI (td_se (nn, b_parent, b_name, b_value) T (q, brs) node).length, g_depth, g_row, g_pc, g_node, g_position, g_size, g_fault, g_put, g_steps, b_name, b_parent, b_value, b_kind, b_with, b_count, b_bodyAt, b_priority, b_given, b_there, b_wanted, b_waiting, wi, li, b_left, b_reached, b_sizes, b_each, b_backRow, b_backPc, b_backNode, b_backPosition, b_backSize, b_output)) : wpY_listOf post (g_nodes, g_inner, g_rules, g_place, g_listed, g_depth, g_row, g_pc, g_node, g_position, g_size, g_fault, g_put, g_steps, b_name, b_parent, b_value, b_kind, b_with, b_count, b_bodyAt, b_priority, b_given, b_there, b_wanted, b_waiting, b_within, b_list, b_left, b_reached, b_sizes, b_each, b_backRow, b_backPc, b_backNode, b_backPosition, b_backSize, b_output) (nI (b + q)) (nI (b + s)) (nI node) := by
  have h24 := hP.1
  have hTb := hT.1
  have hTn := hT.2.1
  obtain ⟨t1, t2, t3, t4⟩ := hT.2.2 q hq
  obtain ⟨w, w1, w2, w3⟩ := t4 hk
  have hw : b_with (b + q) = nI w := t3.trans w1
  have hcw : (T.2 q).toNatClampNeg = w := by rw [w1, nI_clamp (by omega)]
  have main : ∀ bk : Bool, td_bk w = bk → ∃ f, wY_listOf_37 post (nI (b + q)) (nI (b + s)) (nI node) (if bk then 1 else 0) g_nodes g_inner g_rules g_place g_depth g_row g_pc g_node g_position g_size g_fault g_put g_steps f 0 0 b_name b_parent b_value b_kind b_with b_count b_bodyAt b_priority b_given b_there b_wanted b_waiting b_within b_list b_left b_reached b_sizes b_each b_backRow b_backPc b_backNode b_backPosition b_backSize b_output := by
    intro bk hbk
    have hls : td_ls (nn, b_parent, b_name, b_value) w node = (if bk then (List.range nn).reverse else List.range nn).filter (td_os (nn, b_parent, b_name, b_value) w node) := by
      unfold td_ls
      rw [hbk]
    refine ⟨_, yi_37 (bk := bk) hg hP (by omega) hw w2 hnode (if bk then (List.range nn).reverse else List.range nn) 0 [] b_list ?_ ?_ (Nat.le_refl _) (fun i m h => by simp at h) (fun li' hl' => ?_)⟩
    · cases bk <;> simp
    · intro j m h
      cases bk with
      | false =>
        have h : (List.range nn)[j]? = some m := h
        rw [List.getElem?_range (by have := (List.getElem?_eq_some_iff.mp h).1; rw [List.length_range] at this; exact this)] at h
        show m = 0 + j
        have := Option.some.inj h
        omega
      | true =>
        have h : (List.range nn).reverse[j]? = some m := h
        have hj : j < nn := by have := (List.getElem?_eq_some_iff.mp h).1; rw [List.length_reverse, List.length_range] at this; exact this
        rw [List.getElem?_reverse (by rw [List.length_range]; exact hj), List.length_range, List.getElem?_range (by omega)] at h
        show m = nn - 1 - (0 + j)
        have := Option.some.inj h
        omega
    · rw [List.nil_append, ← hls] at hl' ⊢
      have hor := td_or_ls (D := (nn, b_parent, b_name, b_value)) (w := w) (n := node)
      have hlen : (td_ls (nn, b_parent, b_name, b_value) w node).length ≤ 24 := by
        rw [hls]
        refine Nat.le_trans (List.length_filter_le _ _) ?_
        cases bk <;> simp <;> omega
      refine ⟨_, yi_108 (b := b) hg hP hT hc hs brs (q + 1) _ li' b_within hB (by omega) hor.1 hlen hl' (fun li2 wi2 hl2 => ?_)⟩
      have e1 : brs.foldl (fun l b => td_ft (nn, b_parent, b_name, b_value) T b l) (td_ls (nn, b_parent, b_name, b_value) w node) = td_se (nn, b_parent, b_name, b_value) T (q, brs) node := by
        unfold td_se
        rw [show ((T.2 (q, brs).1).toNatClampNeg) = w from hcw]
      rw [e1] at hl2 ⊢
      exact hp li2 wi2 hl2
  refine ⟨vp_in_nI (by omega) (by omega), ?_⟩
  rw [nI_clamp (by omega), hw]
  refine nm_r (xl_d8 (by omega)) (pk_le (w / 8) 0 (fun z => ?_) (fun z => ⟨by decide, ?_⟩))
  · exact main false (by unfold td_bk; rw [decide_eq_false (by omega)]; rfl)
  · rw [show nI (w / 8) - nI (w / 8) / 2 * 2 = nI (w / 8 % 2) from pk_rem (a := w / 8) (d := 2) (by omega) (by omega) (by omega)]
    refine pk_eq (w / 8 % 2) 0 (fun y => ?_) (fun y => ?_)
    · exact main true (by unfold td_bk; rw [decide_eq_true (show 0 < w / 8 by omega), decide_eq_true y]; rfl)
    · exact main false (by unfold td_bk; rw [decide_eq_false y, Bool.and_false])
end
end
section
/-! paths in the reference -/
theorem gm_Be {K : Nat → Nat} {n : Nat} : ∀ brs p e, gm_B K n brs p e → e < n → K e ≠ 16 := by
  intro brs
  induction brs with
  | nil => intro p e h he; obtain ⟨rfl, h⟩ := h; exact h he
  | cons b t ih => intro p e h he; exact ih _ _ h.2.2 he
theorem gm_Se {K : Nat → Nat} {n : Nat} : ∀ ps q e, gm_S K n ps q e → ps ≠ [] → e < n → K e ≠ 15 ∧ K e ≠ 16 := by
  intro ps
  induction ps with
  | nil => intro q e _ h _; exact (h rfl).elim
  | cons s t ih =>
    intro q e h _ he
    obtain ⟨_, _, _, c, hB, hS⟩ := h
    cases t with
    | nil =>
      obtain ⟨rfl, h2, _⟩ := hS
      exact ⟨h2 he, gm_Be _ _ _ hB he⟩
    | cons s2 t2 => exact ih _ _ hS (by simp) he
section
variable {g_nodes g_inner g_rules g_place g_listed g_depth g_row g_pc g_node g_position g_size g_fault g_put g_steps : Int32} {b_name b_parent b_value b_kind b_with b_count b_bodyAt b_priority b_given b_there b_wanted b_waiting b_within b_list b_left b_reached b_sizes b_each b_backRow b_backPc b_backNode b_backPosition b_backSize b_output : Nat → Int32}
theorem yp_40 {post : Int32 → Prop} {J2 : Int32 → Prop} {b n p c : Nat} {T : td_T} {x2 : Int32} (hT : ye_T b n T b_kind b_with) (hB : gm_PB T.1 n p c) (hJ : J2 (nI (b + (c + 1)))) : ∀ d y, y + d = c → p ≤ y → wY_pathEnd_40 post J2 x2 g_nodes g_inner g_rules g_place g_listed g_depth g_row g_pc g_node g_position g_size g_fault g_put g_steps b_name b_parent b_value b_kind b_with b_count b_bodyAt b_priority b_given b_there b_wanted b_waiting b_within b_list b_left b_reached b_sizes b_each b_backRow b_backPc b_backNode b_backPosition b_backSize b_output (d + 1) (nI (b + y)) := by
  obtain ⟨hTb, hTn, hT⟩ := hT
  obtain ⟨g1, g2, g3, g4, g5, -⟩ := hB
  intro d
  induction d with
  | zero =>
    intro y hy hyp
    obtain ⟨t1, t2, -⟩ := hT y (by omega)
    refine ⟨vp_in_nI (by omega) (by omega), ?_⟩
    rw [nI_clamp (by omega), t1, show y = c by omega]
    exact pk_eq (T.1 c) 17 (fun _ => nm_r (nI_1 _) hJ) (fun z => (z g4).elim)
  | succ d ih =>
    intro y hy hyp
    obtain ⟨t1, t2, -⟩ := hT y (by omega)
    refine ⟨vp_in_nI (by omega) (by omega), ?_⟩
    rw [nI_clamp (by omega), t1]
    refine pk_eq (T.1 y) 17 (fun z => ?_) (fun z => nm_r (nI_1 _) (ih (y + 1) (by omega) (by omega)))
    by_cases e : y = p
    · rw [e] at z; omega
    · have := g5 y (by omega) (by omega); omega
theorem yp_eB {post : Int32 → Prop} {b n E : Nat} {T : td_T} (hT : ye_T b n T b_kind b_with) (hE : E ≤ n) : ∀ (brs : List (Nat × Nat)) (q c : Nat), gm_B T.1 n brs q c → q ≤ n → c ≤ E → (∀ f, E - c < f → wY_pathEnd_2 post (nI (b + E)) g_nodes g_inner g_rules g_place g_listed g_depth g_row g_pc g_node g_position g_size g_fault g_put g_steps b_name b_parent b_value b_kind b_with b_count b_bodyAt b_priority b_given b_there b_wanted b_waiting b_within b_list b_left b_reached b_sizes b_each b_backRow b_backPc b_backNode b_backPosition b_backSize b_output f (nI (b + c))) → ∀ f, E - q < f → wY_pathEnd_2 post (nI (b + E)) g_nodes g_inner g_rules g_place g_listed g_depth g_row g_pc g_node g_position g_size g_fault g_put g_steps b_name b_parent b_value b_kind b_with b_count b_bodyAt b_priority b_given b_there b_wanted b_waiting b_within b_list b_left b_reached b_sizes b_each b_backRow b_backPc b_backNode b_backPosition b_backSize b_output f (nI (b + q)) := by
  have hTb := hT.1
  have hTn := hT.2.1
  intro brs
  induction brs with
  | nil => intro q c hB _ _ hW; obtain ⟨rfl, -⟩ := hB; exact hW
  | cons d t ih =>
    intro q c hB hq hc hW f hf
    obtain ⟨e1, hPB, hB⟩ := hB
    have hPB2 := hPB
    obtain ⟨g1, g2, g3, -⟩ := hPB
    have hle := gm_Ble _ _ _ hB (by omega)
    obtain ⟨f, rfl⟩ : ∃ k, f = k + 1 := ⟨f - 1, by omega⟩
    obtain ⟨t1, t2, -⟩ := hT.2.2 q (by omega)
    refine br_f (nI_ge (by omega) (by omega)) ⟨vp_in_nI (by omega) (by omega), ?_⟩
    rw [nI_clamp (by omega), t1]
    refine pk_eq (T.1 q) 15 (fun z => by omega) (fun _ => ⟨vp_in_nI (by omega) (by omega), ?_⟩)
    refine pk_eq (T.1 q) 16 (fun _ => ⟨vp_in_nI (by omega) (by omega), ?_⟩) (fun z => (z g1).elim)
    rw [nI_clamp (by omega), t1]
    exact pk_eq (T.1 q) 16 (fun _ => ⟨_, yp_40 hT hPB2 (ih (d.2 + 1) c hB (by omega) hc hW f (by omega)) (d.2 - q) q (by omega) (Nat.le_refl _)⟩) (fun z => (z g1).elim)
theorem yp_e2 {post : Int32 → Prop} {b n E e : Nat} {T : td_T} (hT : ye_T b n T b_kind b_with) (hE : E ≤ n) (he : e ≤ E) (hk : e < E → T.1 e ≠ 15 ∧ T.1 e ≠ 16) (hp : post (nI (b + e))) : ∀ (ps : List (Nat × List (Nat × Nat))) (q : Nat), gm_S T.1 n ps q e → ∀ f, E - q < f → wY_pathEnd_2 post (nI (b + E)) g_nodes g_inner g_rules g_place g_listed g_depth g_row g_pc g_node g_position g_size g_fault g_put g_steps b_name b_parent b_value b_kind b_with b_count b_bodyAt b_priority b_given b_there b_wanted b_waiting b_within b_list b_left b_reached b_sizes b_each b_backRow b_backPc b_backNode b_backPosition b_backSize b_output f (nI (b + q)) := by
  have hTb := hT.1
  have hTn := hT.2.1
  intro ps
  induction ps with
  | nil =>
    intro q hS f hf
    obtain ⟨rfl, -⟩ := hS
    obtain ⟨f, rfl⟩ : ∃ k, f = k + 1 := ⟨f - 1, by omega⟩
    refine pk_le (b + E) (b + q) (fun _ => hp) (fun z => ⟨vp_in_nI (by omega) (by omega), ?_⟩)
    obtain ⟨t1, t2, -⟩ := hT.2.2 q (by omega)
    have := hk (by omega)
    rw [nI_clamp (by omega), t1]
    exact pk_eq (T.1 q) 15 (fun z => (this.1 z).elim) (fun _ => ⟨vp_in_nI (by omega) (by omega), pk_eq (T.1 q) 16 (fun z => (this.2 z).elim) (fun _ => hp)⟩)
  | cons s t ih =>
    intro q hS f hf
    obtain ⟨e1, g1, g2, c, hBr, hSt⟩ := hS
    have hle := gm_Ble _ _ _ hBr (by omega)
    have hle2 := gm_Sle _ _ _ hSt
    obtain ⟨f, rfl⟩ : ∃ k, f = k + 1 := ⟨f - 1, by omega⟩
    obtain ⟨t1, t2, -⟩ := hT.2.2 q g1
    refine br_f (nI_ge (by omega) (by omega)) ⟨vp_in_nI (by omega) (by omega), ?_⟩
    rw [nI_clamp (by omega), t1]
    refine pk_eq (T.1 q) 15 (fun _ => ⟨vp_in_nI (by omega) (by omega), ?_⟩) (fun z => (z g2).elim)
    rw [nI_clamp (by omega), t1]
    refine pk_eq (T.1 q) 16 (fun z => by omega) (fun _ => nm_r (nI_1 _) ?_)
    exact yp_eB hT hE s.2 (q + 1) c hBr (by omega) (by omega) (fun f hf => ih c hSt f hf) f (by omega)
theorem yp_end {post : Int32 → Prop} {b n E e q : Nat} {T : td_T} {ps : List (Nat × List (Nat × Nat))} (hT : ye_T b n T b_kind b_with) (hE : E ≤ n) (he : e ≤ E) (hS : gm_S T.1 n ps q e) (hps : ps ≠ []) (hp : post (nI (b + e))) : wpY_pathEnd post (g_nodes, g_inner, g_rules, g_place, g_listed, g_depth, g_row, g_pc, g_node, g_position, g_size, g_fault, g_put, g_steps, b_name, b_parent, b_value, b_kind, b_with, b_count, b_bodyAt, b_priority, b_given, b_there, b_wanted, b_waiting, b_within, b_list, b_left, b_reached, b_sizes, b_each, b_backRow, b_backPc, b_backNode, b_backPosition, b_backSize, b_output) (nI (b + q)) (nI (b + E)) :=
  ⟨E - q + 1, yp_e2 hT hE he (fun h => gm_Se _ _ _ hS hps (by omega)) hp ps q hS _ (by omega)⟩
theorem yp_20 {post : Int32 → Prop} {J4 : Int32 → Prop} {b n p c : Nat} {T : td_T} {x2 : Int32} (hT : ye_T b n T b_kind b_with) (hB : gm_PB T.1 n p c) (hJ : J4 (nI (b + (c + 1)))) : ∀ d y, y + d = c → p ≤ y → wY_pathStep_20 post J4 x2 g_nodes g_inner g_rules g_place g_listed g_depth g_row g_pc g_node g_position g_size g_fault g_put g_steps b_name b_parent b_value b_kind b_with b_count b_bodyAt b_priority b_given b_there b_wanted b_waiting b_within b_list b_left b_reached b_sizes b_each b_backRow b_backPc b_backNode b_backPosition b_backSize b_output (d + 1) (nI (b + y)) := by
  obtain ⟨hTb, hTn, hT⟩ := hT
  obtain ⟨g1, g2, g3, g4, g5, -⟩ := hB
  intro d
  induction d with
  | zero =>
    intro y hy hyp
    obtain ⟨t1, t2, -⟩ := hT y (by omega)
    refine ⟨vp_in_nI (by omega) (by omega), ?_⟩
    rw [nI_clamp (by omega), t1, show y = c by omega]
    exact pk_eq (T.1 c) 17 (fun _ => nm_r (nI_1 _) hJ) (fun z => (z g4).elim)
  | succ d ih =>
    intro y hy hyp
    obtain ⟨t1, t2, -⟩ := hT y (by omega)
    refine ⟨vp_in_nI (by omega) (by omega), ?_⟩
    rw [nI_clamp (by omega), t1]
    refine pk_eq (T.1 y) 17 (fun z => ?_) (fun z => nm_r (nI_1 _) (ih (y + 1) (by omega) (by omega)))
    by_cases e : y = p
    · rw [e] at z; omega
    · have := g5 y (by omega) (by omega); omega
theorem yp_4 {post : Int32 → Prop} {b n s c : Nat} {T : td_T} (hT : ye_T b n T b_kind b_with) (hs : s ≤ n) (hc : c ≤ s) (hk : c < s → T.1 c = 15) (hp : post (nI (b + c))) : ∀ (brs : List (Nat × Nat)) (q : Nat), gm_B T.1 n brs q c → q ≤ n → wY_pathStep_4 post (nI (b + s)) g_nodes g_inner g_rules g_place g_listed g_depth g_row g_pc g_node g_position g_size g_fault g_put g_steps b_name b_parent b_value b_kind b_with b_count b_bodyAt b_priority b_given b_there b_wanted b_waiting b_within b_list b_left b_reached b_sizes b_each b_backRow b_backPc b_backNode b_backPosition b_backSize b_output (brs.length + 1) (nI (b + q)) := by
  have hTb := hT.1
  have hTn := hT.2.1
  intro brs
  induction brs with
  | nil =>
    intro q hB _
    obtain ⟨rfl, -⟩ := hB
    refine pk_le (b + s) (b + q) (fun _ => hp) (fun z => ⟨vp_in_nI (by omega) (by omega), ?_⟩)
    obtain ⟨t1, t2, -⟩ := hT.2.2 q (by omega)
    have := hk (by omega)
    rw [nI_clamp (by omega), t1]
    exact pk_eq (T.1 q) 15 (fun _ => hp) (fun z => (z this).elim)
  | cons d t ih =>
    intro q hB hq
    obtain ⟨e1, hPB, hB⟩ := hB
    have hPB2 := hPB
    obtain ⟨g1, g2, g3, -⟩ := hPB
    have hle := gm_Ble _ _ _ hB (by omega)
    obtain ⟨t1, t2, -⟩ := hT.2.2 q (by omega)
    refine br_f (nI_ge (by omega) (by omega)) ⟨vp_in_nI (by omega) (by omega), ?_⟩
    rw [nI_clamp (by omega), t1]
    exact pk_eq (T.1 q) 15 (fun z => by omega) (fun _ => ⟨_, yp_20 hT hPB2 (ih (d.2 + 1) hB (by omega)) (d.2 - q) q (by omega) (Nat.le_refl _)⟩)
theorem yp_step {post : Int32 → Prop} {b n s c q : Nat} {T : td_T} {brs : List (Nat × Nat)} (hT : ye_T b n T b_kind b_with) (hs : s ≤ n) (hc : c ≤ s) (hk : c < s → T.1 c = 15) (hq : q < n) (hB : gm_B T.1 n brs (q + 1) c) (hp : post (nI (b + c))) : wpY_pathStep post (g_nodes, g_inner, g_rules, g_place, g_listed, g_depth, g_row, g_pc, g_node, g_position, g_size, g_fault, g_put, g_steps, b_name, b_parent, b_value, b_kind, b_with, b_count, b_bodyAt, b_priority, b_given, b_there, b_wanted, b_waiting, b_within, b_list, b_left, b_reached, b_sizes, b_each, b_backRow, b_backPc, b_backNode, b_backPosition, b_backSize, b_output) (nI (b + q)) (nI (b + s)) :=
  nm_r (nI_1 _) ⟨_, yp_4 hT hs hc hk hp brs (q + 1) hB (by omega)⟩
theorem yp_64 {post : Int32 → SY → Prop} {J16 J29 : Int32 → Int32 → Int32 → Int32 → Int32 → Int32 → Int32 → Int32 → Int32 → Int32 → Int32 → Int32 → Int32 → Int32 → Int32 → Int32 → (Nat → Int32) → (Nat → Int32) → (Nat → Int32) → (Nat → Int32) → (Nat → Int32) → (Nat → Int32) → (Nat → Int32) → (Nat → Int32) → (Nat → Int32) → (Nat → Int32) → (Nat → Int32) → (Nat → Int32) → (Nat → Int32) → (Nat → Int32) → (Nat → Int32) → (Nat → Int32) → (Nat → Int32) → (Nat → Int32) → (Nat → Int32) → (Nat → Int32) → (Nat → Int32) → (Nat → Int32) → (Nat → Int32) → (Nat → Int32) → Prop} {x4 x5 x6 : Int32} {n M : Nat} (hM : M ≤ 24) (hg : g_listed = nI M) : ∀ (rem : List Nat) (k : Nat) (acc : Int32), k + rem.length = M → (∀ j m, rem[j]? = some m → b_list (k + j) = nI m) → (∀ m, m ∈ rem → m < 24) → (∀ acc', (∀ m, m < 32 → bt acc' m = (bt acc m || decide (m ∈ rem))) → J29 acc' (nI (n + 1)) g_nodes g_inner g_rules g_place g_listed g_depth g_row g_pc g_node g_position g_size g_fault g_put g_steps b_name b_parent b_value b_kind b_with b_count b_bodyAt b_priority b_given b_there b_wanted b_waiting b_within b_list b_left b_reached b_sizes b_each b_backRow b_backPc b_backNode b_backPosition b_backSize b_output) → wY_path_64 post J16 J29 x4 x5 x6 (nI n) g_nodes g_inner g_rules g_place g_listed g_depth g_row g_pc g_node g_position g_size g_fault g_put g_steps b_name b_parent b_value b_kind b_with b_count b_bodyAt b_priority b_given b_there b_wanted b_waiting b_within b_list b_left b_reached b_sizes b_each b_backRow b_backPc b_backNode b_backPosition b_backSize b_output (rem.length + 1) acc (nI k) := by
  subst hg
  intro rem
  induction rem with
  | nil =>
    intro k acc hk _ _ hp
    rw [List.length_nil] at hk
    exact br_t (nI_le (by omega) (by omega)) (nm_r (nI_1 n) (hp acc (fun m _ => by simp)))
  | cons a rem ih =>
    intro k acc hk ho hm hp
    rw [List.length_cons] at hk
    have ha := ho 0 a rfl
    have ha24 := hm a (by simp)
    refine br_f (nI_ge (by omega) (by omega)) ⟨vp_in_nI (by omega) (by omega), ?_⟩
    rw [nI_clamp (by omega), show b_list k = nI a from ha]
    refine nm_e (nm_r (nI_1 k) (ih (k + 1) _ (by omega) (fun j x hx => ?_) (fun m h => hm m (List.mem_cons_of_mem _ h)) (fun acc' g => hp acc' (fun m hm => ?_))))
    · rw [show k + 1 + j = k + (j + 1) by omega]
      exact ho (j + 1) x hx
    · rw [g m hm, b_or, ta_one a (by omega) m hm]
      by_cases z : m = a
      · simp [z]
      · simp [z]
theorem yp_29 {post : Int32 → SY → Prop} {J16 : Int32 → Int32 → Int32 → Int32 → Int32 → Int32 → Int32 → Int32 → Int32 → Int32 → Int32 → Int32 → Int32 → Int32 → Int32 → Int32 → (Nat → Int32) → (Nat → Int32) → (Nat → Int32) → (Nat → Int32) → (Nat → Int32) → (Nat → Int32) → (Nat → Int32) → (Nat → Int32) → (Nat → Int32) → (Nat → Int32) → (Nat → Int32) → (Nat → Int32) → (Nat → Int32) → (Nat → Int32) → (Nat → Int32) → (Nat → Int32) → (Nat → Int32) → (Nat → Int32) → (Nat → Int32) → (Nat → Int32) → (Nat → Int32) → (Nat → Int32) → (Nat → Int32) → (Nat → Int32) → Prop} {nn b n s c q : Nat} {T : td_T} {set : Int32} {brs : List (Nat × Nat)} (hg : g_nodes = nI nn) (hP : td_P nn b_parent) (hT : ye_T b n T b_kind b_with) (hs : s ≤ n) (hc : c ≤ s) (hk : c < s → T.1 c = 15) (hq : q < n) (hkq : T.1 q = 15) (hB : gm_B T.1 n brs (q + 1) c) : ∀ d j acc ld li wi, j + d = nn → (∀ acc' ld' li' wi', (∀ m, m < 32 → bt acc' m = (bt acc m || (List.range nn).any (fun x => decide (j ≤ x) && (bt set x && decide (m ∈ td_se (nn, b_parent, b_name, b_value) T (q, brs) x))))) → J16 acc' (nI (b + c)) g_nodes g_inner g_rules g_place ld' g_depth g_row g_pc g_node g_position g_size g_fault g_put g_steps b_name b_parent b_value b_kind b_with b_count b_bodyAt b_priority b_given b_there b_wanted b_waiting wi' li' b_left b_reached b_sizes b_each b_backRow b_backPc b_backNode b_backPosition b_backSize b_output) → wY_path_29 post J16 set (nI (b + s)) (nI (b + q)) (d + 1) acc (nI j) g_nodes g_inner g_rules g_place ld g_depth g_row g_pc g_node g_position g_size g_fault g_put g_steps b_name b_parent b_value b_kind b_with b_count b_bodyAt b_priority b_given b_there b_wanted b_waiting wi li b_left b_reached b_sizes b_each b_backRow b_backPc b_backNode b_backPosition b_backSize b_output := by
  have h24 := hP.1
  have hg2 := hg
  subst hg
  intro d
  induction d with
  | zero =>
    intro j acc ld li wi hj hp
    refine br_t (nI_le (by omega) (by omega)) (yp_step hT hs hc hk hq hB (hp acc ld li wi (fun m _ => ?_)))
    have : (List.range nn).any (fun x => decide (j ≤ x) && (bt set x && decide (m ∈ td_se (nn, b_parent, b_name, b_value) T (q, brs) x))) = false := by
      rw [List.any_eq_false]
      intro n hn
      have := List.mem_range.mp hn
      rw [decide_eq_false (by omega)]; simp
    rw [this, Bool.or_false]
  | succ d ih =>
    intro j acc ld li wi hj hp
    have split : ∀ m, (List.range nn).any (fun x => decide (j ≤ x) && (bt set x && decide (m ∈ td_se (nn, b_parent, b_name, b_value) T (q, brs) x))) = ((bt set j && decide (m ∈ td_se (nn, b_parent, b_name, b_value) T (q, brs) j)) || (List.range nn).any (fun x => decide (j + 1 ≤ x) && (bt set x && decide (m ∈ td_se (nn, b_parent, b_name, b_value) T (q, brs) x)))) := by
      intro m
      apply Bool.eq_iff_iff.mpr
      rw [Bool.or_eq_true, List.any_eq_true, List.any_eq_true]
      constructor
      · rintro ⟨n, z1, z2⟩
        by_cases c : n = j
        · subst c
          rw [Bool.and_eq_true] at z2
          exact Or.inl z2.2
        · refine Or.inr ⟨n, z1, ?_⟩
          rw [Bool.and_eq_true, decide_eq_true_eq] at z2 ⊢
          exact ⟨by omega, z2.2⟩
      · rintro (z | ⟨n, z1, z2⟩)
        · exact ⟨j, List.mem_range.mpr (by omega), by rw [z, decide_eq_true (Nat.le_refl j)]; rfl⟩
        · refine ⟨n, z1, ?_⟩
          rw [Bool.and_eq_true, decide_eq_true_eq] at z2 ⊢
          exact ⟨by omega, z2.2⟩
    refine br_f (nI_ge (by omega) (by omega)) (br_c (fun z => nm_r (nI_1 j) (ih (j + 1) acc ld li wi (by omega) (fun acc' ld' li' wi' g => hp acc' ld' li' wi' (fun m hm => ?_)))) (fun z => ?_))
    · rw [g m hm, split m, (ta_tst set (by omega)).mp z, Bool.false_and, Bool.false_or]
    · have hb : bt set j = true := by
        cases h : bt set j with
        | true => rfl
        | false => exact (z ((ta_tst set (by omega)).mpr h)).elim
      have hor : td_or (td_bk (T.2 q).toNatClampNeg) nn (td_se (nn, b_parent, b_name, b_value) T (q, brs) j) := td_mse _ _ td_or_ls
      obtain ⟨l', hl1, hl2⟩ := td_orN h24 hor
      have hlen24 : (td_se (nn, b_parent, b_name, b_value) T (q, brs) j).length ≤ 24 := by
        have h1 : l'.length ≤ (List.range 24).length := List.Nodup.length_le_of_subset (List.Pairwise.imp (fun h => Nat.ne_of_lt h) hl1.2.1) (fun i hi => List.mem_range.mpr (hl1.2.2 i hi))
        rw [List.length_range] at h1
        omega
      refine yi_list rfl hP hT hc hs hq hkq hB (by omega) (fun li' wi' hl' => ?_)
      refine ⟨_, yp_64 hlen24 rfl (td_se (nn, b_parent, b_name, b_value) T (q, brs) j) 0 acc (by omega) (fun i m h => by rw [Nat.zero_add]; exact hl' i m h) (fun m h => by have := hor.1 m h; omega) (fun acc1 g1 => ?_)⟩
      refine ih (j + 1) acc1 _ li' wi' (by omega) (fun acc' ld2 li2 wi2 g => hp acc' ld2 li2 wi2 (fun m hm => ?_))
      rw [g m hm, g1 m hm, split m, hb, Bool.true_and, Bool.or_assoc]
theorem yp_16 {post : Int32 → SY → Prop} {nn b n s : Nat} {T : td_T} (hg : g_nodes = nI nn) (hP : td_P nn b_parent) (hT : ye_T b n T b_kind b_with) (hs : s ≤ n) : ∀ (ps : List (Nat × List (Nat × Nat))) (q : Nat) (set ld : Int32) (li wi : Nat → Int32), gm_S T.1 n ps q s → (∀ ld' li' wi', post (td_pv (nn, b_parent, b_name, b_value) T ps set) (g_nodes, g_inner, g_rules, g_place, ld', g_depth, g_row, g_pc, g_node, g_position, g_size, g_fault, g_put, g_steps, b_name, b_parent, b_value, b_kind, b_with, b_count, b_bodyAt, b_priority, b_given, b_there, b_wanted, b_waiting, wi', li', b_left, b_reached, b_sizes, b_each, b_backRow, b_backPc, b_backNode, b_backPosition, b_backSize, b_output)) → wY_path_16 post (nI (b + s)) (ps.length + 1) set (nI (b + q)) g_nodes g_inner g_rules g_place ld g_depth g_row g_pc g_node g_position g_size g_fault g_put g_steps b_name b_parent b_value b_kind b_with b_count b_bodyAt b_priority b_given b_there b_wanted b_waiting wi li b_left b_reached b_sizes b_each b_backRow b_backPc b_backNode b_backPosition b_backSize b_output := by
  have h24 := hP.1
  have hTb := hT.1
  have hTn := hT.2.1
  intro ps
  induction ps with
  | nil =>
    intro q set ld li wi hS hp
    obtain ⟨rfl, -⟩ := hS
    exact br_t (Int32.le_refl _) (hp ld li wi)
  | cons x t ih =>
    intro q set ld li wi hS hp
    obtain ⟨x1, brs⟩ := x
    obtain ⟨e1, g1, g2, c, hBr, hSt⟩ := hS
    have e1 : x1 = q := e1
    subst e1
    dsimp only at hBr
    have hle := gm_Ble _ _ _ hBr (by omega)
    have hle2 := gm_Sle _ _ _ hSt
    have hkc : c < s → T.1 c = 15 := by
      intro hc
      cases t with
      | nil => have := hSt.1; omega
      | cons y t2 => exact hSt.2.2.1
    refine br_f (nI_ge (by omega) (by omega)) ⟨nn + 1, yp_29 hg hP hT hs hle2.1 hkc g1 g2 hBr nn 0 0 ld li wi (by omega) (fun acc' ld' li' wi' g => ?_)⟩
    have hall : acc' = td_st (nn, b_parent, b_name, b_value) T (x1, brs) set := by
      unfold td_st
      apply tm_ext (by dsimp only; omega)
      intro m hm
      rw [g m hm, b_0, Bool.false_or]
      apply Bool.eq_iff_iff.mpr
      rw [Bool.and_eq_true, List.any_eq_true, List.any_eq_true, decide_eq_true_eq]
      constructor
      · rintro ⟨n, y1, y2⟩
        rw [decide_eq_true (Nat.zero_le n), Bool.true_and] at y2
        have hor : td_or (td_bk (T.2 x1).toNatClampNeg) nn (td_se (nn, b_parent, b_name, b_value) T (x1, brs) n) := td_mse _ _ td_or_ls
        exact ⟨hor.1 m (of_decide_eq_true (Bool.and_eq_true_iff.mp y2).2), n, y1, y2⟩
      · rintro ⟨_, n, y1, y2⟩
        refine ⟨n, y1, ?_⟩
        rw [decide_eq_true (Nat.zero_le n), Bool.true_and]
        exact y2
    rw [hall]
    refine ih c _ ld' li' wi' hSt (fun ld2 li2 wi2 => ?_)
    have := hp ld2 li2 wi2
    unfold td_pv at this
    rw [List.foldl_cons] at this
    exact this
/-- what a path selects -/
theorem yp_path {post : Int32 → SY → Prop} {nn b n s q E node : Nat} {T : td_T} {ps : List (Nat × List (Nat × Nat))} (hg : g_nodes = nI nn) (hP : td_P nn b_parent) (hT : ye_T b n T b_kind b_with) (hE : E ≤ n) (hs : s ≤ E) (hS : gm_S T.1 n ps q s) (hps : ps ≠ []) (hp : ∀ ld li wi, post (td_pv (nn, b_parent, b_name, b_value) T ps (td_1 node)) (g_nodes, g_inner, g_rules, g_place, ld, g_depth, g_row, g_pc, g_node, g_position, g_size, g_fault, g_put, g_steps, b_name, b_parent, b_value, b_kind, b_with, b_count, b_bodyAt, b_priority, b_given, b_there, b_wanted, b_waiting, wi, li, b_left, b_reached, b_sizes, b_each, b_backRow, b_backPc, b_backNode, b_backPosition, b_backSize, b_output)) : wpY_path post (g_nodes, g_inner, g_rules, g_place, g_listed, g_depth, g_row, g_pc, g_node, g_position, g_size, g_fault, g_put, g_steps, b_name, b_parent, b_value, b_kind, b_with, b_count, b_bodyAt, b_priority, b_given, b_there, b_wanted, b_waiting, b_within, b_list, b_left, b_reached, b_sizes, b_each, b_backRow, b_backPc, b_backNode, b_backPosition, b_backSize, b_output) (nI (b + q)) (nI (b + E)) (nI node) :=
  nm_e (yp_end hT hE hs hS hps ⟨_, yp_16 hg hP hT (by omega) ps q _ g_listed b_list b_within hS hp⟩)
end
end
section
/-! numbers outside of conditions in the reference; ends -/
section
variable {g_nodes g_inner g_rules g_place g_listed g_depth g_row g_pc g_node g_position g_size g_fault g_put g_steps : Int32} {b_name b_parent b_value b_kind b_with b_count b_bodyAt b_priority b_given b_there b_wanted b_waiting b_within b_list b_left b_reached b_sizes b_each b_backRow b_backPc b_backNode b_backPosition b_backSize b_output : Nat → Int32}
theorem yn_111 {post : Int32 → SY → Prop} {J8 : Int32 → Int32 → Int32 → Int32 → Int32 → Int32 → Int32 → Int32 → Int32 → Int32 → Int32 → Int32 → Int32 → Int32 → Int32 → Int32 → (Nat → Int32) → (Nat → Int32) → (Nat → Int32) → (Nat → Int32) → (Nat → Int32) → (Nat → Int32) → (Nat → Int32) → (Nat → Int32) → (Nat → Int32) → (Nat → Int32) → (Nat → Int32) → (Nat → Int32) → (Nat → Int32) → (Nat → Int32) → (Nat → Int32) → (Nat → Int32) → (Nat → Int32) → (Nat → Int32) → (Nat → Int32) → (Nat → Int32) → (Nat → Int32) → (Nat → Int32) → (Nat → Int32) → (Nat → Int32) → Prop} {b n q node nn : Nat} {T : td_T} {x1 x2 pos many tv : Int32} {l : List Int32} (hT : ye_T b n T b_kind b_with) (hq : q < n) (hnode : node < nn) (h24 : nn ≤ 24) (h0 : 0 < b + q) (hk : T.1 q ≤ 3 ∨ 7 ≤ T.1 q) (hk2 : T.1 q ≤ 14) (hs : xs_k l b_waiting) (h31 : l.length < 32) (ha : T.1 q = 14 → 0 < l.length) (hb : 7 ≤ T.1 q → T.1 q ≤ 13 → 2 ≤ l.length)
    (hp : ∀ wi, xs_k (td_op (T.1 q) (T.2 q) (b_value node) pos many tv l) wi → J8 (nI (td_op (T.1 q) (T.2 q) (b_value node) pos many tv l).length) (nI (b + q - 1)) g_nodes g_inner g_rules g_place g_listed g_depth g_row g_pc g_node g_position g_size g_fault g_put g_steps b_name b_parent b_value b_kind b_with b_count b_bodyAt b_priority b_given b_there b_wanted wi b_within b_list b_left b_reached b_sizes b_each b_backRow b_backPc b_backNode b_backPosition b_backSize b_output) : wY_outerNumber_111 post J8 x1 x2 (nI node) pos many (nI l.length) (nI (b + q)) (nI (T.1 q)) g_nodes g_inner g_rules g_place g_listed g_depth g_row g_pc g_node g_position g_size g_fault g_put g_steps b_name b_parent b_value b_kind b_with b_count b_bodyAt b_priority b_given b_there b_wanted b_waiting b_within b_list b_left b_reached b_sizes b_each b_backRow b_backPc b_backNode b_backPosition b_backSize b_output := by
  obtain ⟨hTb, hTn, hT⟩ := hT
  obtain ⟨t1, t2, t3, -⟩ := hT q hq
  have hx1 : nI (b + q) + (-1) = nI (b + q - 1) := sb_m1 h0
  refine pk_le 4 (T.1 q) (fun z4 => pk_eq (T.1 q) 14 (fun z => ?_) (fun z => ?_)) (fun z4 => nm_r (nI_1 l.length) ?_)
  · have h0 := ha z
    rw [z] at hp
    match l, hs, h31, h0, hp with
    | x :: t, hs, h31, _, hp =>
      rw [List.length_cons] at h31 ⊢
      rw [nI_pred]
      rw [td_op14] at hp
      refine ⟨vp_in_nI (by omega) (by omega), ?_⟩
      rw [nI_clamp (by omega), hs.1]
      refine br_c (fun c => ⟨vp_in_nI (by omega) (by omega), nm_e (nm_r hx1 ?_)⟩) (fun c => ⟨vp_in_nI (by omega) (by omega), nm_e (nm_r hx1 ?_)⟩)
      · rw [if_pos c] at hp; exact hp _ (xs_push hs.2)
      · rw [if_neg c] at hp; exact hp _ (xs_push hs.2)
  · have h0 := hb (by omega) (by omega)
    match l, hs, h31, h0, hp with
    | [x], _, _, h0, _ => simp at h0
    | x :: y :: t, hs, h31, _, hp =>
      rw [td_op713 (by omega) (by omega)] at hp
      simp only [List.length_cons] at h31 ⊢
      refine nm_r (pk_m1 (t.length + 1)) ⟨vp_in_nI (by omega) (by omega), ?_⟩
      rw [nI_pred]
      have s1 : b_waiting (t.length + 1) = x := hs.1
      have s2 : b_waiting t.length = y := hs.2.1
      refine ⟨vp_in_nI (by omega) (by omega), ?_⟩
      rw [nI_clamp (by omega), nI_clamp (by omega), s1, s2]
      exact yl_calc (by omega) (by omega) ⟨vp_in_nI (by omega) (by omega), nm_e (nm_r hx1 (hp _ (xs_push hs.2.2)))⟩
  · have hop : ∀ v, td_op (T.1 q) (T.2 q) (b_value node) pos many tv l = v :: l → J8 (nI (l.length + 1)) (nI (b + q - 1)) g_nodes g_inner g_rules g_place g_listed g_depth g_row g_pc g_node g_position g_size g_fault g_put g_steps b_name b_parent b_value b_kind b_with b_count b_bodyAt b_priority b_given b_there b_wanted (upd b_waiting l.length v) b_within b_list b_left b_reached b_sizes b_each b_backRow b_backPc b_backNode b_backPosition b_backSize b_output := by
      intro v hv
      rw [hv] at hp
      exact hp _ (xs_push hs)
    rw [nI_clamp (show l.length < 2 ^ 31 by omega), nI_clamp (show b + q < 2 ^ 31 by omega), nI_clamp (show node < 2 ^ 31 by omega)]
    refine pk_eq (T.1 q) 0 (fun z => ⟨vp_in_nI (by omega) (by omega), vp_in_nI (by omega) (by omega), ?_⟩) (fun z0 => ?_)
    · rw [t3]
      refine nm_e (nm_r hx1 (hop _ ?_))
      unfold td_op
      rw [if_neg (by omega), if_pos z]
    · refine pk_eq (T.1 q) 1 (fun z => ⟨vp_in_nI (by omega) (by omega), nm_e (nm_r hx1 (hop _ ?_))⟩) (fun z1 => ?_)
      · unfold td_op
        rw [if_neg (by omega), if_neg (by omega), if_pos z]
      · refine pk_eq (T.1 q) 2 (fun z => ⟨vp_in_nI (by omega) (by omega), nm_e (nm_r hx1 (hop _ ?_))⟩) (fun z2 => ⟨vp_in_nI (by omega) (by omega), vp_in_nI (by omega) (by omega), nm_e (nm_r hx1 (hop _ ?_))⟩)
        · unfold td_op
          rw [if_neg (by omega), if_neg (by omega), if_neg (by omega), if_pos z]
        · unfold td_op
          rw [if_neg (by omega), if_neg (by omega), if_neg (by omega), if_neg (by omega), if_pos (by omega)]
theorem yn_30 {post : Int32 → SY → Prop} {J8 : Int32 → Int32 → Int32 → Int32 → Int32 → Int32 → Int32 → Int32 → Int32 → Int32 → Int32 → Int32 → Int32 → Int32 → Int32 → Int32 → (Nat → Int32) → (Nat → Int32) → (Nat → Int32) → (Nat → Int32) → (Nat → Int32) → (Nat → Int32) → (Nat → Int32) → (Nat → Int32) → (Nat → Int32) → (Nat → Int32) → (Nat → Int32) → (Nat → Int32) → (Nat → Int32) → (Nat → Int32) → (Nat → Int32) → (Nat → Int32) → (Nat → Int32) → (Nat → Int32) → (Nat → Int32) → (Nat → Int32) → (Nat → Int32) → (Nat → Int32) → (Nat → Int32) → (Nat → Int32) → Prop} {b n p c : Nat} {T : td_T} {x1 x2 x3 x4 x5 x6 : Int32} (hT : ye_T b n T b_kind b_with) (hB : gm_PB T.1 n p c) (hb : 0 < b + p) (hJ : J8 x6 (nI (b + p - 1)) g_nodes g_inner g_rules g_place g_listed g_depth g_row g_pc g_node g_position g_size g_fault g_put g_steps b_name b_parent b_value b_kind b_with b_count b_bodyAt b_priority b_given b_there b_wanted b_waiting b_within b_list b_left b_reached b_sizes b_each b_backRow b_backPc b_backNode b_backPosition b_backSize b_output) : ∀ d y, y = p + d → y ≤ c → wY_outerNumber_30 post J8 x1 x2 x3 x4 x5 x6 17 g_nodes g_inner g_rules g_place g_listed g_depth g_row g_pc g_node g_position g_size g_fault g_put g_steps b_name b_parent b_value b_kind b_with b_count b_bodyAt b_priority b_given b_there b_wanted b_waiting b_within b_list b_left b_reached b_sizes b_each b_backRow b_backPc b_backNode b_backPosition b_backSize b_output (d + 1) (nI (b + y)) := by
  obtain ⟨hTb, hTn, hT⟩ := hT
  obtain ⟨g1, g2, g3, g4, g5, -⟩ := hB
  intro d
  induction d with
  | zero =>
    intro y hy hyc
    obtain ⟨t1, t2, -⟩ := hT y (by omega)
    refine ⟨vp_in_nI (by omega) (by omega), ?_⟩
    rw [nI_clamp (by omega), t1, show y = p by omega]
    exact pk_eq (T.1 p) 16 (fun _ => br_t rfl (nm_r (sb_m1 (by omega)) hJ)) (fun z => (z g1).elim)
  | succ d ih =>
    intro y hy hyc
    obtain ⟨t1, t2, -⟩ := hT y (by omega)
    refine ⟨vp_in_nI (by omega) (by omega), ?_⟩
    rw [nI_clamp (by omega), t1]
    refine pk_eq (T.1 y) 16 (fun z => ?_) (fun z => nm_r ((sb_m1 (by omega)).trans (congrArg nI (show b + y - 1 = b + (y - 1) by omega))) (ih (y - 1) (by omega) (by omega)))
    by_cases e : y = c
    · rw [e] at z; omega
    · have := g5 y (by omega) (by omega); omega
theorem yn_br {post : Int32 → SY → Prop} {b n q0 h : Nat} {T : td_T} {x2 x3 x4 x5 : Int32} (hT : ye_T b n T b_kind b_with) (h0 : 0 < b + q0) : ∀ (brs : List (Nat × Nat)) (q c : Nat), gm_B T.1 n brs q c → q0 ≤ q → (∀ f, q < f → wY_outerNumber_8 post (nI (b + q0)) x2 x3 x4 x5 f (nI h) (nI (b + q - 1)) g_nodes g_inner g_rules g_place g_listed g_depth g_row g_pc g_node g_position g_size g_fault g_put g_steps b_name b_parent b_value b_kind b_with b_count b_bodyAt b_priority b_given b_there b_wanted b_waiting b_within b_list b_left b_reached b_sizes b_each b_backRow b_backPc b_backNode b_backPosition b_backSize b_output) → ∀ f, c < f → wY_outerNumber_8 post (nI (b + q0)) x2 x3 x4 x5 f (nI h) (nI (b + c - 1)) g_nodes g_inner g_rules g_place g_listed g_depth g_row g_pc g_node g_position g_size g_fault g_put g_steps b_name b_parent b_value b_kind b_with b_count b_bodyAt b_priority b_given b_there b_wanted b_waiting b_within b_list b_left b_reached b_sizes b_each b_backRow b_backPc b_backNode b_backPosition b_backSize b_output := by
  have hTb := hT.1
  have hTn := hT.2.1
  intro brs
  induction brs with
  | nil => intro q c hB _ hW; obtain ⟨rfl, -⟩ := hB; exact hW
  | cons d t ih =>
    intro q c hB hq hW
    obtain ⟨e1, hPB, hB⟩ := hB
    have hPB2 := hPB
    obtain ⟨g1, g2, g3, g4, g5, -⟩ := hPB
    refine ih (d.2 + 1) c hB (by omega) (fun f hf => ?_)
    obtain ⟨f, rfl⟩ : ∃ k, f = k + 1 := ⟨f - 1, by omega⟩
    obtain ⟨t1, t2, -⟩ := hT.2.2 d.2 (by omega)
    rw [show b + (d.2 + 1) - 1 = b + d.2 by omega]
    refine br_f (nI_nlt (by omega) (by omega)) ⟨vp_in_nI (by omega) (by omega), ?_⟩
    rw [nI_clamp (by omega)]
    refine nm_r (e' := 17) (t1.trans (congrArg nI g4)) (br_t rfl ⟨_, yn_30 hT hPB2 (by omega) (hW f (by omega)) (d.2 - q) d.2 (by omega) (Nat.le_refl _)⟩)
theorem yn_pa {post : Int32 → SY → Prop} {b n q0 h : Nat} {T : td_T} {x2 x3 x4 x5 : Int32} (hT : ye_T b n T b_kind b_with) (h0 : 0 < b + q0) : ∀ (ps : List (Nat × List (Nat × Nat))) (q e : Nat), gm_S T.1 n ps q e → q0 ≤ q → (∀ f, q < f → wY_outerNumber_8 post (nI (b + q0)) x2 x3 x4 x5 f (nI h) (nI (b + q - 1)) g_nodes g_inner g_rules g_place g_listed g_depth g_row g_pc g_node g_position g_size g_fault g_put g_steps b_name b_parent b_value b_kind b_with b_count b_bodyAt b_priority b_given b_there b_wanted b_waiting b_within b_list b_left b_reached b_sizes b_each b_backRow b_backPc b_backNode b_backPosition b_backSize b_output) → ∀ f, e < f → wY_outerNumber_8 post (nI (b + q0)) x2 x3 x4 x5 f (nI h) (nI (b + e - 1)) g_nodes g_inner g_rules g_place g_listed g_depth g_row g_pc g_node g_position g_size g_fault g_put g_steps b_name b_parent b_value b_kind b_with b_count b_bodyAt b_priority b_given b_there b_wanted b_waiting b_within b_list b_left b_reached b_sizes b_each b_backRow b_backPc b_backNode b_backPosition b_backSize b_output := by
  have hTb := hT.1
  have hTn := hT.2.1
  intro ps
  induction ps with
  | nil => intro q e hS _ hW; obtain ⟨rfl, -⟩ := hS; exact hW
  | cons s t ih =>
    intro q e hS hq hW
    obtain ⟨e1, g1, g2, c, hBr, hSt⟩ := hS
    have hle := gm_Ble _ _ _ hBr (by omega)
    refine ih c e hSt (by omega) (yn_br hT h0 s.2 (q + 1) c hBr (by omega) (fun f hf => ?_))
    obtain ⟨f, rfl⟩ : ∃ k, f = k + 1 := ⟨f - 1, by omega⟩
    obtain ⟨t1, t2, -⟩ := hT.2.2 q g1
    rw [show b + (q + 1) - 1 = b + q by omega]
    refine br_f (nI_nlt (by omega) (by omega)) ⟨vp_in_nI (by omega) (by omega), ?_⟩
    rw [nI_clamp (by omega)]
    refine nm_r (e' := 15) (t1.trans (congrArg nI g2)) (br_f (by decide) (br_f (by decide) (br_t rfl (nm_r (sb_m1 (by omega)) (hW f (by omega))))))
theorem yn_8 {post : Int32 → SY → Prop} {nn b n q0 e node : Nat} {T : td_T} {pos many : Int32} (hg : g_nodes = nI nn) (hP : td_P nn b_parent) (hT : ye_T b n T b_kind b_with) (hnode : node < nn) (h0 : 0 < b + q0) (hen : e ≤ n) : ∀ (its : List (Nat × List (Nat × List (Nat × Nat)))) (q m : Nat), gm_N T.1 n its q e → gm_C T.1 its m → q0 ≤ q →
    (∀ f wt ld li wi, q < f → xs_k (td_nv (nn, b_parent, b_name, b_value) T node pos many its) wt → wY_outerNumber_8 post (nI (b + q0)) (nI (b + e)) (nI node) pos many f (nI m) (nI (b + q - 1)) g_nodes g_inner g_rules g_place ld g_depth g_row g_pc g_node g_position g_size g_fault g_put g_steps b_name b_parent b_value b_kind b_with b_count b_bodyAt b_priority b_given b_there b_wanted wt wi li b_left b_reached b_sizes b_each b_backRow b_backPc b_backNode b_backPosition b_backSize b_output) →
    ∀ f wt ld li wi, e < f → wY_outerNumber_8 post (nI (b + q0)) (nI (b + e)) (nI node) pos many f 0 (nI (b + e - 1)) g_nodes g_inner g_rules g_place ld g_depth g_row g_pc g_node g_position g_size g_fault g_put g_steps b_name b_parent b_value b_kind b_with b_count b_bodyAt b_priority b_given b_there b_wanted wt wi li b_left b_reached b_sizes b_each b_backRow b_backPc b_backNode b_backPosition b_backSize b_output := by
  have h24 := hP.1
  have hTb := hT.1
  have hTn := hT.2.1
  intro its
  induction its with
  | nil =>
    intro q m hN hC _ hW f wt ld li wi hf
    obtain ⟨rfl, -⟩ := hN
    have hm : m = 0 := hC
    subst hm
    exact hW f wt ld li wi hf trivial
  | cons i t ih =>
    intro q m hN hC hq hW
    obtain ⟨i1, ps⟩ := i
    have hle := gm_Nle _ _ _ _ hN hC
    have hfull := td_nvl (D := (nn, b_parent, b_name, b_value)) (node := node) (pos := pos) (many := many) _ _ _ _ hN hC
    obtain ⟨e1, g1, g2, g3⟩ := hN
    have e1 : i1 = q := e1
    subst e1
    obtain ⟨b1, b2⟩ := hC
    dsimp only at b2 g3
    obtain ⟨t1, t2, t3, -⟩ := hT.2.2 i1 g1
    have hx1 : nI (b + i1) + (-1) = nI (b + i1 - 1) := sb_m1 (by omega)
    have enve : td_nv (nn, b_parent, b_name, b_value) T node pos many ((i1, ps) :: t) = td_op (T.1 i1) (T.2 i1) (b_value node) pos many (td_to (nn, b_parent, b_name, b_value) (T.1 i1) (td_pv (nn, b_parent, b_name, b_value) T ps (td_1 node))) (td_nv (nn, b_parent, b_name, b_value) T node pos many t) := rfl
    rw [enve] at hW hfull
    rcases g3 with ⟨k1, k2, k3, c, hS, hNt⟩ | ⟨k1, k3, hNt⟩
    · rw [if_pos k2] at b2
      have hlc := gm_Nle _ _ _ _ hNt b2
      have hls := gm_Slt hS k3
      have hnl := td_nvl (D := (nn, b_parent, b_name, b_value)) (node := node) (pos := pos) (many := many) _ _ _ _ hNt b2
      rw [td_op46 k1 k2] at hW
      refine ih c (m - 1) hNt b2 (by omega) (fun f wt ld li wi hf hs => ?_)
      refine yn_pa hT h0 ps (i1 + 1) c hS (by omega) (fun f hf => ?_) f hf
      obtain ⟨f, rfl⟩ : ∃ k, f = k + 1 := ⟨f - 1, by omega⟩
      rw [show b + (i1 + 1) - 1 = b + i1 by omega]
      refine br_f (nI_nlt (by omega) (by omega)) ⟨vp_in_nI (by omega) (by omega), ?_⟩
      rw [nI_clamp (by omega)]
      refine nm_r t1 (pk_eq (T.1 i1) 17 (fun z => by omega) (fun _ => pk_eq (T.1 i1) 17 (fun z => by omega) (fun _ => pk_eq (T.1 i1) 15 (fun z => by omega) (fun _ => pk_le (T.1 i1) 3 (fun z => by omega) (fun _ => pk_le 7 (T.1 i1) (fun z => by omega) (fun _ => ?_))))))
      rw [show nI (b + i1) + 1 = nI (b + (i1 + 1)) from (nI_1 _).trans (congrArg nI (show b + i1 + 1 = b + (i1 + 1) by omega))]
      refine yp_path hg hP hT hen (by omega) hS k3 (fun ld' li' wi' => nm_r (nI_1 (m - 1)) ?_)
      refine yl_told hg h24 k1 k2 ⟨vp_in_nI (by omega) (by omega), ?_⟩
      rw [nI_clamp (by omega)]
      refine nm_e (nm_r hx1 ?_)
      rw [show m - 1 + 1 = m by omega]
      refine hW f _ ld' li' wi' (by omega) ?_
      have := xs_push (v := td_to (nn, b_parent, b_name, b_value) (T.1 i1) (td_pv (nn, b_parent, b_name, b_value) T ps (td_1 node))) hs
      rw [hnl] at this
      exact this
    · have main : ∀ m', gm_C T.1 t m' → (T.1 i1 = 14 → 0 < m') → (7 ≤ T.1 i1 → T.1 i1 ≤ 13 → 2 ≤ m') → m' < 32 → ∀ f wt ld li wi, e < f → wY_outerNumber_8 post (nI (b + q0)) (nI (b + e)) (nI node) pos many f 0 (nI (b + e - 1)) g_nodes g_inner g_rules g_place ld g_depth g_row g_pc g_node g_position g_size g_fault g_put g_steps b_name b_parent b_value b_kind b_with b_count b_bodyAt b_priority b_given b_there b_wanted wt wi li b_left b_reached b_sizes b_each b_backRow b_backPc b_backNode b_backPosition b_backSize b_output := by
        intro m' hC' c1 c2 c3
        have hnl := td_nvl (D := (nn, b_parent, b_name, b_value)) (node := node) (pos := pos) (many := many) _ _ _ _ hNt hC'
        refine ih (i1 + 1) m' hNt hC' (by omega) (fun f wt ld li wi hf hs => ?_)
        obtain ⟨f, rfl⟩ : ∃ k, f = k + 1 := ⟨f - 1, by omega⟩
        rw [show b + (i1 + 1) - 1 = b + i1 by omega]
        refine br_f (nI_nlt (by omega) (by omega)) ⟨vp_in_nI (by omega) (by omega), ?_⟩
        rw [nI_clamp (by omega)]
        have fin : wY_outerNumber_111 post (wY_outerNumber_8 post (nI (b + q0)) (nI (b + e)) (nI node) pos many f) (nI (b + q0)) (nI (b + e)) (nI node) pos many (nI m') (nI (b + i1)) (nI (T.1 i1)) g_nodes g_inner g_rules g_place ld g_depth g_row g_pc g_node g_position g_size g_fault g_put g_steps b_name b_parent b_value b_kind b_with b_count b_bodyAt b_priority b_given b_there b_wanted wt wi li b_left b_reached b_sizes b_each b_backRow b_backPc b_backNode b_backPosition b_backSize b_output := by
          rw [← hnl]
          refine yn_111 (tv := td_to (nn, b_parent, b_name, b_value) (T.1 i1) (td_pv (nn, b_parent, b_name, b_value) T ps (td_1 node))) hT g1 hnode h24 (by omega) (by omega) g2 hs (by omega) (fun z => by have := c1 z; omega) (fun z y => by have := c2 z y; omega) (fun wt' hs' => ?_)
          rw [hfull]
          exact hW f wt' ld li wi (by omega) hs'
        refine nm_r t1 (pk_eq (T.1 i1) 17 (fun z => by omega) (fun _ => pk_eq (T.1 i1) 17 (fun z => by omega) (fun _ => pk_eq (T.1 i1) 15 (fun z => by omega) (fun _ => pk_le (T.1 i1) 3 (fun _ => fin) (fun _ => pk_le 7 (T.1 i1) (fun _ => fin) (fun z => by omega))))))
      by_cases z6 : T.1 i1 ≤ 6
      · rw [if_pos z6] at b2
        have := gm_Nle _ _ _ _ hNt b2
        exact main (m - 1) b2 (by omega) (by omega) (by omega)
      · rw [if_neg z6] at b2
        by_cases z14 : T.1 i1 = 14
        · rw [if_pos z14] at b2
          have := gm_Nle _ _ _ _ hNt b2
          exact main m b2 (by omega) (by omega) (by omega)
        · rw [if_neg z14] at b2
          have := gm_Nle _ _ _ _ hNt b2
          exact main (m + 1) b2 (by omega) (by omega) (by omega)
/-- a number -/
theorem yn_number {post : Int32 → SY → Prop} {nn b n q e node : Nat} {T : td_T} {pos many : Int32} {its : List (Nat × List (Nat × List (Nat × Nat)))} (hg : g_nodes = nI nn) (hP : td_P nn b_parent) (hT : ye_T b n T b_kind b_with) (hnode : node < nn) (h0 : 0 < b + q) (hN : gm_N T.1 n its q e) (hC : gm_C T.1 its 1) (hp : ∀ wt ld li wi, post ((td_nv (nn, b_parent, b_name, b_value) T node pos many its).headD 0) (g_nodes, g_inner, g_rules, g_place, ld, g_depth, g_row, g_pc, g_node, g_position, g_size, g_fault, g_put, g_steps, b_name, b_parent, b_value, b_kind, b_with, b_count, b_bodyAt, b_priority, b_given, b_there, b_wanted, wt, wi, li, b_left, b_reached, b_sizes, b_each, b_backRow, b_backPc, b_backNode, b_backPosition, b_backSize, b_output)) : wpY_outerNumber post (g_nodes, g_inner, g_rules, g_place, g_listed, g_depth, g_row, g_pc, g_node, g_position, g_size, g_fault, g_put, g_steps, b_name, b_parent, b_value, b_kind, b_with, b_count, b_bodyAt, b_priority, b_given, b_there, b_wanted, b_waiting, b_within, b_list, b_left, b_reached, b_sizes, b_each, b_backRow, b_backPc, b_backNode, b_backPosition, b_backSize, b_output) (nI (b + q)) (nI (b + e)) (nI node) pos many := by
  have hTb := hT.1
  have hTn := hT.2.1
  have hle := gm_Nle _ _ _ _ hN hC
  have e2 : nI (b + e) - 1 = nI (b + e - 1) := (pk_sub (a := b + e) (b := 1) (by omega))
  refine nm_r e2 ⟨e + 1, yn_8 hg hP hT hnode h0 hle.2 its q 1 hN hC (Nat.le_refl _) (fun f wt ld li wi hf hs => ?_) (e + 1) b_waiting g_listed b_list b_within (by omega)⟩
  obtain ⟨f, rfl⟩ : ∃ k, f = k + 1 := ⟨f - 1, by omega⟩
  refine br_t (nI_lt (by omega) (by omega)) ?_
  have hnl := td_nvl (D := (nn, b_parent, b_name, b_value)) (node := node) (pos := pos) (many := many) _ _ _ _ hN hC
  have hv : wt 0 = (td_nv (nn, b_parent, b_name, b_value) T node pos many its).headD 0 := by
    match td_nv (nn, b_parent, b_name, b_value) T node pos many its, hnl, hs with
    | [v], _, hs => exact hs.1
  rw [hv]
  exact hp wt ld li wi
/-! where a number ends -/
theorem yn_e5 {post : Int32 → Prop} {b n e : Nat} {T : td_T} (hT : ye_T b n T b_kind b_with) (hp : post (nI (b + e))) : ∀ (its : List (Nat × List (Nat × List (Nat × Nat)))) (q m : Nat), gm_N T.1 n its q e → gm_C T.1 its m → wY_numberEnd_5 post (nI (b + n)) g_nodes g_inner g_rules g_place g_listed g_depth g_row g_pc g_node g_position g_size g_fault g_put g_steps b_name b_parent b_value b_kind b_with b_count b_bodyAt b_priority b_given b_there b_wanted b_waiting b_within b_list b_left b_reached b_sizes b_each b_backRow b_backPc b_backNode b_backPosition b_backSize b_output (its.length + 1) (nI (b + q)) (nI m) := by
  have hTb := hT.1
  have hTn := hT.2.1
  intro its
  induction its with
  | nil =>
    intro q m hN hC
    obtain ⟨rfl, -⟩ := hN
    have hm : m = 0 := hC
    subst hm
    exact br_t (by decide) hp
  | cons i t ih =>
    intro q m hN hC
    obtain ⟨i1, ps⟩ := i
    have hle := gm_Nle _ _ _ _ hN hC
    obtain ⟨e1, g1, g2, g3⟩ := hN
    have e1 : i1 = q := e1
    subst e1
    obtain ⟨b1, b2⟩ := hC
    dsimp only at b2 g3
    obtain ⟨t1, t2, t3, -⟩ := hT.2.2 i1 g1
    refine br_f (nI_nle b1 (by omega)) (nm_r (nI_1 _) ⟨vp_in_nI (by omega) (by omega), ?_⟩)
    rw [nI_clamp (by omega)]
    refine nm_r t1 ?_
    have h53 : ∀ z0 m', nI m + z0 = nI m' → gm_C T.1 t m' → wY_numberEnd_53 post (wY_numberEnd_5 post (nI (b + n)) g_nodes g_inner g_rules g_place g_listed g_depth g_row g_pc g_node g_position g_size g_fault g_put g_steps b_name b_parent b_value b_kind b_with b_count b_bodyAt b_priority b_given b_there b_wanted b_waiting b_within b_list b_left b_reached b_sizes b_each b_backRow b_backPc b_backNode b_backPosition b_backSize b_output (t.length + 1)) (nI (b + n)) (nI (b + i1 + 1)) (nI (T.1 i1)) z0 (nI m) g_nodes g_inner g_rules g_place g_listed g_depth g_row g_pc g_node g_position g_size g_fault g_put g_steps b_name b_parent b_value b_kind b_with b_count b_bodyAt b_priority b_given b_there b_wanted b_waiting b_within b_list b_left b_reached b_sizes b_each b_backRow b_backPc b_backNode b_backPosition b_backSize b_output := by
      intro z0 m' hz hC'
      refine nm_r hz ?_
      rcases g3 with ⟨k1, k2, k3, c, hS, hNt⟩ | ⟨k1, k3, hNt⟩
      · have hls := gm_Sle _ _ _ hS
        exact pk_le (T.1 i1) 3 (fun z => by omega) (fun _ => pk_le 7 (T.1 i1) (fun z => by omega) (fun _ => yp_end (q := i1 + 1) hT (Nat.le_refl _) hls.2 hS k3 (ih c m' hNt hC')))
      · exact pk_le (T.1 i1) 3 (fun _ => ih (i1 + 1) m' hNt hC') (fun _ => pk_le 7 (T.1 i1) (fun _ => ih (i1 + 1) m' hNt hC') (fun z => by omega))
    refine pk_le (T.1 i1) 6 (fun z6 => ?_) (fun z6 => ?_)
    · rw [if_pos z6] at b2
      exact pk_eq (T.1 i1) 14 (fun z => by omega) (fun _ => h53 (-1) (m - 1) (sb_m1 b1) b2)
    · rw [if_neg (by omega)] at b2
      refine pk_le 14 (T.1 i1) (fun z14 => ?_) (fun z14 => ?_)
      · rw [if_pos (by omega)] at b2
        exact pk_eq (T.1 i1) 14 (fun _ => h53 0 m (Int32.add_zero _) b2) (fun z => by omega)
      · rw [if_neg (by omega)] at b2
        exact h53 1 (m + 1) (nI_1 m) b2
theorem yn_end {post : Int32 → Prop} {b n e q : Nat} {T : td_T} {its : List (Nat × List (Nat × List (Nat × Nat)))} (hT : ye_T b n T b_kind b_with) (hN : gm_N T.1 n its q e) (hC : gm_C T.1 its 1) (hp : post (nI (b + e))) : wpY_numberEnd post (g_nodes, g_inner, g_rules, g_place, g_listed, g_depth, g_row, g_pc, g_node, g_position, g_size, g_fault, g_put, g_steps, b_name, b_parent, b_value, b_kind, b_with, b_count, b_bodyAt, b_priority, b_given, b_there, b_wanted, b_waiting, b_within, b_list, b_left, b_reached, b_sizes, b_each, b_backRow, b_backPc, b_backNode, b_backPosition, b_backSize, b_output) (nI (b + q)) (nI (b + n)) := ⟨_, yn_e5 hT hp its q 1 hN hC⟩
/-! ENDs and what they end -/
end
end
section
/-! ENDs and what they end, in the reference -/
section
variable {g_nodes g_inner g_rules g_place g_listed g_depth g_row g_pc g_node g_position g_size g_fault g_put g_steps : Int32} {b_name b_parent b_value b_kind b_with b_count b_bodyAt b_priority b_given b_there b_wanted b_waiting b_within b_list b_left b_reached b_sizes b_each b_backRow b_backPc b_backNode b_backPosition b_backSize b_output : Nat → Int32}
theorem yn_of4 {post : Int32 → Prop} {b n : Nat} {T : td_T} (hT : ye_T b n T b_kind b_with) : ∀ d y o e, y + 1 + d = n → o + d < 100 → (gm_U T.1 d (y + 1))[o]? = some e → post (nI (b + e)) → wY_endOf_4 post g_nodes g_inner g_rules g_place g_listed g_depth g_row g_pc g_node g_position g_size g_fault g_put g_steps b_name b_parent b_value b_kind b_with b_count b_bodyAt b_priority b_given b_there b_wanted b_waiting b_within b_list b_left b_reached b_sizes b_each b_backRow b_backPc b_backNode b_backPosition b_backSize b_output (d + 1) (nI (o + 1)) (nI (b + y)) := by
  have hTb := hT.1
  have hTn := hT.2.1
  intro d
  induction d with
  | zero => intro y o e _ _ h; simp [gm_U] at h
  | succ d ih =>
    intro y o e hy ho h hp
    obtain ⟨t1, t2, -⟩ := hT.2.2 (y + 1) (by omega)
    refine br_f (nI_nle (by omega) (by omega)) (nm_r ((nI_1 _).trans (congrArg nI (show b + y + 1 = b + (y + 1) by omega))) ⟨vp_in_nI (by omega) (by omega), ?_⟩)
    rw [nI_clamp (by omega)]
    refine nm_r t1 ?_
    have hbl : T.1 (y + 1) = 21 ∨ T.1 (y + 1) = 24 ∨ T.1 (y + 1) = 25 → wY_endOf_40 post (wY_endOf_4 post g_nodes g_inner g_rules g_place g_listed g_depth g_row g_pc g_node g_position g_size g_fault g_put g_steps b_name b_parent b_value b_kind b_with b_count b_bodyAt b_priority b_given b_there b_wanted b_waiting b_within b_list b_left b_reached b_sizes b_each b_backRow b_backPc b_backNode b_backPosition b_backSize b_output (d + 1)) (nI (o + 1)) (nI (b + (y + 1))) (nI (T.1 (y + 1))) g_nodes g_inner g_rules g_place g_listed g_depth g_row g_pc g_node g_position g_size g_fault g_put g_steps b_name b_parent b_value b_kind b_with b_count b_bodyAt b_priority b_given b_there b_wanted b_waiting b_within b_list b_left b_reached b_sizes b_each b_backRow b_backPc b_backNode b_backPosition b_backSize b_output := by
      intro z
      refine nm_r (nI_1 _) (pk_eq (T.1 (y + 1)) 26 (fun w => by omega) (fun w => ?_))
      rw [gm_Ubl w z] at h
      exact ih (y + 1) (o + 1) e (by omega) (by omega) h hp
    refine pk_eq (T.1 (y + 1)) 21 (fun z => hbl (by omega)) (fun z1 => pk_eq (T.1 (y + 1)) 24 (fun z => hbl (by omega)) (fun z2 => pk_eq (T.1 (y + 1)) 25 (fun z => hbl (by omega)) (fun z3 => ?_)))
    refine pk_eq (T.1 (y + 1)) 26 (fun w => nm_r (pk_m1 o) ?_) (fun w => ?_)
    · cases o with
      | zero =>
        rw [gm_U, if_pos w] at h
        have h : y + 1 = e := by simpa using h
        refine br_t (by decide) ?_
        rw [h]; exact hp
      | succ o =>
        rw [gm_U26 w] at h
        exact ih (y + 1) o e (by omega) (by omega) h hp
    · rw [gm_Uno w (by omega)] at h
      exact ih (y + 1) o e (by omega) (by omega) h hp
theorem yn_of {post : Int32 → Prop} {b n p e : Nat} {T : td_T} (hT : ye_T b n T b_kind b_with) (hpn : p < n) (h : (gm_U T.1 (n - (p + 1)) (p + 1))[0]? = some e) (hp : post (nI (b + e))) : wpY_endOf post (g_nodes, g_inner, g_rules, g_place, g_listed, g_depth, g_row, g_pc, g_node, g_position, g_size, g_fault, g_put, g_steps, b_name, b_parent, b_value, b_kind, b_with, b_count, b_bodyAt, b_priority, b_given, b_there, b_wanted, b_waiting, b_within, b_list, b_left, b_reached, b_sizes, b_each, b_backRow, b_backPc, b_backNode, b_backPosition, b_backSize, b_output) (nI (b + p)) :=
  ⟨_, yn_of4 hT (n - (p + 1)) p 0 e (by omega) (by have := hT.2.1; omega) h hp⟩
theorem yn_op4 {post : Int32 → Prop} {b n : Nat} {T : td_T} (hT : ye_T b n T b_kind b_with) : ∀ q o p, q ≤ n → o + q < 100 → (gm_L T.1 q)[o]? = some p → post (nI (T.1 p)) → wY_opener_4 post g_nodes g_inner g_rules g_place g_listed g_depth g_row g_pc g_node g_position g_size g_fault g_put g_steps b_name b_parent b_value b_kind b_with b_count b_bodyAt b_priority b_given b_there b_wanted b_waiting b_within b_list b_left b_reached b_sizes b_each b_backRow b_backPc b_backNode b_backPosition b_backSize b_output (q + 1) (nI (o + 1)) (nI (b + q)) := by
  have hTb := hT.1
  have hTn := hT.2.1
  intro q
  induction q with
  | zero => intro o p _ _ h; simp [gm_L] at h
  | succ q ih =>
    intro o p hq ho h hp
    obtain ⟨t1, t2, -⟩ := hT.2.2 q (by omega)
    refine br_f (nI_nle (by omega) (by omega)) (nm_r ((sb_m1 (by omega)).trans (congrArg nI (show b + (q + 1) - 1 = b + q by omega))) ⟨vp_in_nI (by omega) (by omega), ?_⟩)
    rw [nI_clamp (by omega)]
    refine nm_r t1 ?_
    rw [gm_L] at h
    have hbl : T.1 q = 21 ∨ T.1 q = 24 ∨ T.1 q = 25 → wY_opener_40 post (wY_opener_4 post g_nodes g_inner g_rules g_place g_listed g_depth g_row g_pc g_node g_position g_size g_fault g_put g_steps b_name b_parent b_value b_kind b_with b_count b_bodyAt b_priority b_given b_there b_wanted b_waiting b_within b_list b_left b_reached b_sizes b_each b_backRow b_backPc b_backNode b_backPosition b_backSize b_output (q + 1)) (nI (o + 1)) (nI (b + q)) (nI (T.1 q)) g_nodes g_inner g_rules g_place g_listed g_depth g_row g_pc g_node g_position g_size g_fault g_put g_steps b_name b_parent b_value b_kind b_with b_count b_bodyAt b_priority b_given b_there b_wanted b_waiting b_within b_list b_left b_reached b_sizes b_each b_backRow b_backPc b_backNode b_backPosition b_backSize b_output := by
      intro z
      refine nm_r (pk_m1 o) (pk_eq (T.1 q) 26 (fun w => by omega) (fun w => ?_))
      rw [if_neg w, if_pos z] at h
      cases o with
      | zero =>
        have h : q = p := by simpa using h
        refine br_t (by decide) ⟨vp_in_nI (by omega) (by omega), ?_⟩
        rw [nI_clamp (by omega), t1, h]
        exact hp
      | succ o => exact ih o p (by omega) (by omega) (by simpa using h) hp
    refine pk_eq (T.1 q) 21 (fun z => hbl (by omega)) (fun z1 => pk_eq (T.1 q) 24 (fun z => hbl (by omega)) (fun z2 => pk_eq (T.1 q) 25 (fun z => hbl (by omega)) (fun z3 => ?_)))
    refine pk_eq (T.1 q) 26 (fun w => nm_r (nI_1 _) ?_) (fun w => ?_)
    · rw [if_pos w, gm_gt] at h
      exact ih (o + 1) p (by omega) (by omega) h hp
    · rw [if_neg w, if_neg (by omega)] at h
      exact ih o p (by omega) (by omega) h hp
theorem yn_op {post : Int32 → Prop} {b n q p : Nat} {t : List Nat} {T : td_T} (hT : ye_T b n T b_kind b_with) (hq : q < n) (h : gm_L T.1 q = p :: t) (hp : post (nI (T.1 p))) : wpY_opener post (g_nodes, g_inner, g_rules, g_place, g_listed, g_depth, g_row, g_pc, g_node, g_position, g_size, g_fault, g_put, g_steps, b_name, b_parent, b_value, b_kind, b_with, b_count, b_bodyAt, b_priority, b_given, b_there, b_wanted, b_waiting, b_within, b_list, b_left, b_reached, b_sizes, b_each, b_backRow, b_backPc, b_backNode, b_backPosition, b_backSize, b_output) (nI (b + q)) :=
  ⟨_, yn_op4 hT q 0 p (by omega) (by have := hT.2.1; omega) (by rw [h]; rfl) hp⟩
end
end
section
/-! the survey of good tokens -/
def xr_SVi (K : Nat → Nat) (n b i0 : Nat) (ov en pl : Nat → Int32) : Prop :=
  (∀ its q e, i0 ≤ q → gm_N K n its q e → gm_C K its 1 → ov (b + q) = nI e) ∧
  (∀ ps q s, i0 ≤ q → gm_S K n ps q s → ps ≠ [] → ov (b + q) = nI s) ∧
  (∀ p c, i0 ≤ p → gm_PB K n p c → ov (b + p) = nI (c + 1) ∧ (pl (b + p) = 0 → ∀ y, p < y → y < c → K y ≠ 1 ∧ K y ≠ 2) ∧ (pl (b + p) = 0 ∨ pl (b + p) = 1)) ∧
  (∀ p e, i0 ≤ p → p < n → (K p = 21 ∨ K p = 24 ∨ K p = 25) → (gm_U K (n - (p + 1)) (p + 1))[0]? = some e → ov (b + p) = nI (e + 1) ∧ en (b + e) = nI (K p))
theorem xv_step {K : Nat → Nat} {n b i : Nat} {ov en pl ov' en' pl' : Nat → Int32} (h : xr_SVi K n b (i + 1) ov en pl) (hov : ∀ q, i < q → ov' (b + q) = ov (b + q)) (hpl : ∀ q, i < q → pl' (b + q) = pl (b + q))
    (hen : ∀ p e, i < p → p < n → (K p = 21 ∨ K p = 24 ∨ K p = 25) → (gm_U K (n - (p + 1)) (p + 1))[0]? = some e → en' (b + e) = en (b + e))
    (c1 : ∀ its e, gm_N K n its i e → gm_C K its 1 → ov' (b + i) = nI e) (c2 : ∀ ps s, gm_S K n ps i s → ps ≠ [] → ov' (b + i) = nI s)
    (c3 : ∀ c, gm_PB K n i c → ov' (b + i) = nI (c + 1) ∧ (pl' (b + i) = 0 → ∀ y, i < y → y < c → K y ≠ 1 ∧ K y ≠ 2) ∧ (pl' (b + i) = 0 ∨ pl' (b + i) = 1))
    (c4 : ∀ e, i < n → (K i = 21 ∨ K i = 24 ∨ K i = 25) → (gm_U K (n - (i + 1)) (i + 1))[0]? = some e → ov' (b + i) = nI (e + 1) ∧ en' (b + e) = nI (K i)) : xr_SVi K n b i ov' en' pl' := by
  obtain ⟨h1, h2, h3, h4⟩ := h
  refine ⟨fun its q e hq a b => ?_, fun ps q s hq a b => ?_, fun p c hq a => ?_, fun p e hq a b c => ?_⟩
  · by_cases z : q = i
    · subst z; exact c1 its e a b
    · rw [hov q (by omega)]; exact h1 its q e (by omega) a b
  · by_cases z : q = i
    · subst z; exact c2 ps s a b
    · rw [hov q (by omega)]; exact h2 ps q s (by omega) a b
  · by_cases z : p = i
    · subst z; exact c3 c a
    · rw [hov p (by omega), hpl p (by omega)]; exact h3 p c (by omega) a
  · by_cases z : p = i
    · subst z; exact c4 e a b c
    · rw [hov p (by omega), hen p e (by omega) a b c]; exact h4 p e (by omega) a b c
theorem xv_Nk {K : Nat → Nat} {n q e m : Nat} {its : List (Nat × List (Nat × List (Nat × Nat)))} (h : gm_N K n its q e) (hc : gm_C K its (m + 1)) : K q ≤ 14 ∧ q < n := by
  cases its with
  | nil => have h : m + 1 = 0 := hc; omega
  | cons i t => exact ⟨h.2.2.1, h.2.1⟩
def xo_k : List Nat → (Nat → Int32) → Prop
  | [], _ => True
  | v :: t, st => st t.length = nI v ∧ xo_k t st
theorem xo_up {i : Nat} {v : Int32} : ∀ (l : List Nat) (st : Nat → Int32), l.length ≤ i → xo_k l st → xo_k l (upd st i v) := by
  intro l
  induction l with
  | nil => intro st _ _; trivial
  | cons a t ih =>
    intro st h hs
    rw [List.length_cons] at h
    exact ⟨(pk_un (by omega)).trans hs.1, ih st (by omega) hs.2⟩
theorem gm_Ule (K : Nat → Nat) : ∀ d q, (gm_U K d q).length ≤ d := by
  intro d
  induction d with
  | zero => intro q; exact Nat.le_refl _
  | succ d ih =>
    intro q
    have := ih (q + 1)
    rw [gm_U]
    by_cases c : K q = 26
    · rw [if_pos c, List.length_cons]; omega
    · rw [if_neg c]
      by_cases c : K q = 21 ∨ K q = 24 ∨ K q = 25
      · rw [if_pos c, List.length_tail]; omega
      · rw [if_neg c]; omega
theorem xv_or : ∀ x : Int32, (x = 0 ∨ x = 1) → vp_nar .boolean (x ||| 1) = 1 ∧ vp_nar .boolean (x ||| 0) = x := by
  intro x hx
  rcases hx with rfl | rfl <;> exact ⟨rfl, rfl⟩
section
variable {f_nodes f_depth f_known f_dues f_place f_gifts f_matched f_lists f_steps f_outcome f_made : Int32} {a_name a_parent a_lastOf a_way a_value a_axes a_named a_kind a_over a_ends a_count a_num a_placed a_asked a_holds a_due a_open a_there a_priority a_given a_matches a_stack a_rest a_position a_size a_at a_row a_pc a_first a_out a_large : Nat → Int32}
theorem xv_265 {post : SX → Prop} {J7 : Int32 → Int32 → (Nat → Int32) → (Nat → Int32) → (Nat → Int32) → (Nat → Int32) → (Nat → Int32) → (Nat → Int32) → (Nat → Int32) → (Nat → Int32) → (Nat → Int32) → (Nat → Int32) → (Nat → Int32) → (Nat → Int32) → (Nat → Int32) → (Nat → Int32) → (Nat → Int32) → (Nat → Int32) → (Nat → Int32) → (Nat → Int32) → (Nat → Int32) → (Nat → Int32) → (Nat → Int32) → (Nat → Int32) → (Nat → Int32) → (Nat → Int32) → (Nat → Int32) → (Nat → Int32) → (Nat → Int32) → (Nat → Int32) → (Nat → Int32) → (Nat → Int32) → (Nat → Int32) → Prop} {b n i c : Nat} {T : td_T} {x2 x3 : Int32} (hT : xe_T b n T a_kind a_num) (hcn : c < n) (hov : a_over (b + i) = nI (c + 1)) (hi : i < c) : ∀ d j pl, j + d = c + 1 → i < j → (pl (b + i) = 0 ∨ pl (b + i) = 1) → (pl (b + i) = 0 → ∀ y, i < y → y < j → T.1 y ≠ 1 ∧ T.1 y ≠ 2) → (∀ pl', (∀ q, q ≠ b + i → pl' q = pl q) → (pl' (b + i) = 0 ∨ pl' (b + i) = 1) → (pl' (b + i) = 0 → ∀ y, i < y → y < c → T.1 y ≠ 1 ∧ T.1 y ≠ 2) → J7 x3 (nI i + (-1)) a_name a_parent a_lastOf a_way a_value a_axes a_named a_kind a_over a_ends a_count a_num pl' a_asked a_holds a_due a_open a_there a_priority a_given a_matches a_stack a_rest a_position a_size a_at a_row a_pc a_first a_out a_large) → wX_survey_265 post J7 (nI b) x2 x3 (nI i) (nI (b + i)) f_nodes f_depth f_known f_dues f_place f_gifts f_matched f_lists f_steps f_outcome f_made (d + 1) (nI j) a_name a_parent a_lastOf a_way a_value a_axes a_named a_kind a_over a_ends a_count a_num pl a_asked a_holds a_due a_open a_there a_priority a_given a_matches a_stack a_rest a_position a_size a_at a_row a_pc a_first a_out a_large := by
  obtain ⟨hTb, hTn, hT⟩ := hT
  intro d
  induction d with
  | zero =>
    intro j pl hj hij h01 hz hp
    refine ⟨vp_in_nI (by omega) (by omega), ?_⟩
    rw [nI_clamp (by omega), hov]
    exact br_t (nI_le (by omega) (by omega)) (nm_e (hp pl (fun _ _ => rfl) h01 (fun z y h1 h2 => hz z y h1 (by omega))))
  | succ d ih =>
    intro j pl hj hij h01 hz hp
    obtain ⟨t1, t2, -⟩ := hT j (by omega)
    obtain ⟨o1, o2⟩ := xv_or _ h01
    refine ⟨vp_in_nI (by omega) (by omega), ?_⟩
    rw [nI_clamp (by omega), hov]
    refine br_f (nI_ge (by omega) (by omega)) ⟨vp_in_nI (by omega) (by omega), ?_⟩
    rw [nI_add]
    refine ⟨vp_in_nI (by omega) (by omega), ?_⟩
    rw [nI_clamp (by omega), t1, o1, o2]
    refine pk_eq (T.1 j) 1 (fun z => ⟨vp_in_nI (by omega) (by omega), nm_e (nm_r (nI_1 j) ?_)⟩) (fun z1 => ⟨vp_in_nI (by omega) (by omega), pk_eq (T.1 j) 2 (fun z => ⟨vp_in_nI (by omega) (by omega), nm_e (nm_r (nI_1 j) ?_)⟩) (fun z2 => ⟨vp_in_nI (by omega) (by omega), nm_e (nm_r (nI_1 j) ?_)⟩)⟩)
    · refine ih (j + 1) _ (by omega) (by omega) (Or.inr pk_us) (fun w => ?_) (fun pl' g1 g2 g3 => hp pl' (fun q hq => (g1 q hq).trans (pk_un hq)) g2 g3)
      rw [pk_us] at w
      exact absurd w (by decide)
    · refine ih (j + 1) _ (by omega) (by omega) (Or.inr pk_us) (fun w => ?_) (fun pl' g1 g2 g3 => hp pl' (fun q hq => (g1 q hq).trans (pk_un hq)) g2 g3)
      rw [pk_us] at w
      exact absurd w (by decide)
    · refine ih (j + 1) _ (by omega) (by omega) (by rw [pk_us]; exact h01) (fun w y h1 h2 => ?_) (fun pl' g1 g2 g3 => hp pl' (fun q hq => (g1 q hq).trans (pk_un hq)) g2 g3)
      rw [pk_us] at w
      by_cases e : y = j
      · subst e; exact ⟨z1, z2⟩
      · exact hz w y h1 (by omega)
theorem xv_182 {post : SX → Prop} {J7 : Int32 → Int32 → (Nat → Int32) → (Nat → Int32) → (Nat → Int32) → (Nat → Int32) → (Nat → Int32) → (Nat → Int32) → (Nat → Int32) → (Nat → Int32) → (Nat → Int32) → (Nat → Int32) → (Nat → Int32) → (Nat → Int32) → (Nat → Int32) → (Nat → Int32) → (Nat → Int32) → (Nat → Int32) → (Nat → Int32) → (Nat → Int32) → (Nat → Int32) → (Nat → Int32) → (Nat → Int32) → (Nat → Int32) → (Nat → Int32) → (Nat → Int32) → (Nat → Int32) → (Nat → Int32) → (Nat → Int32) → (Nat → Int32) → (Nat → Int32) → (Nat → Int32) → (Nat → Int32) → Prop} {b n i c s : Nat} {T : td_T} {x3 : Int32} {t : List (Nat × List (Nat × Nat))} (hT : xe_T b n T a_kind a_num) (hi : i < n) (hS : gm_S T.1 n t c s) (hov : t ≠ [] → a_over (b + c) = nI s) (hJ : J7 x3 (nI i + (-1)) a_name a_parent a_lastOf a_way a_value a_axes a_named a_kind (upd a_over (b + i) (nI s)) a_ends a_count a_num a_placed a_asked a_holds a_due a_open a_there a_priority a_given a_matches a_stack a_rest a_position a_size a_at a_row a_pc a_first a_out a_large) : wX_survey_182 post J7 (nI b) (nI n) x3 (nI i) (nI (b + i)) (nI c) f_nodes f_depth f_known f_dues f_place f_gifts f_matched f_lists f_steps f_outcome f_made a_name a_parent a_lastOf a_way a_value a_axes a_named a_kind a_over a_ends a_count a_num a_placed a_asked a_holds a_due a_open a_there a_priority a_given a_matches a_stack a_rest a_position a_size a_at a_row a_pc a_first a_out a_large := by
  obtain ⟨hTb, hTn, hT⟩ := hT
  have hle := gm_Sle _ _ _ hS
  have e0 : (nI (b + i)).toNatClampNeg = b + i := nI_clamp (by omega)
  rw [← e0] at hJ
  refine pk_le n c (fun z => ⟨vp_in_nI (by omega) (by omega), ?_⟩) (fun z => ?_)
  · rw [nb_3 (by omega), show c = s by omega]
    exact nm_e (nm_e hJ)
  · obtain ⟨t1, t2, -⟩ := hT c (by omega)
    rw [nI_add]
    refine ⟨vp_in_nI (by omega) (by omega), ?_⟩
    rw [nI_clamp (show b + c < 2 ^ 31 by omega), t1]
    refine pk_eq (T.1 c) 15 (fun w => ⟨vp_in_nI (by omega) (by omega), vp_in_nI (by omega) (by omega), ?_⟩) (fun w => ⟨vp_in_nI (by omega) (by omega), ?_⟩)
    · have ht : t ≠ [] := fun y => by rw [y] at hS; exact hS.2.1 (by omega) w
      rw [hov ht, nb_2 (by omega)]
      exact nm_e (nm_e hJ)
    · cases t with
      | nil =>
        obtain ⟨rfl, -⟩ := hS
        rw [nb_3 (by omega)]
        exact nm_e (nm_e hJ)
      | cons y t2 => exact (w hS.2.2.1).elim
theorem xv_148 {post : SX → Prop} {J7 : Int32 → Int32 → (Nat → Int32) → (Nat → Int32) → (Nat → Int32) → (Nat → Int32) → (Nat → Int32) → (Nat → Int32) → (Nat → Int32) → (Nat → Int32) → (Nat → Int32) → (Nat → Int32) → (Nat → Int32) → (Nat → Int32) → (Nat → Int32) → (Nat → Int32) → (Nat → Int32) → (Nat → Int32) → (Nat → Int32) → (Nat → Int32) → (Nat → Int32) → (Nat → Int32) → (Nat → Int32) → (Nat → Int32) → (Nat → Int32) → (Nat → Int32) → (Nat → Int32) → (Nat → Int32) → (Nat → Int32) → (Nat → Int32) → (Nat → Int32) → (Nat → Int32) → (Nat → Int32) → Prop} {b n i c s : Nat} {T : td_T} {x3 : Int32} {t : List (Nat × List (Nat × Nat))} (hT : xe_T b n T a_kind a_num) (hi : i < n) (hS : gm_S T.1 n t c s) (hov : t ≠ [] → a_over (b + c) = nI s) (hbr : ∀ p e, i < p → gm_PB T.1 n p e → a_over (b + p) = nI (e + 1)) (hJ : J7 x3 (nI i + (-1)) a_name a_parent a_lastOf a_way a_value a_axes a_named a_kind (upd a_over (b + i) (nI s)) a_ends a_count a_num a_placed a_asked a_holds a_due a_open a_there a_priority a_given a_matches a_stack a_rest a_position a_size a_at a_row a_pc a_first a_out a_large) : ∀ (brs : List (Nat × Nat)) (q : Nat), gm_B T.1 n brs q c → i < q → q ≤ n → wX_survey_148 post J7 (nI b) (nI n) x3 (nI i) (nI (b + i)) f_nodes f_depth f_known f_dues f_place f_gifts f_matched f_lists f_steps f_outcome f_made a_name a_parent a_lastOf a_way a_value a_axes a_named a_kind a_over a_ends a_count a_num a_placed a_asked a_holds a_due a_open a_there a_priority a_given a_matches a_stack a_rest a_position a_size a_at a_row a_pc a_first a_out a_large (brs.length + 1) (nI q) := by
  have h182 : wX_survey_182 post J7 (nI b) (nI n) x3 (nI i) (nI (b + i)) (nI c) f_nodes f_depth f_known f_dues f_place f_gifts f_matched f_lists f_steps f_outcome f_made a_name a_parent a_lastOf a_way a_value a_axes a_named a_kind a_over a_ends a_count a_num a_placed a_asked a_holds a_due a_open a_there a_priority a_given a_matches a_stack a_rest a_position a_size a_at a_row a_pc a_first a_out a_large := xv_182 hT hi hS hov hJ
  obtain ⟨hTb, hTn, hT⟩ := hT
  have hle := gm_Sle _ _ _ hS
  intro brs
  induction brs with
  | nil =>
    intro q hB hq hqn
    obtain ⟨rfl, hB⟩ := hB
    refine pk_le n q (fun z => h182) (fun z => ?_)
    obtain ⟨t1, t2, -⟩ := hT q (by omega)
    rw [nI_add]
    refine ⟨vp_in_nI (by omega) (by omega), ?_⟩
    rw [nI_clamp (by omega), t1]
    exact pk_eq (T.1 q) 16 (fun w => (hB (by omega) w).elim) (fun _ => h182)
  | cons d t ih =>
    intro q hB hq hqn
    obtain ⟨e1, hPB, hB⟩ := hB
    have o1 := hbr q d.2 hq hPB
    obtain ⟨g1, g2, g3, -⟩ := hPB
    obtain ⟨t1, t2, -⟩ := hT q (by omega)
    refine br_f (nI_ge (by omega) (by omega)) ?_
    rw [nI_add]
    refine ⟨vp_in_nI (by omega) (by omega), ?_⟩
    rw [nI_clamp (by omega), t1]
    exact pk_eq (T.1 q) 16 (fun w => ⟨vp_in_nI (by omega) (by omega), nm_r o1 (ih (d.2 + 1) hB (by omega) (by omega))⟩) (fun w => (w g1).elim)
theorem xv_7 {post : SX → Prop} {b n : Nat} {T : td_T} {s0 : List Nat} (hT : xe_T b n T a_kind a_num) (hOK : gm_OK T.1 n s0) (hp : ∀ ov en pl op, (∀ c, c < b → ov c = a_over c ∧ en c = a_ends c ∧ pl c = a_placed c) → xr_SVi T.1 n b 0 ov en pl → post (f_nodes, f_depth, f_known, f_dues, f_place, f_gifts, f_matched, f_lists, f_steps, f_outcome, f_made, a_name, a_parent, a_lastOf, a_way, a_value, a_axes, a_named, a_kind, ov, en, a_count, a_num, pl, a_asked, a_holds, a_due, op, a_there, a_priority, a_given, a_matches, a_stack, a_rest, a_position, a_size, a_at, a_row, a_pc, a_first, a_out, a_large)) : ∀ i0 ov en pl op, i0 ≤ n → (∀ c, c < b → ov c = a_over c ∧ en c = a_ends c ∧ pl c = a_placed c) → xr_SVi T.1 n b i0 ov en pl → xo_k (gm_U T.1 (n - i0) i0) op → wX_survey_7 post (nI b) (nI n) f_nodes f_depth f_known f_dues f_place f_gifts f_matched f_lists f_steps f_outcome f_made (i0 + 1) (nI (gm_U T.1 (n - i0) i0).length) (nI i0 + (-1)) a_name a_parent a_lastOf a_way a_value a_axes a_named a_kind ov en a_count a_num pl a_asked a_holds a_due op a_there a_priority a_given a_matches a_stack a_rest a_position a_size a_at a_row a_pc a_first a_out a_large := by
  have hT2 := hT
  obtain ⟨hTb, hTn, hT⟩ := hT
  intro i0
  induction i0 with
  | zero => intro ov en pl op _ hlow hSV hop; exact br_t (by decide) (hp ov en pl op hlow hSV)
  | succ i ih =>
    intro ov en pl op hi hlow hSV hop
    obtain ⟨t1, t2, -⟩ := hT i (by omega)
    have hd : n - i = (n - (i + 1)) + 1 := by omega
    have hUl := gm_Ule T.1 (n - (i + 1)) (i + 1)
    rw [pk_m1]
    refine br_f (nI_pos (by omega)) (nm_r (nI_add b i) ⟨vp_in_nI (by omega) (by omega), ?_⟩)
    rw [nI_clamp (by omega)]
    refine nm_r t1 (nm_r (nI_1 i) ?_)
    have lowu : ∀ v, ∀ c, c < b → upd ov (b + i) v c = a_over c ∧ en c = a_ends c ∧ pl c = a_placed c := fun v c hc => ⟨(pk_un (by omega)).trans (hlow c hc).1, (hlow c hc).2⟩
    have hne : ∀ v q, i < q → upd ov (b + i) v (b + q) = ov (b + q) := fun v q hq => pk_un (by omega)
    have noU : T.1 i ≠ 26 → ¬ (T.1 i = 21 ∨ T.1 i = 24 ∨ T.1 i = 25) → gm_U T.1 (n - i) i = gm_U T.1 (n - (i + 1)) (i + 1) := fun h1 h2 => by rw [hd, gm_Uno h1 h2]
    have kS : ∀ ps s, gm_S T.1 n ps i s → ps ≠ [] → T.1 i = 15 := fun ps s h1 h2 => (gm_Slt h1 h2).2.2
    have num : T.1 i ≤ 14 → ∀ its e, gm_N T.1 n its i e → gm_C T.1 its 1 → wX_survey_7 post (nI b) (nI n) f_nodes f_depth f_known f_dues f_place f_gifts f_matched f_lists f_steps f_outcome f_made (i + 1) (nI (gm_U T.1 (n - (i + 1)) (i + 1)).length) (nI i + (-1)) a_name a_parent a_lastOf a_way a_value a_axes a_named a_kind (upd ov (b + i) (nI e)) en a_count a_num pl a_asked a_holds a_due op a_there a_priority a_given a_matches a_stack a_rest a_position a_size a_at a_row a_pc a_first a_out a_large := by
      intro hk its e hN hC
      have hU := noU (by omega) (by omega)
      rw [← hU] at hop ⊢
      refine ih _ en pl op (by omega) (lowu _) (xv_step hSV (hne _) (fun _ _ => rfl) (fun _ _ _ _ _ _ => rfl) (fun its' e' hN' hC' => ?_) (fun ps s h1 h2 => ?_) (fun c h1 => ?_) (fun e h0 h1 => ?_)) hop
      · rw [pk_us, (gm_Nd _ _ _ _ _ _ hN' hC' hN hC).2]
      · have := kS ps s h1 h2; omega
      · have := h1.1; omega
      · omega
    refine pk_lt 3 (T.1 i) (fun z3 => pk_lt 6 (T.1 i) (fun z6 => pk_le 14 (T.1 i) (fun z14 => ?_) (fun z14 => ?_)) (fun z6 => ?_)) (fun z3 => ⟨vp_in_nI (by omega) (by omega), ?_⟩)
    · refine pk_eq (T.1 i) 14 (fun k14 => ?_) (fun k14 => pk_eq (T.1 i) 15 (fun k15 => ?_) (fun k15 => pk_eq (T.1 i) 16 (fun k16 => ?_) (fun k16 => pk_eq (T.1 i) 26 (fun k26 => nm_r (nI_1 _) ⟨vp_in_nI (by omega) (by omega), ?_⟩) (fun k26 => ?_))))
      · obtain ⟨its, e, hN, hC⟩ := gm_num hOK (show i < n by omega) (by omega)
        have hN2 := hN
        have hC2 := hC
        cases its with
        | nil => have h : 1 = 0 := hC; omega
        | cons x t =>
          have hle := gm_Nle _ _ _ _ hN hC
          obtain ⟨e1, _, _, g3⟩ := hN
          obtain ⟨_, b2⟩ := hC
          rw [e1, if_neg (by omega), if_pos k14] at b2
          rcases g3 with ⟨_, y, _⟩ | ⟨_, _, hNt⟩
          · omega
          · have k1 := xv_Nk (m := 0) hNt b2
            rw [nI_1]
            refine ⟨vp_in_nI (by omega) (by omega), vp_in_nI (by omega) (by omega), ?_⟩
            rw [nI_clamp (by omega), show b + i + 1 = b + (i + 1) by omega, hSV.1 _ _ _ (Nat.le_refl _) hNt b2, nb_2 (by omega)]
            exact nm_e (nm_e (num (by omega) _ _ hN2 hC2))
      · obtain ⟨ps, s, hS, hps⟩ := gm_pth hOK (show i < n by omega) k15
        have hS2 := hS
        cases ps with
        | nil => exact (hps rfl).elim
        | cons x t =>
          obtain ⟨e1, _, _, c, hB, hSt⟩ := hS
          have hle := gm_Ble _ _ _ hB (by omega)
          refine ⟨_, xv_148 (n := n) (t := t) hT2 (by omega) hSt (fun ht => hSV.2.1 t c s (by omega) hSt ht) (fun p e h1 h2 => (hSV.2.2.1 p e (by omega) h2).1) ?_ x.2 (i + 1) hB (by omega) (by omega)⟩
          have hU := noU (by omega) (by omega)
          rw [← hU] at hop ⊢
          refine ih _ en pl op (by omega) (lowu _) (xv_step hSV (hne _) (fun _ _ => rfl) (fun _ _ _ _ _ _ => rfl) (fun its' e' hN' hC' => ?_) (fun ps s h1 h2 => ?_) (fun c h1 => ?_) (fun e h0 h1 => ?_)) hop
          · have := (xv_Nk (m := 0) hN' hC').1; omega
          · rw [pk_us, (gm_Sd _ _ _ _ _ h1 hS2).2]
          · have := h1.1; omega
          · omega
      · obtain ⟨c, its, hPB, hN, hC⟩ := gm_brk hOK (show i < n by omega) k16
        have hP2 := hPB.2.1
        have hP3 := hPB.2.2.1
        rw [nI_1]
        refine ⟨vp_in_nI (by omega) (by omega), vp_in_nI (by omega) (by omega), ?_⟩
        rw [nI_clamp (by omega), show b + i + 1 = b + (i + 1) by omega, hSV.1 _ _ _ (Nat.le_refl _) hN hC, nI_1, nb_3 (by omega)]
        refine nm_e ⟨vp_in_nI (by omega) (by omega), nm_e ⟨c - i + 1, ?_⟩⟩
        refine xv_265 (c := c) hT2 hP3 pk_us hP2 (c - i) (i + 1) _ (by omega) (by omega) (Or.inl pk_us) (fun _ y h1 h2 => by omega) (fun pl' g1 g2 g3 => ?_)
        have hU := noU (by omega) (by omega)
        rw [← hU] at hop ⊢
        refine ih _ en pl' op (by omega) (fun c hc => ⟨(lowu _ c hc).1, (lowu (nI (c + 1)) c hc).2.1, (g1 c (by omega)).trans ((pk_un (by omega)).trans (hlow c hc).2.2)⟩) (xv_step hSV (hne _) (fun q hq => (g1 _ (by omega)).trans (pk_un (by omega))) (fun _ _ _ _ _ _ => rfl) (fun its' e' hN' hC' => ?_) (fun ps s h1 h2 => ?_) (fun c' h1 => ?_) (fun e h0 h1 => ?_)) hop
        · have := (xv_Nk (m := 0) hN' hC').1; omega
        · have := kS ps s h1 h2; omega
        · have ec := gm_PBd h1 hPB
          subst ec
          exact ⟨pk_us, g3, g2⟩
        · omega
      · rw [nI_clamp (by omega), nb_3 (by omega)]
        have hU : gm_U T.1 (n - i) i = i :: gm_U T.1 (n - (i + 1)) (i + 1) := by rw [hd, gm_U, if_pos k26]
        have hl : (gm_U T.1 (n - (i + 1)) (i + 1)).length + 1 = (gm_U T.1 (n - i) i).length := by rw [hU, List.length_cons]
        rw [hl]
        refine nm_e (nm_e (ih ov en pl _ (by omega) hlow (xv_step hSV (fun _ _ => rfl) (fun _ _ => rfl) (fun _ _ _ _ _ _ => rfl) (fun its' e' hN' hC' => ?_) (fun ps s h1 h2 => ?_) (fun c h1 => ?_) (fun e h0 h1 => ?_)) ?_))
        · have := (xv_Nk (m := 0) hN' hC').1; omega
        · have := kS ps s h1 h2; omega
        · have := h1.1; omega
        · omega
        · rw [hU]
          exact ⟨pk_us, xo_up _ _ (Nat.le_refl _) hop⟩
      · have blk : T.1 i = 21 ∨ T.1 i = 24 ∨ T.1 i = 25 → wX_survey_370 post (wX_survey_7 post (nI b) (nI n) f_nodes f_depth f_known f_dues f_place f_gifts f_matched f_lists f_steps f_outcome f_made (i + 1)) (nI b) (nI n) (nI (gm_U T.1 (n - (i + 1)) (i + 1)).length) (nI i) (nI (b + i)) (nI (T.1 i)) f_nodes f_depth f_known f_dues f_place f_gifts f_matched f_lists f_steps f_outcome f_made a_name a_parent a_lastOf a_way a_value a_axes a_named a_kind ov en a_count a_num pl a_asked a_holds a_due op a_there a_priority a_given a_matches a_stack a_rest a_position a_size a_at a_row a_pc a_first a_out a_large := by
          intro kb
          obtain ⟨e, he⟩ := gm_blk hOK (show i < n by omega) kb
          have hUL := gm_UL (n := n) (n - (i + 1)) (i + 1) 0 e (by omega) he
          have hU : gm_U T.1 (n - i) i = (gm_U T.1 (n - (i + 1)) (i + 1)).tail := by rw [hd, gm_U, if_neg k26, if_pos kb]
          cases hl : gm_U T.1 (n - (i + 1)) (i + 1) with
          | nil => rw [hl] at he; simp at he
          | cons v t =>
            rw [hl] at he hop hU hUl
            have hv : v = e := by simpa using he
            subst hv
            rw [List.length_cons] at hUl ⊢
            refine nm_r (pk_m1 t.length) ⟨vp_in_nI (by omega) (by omega), vp_in_nI (by omega) (by omega), ?_⟩
            rw [nI_clamp (by omega), nI_clamp (by omega), hop.1, nI_1, nb_3 (by omega)]
            refine nm_e ⟨vp_in_nI (by omega) (by omega), ?_⟩
            rw [nI_add]
            refine ⟨vp_in_nI (by omega) (by omega), ?_⟩
            rw [nI_clamp (by omega), nb_3 (by omega)]
            have hlt : t.length = (gm_U T.1 (n - i) i).length := by rw [hU]; rfl
            rw [hlt]
            refine nm_e (nm_e (ih _ _ pl op (by omega) (fun c hc => ⟨(lowu _ c hc).1, (pk_un (by omega)).trans (hlow c hc).2.1, (hlow c hc).2.2⟩) (xv_step hSV (hne _) (fun _ _ => rfl) (fun p e' h1 hpn hkb h2 => ?_) (fun its' e' hN' hC' => ?_) (fun ps s h1 h2 => ?_) (fun c h1 => ?_) (fun e' h0 h1 h2 => ?_)) ?_))
            · refine pk_un (fun z => ?_)
              have hz : e' = v := by omega
              subst hz
              have hUL2 := gm_UL (n := n) (n - (p + 1)) (p + 1) 0 e' (by omega) h2
              have l1 := hUL.1
              have l2 := hUL2.1
              rw [l1, List.drop_zero, List.drop_zero, gm_L, if_neg k26, if_pos kb, gm_L, if_neg (by omega), if_pos hkb] at l2
              injection l2 with l3
              omega
            · have := (xv_Nk (m := 0) hN' hC').1; omega
            · have := kS ps s h1 h2; omega
            · have := h1.1; omega
            · rw [hl] at h2
              have h2 : v = e' := by simpa using h2
              subst h2
              exact ⟨pk_us, pk_us⟩
            · rw [hU]; exact hop.2
        refine pk_eq (T.1 i) 21 (fun z => blk (by omega)) (fun z1 => pk_eq (T.1 i) 24 (fun z => blk (by omega)) (fun z2 => pk_eq (T.1 i) 25 (fun z => blk (by omega)) (fun z4 => nm_e ?_)))
        have hU := noU k26 (by omega)
        rw [← hU] at hop ⊢
        refine ih ov en pl op (by omega) hlow (xv_step hSV (fun _ _ => rfl) (fun _ _ => rfl) (fun _ _ _ _ _ _ => rfl) (fun its' e' hN' hC' => ?_) (fun ps s h1 h2 => ?_) (fun c h1 => ?_) (fun e h0 h1 => ?_)) hop
        · have := (xv_Nk (m := 0) hN' hC').1; omega
        · have := kS ps s h1 h2; omega
        · have := h1.1; omega
        · omega
    · obtain ⟨its, e, hN, hC⟩ := gm_num hOK (show i < n by omega) (by omega)
      have hN2 := hN
      have hC2 := hC
      cases its with
      | nil => have h : 1 = 0 := hC; omega
      | cons x t =>
        have hle := gm_Nle _ _ _ _ hN hC
        obtain ⟨e1, _, _, g3⟩ := hN
        obtain ⟨_, b2⟩ := hC
        rw [e1, if_neg (by omega), if_neg (by omega)] at b2
        rcases g3 with ⟨_, y, _⟩ | ⟨_, _, hNt⟩
        · omega
        · obtain ⟨i1, i2, m, -, c2, c3, c4, c5⟩ := gm_sp _ _ _ 1 1 hNt b2
          have k1 := xv_Nk (m := 0) c2 c3
          have k2 := xv_Nk (m := 0) c4 c5
          have hle2 := gm_Nle _ _ _ _ c2 c3
          rw [nI_1]
          refine ⟨vp_in_nI (by omega) (by omega), ?_⟩
          rw [nI_clamp (by omega), show b + i + 1 = b + (i + 1) by omega]
          refine nm_r (hSV.1 _ _ _ (Nat.le_refl _) c2 c3) ?_
          rw [nI_add]
          refine ⟨vp_in_nI (by omega) (by omega), vp_in_nI (by omega) (by omega), ?_⟩
          rw [nI_clamp (by omega), hSV.1 _ _ _ (by omega) c4 c5, nb_2 (by omega)]
          exact nm_e (nm_e (num (by omega) _ _ hN2 hC2))
    · obtain ⟨its, e, hN, hC⟩ := gm_num hOK (show i < n by omega) (by omega)
      have hN2 := hN
      have hC2 := hC
      cases its with
      | nil => have h : 1 = 0 := hC; omega
      | cons x t =>
        have hle := gm_Nle _ _ _ _ hN hC
        obtain ⟨e1, _, _, g3⟩ := hN
        obtain ⟨_, b2⟩ := hC
        rw [e1, if_pos (by omega)] at b2
        rcases g3 with ⟨_, _, y, c, hS, hNt⟩ | ⟨y, _, _⟩
        · have ht : t = [] ∧ c = e := by
            cases t with
            | nil => exact ⟨rfl, hNt.1⟩
            | cons x2 t2 => have := b2.1; omega
          obtain ⟨_, rfl⟩ := ht
          have k1 := gm_Slt hS y
          rw [nI_1]
          refine ⟨vp_in_nI (by omega) (by omega), vp_in_nI (by omega) (by omega), ?_⟩
          rw [nI_clamp (by omega), show b + i + 1 = b + (i + 1) by omega, hSV.2.1 _ _ _ (Nat.le_refl _) hS y, nb_2 (by omega)]
          exact nm_e (nm_e (num (by omega) _ _ hN2 hC2))
        · omega
    · obtain ⟨its, e, hN, hC⟩ := gm_num hOK (show i < n by omega) (by omega)
      have hN2 := hN
      have hC2 := hC
      cases its with
      | nil => have h : 1 = 0 := hC; omega
      | cons x t =>
        obtain ⟨e1, _, _, g3⟩ := hN
        obtain ⟨_, b2⟩ := hC
        rw [e1, if_pos (by omega)] at b2
        rcases g3 with ⟨y, _⟩ | ⟨_, _, hNt⟩
        · omega
        · have ht : i + 1 = e := by
            cases t with
            | nil => exact hNt.1
            | cons x2 t2 => have := b2.1; omega
          rw [nb_3 (by omega)]
          subst ht
          exact nm_e (nm_e (num (by omega) _ _ hN2 hC2))
theorem xv_survey {post : SX → Prop} {b n : Nat} {T : td_T} {s0 : List Nat} (hT : xe_T b n T a_kind a_num) (hOK : gm_OK T.1 n s0) (hp : ∀ ov en pl op, (∀ c, c < b → ov c = a_over c ∧ en c = a_ends c ∧ pl c = a_placed c) → xr_SVi T.1 n b 0 ov en pl → post (f_nodes, f_depth, f_known, f_dues, f_place, f_gifts, f_matched, f_lists, f_steps, f_outcome, f_made, a_name, a_parent, a_lastOf, a_way, a_value, a_axes, a_named, a_kind, ov, en, a_count, a_num, pl, a_asked, a_holds, a_due, op, a_there, a_priority, a_given, a_matches, a_stack, a_rest, a_position, a_size, a_at, a_row, a_pc, a_first, a_out, a_large)) : wpX_survey post (f_nodes, f_depth, f_known, f_dues, f_place, f_gifts, f_matched, f_lists, f_steps, f_outcome, f_made, a_name, a_parent, a_lastOf, a_way, a_value, a_axes, a_named, a_kind, a_over, a_ends, a_count, a_num, a_placed, a_asked, a_holds, a_due, a_open, a_there, a_priority, a_given, a_matches, a_stack, a_rest, a_position, a_size, a_at, a_row, a_pc, a_first, a_out, a_large) (nI b) (nI n) := by
  have e1 : gm_U T.1 (n - n) n = [] := by rw [Nat.sub_self]; rfl
  refine nm_r (Int32.sub_eq_add_neg _ _) ⟨n + 1, ?_⟩
  have := xv_7 hT hOK hp n a_over a_ends a_placed a_open (Nat.le_refl _) (fun _ _ => ⟨rfl, rfl, rfl⟩)
  rw [e1] at this
  refine this ⟨fun its q e hq a b => ?_, fun ps q s hq a b => ?_, fun p c hq a => ?_, fun p e hq a => by omega⟩ trivial
  · have := (xv_Nk (m := 0) a b).2; omega
  · have := (gm_Slt a b).2.1; omega
  · have := a.2.1; have := a.2.2.1; omega
end
end
section
/-! the component reads the draft -/
theorem xo_p {k : Nat} {due : Nat → Int32} : ∀ s, xo_k s due → xo_k (gm_p k s) due := by
  intro s
  induction s with
  | nil => exact id
  | cons x t ih =>
    intro h
    by_cases c : (x = 5 ∧ k ≠ 15 ∧ k ≠ 16) ∨ (x = 6 ∧ k ≠ 15)
    · rw [gm_p_y c]; exact ih h.2
    · rw [gm_p_n c]; exact h
theorem gm_ple (k : Nat) : ∀ s, (gm_p k s).length ≤ s.length := by
  intro s
  induction s with
  | nil => exact Nat.le_refl _
  | cons x t ih =>
    by_cases c : (x = 5 ∧ k ≠ 15 ∧ k ≠ 16) ∨ (x = 6 ∧ k ≠ 15)
    · rw [gm_p_y c, List.length_cons]; omega
    · rw [gm_p_n c]; exact Nat.le_refl _
theorem gm_ph {k x : Nat} {t : List Nat} : ∀ s, gm_p k s = x :: t → ¬ ((x = 5 ∧ k ≠ 15 ∧ k ≠ 16) ∨ (x = 6 ∧ k ≠ 15)) := by
  intro s
  induction s with
  | nil => intro h; cases h
  | cons y r ih =>
    intro h
    by_cases c : (y = 5 ∧ k ≠ 15 ∧ k ≠ 16) ∨ (y = 6 ∧ k ≠ 15)
    · rw [gm_p_y c] at h; exact ih h
    · rw [gm_p_n c] at h
      injection h with e1 e2
      subst e1
      exact c
theorem gm_fl {x k : Nat} {l : List Nat} (h : gm_f x k = some l) : l.length ≤ 3 := by
  have hx : (x = 1 ∨ x = 2) ∨ (x = 3 ∨ x = 4) ∨ x = 5 ∨ x = 6 ∨ x = 7 ∨ (x = 0 ∨ 8 ≤ x) := by omega
  rcases hx with hx | hx | rfl | rfl | rfl | hx
  · rcases gm_f12 hx h with ⟨_, rfl⟩ | ⟨_, _, rfl⟩ | ⟨_, _, rfl⟩ | ⟨_, rfl⟩ <;> simp
  · rw [(gm_f34 hx h).2]; simp
  · rcases gm_f5 h with ⟨_, rfl⟩ | ⟨_, rfl⟩ <;> simp
  · rw [(gm_f6 h).2]; simp
  · rw [(gm_f7 h).2]; simp
  · rcases gm_f8 hx h with ⟨_, rfl⟩ | ⟨_, rfl⟩ | ⟨_, rfl⟩ | ⟨_, rfl⟩ | ⟨_, rfl⟩ | ⟨_, rfl⟩ | ⟨_, _, rfl⟩ <;> simp
section
variable {f_nodes f_depth f_known f_dues f_place f_gifts f_matched f_lists f_steps f_outcome f_made : Int32} {a_name a_parent a_lastOf a_way a_value a_axes a_named a_kind a_over a_ends a_count a_num a_placed a_asked a_holds a_due a_open a_there a_priority a_given a_matches a_stack a_rest a_position a_size a_at a_row a_pc a_first a_out a_large : Nat → Int32}
theorem xd_push {post : SX → Prop} {v : Nat} {s : List Nat} (hd : f_dues = nI s.length) (hs : xo_k s a_due) (hv : v < 128) (hl : s.length < 80) (hp : ∀ due, xo_k (v :: s) due → post (f_nodes, f_depth, f_known, nI (v :: s).length, f_place, f_gifts, f_matched, f_lists, f_steps, f_outcome, f_made, a_name, a_parent, a_lastOf, a_way, a_value, a_axes, a_named, a_kind, a_over, a_ends, a_count, a_num, a_placed, a_asked, a_holds, due, a_open, a_there, a_priority, a_given, a_matches, a_stack, a_rest, a_position, a_size, a_at, a_row, a_pc, a_first, a_out, a_large)) : wpX_push post (f_nodes, f_depth, f_known, f_dues, f_place, f_gifts, f_matched, f_lists, f_steps, f_outcome, f_made, a_name, a_parent, a_lastOf, a_way, a_value, a_axes, a_named, a_kind, a_over, a_ends, a_count, a_num, a_placed, a_asked, a_holds, a_due, a_open, a_there, a_priority, a_given, a_matches, a_stack, a_rest, a_position, a_size, a_at, a_row, a_pc, a_first, a_out, a_large) (nI v) := by
  subst hd
  refine nm_r (nI_1 _) ⟨vp_in_nI (by omega) (by omega), ?_⟩
  rw [nI_clamp (by omega), nb_3 hv]
  exact nm_e (hp _ ⟨pk_us, xo_up _ _ (Nat.le_refl _) hs⟩)
theorem xd_begin {post : Int32 → SX → Prop} {x k : Nat} {t : List Nat} (hd : f_dues = nI (t.length + 1)) (hs : xo_k t a_due) (hl : t.length + 3 < 80) (hx : x = 1 ∨ x = 2) (hk : k ≤ 26) (hS : ∀ l due, gm_f x k = some l → xo_k (l ++ t) due → post 1 (f_nodes, f_depth, f_known, nI (l ++ t).length, f_place, f_gifts, f_matched, f_lists, f_steps, f_outcome, f_made, a_name, a_parent, a_lastOf, a_way, a_value, a_axes, a_named, a_kind, a_over, a_ends, a_count, a_num, a_placed, a_asked, a_holds, due, a_open, a_there, a_priority, a_given, a_matches, a_stack, a_rest, a_position, a_size, a_at, a_row, a_pc, a_first, a_out, a_large)) (hN : gm_f x k = none → ∀ d, post 0 (f_nodes, f_depth, f_known, d, f_place, f_gifts, f_matched, f_lists, f_steps, f_outcome, f_made, a_name, a_parent, a_lastOf, a_way, a_value, a_axes, a_named, a_kind, a_over, a_ends, a_count, a_num, a_placed, a_asked, a_holds, a_due, a_open, a_there, a_priority, a_given, a_matches, a_stack, a_rest, a_position, a_size, a_at, a_row, a_pc, a_first, a_out, a_large)) : wpX_beginsNumber post (f_nodes, f_depth, f_known, f_dues, f_place, f_gifts, f_matched, f_lists, f_steps, f_outcome, f_made, a_name, a_parent, a_lastOf, a_way, a_value, a_axes, a_named, a_kind, a_over, a_ends, a_count, a_num, a_placed, a_asked, a_holds, a_due, a_open, a_there, a_priority, a_given, a_matches, a_stack, a_rest, a_position, a_size, a_at, a_row, a_pc, a_first, a_out, a_large) (nI x) (nI k) := by
  subst hd
  unfold gm_f at hS hN
  rw [if_pos hx] at hS hN
  refine pk_le k 14 (fun z => nm_r (nI_pred _) ?_) (fun z => ?_)
  · refine pk_lt k 4 (fun y => ?_) (fun y => pk_lt 6 k (fun w => ?_) (fun w => ?_))
    · rw [if_pos (by omega)] at hS
      exact pk_lt k 7 (fun _ => pk_lt k 7 (fun _ => hS [] _ rfl hs) (fun w => by omega)) (fun w => by omega)
    · rw [if_neg (by omega), if_neg (by omega)] at hS
      refine pk_lt k 7 (fun w => by omega) (fun _ => ?_)
      refine xd_push rfl hs (by omega) (by omega) (fun due h1 => pk_lt k 7 (fun w => by omega) (fun _ => pk_le 14 k (fun w => ?_) (fun w => ?_)))
      · rw [if_neg (by omega), if_pos (by omega)] at hS
        exact hS [x] due rfl h1
      · rw [if_pos (by omega)] at hS
        refine xd_push (s := x :: t) rfl h1 (by omega) (by rw [List.length_cons]; omega) (fun due2 h2 => hS [x, x] due2 rfl h2)
    · rw [if_neg (by omega), if_pos (by omega)] at hS
      have h40 : wX_beginsNumber_40 post (nI x) (nI k) (nI (x + 2)) f_nodes f_depth f_known (nI t.length) f_place f_gifts f_matched f_lists f_steps f_outcome f_made a_name a_parent a_lastOf a_way a_value a_axes a_named a_kind a_over a_ends a_count a_num a_placed a_asked a_holds a_due a_open a_there a_priority a_given a_matches a_stack a_rest a_position a_size a_at a_row a_pc a_first a_out a_large := by
        refine xd_push rfl hs (by omega) (by omega) (fun due h1 => pk_lt k 7 (fun _ => pk_lt k 7 (fun _ => hS [x + 2] due rfl h1) (fun w => by omega)) (fun w => by omega))
      refine pk_eq x 1 (fun e => ?_) (fun e => ?_)
      · subst e; exact h40
      · have e : x = 2 := by omega
        subst e; exact h40
  · rw [if_neg (by omega), if_neg (by omega), if_neg (by omega), if_neg (by omega)] at hN
    exact hN rfl _
theorem xd_body {post : Int32 → SX → Prop} {x k : Nat} {t : List Nat} (hd : f_dues = nI (t.length + 1)) (hs : xo_k (x :: t) a_due) (hl : t.length + 3 < 80) (hx : x = 8 ∨ x = 9) (hk : k ≤ 26) (hS : ∀ l due, gm_f x k = some l → xo_k (l ++ t) due → post 1 (f_nodes, f_depth, f_known, nI (l ++ t).length, f_place, f_gifts, f_matched, f_lists, f_steps, f_outcome, f_made, a_name, a_parent, a_lastOf, a_way, a_value, a_axes, a_named, a_kind, a_over, a_ends, a_count, a_num, a_placed, a_asked, a_holds, due, a_open, a_there, a_priority, a_given, a_matches, a_stack, a_rest, a_position, a_size, a_at, a_row, a_pc, a_first, a_out, a_large)) (hN : gm_f x k = none → ∀ d, post 0 (f_nodes, f_depth, f_known, d, f_place, f_gifts, f_matched, f_lists, f_steps, f_outcome, f_made, a_name, a_parent, a_lastOf, a_way, a_value, a_axes, a_named, a_kind, a_over, a_ends, a_count, a_num, a_placed, a_asked, a_holds, a_due, a_open, a_there, a_priority, a_given, a_matches, a_stack, a_rest, a_position, a_size, a_at, a_row, a_pc, a_first, a_out, a_large)) : wpX_inBody post (f_nodes, f_depth, f_known, f_dues, f_place, f_gifts, f_matched, f_lists, f_steps, f_outcome, f_made, a_name, a_parent, a_lastOf, a_way, a_value, a_axes, a_named, a_kind, a_over, a_ends, a_count, a_num, a_placed, a_asked, a_holds, a_due, a_open, a_there, a_priority, a_given, a_matches, a_stack, a_rest, a_position, a_size, a_at, a_row, a_pc, a_first, a_out, a_large) (nI x) (nI k) := by
  subst hd
  unfold gm_f at hS hN
  rw [if_neg (by omega), if_neg (by omega), if_neg (by omega), if_neg (by omega), if_neg (by omega)] at hS hN
  refine pk_lt k 20 (fun z => pk_eq k 26 (fun y => by omega) (fun y => ?_)) (fun z => pk_lt 25 k (fun y => pk_eq k 26 (fun w => pk_eq x 9 (fun v => ?_) (fun v => nm_r (nI_pred _) ?_)) (fun w => by omega)) (fun y => ?_))
  · rw [if_neg (by omega), if_neg (by omega), if_neg (by omega), if_neg (by omega), if_neg (by omega), if_neg (by omega), if_neg (by omega)] at hN
    exact hN rfl _
  · rw [if_neg (by omega), if_neg (by omega), if_neg (by omega), if_neg (by omega), if_neg (by omega), if_neg (by omega), if_neg (by omega)] at hN
    exact hN rfl _
  · rw [if_neg (by omega), if_neg (by omega), if_neg (by omega), if_neg (by omega), if_neg (by omega), if_neg (by omega), if_pos (by omega)] at hS
    exact hS [] a_due rfl hs.2
  · have hd1 : nI (t.length + 1) = nI (x :: t).length := by rw [List.length_cons]
    have hl1 : (x :: t).length + 2 < 80 := by rw [List.length_cons]; omega
    refine pk_eq k 20 (fun w => ?_) (fun w0 => ?_)
    · rw [if_pos w] at hS
      exact hS [x] a_due rfl hs
    rw [if_neg w0] at hS
    refine pk_eq k 21 (fun w => ?_) (fun w1 => ?_)
    · rw [if_pos w] at hS
      exact xd_push (v := 8) hd1 hs (by omega) (by omega) (fun due h1 => hS [8, x] due rfl h1)
    rw [if_neg w1] at hS
    refine pk_eq k 22 (fun w => ?_) (fun w2 => ?_)
    · rw [if_pos w] at hS
      exact xd_push (v := 1) hd1 hs (by omega) (by omega) (fun due h1 => hS [1, x] due rfl h1)
    rw [if_neg w2] at hS
    refine pk_eq k 23 (fun w => ?_) (fun w3 => ?_)
    · rw [if_pos w] at hS
      exact xd_push (v := 3) hd1 hs (by omega) (by omega) (fun due h1 => hS [3, x] due rfl h1)
    rw [if_neg w3] at hS
    refine pk_eq k 24 (fun w => ?_) (fun w4 => ?_)
    · rw [if_pos w] at hS
      exact xd_push (v := 8) hd1 hs (by omega) (by omega) (fun due h1 => xd_push (v := 1) rfl h1 (by omega) (by rw [List.length_cons]; omega) (fun due2 h2 => hS [1, 8, x] due2 rfl h2))
    rw [if_neg w4] at hS
    refine pk_eq k 25 (fun w => ?_) (fun w5 => by omega)
    rw [if_pos w] at hS
    exact xd_push (v := 8) hd1 hs (by omega) (by omega) (fun due h1 => xd_push (v := 3) rfl h1 (by omega) (by rw [List.length_cons]; omega) (fun due2 h2 => hS [3, 8, x] due2 rfl h2))
theorem xd_takes {post : Int32 → SX → Prop} {x k : Nat} {t : List Nat} (hd : f_dues = nI (t.length + 1)) (hs : xo_k (x :: t) a_due) (hl : t.length + 3 < 80) (h1 : 1 ≤ x) (h9 : x ≤ 9) (hk : k ≤ 26) (h5 : x = 5 → k = 15 ∨ k = 16) (h6 : x = 6 → k = 15) (hS : ∀ l due, gm_f x k = some l → xo_k (l ++ t) due → post 1 (f_nodes, f_depth, f_known, nI (l ++ t).length, f_place, f_gifts, f_matched, f_lists, f_steps, f_outcome, f_made, a_name, a_parent, a_lastOf, a_way, a_value, a_axes, a_named, a_kind, a_over, a_ends, a_count, a_num, a_placed, a_asked, a_holds, due, a_open, a_there, a_priority, a_given, a_matches, a_stack, a_rest, a_position, a_size, a_at, a_row, a_pc, a_first, a_out, a_large)) (hN : gm_f x k = none → ∀ d, post 0 (f_nodes, f_depth, f_known, d, f_place, f_gifts, f_matched, f_lists, f_steps, f_outcome, f_made, a_name, a_parent, a_lastOf, a_way, a_value, a_axes, a_named, a_kind, a_over, a_ends, a_count, a_num, a_placed, a_asked, a_holds, a_due, a_open, a_there, a_priority, a_given, a_matches, a_stack, a_rest, a_position, a_size, a_at, a_row, a_pc, a_first, a_out, a_large)) : wpX_takes post (f_nodes, f_depth, f_known, f_dues, f_place, f_gifts, f_matched, f_lists, f_steps, f_outcome, f_made, a_name, a_parent, a_lastOf, a_way, a_value, a_axes, a_named, a_kind, a_over, a_ends, a_count, a_num, a_placed, a_asked, a_holds, a_due, a_open, a_there, a_priority, a_given, a_matches, a_stack, a_rest, a_position, a_size, a_at, a_row, a_pc, a_first, a_out, a_large) (nI x) (nI k) := by
  have hd2 := hd
  subst hd
  refine pk_lt x 1 (fun z => by omega) (fun _ => pk_lt 7 x (fun z => ?_) (fun z => ?_))
  · exact xd_body rfl hs hl (by omega) hk (fun l due g1 g2 => ⟨narrow_b1, hS l due g1 g2⟩) (fun g d => ⟨narrow_b0, hN g d⟩)
  refine pk_eq x 1 (fun e => xd_begin rfl hs.2 hl (by omega) hk (fun l due g1 g2 => ⟨narrow_b1, hS l due g1 g2⟩) (fun g d => ⟨narrow_b0, hN g d⟩)) (fun e1 => ?_)
  refine pk_eq x 2 (fun e => xd_begin rfl hs.2 hl (by omega) hk (fun l due g1 g2 => ⟨narrow_b1, hS l due g1 g2⟩) (fun g d => ⟨narrow_b0, hN g d⟩)) (fun e2 => ?_)
  have h51 : x = 3 ∨ x = 4 → wX_takes_51 post (nI x) (nI k) f_nodes f_depth f_known (nI (t.length + 1)) f_place f_gifts f_matched f_lists f_steps f_outcome f_made a_name a_parent a_lastOf a_way a_value a_axes a_named a_kind a_over a_ends a_count a_num a_placed a_asked a_holds a_due a_open a_there a_priority a_given a_matches a_stack a_rest a_position a_size a_at a_row a_pc a_first a_out a_large := by
    intro e
    unfold gm_f at hS hN
    rw [if_neg (by omega), if_pos e] at hS hN
    refine pk_eq k 15 (fun y => ?_) (fun y => by rw [if_neg y] at hN; exact hN rfl _)
    rw [if_pos y] at hS
    rw [nI_pred]
    have up : ∀ v, xo_k (v :: t) (upd a_due t.length (nI v)) := fun v => ⟨pk_us, xo_up _ _ (Nat.le_refl _) hs.2⟩
    refine pk_eq x 3 (fun w => ⟨vp_in_nI (by omega) (by omega), ?_⟩) (fun w => ⟨vp_in_nI (by omega) (by omega), ?_⟩)
    · rw [nI_clamp (by omega)]
      refine nm_r (congrArg (upd a_due t.length) (nb_3 (m := 5) (by omega))) ?_
      subst w
      exact hS [5] _ rfl (up 5)
    · rw [nI_clamp (by omega)]
      refine nm_r (congrArg (upd a_due t.length) (nb_3 (m := 6) (by omega))) ?_
      have w : x = 4 := by omega
      subst w
      exact hS [6] _ rfl (up 6)
  refine pk_eq x 3 (fun e => h51 (Or.inl e)) (fun e3 => pk_eq x 4 (fun e => h51 (Or.inr e)) (fun e4 => pk_eq x 5 (fun e => ?_) (fun e5 => pk_eq x 6 (fun e => ?_) (fun e6 => pk_eq x 7 (fun e => nm_r (nI_pred _) ?_) (fun e7 => by omega)))))
  · subst e
    refine pk_eq k 16 (fun y => ?_) (fun y => ?_)
    · subst y
      exact xd_push (v := 7) (s := 5 :: t) rfl hs (by omega) (by rw [List.length_cons]; omega) (fun due g1 => xd_push (v := 2) rfl g1 (by omega) (by rw [List.length_cons, List.length_cons]; omega) (fun due2 g2 => hS [2, 7, 5] due2 rfl g2))
    · have y2 : k = 15 := by have := h5 rfl; omega
      subst y2
      exact hS [5] a_due rfl hs
  · have y2 := h6 e
    subst e y2
    exact hS [6] a_due rfl hs
  · subst e
    refine pk_eq k 17 (fun y => ?_) (fun y => ?_)
    · subst y
      exact hS [] a_due rfl hs.2
    · refine hN ?_ _
      unfold gm_f
      rw [if_neg (by omega), if_neg (by omega), if_neg (by omega), if_neg (by omega), if_pos rfl, if_neg y]
theorem xd_26 {post : Int32 → SX → Prop} {J10 : Int32 → Int32 → Int32 → Int32 → Int32 → Int32 → Int32 → Int32 → Int32 → Int32 → Int32 → Int32 → (Nat → Int32) → (Nat → Int32) → (Nat → Int32) → (Nat → Int32) → (Nat → Int32) → (Nat → Int32) → (Nat → Int32) → (Nat → Int32) → (Nat → Int32) → (Nat → Int32) → (Nat → Int32) → (Nat → Int32) → (Nat → Int32) → (Nat → Int32) → (Nat → Int32) → (Nat → Int32) → (Nat → Int32) → (Nat → Int32) → (Nat → Int32) → (Nat → Int32) → (Nat → Int32) → (Nat → Int32) → (Nat → Int32) → (Nat → Int32) → (Nat → Int32) → (Nat → Int32) → (Nat → Int32) → (Nat → Int32) → (Nat → Int32) → (Nat → Int32) → (Nat → Int32) → Prop} {k : Nat} {x1 x2 : Int32} (hk : k ≤ 26) (hp : ∀ s', s' = gm_p k s' → True) : ∀ s, xo_k s a_due → s.length < 80 → (∀ x, x ∈ s → x ≤ 9) → wX_read_95 post J10 x1 x2 (nI k) f_nodes f_depth f_known (nI (gm_p k s).length) f_place f_gifts f_matched f_lists f_steps f_outcome f_made a_name a_parent a_lastOf a_way a_value a_axes a_named a_kind a_over a_ends a_count a_num a_placed a_asked a_holds a_due a_open a_there a_priority a_given a_matches a_stack a_rest a_position a_size a_at a_row a_pc a_first a_out a_large → wX_read_26 post J10 x1 x2 (nI k) f_nodes f_depth f_known f_place f_gifts f_matched f_lists f_steps f_outcome f_made a_name a_parent a_lastOf a_way a_value a_axes a_named a_kind a_over a_ends a_count a_num a_placed a_asked a_holds a_due a_open a_there a_priority a_given a_matches a_stack a_rest a_position a_size a_at a_row a_pc a_first a_out a_large (s.length + 1) (nI s.length) := by
  intro s
  induction s with
  | nil => intro _ _ _ h; exact br_t (by decide) h
  | cons x t ih =>
    intro hs hl hm h
    rw [List.length_cons] at hl ⊢
    have hx := hm x (by simp)
    have hpop := ih hs.2 (by omega) (fun y hy => hm y (List.mem_cons_of_mem _ hy))
    have stay : ¬ ((x = 5 ∧ k ≠ 15 ∧ k ≠ 16) ∨ (x = 6 ∧ k ≠ 15)) → wX_read_95 post J10 x1 x2 (nI k) f_nodes f_depth f_known (nI (t.length + 1)) f_place f_gifts f_matched f_lists f_steps f_outcome f_made a_name a_parent a_lastOf a_way a_value a_axes a_named a_kind a_over a_ends a_count a_num a_placed a_asked a_holds a_due a_open a_there a_priority a_given a_matches a_stack a_rest a_position a_size a_at a_row a_pc a_first a_out a_large := by
      intro c
      rw [gm_p_n c, List.length_cons] at h
      exact h
    have go : (x = 5 ∧ k ≠ 15 ∧ k ≠ 16) ∨ (x = 6 ∧ k ≠ 15) → wX_read_26 post J10 x1 x2 (nI k) f_nodes f_depth f_known f_place f_gifts f_matched f_lists f_steps f_outcome f_made a_name a_parent a_lastOf a_way a_value a_axes a_named a_kind a_over a_ends a_count a_num a_placed a_asked a_holds a_due a_open a_there a_priority a_given a_matches a_stack a_rest a_position a_size a_at a_row a_pc a_first a_out a_large (t.length + 1) (nI t.length) := by
      intro c
      rw [gm_p_y c] at h
      exact hpop h
    have h60 : ¬ (x = 5 ∧ k ≠ 15 ∧ k ≠ 16) → wX_read_60 post J10 (wX_read_26 post J10 x1 x2 (nI k) f_nodes f_depth f_known f_place f_gifts f_matched f_lists f_steps f_outcome f_made a_name a_parent a_lastOf a_way a_value a_axes a_named a_kind a_over a_ends a_count a_num a_placed a_asked a_holds a_due a_open a_there a_priority a_given a_matches a_stack a_rest a_position a_size a_at a_row a_pc a_first a_out a_large (t.length + 1)) x1 x2 (nI k) f_nodes f_depth f_known (nI (t.length + 1)) f_place f_gifts f_matched f_lists f_steps f_outcome f_made a_name a_parent a_lastOf a_way a_value a_axes a_named a_kind a_over a_ends a_count a_num a_placed a_asked a_holds a_due a_open a_there a_priority a_given a_matches a_stack a_rest a_position a_size a_at a_row a_pc a_first a_out a_large := by
      intro c
      unfold wX_read_60
      rw [nI_pred]
      refine ⟨vp_in_nI (by omega) (by omega), ?_⟩
      rw [nI_clamp (by omega), hs.1]
      exact pk_eq x 6 (fun e => pk_eq k 15 (fun y => stay (by omega)) (fun y => nm_e (go (by omega)))) (fun e => stay (by omega))
    refine br_f (nI_nle (by omega) (by omega)) ?_
    rw [nI_pred]
    refine ⟨vp_in_nI (by omega) (by omega), ?_⟩
    rw [nI_clamp (by omega), hs.1]
    exact pk_eq x 5 (fun e => pk_eq k 15 (fun y => h60 (by omega)) (fun y => pk_eq k 16 (fun w => h60 (by omega)) (fun w => nm_e (go (by omega))))) (fun e => h60 (by omega))
theorem xd_129 {post : Int32 → SX → Prop} {x1 : Int32} : ∀ s, xo_k s a_due → s.length < 80 → (∀ x, x ∈ s → x ≤ 9) → wX_read_180 post x1 f_nodes f_depth f_known (nI (gm_p 99 s).length) f_place f_gifts f_matched f_lists f_steps f_outcome f_made a_name a_parent a_lastOf a_way a_value a_axes a_named a_kind a_over a_ends a_count a_num a_placed a_asked a_holds a_due a_open a_there a_priority a_given a_matches a_stack a_rest a_position a_size a_at a_row a_pc a_first a_out a_large → wX_read_129 post x1 f_nodes f_depth f_known f_place f_gifts f_matched f_lists f_steps f_outcome f_made a_name a_parent a_lastOf a_way a_value a_axes a_named a_kind a_over a_ends a_count a_num a_placed a_asked a_holds a_due a_open a_there a_priority a_given a_matches a_stack a_rest a_position a_size a_at a_row a_pc a_first a_out a_large (s.length + 1) (nI s.length) := by
  intro s
  induction s with
  | nil => intro _ _ _ h; exact br_t (by decide) h
  | cons x t ih =>
    intro hs hl hm h
    rw [List.length_cons] at hl ⊢
    have hx := hm x (by simp)
    have hpop := ih hs.2 (by omega) (fun y hy => hm y (List.mem_cons_of_mem _ hy))
    refine br_f (nI_nle (by omega) (by omega)) ?_
    rw [nI_pred]
    refine ⟨vp_in_nI (by omega) (by omega), ?_⟩
    rw [nI_clamp (by omega), hs.1]
    refine pk_eq x 5 (fun e => nm_e (hpop ?_)) (fun e => ⟨vp_in_nI (by omega) (by omega), pk_eq x 6 (fun e => nm_e (hpop ?_)) (fun e => ?_)⟩)
    · rw [gm_p_y (by omega)] at h; exact h
    · rw [gm_p_y (by omega)] at h; exact h
    · rw [gm_p_n (by omega), List.length_cons] at h; exact h
theorem xd_10 {post : Int32 → SX → Prop} {n : Nat} {T : td_T} (hT : xe_T 186 n T a_kind a_num) : ∀ d q s due, q + d = n → xo_k s due → s.length + 2 * d < 76 → gm_sh s → (gm_rd T.1 d q s = none → ∀ dd du, wX_read_205 post (nI n) f_nodes f_depth f_known dd f_place f_gifts f_matched f_lists f_steps f_outcome f_made a_name a_parent a_lastOf a_way a_value a_axes a_named a_kind a_over a_ends a_count a_num a_placed a_asked a_holds du a_open a_there a_priority a_given a_matches a_stack a_rest a_position a_size a_at a_row a_pc a_first a_out a_large) → (∀ i, gm_rd T.1 d q s = some i → ∀ dd du, post (nI i) (f_nodes, f_depth, f_known, dd, f_place, f_gifts, f_matched, f_lists, f_steps, f_outcome, f_made, a_name, a_parent, a_lastOf, a_way, a_value, a_axes, a_named, a_kind, a_over, a_ends, a_count, a_num, a_placed, a_asked, a_holds, du, a_open, a_there, a_priority, a_given, a_matches, a_stack, a_rest, a_position, a_size, a_at, a_row, a_pc, a_first, a_out, a_large)) → wX_read_10 post (nI n) (d + 1) (nI q) f_nodes f_depth f_known (nI s.length) f_place f_gifts f_matched f_lists f_steps f_outcome f_made a_name a_parent a_lastOf a_way a_value a_axes a_named a_kind a_over a_ends a_count a_num a_placed a_asked a_holds due a_open a_there a_priority a_given a_matches a_stack a_rest a_position a_size a_at a_row a_pc a_first a_out a_large := by
  have hle9 : ∀ s, gm_sh s → ∀ x, x ∈ s → x ≤ 9 := by
    intro s
    induction s with
    | nil => intro _ x hx; simp at hx
    | cons y t ih =>
      intro h x hx
      rcases List.mem_cons.mp hx with e | e
      · rw [e]; exact h.1.2
      · exact ih h.2.2 x e
  intro d
  induction d with
  | zero =>
    intro q s due hq hs hl hsh hn hi
    refine br_t (nI_le (by omega) (by have := hT.2.1; omega)) ⟨s.length + 1, xd_129 s hs (by omega) (hle9 s hsh) ?_⟩
    have hs2 := xo_p (k := 99) s hs
    have hl2 := gm_ple 99 s
    rw [gm_rd] at hn hi
    cases hp : gm_p 99 s with
    | nil =>
      rw [hp] at hn
      exact br_t (by show nI ([] : List Nat).length ≤ 0; decide) (hn rfl _ _)
    | cons x t =>
      rw [hp] at hn hi hs2 hl2
      dsimp only at hn hi
      rw [List.length_cons] at hl2 ⊢
      refine br_f (nI_nle (by omega) (by omega)) ?_
      rw [nI_pred]
      refine ⟨vp_in_nI (by omega) (by omega), ?_⟩
      rw [nI_clamp (by omega), hs2.1]
      have hx9 : x ≤ 9 := hle9 s hsh x (gm_pm 99 s (by rw [hp]; simp))
      refine pk_eq x 9 (fun e => ?_) (fun e => ?_)
      · rw [if_pos e] at hn; exact hn rfl _ _
      · rw [if_neg e] at hi
        have := hi q rfl (nI (t.length + 1)) due
        rw [show q = n by omega] at this
        exact this
  | succ d ih =>
    intro q s due hq hs hl hsh hn hi
    have hTn := hT.2.1
    obtain ⟨t1, t2, -⟩ := hT.2.2 q (by omega)
    refine br_f (nI_ge (by omega) (by omega)) ?_
    rw [show (186 : Int32) + nI q = nI (186 + q) from nI_add 186 q]
    refine ⟨vp_in_nI (by omega) (by omega), ?_⟩
    rw [nI_clamp (by omega)]
    refine nm_r t1 ⟨s.length + 1, xd_26 t2 (fun _ _ => trivial) s hs (by omega) (hle9 s hsh) ?_⟩
    have hs2 := xo_p (k := T.1 q) s hs
    have hl2 := gm_ple (T.1 q) s
    have hsh2 := gm_shp (T.1 q) s hsh
    rw [gm_rd] at hn hi
    cases hp : gm_p (T.1 q) s with
    | nil =>
      rw [hp] at hi
      exact br_t (by show nI ([] : List Nat).length = 0; decide) (hi q rfl _ _)
    | cons x t =>
      have hph := gm_ph s hp
      rw [hp] at hn hi hs2 hl2 hsh2
      dsimp only at hn hi
      rw [List.length_cons] at hl2 ⊢
      refine br_f (nI_ne0 (by omega) (by omega)) ?_
      rw [nI_pred]
      refine ⟨vp_in_nI (by omega) (by omega), ?_⟩
      rw [nI_clamp (by omega), hs2.1]
      refine xd_takes rfl hs2 (by omega) hsh2.1.1 hsh2.1.2 t2 (by omega) (by omega) (fun l du g1 g2 => br_f (by decide) (nm_r (nI_1 q) ?_)) (fun g dd => br_t rfl ?_)
      · rw [g1] at hn hi
        have hfl := gm_fl g1
        have hlen : (l ++ t).length = l.length + t.length := List.length_append
        exact ih (q + 1) (l ++ t) du (by omega) g2 (by omega) (gm_shf hsh2 g1) hn hi
      · rw [g] at hi
        exact hi q rfl _ _
/-- the draft is read -/
theorem xd_read {post : Int32 → SX → Prop} {n : Nat} {T : td_T} {s : List Nat} (hT : xe_T 186 n T a_kind a_num) (hc : a_count 6 = nI n) (hd : f_dues = nI s.length) (hs : xo_k s a_due) (hl : s.length ≤ 2) (hsh : gm_sh s) (h8 : s.count 8 = 0) (hn : gm_OK T.1 n s → ∀ dd du ov en pl op, (∀ c, c < 186 → ov c = a_over c ∧ en c = a_ends c ∧ pl c = a_placed c) → xr_SVi T.1 n 186 0 ov en pl → post (-1) (f_nodes, f_depth, f_known, dd, f_place, f_gifts, f_matched, f_lists, f_steps, f_outcome, f_made, a_name, a_parent, a_lastOf, a_way, a_value, a_axes, a_named, a_kind, ov, en, a_count, a_num, pl, a_asked, a_holds, du, op, a_there, a_priority, a_given, a_matches, a_stack, a_rest, a_position, a_size, a_at, a_row, a_pc, a_first, a_out, a_large)) (hi : ∀ i, gm_rd T.1 n 0 s = some i → i ≤ n → ∀ dd du, post (nI i) (f_nodes, f_depth, f_known, dd, f_place, f_gifts, f_matched, f_lists, f_steps, f_outcome, f_made, a_name, a_parent, a_lastOf, a_way, a_value, a_axes, a_named, a_kind, a_over, a_ends, a_count, a_num, a_placed, a_asked, a_holds, du, a_open, a_there, a_priority, a_given, a_matches, a_stack, a_rest, a_position, a_size, a_at, a_row, a_pc, a_first, a_out, a_large)) : wpX_read post (f_nodes, f_depth, f_known, f_dues, f_place, f_gifts, f_matched, f_lists, f_steps, f_outcome, f_made, a_name, a_parent, a_lastOf, a_way, a_value, a_axes, a_named, a_kind, a_over, a_ends, a_count, a_num, a_placed, a_asked, a_holds, a_due, a_open, a_there, a_priority, a_given, a_matches, a_stack, a_rest, a_position, a_size, a_at, a_row, a_pc, a_first, a_out, a_large) := by
  have hle : ∀ d q s i, gm_rd T.1 d q s = some i → i ≤ q + d := by
    intro d
    induction d with
    | zero =>
      intro q s i h
      rw [gm_rd] at h
      cases hp : gm_p 99 s with
      | nil => rw [hp] at h; cases h
      | cons x t =>
        rw [hp] at h
        dsimp only at h
        by_cases e : x = 9
        · rw [if_pos e] at h; cases h
        · rw [if_neg e] at h; have := Option.some.inj h; omega
    | succ d ih =>
      intro q s i h
      rw [gm_rd] at h
      cases hp : gm_p (T.1 q) s with
      | nil => rw [hp] at h; have := Option.some.inj h; omega
      | cons x t =>
        rw [hp] at h
        dsimp only at h
        cases hf : gm_f x (T.1 q) with
        | none => rw [hf] at h; have := Option.some.inj h; omega
        | some l => rw [hf] at h; have := ih (q + 1) _ i h; omega
  subst hd
  have hTn := hT.2.1
  refine nm_r hc ⟨n + 1, xd_10 hT n 0 s a_due (by omega) hs (by omega) hsh (fun g dd du => ?_) (fun i g dd du => hi i g (by have := hle _ _ _ _ g; omega) dd du)⟩
  exact xv_survey (b := 186) hT ⟨g, hsh, h8⟩ (fun ov en pl op h1 h2 => hn ⟨g, hsh, h8⟩ dd du ov en pl op h1 h2)
end
end
section
/-! the reference reads the draft -/
def ym_c (x : Nat) : Nat := if x = 1 then 2 else if x = 2 then 5 else if x = 3 then 3 else if x = 4 then 6 else if x = 5 then 4 else if x = 6 then 7 else if x = 7 then 8 else if x = 8 then 1 else 0
theorem ym_cle (x : Nat) : ym_c x ≤ 8 := by
  unfold ym_c
  repeat' split
  all_goals omega
def ym_k (s : List Nat) (wa : Nat → Int32) : Prop := xo_k (s.map ym_c) wa
theorem ym_push {v : Nat} {s : List Nat} {wa : Nat → Int32} (h : ym_k s wa) : ym_k (v :: s) (upd wa s.length (nI (ym_c v))) := by
  unfold ym_k at h ⊢
  have e : (s.map ym_c).length = s.length := List.length_map _
  refine ⟨?_, ?_⟩
  · rw [e]; exact pk_us
  · exact xo_up _ _ (by rw [e]; exact Nat.le_refl _) h
theorem ym_top {v : Nat} {s : List Nat} {wa : Nat → Int32} (h : ym_k (v :: s) wa) : wa s.length = nI (ym_c v) := by
  have e : (s.map ym_c).length = s.length := List.length_map _
  have h1 : wa (s.map ym_c).length = nI (ym_c v) := h.1
  rw [e] at h1
  exact h1
theorem ym_pop {v : Nat} {s : List Nat} {wa : Nat → Int32} (h : ym_k (v :: s) wa) : ym_k s wa := h.2
theorem ym_p {k : Nat} {wa : Nat → Int32} : ∀ s, ym_k s wa → ym_k (gm_p k s) wa := by
  intro s
  induction s with
  | nil => exact id
  | cons x t ih =>
    intro h
    by_cases c : (x = 5 ∧ k ≠ 15 ∧ k ≠ 16) ∨ (x = 6 ∧ k ≠ 15)
    · rw [gm_p_y c]; exact ih (ym_pop h)
    · rw [gm_p_n c]; exact h
def gm_9 : List Nat → Prop
  | [] => True
  | x :: t => (x = 9 → t = []) ∧ gm_9 t
theorem gm_9p (k : Nat) : ∀ s, gm_9 s → gm_9 (gm_p k s) := by
  intro s
  induction s with
  | nil => exact id
  | cons x t ih =>
    intro h
    by_cases c : (x = 5 ∧ k ≠ 15 ∧ k ≠ 16) ∨ (x = 6 ∧ k ≠ 15)
    · rw [gm_p_y c]; exact ih h.2
    · rw [gm_p_n c]; exact h
theorem gm_9a {t : List Nat} (ht : gm_9 t) : ∀ l : List Nat, (∀ y, y ∈ l → y ≠ 9) → gm_9 (l ++ t) := by
  intro l
  induction l with
  | nil => intro _; exact ht
  | cons a l ih => intro h; exact ⟨fun z => (h a (by simp) z).elim, ih (fun y hy => h y (List.mem_cons_of_mem _ hy))⟩
theorem gm_9f {x k : Nat} {l t : List Nat} (h1 : 1 ≤ x) (h9 : x ≤ 9) (h : gm_9 (x :: t)) (hf : gm_f x k = some l) : gm_9 (l ++ t) := by
  by_cases e : x = 9
  · subst e
    rw [h.1 rfl]
    rcases gm_f8 (Or.inr (by omega)) hf with ⟨k1, rfl⟩ | ⟨k1, rfl⟩ | ⟨k1, rfl⟩ | ⟨k1, rfl⟩ | ⟨k1, rfl⟩ | ⟨k1, rfl⟩ | ⟨k1, k2, rfl⟩
    · exact ⟨fun _ => rfl, trivial⟩
    · exact ⟨by omega, fun _ => rfl, trivial⟩
    · exact ⟨by omega, fun _ => rfl, trivial⟩
    · exact ⟨by omega, fun _ => rfl, trivial⟩
    · exact ⟨by omega, by omega, fun _ => rfl, trivial⟩
    · exact ⟨by omega, by omega, fun _ => rfl, trivial⟩
    · omega
  · exact gm_9a h.2 l (fun y hy z => e (((gm_fc h1 h9 hf).1 y hy).2.2 z))
section
variable {g_nodes g_inner g_rules g_place g_listed g_depth g_row g_pc g_node g_position g_size g_fault g_put g_steps : Int32} {b_name b_parent b_value b_kind b_with b_count b_bodyAt b_priority b_given b_there b_wanted b_waiting b_within b_list b_left b_reached b_sizes b_each b_backRow b_backPc b_backNode b_backPosition b_backSize b_output : Nat → Int32}
theorem ym_oper {post : Int32 → SY → Prop} {x k : Nat} {t : List Nat} (hs : ym_k t b_wanted) (hl : t.length + 2 < 64) (hx : x = 1 ∨ x = 2) (hk : k ≤ 26) (hS : ∀ l wa, gm_f x k = some l → ym_k (l ++ t) wa → post (nI (l ++ t).length) (g_nodes, g_inner, g_rules, g_place, g_listed, g_depth, g_row, g_pc, g_node, g_position, g_size, g_fault, g_put, g_steps, b_name, b_parent, b_value, b_kind, b_with, b_count, b_bodyAt, b_priority, b_given, b_there, wa, b_waiting, b_within, b_list, b_left, b_reached, b_sizes, b_each, b_backRow, b_backPc, b_backNode, b_backPosition, b_backSize, b_output)) (hN : gm_f x k = none → post (-1) (g_nodes, g_inner, g_rules, g_place, g_listed, g_depth, g_row, g_pc, g_node, g_position, g_size, g_fault, g_put, g_steps, b_name, b_parent, b_value, b_kind, b_with, b_count, b_bodyAt, b_priority, b_given, b_there, b_wanted, b_waiting, b_within, b_list, b_left, b_reached, b_sizes, b_each, b_backRow, b_backPc, b_backNode, b_backPosition, b_backSize, b_output)) : wpY_operand post (g_nodes, g_inner, g_rules, g_place, g_listed, g_depth, g_row, g_pc, g_node, g_position, g_size, g_fault, g_put, g_steps, b_name, b_parent, b_value, b_kind, b_with, b_count, b_bodyAt, b_priority, b_given, b_there, b_wanted, b_waiting, b_within, b_list, b_left, b_reached, b_sizes, b_each, b_backRow, b_backPc, b_backNode, b_backPosition, b_backSize, b_output) (nI (ym_c x)) (nI k) (nI (t.length + 1)) := by
  have hc := ym_cle x
  unfold gm_f at hS hN
  rw [if_pos hx] at hS hN
  refine nm_r (nI_pred _) (pk_le 4 k (fun z4 => pk_le 7 k (fun z7 => pk_le k 14 (fun z14 => nm_r (nI_1 _) ⟨vp_in_nI (by omega) (by omega), ?_⟩) (fun z14 => ?_)) (fun z7 => nm_r (nI_1 _) ⟨vp_in_nI (by omega) (by omega), ?_⟩)) (fun z4 => ?_))
  · rw [nI_clamp (by omega), nb_3 (by omega)]
    rw [if_neg (by omega), if_neg (by omega)] at hS
    refine nm_e (pk_le 14 k (fun w => ?_) (fun w => nm_r (nI_1 _) ⟨vp_in_nI (by omega) (by omega), ?_⟩))
    · rw [if_neg (by omega), if_pos (by omega)] at hS
      exact hS [x] _ rfl (ym_push hs)
    · rw [if_pos (by omega)] at hS
      rw [nI_clamp (by omega)]
      exact nm_e (hS [x, x] _ rfl (ym_push (s := x :: t) (ym_push hs)))
  · rw [if_neg (by omega), if_neg (by omega), if_neg (by omega), if_neg (by omega)] at hN
    exact hN rfl
  · rw [if_neg (by omega), if_pos (by omega)] at hS
    rw [nI_1, nI_clamp (by omega), nb_3 (by omega)]
    have e : ym_c x + 1 = ym_c (x + 2) := by rcases hx with rfl | rfl <;> rfl
    rw [e]
    exact nm_e (hS [x + 2] _ rfl (ym_push hs))
  · rw [if_pos (by omega)] at hS
    exact hS [] _ rfl hs
theorem ym_body {post : Int32 → SY → Prop} {x k : Nat} {t : List Nat} (hs : ym_k (x :: t) b_wanted) (hl : t.length + 3 < 64) (hx : x = 8 ∨ x = 9) (hk : k ≤ 26) (hS : ∀ l wa, gm_f x k = some l → ym_k (l ++ t) wa → post (nI (l ++ t).length) (g_nodes, g_inner, g_rules, g_place, g_listed, g_depth, g_row, g_pc, g_node, g_position, g_size, g_fault, g_put, g_steps, b_name, b_parent, b_value, b_kind, b_with, b_count, b_bodyAt, b_priority, b_given, b_there, wa, b_waiting, b_within, b_list, b_left, b_reached, b_sizes, b_each, b_backRow, b_backPc, b_backNode, b_backPosition, b_backSize, b_output)) (hN : gm_f x k = none → post (-1) (g_nodes, g_inner, g_rules, g_place, g_listed, g_depth, g_row, g_pc, g_node, g_position, g_size, g_fault, g_put, g_steps, b_name, b_parent, b_value, b_kind, b_with, b_count, b_bodyAt, b_priority, b_given, b_there, b_wanted, b_waiting, b_within, b_list, b_left, b_reached, b_sizes, b_each, b_backRow, b_backPc, b_backNode, b_backPosition, b_backSize, b_output)) : wpY_body post (g_nodes, g_inner, g_rules, g_place, g_listed, g_depth, g_row, g_pc, g_node, g_position, g_size, g_fault, g_put, g_steps, b_name, b_parent, b_value, b_kind, b_with, b_count, b_bodyAt, b_priority, b_given, b_there, b_wanted, b_waiting, b_within, b_list, b_left, b_reached, b_sizes, b_each, b_backRow, b_backPc, b_backNode, b_backPosition, b_backSize, b_output) (nI (ym_c x)) (nI k) (nI (t.length + 1)) := by
  unfold gm_f at hS hN
  rw [if_neg (by omega), if_neg (by omega), if_neg (by omega), if_neg (by omega), if_neg (by omega)] at hS hN
  have hl1 : (x :: t).length = t.length + 1 := List.length_cons
  refine pk_lt k 20 (fun z => ?_) (fun z => pk_lt 26 k (fun y => by omega) (fun y => ?_))
  · rw [if_neg (by omega), if_neg (by omega), if_neg (by omega), if_neg (by omega), if_neg (by omega), if_neg (by omega), if_neg (by omega)] at hN
    exact hN rfl
  refine pk_eq k 20 (fun w => ?_) (fun w0 => ?_)
  · rw [if_pos w] at hS
    exact hS [x] _ rfl hs
  rw [if_neg w0] at hS hN
  refine pk_eq k 21 (fun w => nm_r (nI_1 _) ⟨vp_in_nI (by omega) (by omega), ?_⟩) (fun w1 => ?_)
  · rw [if_pos w] at hS
    rw [nI_clamp (by omega)]
    exact nm_e (hS [8, x] _ rfl (ym_push (v := 8) (s := x :: t) hs))
  rw [if_neg w1] at hS hN
  refine pk_eq k 22 (fun w => nm_r (nI_1 _) ⟨vp_in_nI (by omega) (by omega), ?_⟩) (fun w2 => ?_)
  · rw [if_pos w] at hS
    rw [nI_clamp (by omega)]
    exact nm_e (hS [1, x] _ rfl (ym_push (v := 1) (s := x :: t) hs))
  rw [if_neg w2] at hS hN
  refine pk_eq k 23 (fun w => nm_r (nI_1 _) ⟨vp_in_nI (by omega) (by omega), ?_⟩) (fun w3 => ?_)
  · rw [if_pos w] at hS
    rw [nI_clamp (by omega)]
    exact nm_e (hS [3, x] _ rfl (ym_push (v := 3) (s := x :: t) hs))
  rw [if_neg w3] at hS hN
  have h107 : k = 24 ∨ k = 25 → wY_body_107 post (nI k) (nI (t.length + 1)) g_nodes g_inner g_rules g_place g_listed g_depth g_row g_pc g_node g_position g_size g_fault g_put g_steps b_name b_parent b_value b_kind b_with b_count b_bodyAt b_priority b_given b_there b_wanted b_waiting b_within b_list b_left b_reached b_sizes b_each b_backRow b_backPc b_backNode b_backPosition b_backSize b_output := by
    intro w
    refine nm_r (nI_1 _) ⟨vp_in_nI (by omega) (by omega), ?_⟩
    rw [nI_clamp (by omega)]
    refine nm_e (nm_r (nI_1 _) (pk_eq k 24 (fun v => ⟨vp_in_nI (by omega) (by omega), ?_⟩) (fun v => ⟨vp_in_nI (by omega) (by omega), ?_⟩)))
    · rw [if_pos v] at hS
      rw [nI_clamp (by omega)]
      exact nm_e (hS [1, 8, x] _ rfl (ym_push (v := 1) (s := 8 :: x :: t) (ym_push (v := 8) (s := x :: t) hs)))
    · rw [if_neg v, if_pos (by omega)] at hS
      rw [nI_clamp (by omega)]
      exact nm_e (hS [3, 8, x] _ rfl (ym_push (v := 3) (s := 8 :: x :: t) (ym_push (v := 8) (s := x :: t) hs)))
  refine pk_eq k 24 (fun w => h107 (Or.inl w)) (fun w4 => pk_eq k 25 (fun w => h107 (Or.inr w)) (fun w5 => pk_eq k 26 (fun w => ?_) (fun w6 => by omega)))
  rw [if_neg w4, if_neg w5] at hS hN
  rcases hx with rfl | rfl
  · rw [if_pos ⟨w, rfl⟩] at hS
    refine br_t rfl ?_
    rw [nI_pred]
    exact hS [] _ rfl (ym_pop hs)
  · rw [if_neg (by omega)] at hN
    exact br_f (by decide) (hN rfl)
theorem ym_step {post : Int32 → SY → Prop} {x k : Nat} {t : List Nat} (hs : ym_k (x :: t) b_wanted) (hl : t.length + 3 < 64) (hx : x = 3 ∨ x = 4 ∨ x = 5 ∨ x = 6) (hk : k ≤ 26) (h5 : x = 5 → k = 15 ∨ k = 16) (h6 : x = 6 → k = 15) (hS : ∀ l wa, gm_f x k = some l → ym_k (l ++ t) wa → post (nI (l ++ t).length) (g_nodes, g_inner, g_rules, g_place, g_listed, g_depth, g_row, g_pc, g_node, g_position, g_size, g_fault, g_put, g_steps, b_name, b_parent, b_value, b_kind, b_with, b_count, b_bodyAt, b_priority, b_given, b_there, wa, b_waiting, b_within, b_list, b_left, b_reached, b_sizes, b_each, b_backRow, b_backPc, b_backNode, b_backPosition, b_backSize, b_output)) (hN : gm_f x k = none → post (-1) (g_nodes, g_inner, g_rules, g_place, g_listed, g_depth, g_row, g_pc, g_node, g_position, g_size, g_fault, g_put, g_steps, b_name, b_parent, b_value, b_kind, b_with, b_count, b_bodyAt, b_priority, b_given, b_there, b_wanted, b_waiting, b_within, b_list, b_left, b_reached, b_sizes, b_each, b_backRow, b_backPc, b_backNode, b_backPosition, b_backSize, b_output)) : wpY_step post (g_nodes, g_inner, g_rules, g_place, g_listed, g_depth, g_row, g_pc, g_node, g_position, g_size, g_fault, g_put, g_steps, b_name, b_parent, b_value, b_kind, b_with, b_count, b_bodyAt, b_priority, b_given, b_there, b_wanted, b_waiting, b_within, b_list, b_left, b_reached, b_sizes, b_each, b_backRow, b_backPc, b_backNode, b_backPosition, b_backSize, b_output) (nI (ym_c x)) (nI k) (nI (t.length + 1)) := by
  have htop := ym_top hs
  have h17 : (x = 3 ∨ x = 4) → k = 15 → wY_step_17 post (nI (t.length + 1)) g_nodes g_inner g_rules g_place g_listed g_depth g_row g_pc g_node g_position g_size g_fault g_put g_steps b_name b_parent b_value b_kind b_with b_count b_bodyAt b_priority b_given b_there b_wanted b_waiting b_within b_list b_left b_reached b_sizes b_each b_backRow b_backPc b_backNode b_backPosition b_backSize b_output := by
    intro e y
    unfold wY_step_17
    rw [nI_pred]
    refine ⟨vp_in_nI (by omega) (by omega), vp_in_nI (by omega) (by omega), ?_⟩
    rw [nI_clamp (by omega), htop, nI_1]
    have hc : ym_c x + 1 = ym_c (x + 2) := by rcases e with rfl | rfl <;> rfl
    have hc2 := ym_cle (x + 2)
    rw [hc, nb_3 (by omega)]
    refine nm_e (hS [x + 2] _ ?_ (ym_push (ym_pop hs)))
    unfold gm_f
    rw [if_neg (by omega), if_pos e, if_pos y]
  refine pk_eq k 15 (fun y => ?_) (fun y => ?_)
  · rcases hx with e | e | e | e
    · subst e; exact br_t rfl (h17 (by omega) y)
    · subst e; exact br_f (by decide) (br_t rfl (h17 (by omega) y))
    · subst e y; exact br_f (by decide) (br_f (by decide) (hS [5] _ rfl hs))
    · subst e y; exact br_f (by decide) (br_f (by decide) (hS [6] _ rfl hs))
  · have hN2 : x = 3 ∨ x = 4 → gm_f x k = none := by
      intro e
      unfold gm_f
      rw [if_neg (by omega), if_pos e, if_neg y]
    rcases hx with e | e | e | e
    · subst e; exact br_f (by decide) (hN (hN2 (by omega)))
    · subst e; exact br_f (by decide) (hN (hN2 (by omega)))
    · have w : k = 16 := by have := h5 e; omega
      subst e w
      refine br_t rfl ⟨vp_in_nI (by omega) (by omega), ?_⟩
      rw [nI_clamp (by omega), nI_1]
      refine nm_e ⟨vp_in_nI (by omega) (by omega), ?_⟩
      rw [nI_clamp (by omega), show nI (t.length + 1) + 2 = nI (t.length + 1 + 2) from nI_add _ 2]
      exact nm_e (hS [2, 7, 5] _ rfl (ym_push (v := 2) (s := 7 :: 5 :: t) (ym_push (v := 7) (s := 5 :: t) hs)))
    · have := h6 e; omega
theorem ym_65 {post : Int32 → SY → Prop} {J46 : Int32 → Int32 → Int32 → Int32 → Int32 → Int32 → Int32 → Int32 → Int32 → Int32 → Int32 → Int32 → Int32 → Int32 → Int32 → Int32 → (Nat → Int32) → (Nat → Int32) → (Nat → Int32) → (Nat → Int32) → (Nat → Int32) → (Nat → Int32) → (Nat → Int32) → (Nat → Int32) → (Nat → Int32) → (Nat → Int32) → (Nat → Int32) → (Nat → Int32) → (Nat → Int32) → (Nat → Int32) → (Nat → Int32) → (Nat → Int32) → (Nat → Int32) → (Nat → Int32) → (Nat → Int32) → (Nat → Int32) → (Nat → Int32) → (Nat → Int32) → (Nat → Int32) → (Nat → Int32) → Prop} {k : Nat} {x3 x4 : Int32} (hk : k ≤ 26) : ∀ s, ym_k s b_wanted → s.length < 64 → (∀ x, x ∈ s → 1 ≤ x ∧ x ≤ 9) → wY_misfit_121 post J46 (nI (gm_p k s).length) x3 x4 (nI k) g_nodes g_inner g_rules g_place g_listed g_depth g_row g_pc g_node g_position g_size g_fault g_put g_steps b_name b_parent b_value b_kind b_with b_count b_bodyAt b_priority b_given b_there b_wanted b_waiting b_within b_list b_left b_reached b_sizes b_each b_backRow b_backPc b_backNode b_backPosition b_backSize b_output → wY_misfit_65 post J46 x3 x4 (nI k) g_nodes g_inner g_rules g_place g_listed g_depth g_row g_pc g_node g_position g_size g_fault g_put g_steps b_name b_parent b_value b_kind b_with b_count b_bodyAt b_priority b_given b_there b_wanted b_waiting b_within b_list b_left b_reached b_sizes b_each b_backRow b_backPc b_backNode b_backPosition b_backSize b_output (s.length + 1) (nI s.length) := by
  intro s
  induction s with
  | nil => intro _ _ _ h; exact br_t (by decide) h
  | cons x t ih =>
    intro hs hl hm h
    rw [List.length_cons] at hl ⊢
    have hx := hm x (by simp)
    have htop := ym_top hs
    have hc := ym_cle x
    have c4 : ym_c x = 4 ↔ x = 5 := by
      have : x = 1 ∨ x = 2 ∨ x = 3 ∨ x = 4 ∨ x = 5 ∨ x = 6 ∨ x = 7 ∨ x = 8 ∨ x = 9 := by omega
      rcases this with rfl | rfl | rfl | rfl | rfl | rfl | rfl | rfl | rfl <;> decide
    have c7 : ym_c x = 7 ↔ x = 6 := by
      have : x = 1 ∨ x = 2 ∨ x = 3 ∨ x = 4 ∨ x = 5 ∨ x = 6 ∨ x = 7 ∨ x = 8 ∨ x = 9 := by omega
      rcases this with rfl | rfl | rfl | rfl | rfl | rfl | rfl | rfl | rfl <;> decide
    have hpop := ih (ym_pop hs) (by omega) (fun y hy => hm y (List.mem_cons_of_mem _ hy))
    have stay : ¬ ((x = 5 ∧ k ≠ 15 ∧ k ≠ 16) ∨ (x = 6 ∧ k ≠ 15)) → wY_misfit_121 post J46 (nI (t.length + 1)) x3 x4 (nI k) g_nodes g_inner g_rules g_place g_listed g_depth g_row g_pc g_node g_position g_size g_fault g_put g_steps b_name b_parent b_value b_kind b_with b_count b_bodyAt b_priority b_given b_there b_wanted b_waiting b_within b_list b_left b_reached b_sizes b_each b_backRow b_backPc b_backNode b_backPosition b_backSize b_output := by
      intro c
      rw [gm_p_n c, List.length_cons] at h
      exact h
    have go : (x = 5 ∧ k ≠ 15 ∧ k ≠ 16) ∨ (x = 6 ∧ k ≠ 15) → wY_misfit_65 post J46 x3 x4 (nI k) g_nodes g_inner g_rules g_place g_listed g_depth g_row g_pc g_node g_position g_size g_fault g_put g_steps b_name b_parent b_value b_kind b_with b_count b_bodyAt b_priority b_given b_there b_wanted b_waiting b_within b_list b_left b_reached b_sizes b_each b_backRow b_backPc b_backNode b_backPosition b_backSize b_output (t.length + 1) (nI t.length) := by
      intro c
      rw [gm_p_y c] at h
      exact hpop h
    have h95 : ¬ (x = 5 ∧ k ≠ 15 ∧ k ≠ 16) → wY_misfit_95 post J46 (wY_misfit_65 post J46 x3 x4 (nI k) g_nodes g_inner g_rules g_place g_listed g_depth g_row g_pc g_node g_position g_size g_fault g_put g_steps b_name b_parent b_value b_kind b_with b_count b_bodyAt b_priority b_given b_there b_wanted b_waiting b_within b_list b_left b_reached b_sizes b_each b_backRow b_backPc b_backNode b_backPosition b_backSize b_output (t.length + 1)) (nI (t.length + 1)) x3 x4 (nI k) g_nodes g_inner g_rules g_place g_listed g_depth g_row g_pc g_node g_position g_size g_fault g_put g_steps b_name b_parent b_value b_kind b_with b_count b_bodyAt b_priority b_given b_there b_wanted b_waiting b_within b_list b_left b_reached b_sizes b_each b_backRow b_backPc b_backNode b_backPosition b_backSize b_output := by
      intro c
      unfold wY_misfit_95
      rw [nI_pred]
      refine ⟨vp_in_nI (by omega) (by omega), ?_⟩
      rw [nI_clamp (by omega), htop]
      exact pk_eq (ym_c x) 7 (fun e => pk_eq k 15 (fun y => stay (by omega)) (fun y => nm_r (pk_m1 _) (go (by omega)))) (fun e => stay (by omega))
    refine br_f (nI_nle (by omega) (by omega)) ?_
    rw [nI_pred]
    refine ⟨vp_in_nI (by omega) (by omega), ?_⟩
    rw [nI_clamp (by omega), htop]
    exact pk_eq (ym_c x) 4 (fun e => pk_eq k 15 (fun y => h95 (by omega)) (fun y => pk_eq k 16 (fun w => h95 (by omega)) (fun w => nm_r (pk_m1 _) (go (by omega))))) (fun e => h95 (by omega))
theorem ym_227 {post : Int32 → SY → Prop} {x3 : Int32} : ∀ s, ym_k s b_wanted → s.length < 64 → (∀ x, x ∈ s → 1 ≤ x ∧ x ≤ 9) → wY_misfit_262 post (nI (gm_p 99 s).length) x3 g_nodes g_inner g_rules g_place g_listed g_depth g_row g_pc g_node g_position g_size g_fault g_put g_steps b_name b_parent b_value b_kind b_with b_count b_bodyAt b_priority b_given b_there b_wanted b_waiting b_within b_list b_left b_reached b_sizes b_each b_backRow b_backPc b_backNode b_backPosition b_backSize b_output → wY_misfit_227 post x3 g_nodes g_inner g_rules g_place g_listed g_depth g_row g_pc g_node g_position g_size g_fault g_put g_steps b_name b_parent b_value b_kind b_with b_count b_bodyAt b_priority b_given b_there b_wanted b_waiting b_within b_list b_left b_reached b_sizes b_each b_backRow b_backPc b_backNode b_backPosition b_backSize b_output (s.length + 1) (nI s.length) := by
  intro s
  induction s with
  | nil => intro _ _ _ h; exact br_t (by decide) h
  | cons x t ih =>
    intro hs hl hm h
    rw [List.length_cons] at hl ⊢
    have hx := hm x (by simp)
    have htop := ym_top hs
    have hc := ym_cle x
    have c4 : ym_c x = 4 ↔ x = 5 := by
      have : x = 1 ∨ x = 2 ∨ x = 3 ∨ x = 4 ∨ x = 5 ∨ x = 6 ∨ x = 7 ∨ x = 8 ∨ x = 9 := by omega
      rcases this with rfl | rfl | rfl | rfl | rfl | rfl | rfl | rfl | rfl <;> decide
    have c7 : ym_c x = 7 ↔ x = 6 := by
      have : x = 1 ∨ x = 2 ∨ x = 3 ∨ x = 4 ∨ x = 5 ∨ x = 6 ∨ x = 7 ∨ x = 8 ∨ x = 9 := by omega
      rcases this with rfl | rfl | rfl | rfl | rfl | rfl | rfl | rfl | rfl <;> decide
    have hpop := ih (ym_pop hs) (by omega) (fun y hy => hm y (List.mem_cons_of_mem _ hy))
    refine br_f (nI_nle (by omega) (by omega)) ?_
    rw [nI_pred]
    refine ⟨vp_in_nI (by omega) (by omega), ?_⟩
    rw [nI_clamp (by omega), htop]
    refine pk_eq (ym_c x) 4 (fun e => nm_r (pk_m1 _) (hpop ?_)) (fun e => ⟨vp_in_nI (by omega) (by omega), pk_eq (ym_c x) 7 (fun e => nm_r (pk_m1 _) (hpop ?_)) (fun e => ?_)⟩)
    · rw [gm_p_y (by omega)] at h; exact h
    · rw [gm_p_y (by omega)] at h; exact h
    · rw [gm_p_n (by omega), List.length_cons] at h; exact h
theorem ym_46 {post : Int32 → SY → Prop} {n : Nat} {T : td_T} (hT : ye_T 180 n T b_kind b_with) : ∀ d q s wa, q + d = n → ym_k s wa → s.length + 2 * d < 63 → gm_sh s → gm_9 s → (gm_rd T.1 d q s = none → ∀ wa', post (-1) (g_nodes, g_inner, g_rules, g_place, g_listed, g_depth, g_row, g_pc, g_node, g_position, g_size, g_fault, g_put, g_steps, b_name, b_parent, b_value, b_kind, b_with, b_count, b_bodyAt, b_priority, b_given, b_there, wa', b_waiting, b_within, b_list, b_left, b_reached, b_sizes, b_each, b_backRow, b_backPc, b_backNode, b_backPosition, b_backSize, b_output)) → (∀ i, gm_rd T.1 d q s = some i → ∀ wa', post (nI i) (g_nodes, g_inner, g_rules, g_place, g_listed, g_depth, g_row, g_pc, g_node, g_position, g_size, g_fault, g_put, g_steps, b_name, b_parent, b_value, b_kind, b_with, b_count, b_bodyAt, b_priority, b_given, b_there, wa', b_waiting, b_within, b_list, b_left, b_reached, b_sizes, b_each, b_backRow, b_backPc, b_backNode, b_backPosition, b_backSize, b_output)) → wY_misfit_46 post (nI n) (d + 1) (nI s.length) (nI q) g_nodes g_inner g_rules g_place g_listed g_depth g_row g_pc g_node g_position g_size g_fault g_put g_steps b_name b_parent b_value b_kind b_with b_count b_bodyAt b_priority b_given b_there wa b_waiting b_within b_list b_left b_reached b_sizes b_each b_backRow b_backPc b_backNode b_backPosition b_backSize b_output := by
  have hle9 : ∀ s, gm_sh s → ∀ x, x ∈ s → 1 ≤ x ∧ x ≤ 9 := by
    intro s
    induction s with
    | nil => intro _ x hx; simp at hx
    | cons y t ih =>
      intro h x hx
      rcases List.mem_cons.mp hx with e | e
      · rw [e]; exact h.1
      · exact ih h.2.2 x e
  intro d
  induction d with
  | zero =>
    intro q s wa hq hs hl hsh h9 hn hi
    refine br_t (nI_le (by omega) (by have := hT.2.1; omega)) ⟨s.length + 1, ym_227 s hs (by omega) (hle9 s hsh) ?_⟩
    have hs2 := ym_p (k := 99) s hs
    have hl2 := gm_ple 99 s
    have h92 := gm_9p 99 s h9
    rw [gm_rd] at hn hi
    cases hp : gm_p 99 s with
    | nil =>
      rw [hp] at hn
      exact br_t (by show nI ([] : List Nat).length = 0; decide) (br_f (by decide) (hn rfl _))
    | cons x t =>
      rw [hp] at hn hi hs2 hl2 h92
      dsimp only at hn hi
      rw [List.length_cons] at hl2 ⊢
      have hx9 := hle9 s hsh x (gm_pm 99 s (by rw [hp]; simp))
      refine br_f (nI_ne0 (by omega) (by omega)) (pk_eq (t.length + 1) 1 (fun e => ?_) (fun e => ?_))
      · have ht : t = [] := List.length_eq_zero_iff.mp (by omega)
        subst ht
        have htop : wa 0 = nI (ym_c x) := ym_top hs2
        have hcx := ym_cle x
        rw [htop]
        refine pk_eq (ym_c x) 0 (fun w => ?_) (fun w => ?_)
        · have e9 : x = 9 := by
            have : x = 1 ∨ x = 2 ∨ x = 3 ∨ x = 4 ∨ x = 5 ∨ x = 6 ∨ x = 7 ∨ x = 8 ∨ x = 9 := by omega
            rcases this with rfl | rfl | rfl | rfl | rfl | rfl | rfl | rfl | rfl <;> first | rfl | exact absurd w (by decide)
          rw [if_pos e9] at hn
          exact br_f (by decide) (hn rfl _)
        · have e9 : x ≠ 9 := fun z => by subst z; exact w rfl
          rw [if_neg e9] at hi
          have := hi q rfl wa
          rw [show q = n by omega] at this
          exact br_t rfl this
      · have e9 : x ≠ 9 := fun z => by have := h92.1 z; rw [this] at e; simp at e
        rw [if_neg e9] at hi
        have := hi q rfl wa
        rw [show q = n by omega] at this
        exact br_t rfl this
  | succ d ih =>
    intro q s wa hq hs hl hsh h9 hn hi
    have hTn := hT.2.1
    obtain ⟨t1, t2, -⟩ := hT.2.2 q (by omega)
    refine br_f (nI_ge (by omega) (by omega)) ?_
    rw [show (180 : Int32) + nI q = nI (180 + q) from nI_add 180 q]
    refine ⟨vp_in_nI (by omega) (by omega), ?_⟩
    rw [nI_clamp (by omega)]
    refine nm_r t1 ⟨s.length + 1, ym_65 t2 s hs (by omega) (hle9 s hsh) ?_⟩
    have hs2 := ym_p (k := T.1 q) s hs
    have hl2 := gm_ple (T.1 q) s
    have hsh2 := gm_shp (T.1 q) s hsh
    have h92 := gm_9p (T.1 q) s h9
    rw [gm_rd] at hn hi
    cases hp : gm_p (T.1 q) s with
    | nil =>
      rw [hp] at hi
      exact br_t (by show nI ([] : List Nat).length = 0; decide) (hi q rfl _)
    | cons x t =>
      have hph := gm_ph s hp
      rw [hp] at hn hi hs2 hl2 hsh2 h92
      dsimp only at hn hi
      rw [List.length_cons] at hl2 ⊢
      have htop := ym_top hs2
      have hx19 := hsh2.1
      have hcx := ym_cle x
      have hS : ∀ l wa', gm_f x (T.1 q) = some l → ym_k (l ++ t) wa' → wY_misfit_213 post (wY_misfit_46 post (nI n) (d + 1)) (nI n) (nI q) (nI (l ++ t).length) g_nodes g_inner g_rules g_place g_listed g_depth g_row g_pc g_node g_position g_size g_fault g_put g_steps b_name b_parent b_value b_kind b_with b_count b_bodyAt b_priority b_given b_there wa' b_waiting b_within b_list b_left b_reached b_sizes b_each b_backRow b_backPc b_backNode b_backPosition b_backSize b_output := by
        intro l wa' g1 g2
        rw [g1] at hn hi
        have hfl := gm_fl g1
        have hlen : (l ++ t).length = l.length + t.length := List.length_append
        exact br_t (nI_pos' (by omega)) (nm_r (nI_1 q) (ih (q + 1) (l ++ t) wa' (by omega) g2 (by omega) (gm_shf hsh2 g1) (gm_9f hsh2.1.1 hsh2.1.2 h92 g1) hn hi))
      have hN : gm_f x (T.1 q) = none → wY_misfit_213 post (wY_misfit_46 post (nI n) (d + 1)) (nI n) (nI q) (-1) g_nodes g_inner g_rules g_place g_listed g_depth g_row g_pc g_node g_position g_size g_fault g_put g_steps b_name b_parent b_value b_kind b_with b_count b_bodyAt b_priority b_given b_there wa b_waiting b_within b_list b_left b_reached b_sizes b_each b_backRow b_backPc b_backNode b_backPosition b_backSize b_output := by
        intro g
        rw [g] at hi
        exact br_f (by decide) (hi q rfl _)
      refine br_f (nI_ne0 (by omega) (by omega)) ?_
      rw [nI_pred]
      refine ⟨vp_in_nI (by omega) (by omega), ?_⟩
      rw [nI_clamp (by omega)]
      refine nm_r htop ?_
      have h168 : x = 1 ∨ x = 2 → wY_misfit_168 post (wY_misfit_46 post (nI n) (d + 1)) (nI (t.length + 1)) (nI n) (nI q) (nI (T.1 q)) (nI (ym_c x)) g_nodes g_inner g_rules g_place g_listed g_depth g_row g_pc g_node g_position g_size g_fault g_put g_steps b_name b_parent b_value b_kind b_with b_count b_bodyAt b_priority b_given b_there wa b_waiting b_within b_list b_left b_reached b_sizes b_each b_backRow b_backPc b_backNode b_backPosition b_backSize b_output := fun e => ym_oper (ym_pop hs2) (by omega) e t2 hS hN
      have hxx : x = 1 ∨ x = 2 ∨ (x = 3 ∨ x = 4 ∨ x = 5 ∨ x = 6) ∨ x = 7 ∨ (x = 8 ∨ x = 9) := by omega
      rcases hxx with e | e | e | e | e
      · subst e; exact br_t (by decide) (br_t rfl (h168 (Or.inl rfl)))
      · subst e; exact br_t (by decide) (br_f (by decide) (br_t rfl (h168 (Or.inr rfl))))
      · have hst : wpY_step (fun r_70 u => match u with | (g_nodes71, g_inner71, g_rules71, g_place71, g_listed71, g_depth71, g_row71, g_pc71, g_node71, g_position71, g_size71, g_fault71, g_put71, g_steps71, b_name71, b_parent71, b_value71, b_kind71, b_with71, b_count71, b_bodyAt71, b_priority71, b_given71, b_there71, b_wanted71, b_waiting71, b_within71, b_list71, b_left71, b_reached71, b_sizes71, b_each71, b_backRow71, b_backPc71, b_backNode71, b_backPosition71, b_backSize71, b_output71) => (wY_misfit_213 post (wY_misfit_46 post (nI n) (d + 1)) (nI n) (nI q) r_70 g_nodes71 g_inner71 g_rules71 g_place71 g_listed71 g_depth71 g_row71 g_pc71 g_node71 g_position71 g_size71 g_fault71 g_put71 g_steps71 b_name71 b_parent71 b_value71 b_kind71 b_with71 b_count71 b_bodyAt71 b_priority71 b_given71 b_there71 b_wanted71 b_waiting71 b_within71 b_list71 b_left71 b_reached71 b_sizes71 b_each71 b_backRow71 b_backPc71 b_backNode71 b_backPosition71 b_backSize71 b_output71)) (g_nodes, g_inner, g_rules, g_place, g_listed, g_depth, g_row, g_pc, g_node, g_position, g_size, g_fault, g_put, g_steps, b_name, b_parent, b_value, b_kind, b_with, b_count, b_bodyAt, b_priority, b_given, b_there, wa, b_waiting, b_within, b_list, b_left, b_reached, b_sizes, b_each, b_backRow, b_backPc, b_backNode, b_backPosition, b_backSize, b_output) (nI (ym_c x)) (nI (T.1 q)) (nI (t.length + 1)) := ym_step hs2 (by omega) e t2 (by omega) (by omega) hS hN
        rcases e with e | e | e | e
        · subst e; exact br_t (by decide) (br_f (by decide) (br_f (by decide) (br_f (by decide) hst)))
        · subst e; exact br_t (by decide) (br_f (by decide) (br_f (by decide) (br_f (by decide) hst)))
        · subst e; exact br_t (by decide) (br_f (by decide) (br_f (by decide) (br_f (by decide) hst)))
        · subst e; exact br_t (by decide) (br_f (by decide) (br_f (by decide) (br_f (by decide) hst)))
      · subst e
        refine br_t (by decide) (br_f (by decide) (br_f (by decide) (br_t rfl (pk_eq (T.1 q) 17 (fun y => ?_) (fun y => ?_)))))
        · exact hS [] wa (by rw [y]; rfl) (ym_pop hs2)
        · refine hN ?_
          unfold gm_f
          rw [if_neg (by omega), if_neg (by omega), if_neg (by omega), if_neg (by omega), if_pos rfl, if_neg y]
      · have hbd : wpY_body (fun r_110 u => match u with | (g_nodes111, g_inner111, g_rules111, g_place111, g_listed111, g_depth111, g_row111, g_pc111, g_node111, g_position111, g_size111, g_fault111, g_put111, g_steps111, b_name111, b_parent111, b_value111, b_kind111, b_with111, b_count111, b_bodyAt111, b_priority111, b_given111, b_there111, b_wanted111, b_waiting111, b_within111, b_list111, b_left111, b_reached111, b_sizes111, b_each111, b_backRow111, b_backPc111, b_backNode111, b_backPosition111, b_backSize111, b_output111) => (wY_misfit_213 post (wY_misfit_46 post (nI n) (d + 1)) (nI n) (nI q) r_110 g_nodes111 g_inner111 g_rules111 g_place111 g_listed111 g_depth111 g_row111 g_pc111 g_node111 g_position111 g_size111 g_fault111 g_put111 g_steps111 b_name111 b_parent111 b_value111 b_kind111 b_with111 b_count111 b_bodyAt111 b_priority111 b_given111 b_there111 b_wanted111 b_waiting111 b_within111 b_list111 b_left111 b_reached111 b_sizes111 b_each111 b_backRow111 b_backPc111 b_backNode111 b_backPosition111 b_backSize111 b_output111)) (g_nodes, g_inner, g_rules, g_place, g_listed, g_depth, g_row, g_pc, g_node, g_position, g_size, g_fault, g_put, g_steps, b_name, b_parent, b_value, b_kind, b_with, b_count, b_bodyAt, b_priority, b_given, b_there, wa, b_waiting, b_within, b_list, b_left, b_reached, b_sizes, b_each, b_backRow, b_backPc, b_backNode, b_backPosition, b_backSize, b_output) (nI (ym_c x)) (nI (T.1 q)) (nI (t.length + 1)) := ym_body hs2 (by omega) e t2 hS hN
        rcases e with e | e
        · subst e; exact br_f (by decide) hbd
        · subst e; exact br_f (by decide) hbd
/-- the draft is read: as a rule, a path, a number -/
theorem ym_rule {post : Int32 → SY → Prop} {n : Nat} {T : td_T} (hT : ye_T 180 n T b_kind b_with) (hc : b_count 6 = nI n) (hn : gm_rd T.1 n 0 [3, 9] = none → ∀ wa, post (-1) (g_nodes, g_inner, g_rules, g_place, g_listed, g_depth, g_row, g_pc, g_node, g_position, g_size, g_fault, g_put, g_steps, b_name, b_parent, b_value, b_kind, b_with, b_count, b_bodyAt, b_priority, b_given, b_there, wa, b_waiting, b_within, b_list, b_left, b_reached, b_sizes, b_each, b_backRow, b_backPc, b_backNode, b_backPosition, b_backSize, b_output)) (hi : ∀ i, gm_rd T.1 n 0 [3, 9] = some i → ∀ wa, post (nI i) (g_nodes, g_inner, g_rules, g_place, g_listed, g_depth, g_row, g_pc, g_node, g_position, g_size, g_fault, g_put, g_steps, b_name, b_parent, b_value, b_kind, b_with, b_count, b_bodyAt, b_priority, b_given, b_there, wa, b_waiting, b_within, b_list, b_left, b_reached, b_sizes, b_each, b_backRow, b_backPc, b_backNode, b_backPosition, b_backSize, b_output)) : wpY_misfit post (g_nodes, g_inner, g_rules, g_place, g_listed, g_depth, g_row, g_pc, g_node, g_position, g_size, g_fault, g_put, g_steps, b_name, b_parent, b_value, b_kind, b_with, b_count, b_bodyAt, b_priority, b_given, b_there, b_wanted, b_waiting, b_within, b_list, b_left, b_reached, b_sizes, b_each, b_backRow, b_backPc, b_backNode, b_backPosition, b_backSize, b_output) 0 := by
  have hTn := hT.2.1
  refine br_t rfl (nm_e (nm_e (nm_e (br_t rfl ⟨vp_in_nI (n := 1) (by omega) (by omega), nm_e (nm_r hc ⟨n + 1, ?_⟩)⟩))))
  refine ym_46 hT n 0 [3, 9] _ (by omega) ⟨?_, ?_, trivial⟩ (by simp; omega) ⟨by omega, by omega, by omega, by omega, trivial⟩ ⟨by omega, fun _ => rfl, trivial⟩ hn hi
  · rfl
  · rfl
theorem ym_path {post : Int32 → SY → Prop} {n : Nat} {T : td_T} (hT : ye_T 180 n T b_kind b_with) (hc : b_count 6 = nI n) (hn : gm_rd T.1 n 0 [3] = none → ∀ wa, post (-1) (g_nodes, g_inner, g_rules, g_place, g_listed, g_depth, g_row, g_pc, g_node, g_position, g_size, g_fault, g_put, g_steps, b_name, b_parent, b_value, b_kind, b_with, b_count, b_bodyAt, b_priority, b_given, b_there, wa, b_waiting, b_within, b_list, b_left, b_reached, b_sizes, b_each, b_backRow, b_backPc, b_backNode, b_backPosition, b_backSize, b_output)) (hi : ∀ i, gm_rd T.1 n 0 [3] = some i → ∀ wa, post (nI i) (g_nodes, g_inner, g_rules, g_place, g_listed, g_depth, g_row, g_pc, g_node, g_position, g_size, g_fault, g_put, g_steps, b_name, b_parent, b_value, b_kind, b_with, b_count, b_bodyAt, b_priority, b_given, b_there, wa, b_waiting, b_within, b_list, b_left, b_reached, b_sizes, b_each, b_backRow, b_backPc, b_backNode, b_backPosition, b_backSize, b_output)) : wpY_misfit post (g_nodes, g_inner, g_rules, g_place, g_listed, g_depth, g_row, g_pc, g_node, g_position, g_size, g_fault, g_put, g_steps, b_name, b_parent, b_value, b_kind, b_with, b_count, b_bodyAt, b_priority, b_given, b_there, b_wanted, b_waiting, b_within, b_list, b_left, b_reached, b_sizes, b_each, b_backRow, b_backPc, b_backNode, b_backPosition, b_backSize, b_output) 3 := by
  have hTn := hT.2.1
  refine br_f (by decide) (nm_e (br_f (by decide) ⟨vp_in_nI (n := 0) (by omega) (by omega), nm_e (nm_r hc ⟨n + 1, ?_⟩)⟩))
  refine ym_46 hT n 0 [3] _ (by omega) ⟨?_, trivial⟩ (by simp; omega) ⟨by omega, by omega, trivial⟩ ⟨by omega, trivial⟩ hn hi
  rfl
theorem ym_number {post : Int32 → SY → Prop} {n : Nat} {T : td_T} (hT : ye_T 180 n T b_kind b_with) (hc : b_count 6 = nI n) (hn : gm_rd T.1 n 0 [1] = none → ∀ wa, post (-1) (g_nodes, g_inner, g_rules, g_place, g_listed, g_depth, g_row, g_pc, g_node, g_position, g_size, g_fault, g_put, g_steps, b_name, b_parent, b_value, b_kind, b_with, b_count, b_bodyAt, b_priority, b_given, b_there, wa, b_waiting, b_within, b_list, b_left, b_reached, b_sizes, b_each, b_backRow, b_backPc, b_backNode, b_backPosition, b_backSize, b_output)) (hi : ∀ i, gm_rd T.1 n 0 [1] = some i → ∀ wa, post (nI i) (g_nodes, g_inner, g_rules, g_place, g_listed, g_depth, g_row, g_pc, g_node, g_position, g_size, g_fault, g_put, g_steps, b_name, b_parent, b_value, b_kind, b_with, b_count, b_bodyAt, b_priority, b_given, b_there, wa, b_waiting, b_within, b_list, b_left, b_reached, b_sizes, b_each, b_backRow, b_backPc, b_backNode, b_backPosition, b_backSize, b_output)) : wpY_misfit post (g_nodes, g_inner, g_rules, g_place, g_listed, g_depth, g_row, g_pc, g_node, g_position, g_size, g_fault, g_put, g_steps, b_name, b_parent, b_value, b_kind, b_with, b_count, b_bodyAt, b_priority, b_given, b_there, b_wanted, b_waiting, b_within, b_list, b_left, b_reached, b_sizes, b_each, b_backRow, b_backPc, b_backNode, b_backPosition, b_backSize, b_output) 2 := by
  have hTn := hT.2.1
  refine br_f (by decide) (nm_e (br_f (by decide) ⟨vp_in_nI (n := 0) (by omega) (by omega), nm_e (nm_r hc ⟨n + 1, ?_⟩)⟩))
  refine ym_46 hT n 0 [1] _ (by omega) ⟨?_, trivial⟩ (by simp; omega) ⟨by omega, by omega, trivial⟩ ⟨by omega, trivial⟩ hn hi
  rfl
end
end
section
/-! the component learns the sets of the document -/
def xk_U (axes : Nat → Int32) (i p : Nat) (root : Bool) (v2 v3 v4 v6 w v7 v8 : Int32) : Nat → Int32 :=
  upd (upd (if root then upd (upd (upd (upd (upd (upd axes i ((1 : Int32) <<< (nI i &&& 31))) (24 + i) 0) (48 + i) v2) (72 + i) v3) (96 + i) v4) (144 + i) v6
    else upd (upd (upd (upd (upd (upd (upd axes i ((1 : Int32) <<< (nI i &&& 31))) (24 + i) 0) (48 + i) v2) (72 + i) v3) (96 + i) v4) (144 + i) v6) (24 + p) w) (168 + i) v7) (192 + i) v8
theorem xk_Ulo {axes : Nat → Int32} {i p x j : Nat} {root : Bool} {v2 v3 v4 v6 w v7 v8 : Int32} (hi : i < 24) (hj : j < i) (hx : x < 9) (h : root = false → p < 24 ∧ (x = 1 → j ≠ p)) : xk_U axes i p root v2 v3 v4 v6 w v7 v8 (24 * x + j) = axes (24 * x + j) := by
  unfold xk_U
  rw [pk_un (by omega), pk_un (by omega)]
  cases root with
  | true =>
    rw [if_pos rfl, pk_un (by omega), pk_un (by omega), pk_un (by omega), pk_un (by omega), pk_un (by omega), pk_un (by omega)]
  | false =>
    have := h rfl
    rw [if_neg (by simp), pk_un (by omega), pk_un (by omega), pk_un (by omega), pk_un (by omega), pk_un (by omega), pk_un (by omega), pk_un (by omega)]
theorem xk_Up {axes : Nat → Int32} {i p : Nat} {v2 v3 v4 v6 w v7 v8 : Int32} (hi : i < 24) (hp : p < i) : xk_U axes i p false v2 v3 v4 v6 w v7 v8 (24 + p) = w := by
  unfold xk_U
  rw [pk_un (by omega), pk_un (by omega), if_neg (by simp), pk_us]
theorem xk_Ui {axes : Nat → Int32} {i p : Nat} {root : Bool} {v2 v3 v4 v6 w v7 v8 : Int32} (hi : i < 24) (hp : root = false → p < i) : xk_U axes i p root v2 v3 v4 v6 w v7 v8 i = (1 : Int32) <<< (nI i &&& 31) ∧ xk_U axes i p root v2 v3 v4 v6 w v7 v8 (24 + i) = 0 ∧ xk_U axes i p root v2 v3 v4 v6 w v7 v8 (48 + i) = v2 ∧ xk_U axes i p root v2 v3 v4 v6 w v7 v8 (72 + i) = v3 ∧ xk_U axes i p root v2 v3 v4 v6 w v7 v8 (96 + i) = v4 ∧ xk_U axes i p root v2 v3 v4 v6 w v7 v8 (144 + i) = v6 ∧ xk_U axes i p root v2 v3 v4 v6 w v7 v8 (168 + i) = v7 ∧ xk_U axes i p root v2 v3 v4 v6 w v7 v8 (192 + i) = v8 := by
  unfold xk_U
  cases root with
  | true =>
    rw [if_pos rfl]
    refine ⟨?_, ?_, ?_, ?_, ?_, ?_, ?_, ?_⟩
    · rw [pk_un (by omega), pk_un (by omega), pk_un (by omega), pk_un (by omega), pk_un (by omega), pk_un (by omega), pk_un (by omega), pk_us]
    · rw [pk_un (by omega), pk_un (by omega), pk_un (by omega), pk_un (by omega), pk_un (by omega), pk_un (by omega), pk_us]
    · rw [pk_un (by omega), pk_un (by omega), pk_un (by omega), pk_un (by omega), pk_un (by omega), pk_us]
    · rw [pk_un (by omega), pk_un (by omega), pk_un (by omega), pk_un (by omega), pk_us]
    · rw [pk_un (by omega), pk_un (by omega), pk_un (by omega), pk_us]
    · rw [pk_un (by omega), pk_un (by omega), pk_us]
    · rw [pk_un (by omega), pk_us]
    · rw [pk_us]
  | false =>
    have := hp rfl
    rw [if_neg (by simp)]
    refine ⟨?_, ?_, ?_, ?_, ?_, ?_, ?_, ?_⟩
    · rw [pk_un (by omega), pk_un (by omega), pk_un (by omega), pk_un (by omega), pk_un (by omega), pk_un (by omega), pk_un (by omega), pk_un (by omega), pk_us]
    · rw [pk_un (by omega), pk_un (by omega), pk_un (by omega), pk_un (by omega), pk_un (by omega), pk_un (by omega), pk_un (by omega), pk_us]
    · rw [pk_un (by omega), pk_un (by omega), pk_un (by omega), pk_un (by omega), pk_un (by omega), pk_un (by omega), pk_us]
    · rw [pk_un (by omega), pk_un (by omega), pk_un (by omega), pk_un (by omega), pk_un (by omega), pk_us]
    · rw [pk_un (by omega), pk_un (by omega), pk_un (by omega), pk_un (by omega), pk_us]
    · rw [pk_un (by omega), pk_un (by omega), pk_un (by omega), pk_us]
    · rw [pk_un (by omega), pk_us]
    · rw [pk_us]
/-- what is known when i nodes are done -/
def xk_I (nn : Nat) (par nm : Nat → Int32) (i : Nat) (axes named : Nat → Int32) : Prop := (∀ x, x < 9 → x ≠ 5 → ∀ j, j < i → axes (24 * x + j) = tm_ms (td_on par x j) (if x = 1 then i else nn)) ∧ ∀ t, t < 7 → named t = tm_ms (fun m => decide (t = 6) || decide (nm m = nI t)) i
theorem xk_nm {nn i t0 : Nat} {par nm axes named : Nat → Int32} (h : xk_I nn par nm i axes named) (ht : t0 < 6) (hn : nm i = nI t0) : ∀ t, t < 7 → upd (upd named t0 (named t0 ||| ((1 : Int32) <<< (nI i &&& 31)))) 6 (upd named t0 (named t0 ||| ((1 : Int32) <<< (nI i &&& 31))) 6 ||| ((1 : Int32) <<< (nI i &&& 31))) t = tm_ms (fun m => decide (t = 6) || decide (nm m = nI t)) (i + 1) := by
  intro t htt
  rw [tm_ms]
  by_cases e6 : t = 6
  · subst e6
    rw [pk_us, pk_un (by omega), h.2 6 (by omega), if_pos (by simp)]
  · rw [pk_un e6]
    by_cases e0 : t = t0
    · subst e0
      rw [pk_us, h.2 t (by omega), if_pos (by rw [hn]; simp)]
    · rw [pk_un e0, h.2 t htt, if_neg]
      rw [hn, decide_eq_false e6, decide_eq_false (show ¬ nI t0 = nI t by rw [nI_eq (by omega) (by omega)]; omega)]
      simp
theorem xk_st {nn i p l : Nat} {root : Bool} {par nm axes named named' : Nat → Int32} {v2 v3 v4 v6 w v7 v8 : Int32} (hP : td_P nn par) (hi : i < nn) (hI : xk_I nn par nm i axes named) (hr : if root then par i = -1 else (p < i ∧ par i = nI p)) (hl1 : i ≤ l) (hl2 : l < nn) (hl3 : ∀ m, m < nn → td_A par i m = (decide (i < m) && decide (m ≤ l)))
    (h2 : v2 = if root then 0 else (1 : Int32) <<< (nI p &&& 31)) (h3 : v3 = ((2 : Int32) <<< (nI l &&& 31)) - ((2 : Int32) <<< (nI i &&& 31))) (h4 : v4 = if root then 0 else axes (96 + p) ||| ((1 : Int32) <<< (nI p &&& 31))) (h6 : v6 = if root then 0 else axes (24 + p)) (hw : root = false → w = axes (24 + p) ||| ((1 : Int32) <<< (nI i &&& 31))) (h7 : v7 = ((1 : Int32) <<< (nI nn &&& 31)) - ((2 : Int32) <<< (nI l &&& 31))) (h8 : v8 = (((1 : Int32) <<< (nI i &&& 31)) - 1) &&& (v4 ^^^ (-1)))
    (hnm : ∀ t, t < 7 → named' t = tm_ms (fun m => decide (t = 6) || decide (nm m = nI t)) (i + 1)) : xk_I nn par nm (i + 1) (xk_U axes i p root v2 v3 v4 v6 w v7 v8) named' := by
  have h24 := hP.1
  have hpi : root = false → p < i := fun z => by rw [z] at hr; exact hr.1
  obtain ⟨u0, u1, u2, u3, u4, u6, u7, u8⟩ := xk_Ui (axes := axes) (i := i) (p := p) (root := root) (v2 := v2) (v3 := v3) (v4 := v4) (v6 := v6) (w := w) (v7 := v7) (v8 := v8) (by omega) hpi
  have hv4 : ∀ m, m < 32 → bt v4 m = (decide (m < nn) && td_A par m i) := by
    intro m hm
    rw [h4]
    cases root with
    | true =>
      rw [if_pos rfl, b_0, td_A0 (nn := nn) hr, Bool.and_false]
    | false =>
      have hr : p < i ∧ par i = nI p := hr
      rw [if_neg (by simp), b_or, show 96 + p = 24 * 4 + p by omega, hI.1 4 (by omega) (by omega) p hr.1, if_neg (by omega), tm_bt _ nn (by omega) m hm, ta_one p (by omega) m hm, td_As hP hi hr.1 hr.2]
      show ((decide (m < nn) && td_A par m p) || decide (m = p)) = _
      by_cases c : m = p
      · subst c
        rw [decide_eq_true (show m < nn by omega)]
        simp
      · rw [decide_eq_false c, decide_eq_false (show ¬ p = m from fun z => c z.symm)]
        simp
  refine ⟨fun x hx h5 j hj => ?_, hnm⟩
  by_cases ej : j = i
  · subst ej
    have hx9 : x = 0 ∨ x = 1 ∨ x = 2 ∨ x = 3 ∨ x = 4 ∨ x = 6 ∨ x = 7 ∨ x = 8 := by omega
    rcases hx9 with rfl | rfl | rfl | rfl | rfl | rfl | rfl | rfl
    · rw [show 24 * 0 + j = j by omega, u0, if_neg (by omega)]
      apply tm_ext (by omega)
      intro m hm
      rw [ta_one j (by omega) m hm]
      show decide (m = j) = (decide (m < nn) && decide (m = j))
      by_cases c : m = j
      · rw [decide_eq_true c, decide_eq_true (show m < nn by omega)]; rfl
      · rw [decide_eq_false c, Bool.and_false]
    · rw [show 24 * 1 + j = 24 + j by omega, u1, if_pos rfl]
      apply tm_ext (by omega)
      intro m hm
      rw [b_0]
      show false = (decide (m < j + 1) && decide (par m = nI j))
      symm
      by_cases c : m < j + 1
      · rw [decide_eq_true c, Bool.true_and]
        apply decide_eq_false
        rcases hP.2 m (by omega) with ⟨_, e⟩ | ⟨_, q, hq, e⟩
        · rw [e]; exact yl_ne (by omega)
        · rw [e, nI_eq (by omega) (by omega)]; omega
      · rw [decide_eq_false c, Bool.false_and]
    · rw [show 24 * 2 + j = 48 + j by omega, u2, if_neg (by omega), h2]
      apply tm_ext (by omega)
      intro m hm
      show _ = (decide (m < nn) && decide (par j = nI m))
      cases root with
      | true =>
        have hr : par j = -1 := hr
        rw [if_pos rfl, b_0, hr, decide_eq_false (yl_ne (by omega)), Bool.and_false]
      | false =>
        have hr : p < j ∧ par j = nI p := hr
        rw [if_neg (by simp), ta_one p (by omega) m hm, hr.2]
        by_cases c : m = p
        · rw [decide_eq_true c, decide_eq_true (show m < nn by omega), c, decide_eq_true rfl]; rfl
        · rw [decide_eq_false c, decide_eq_false (show ¬ nI p = nI m by rw [nI_eq (by omega) (by omega)]; omega), Bool.and_false]
    · rw [show 24 * 3 + j = 72 + j by omega, u3, if_neg (by omega), h3, ta_two l (by omega), ta_two j (by omega)]
      apply tm_ext (by omega)
      intro m hm
      rw [ta_sub (by omega) (by omega) hm]
      show _ = (decide (m < nn) && td_A par j m)
      by_cases c : m < nn
      · rw [decide_eq_true c, Bool.true_and, hl3 m c]
        rw [show decide (j + 1 ≤ m) = decide (j < m) from decide_eq_decide.mpr (by omega), show decide (m < l + 1) = decide (m ≤ l) from decide_eq_decide.mpr (by omega)]
      · rw [decide_eq_false c, Bool.false_and, decide_eq_false (show ¬ m < l + 1 by omega), Bool.and_false]
    · rw [show 24 * 4 + j = 96 + j by omega, u4, if_neg (by omega)]
      exact tm_ext (by omega) hv4
    · rw [show 24 * 6 + j = 144 + j by omega, u6, if_neg (by omega), h6]
      apply tm_ext (by omega)
      intro m hm
      show _ = (decide (m < nn) && (decide (par m = par j) && decide (m < j)))
      cases root with
      | true =>
        have hr : par j = -1 := hr
        have hj0 : j = 0 := by
          rcases hP.2 j hi with ⟨e, _⟩ | ⟨_, q, hq, e⟩
          · exact e
          · rw [hr] at e; exact (yl_ne (by omega) e).elim
        rw [if_pos rfl, b_0, decide_eq_false (show ¬ m < j by omega), Bool.and_false, Bool.and_false]
      | false =>
        have hr : p < j ∧ par j = nI p := hr
        rw [if_neg (by simp), show 24 + p = 24 * 1 + p by omega, hI.1 1 (by omega) (by omega) p hr.1, if_pos rfl, tm_bt _ j (by omega) m hm, hr.2]
        show (decide (m < j) && decide (par m = nI p)) = _
        by_cases c : m < j
        · rw [decide_eq_true c, decide_eq_true (show m < nn by omega), Bool.true_and, Bool.true_and, Bool.and_true]
        · rw [decide_eq_false c, Bool.false_and, Bool.and_false, Bool.and_false]
    · rw [show 24 * 7 + j = 168 + j by omega, u7, if_neg (by omega), h7, ta_two l (by omega)]
      apply tm_ext (by omega)
      intro m hm
      rw [ta_sub (by omega) (by omega) hm]
      show _ = (decide (m < nn) && (decide (j < m) && !td_A par j m))
      by_cases c : m < nn
      · rw [decide_eq_true c, Bool.true_and, hl3 m c, Bool.and_true]
        by_cases d : m ≤ l
        · rw [decide_eq_true d, decide_eq_false (show ¬ l + 1 ≤ m by omega)]; simp
        · rw [decide_eq_false d, decide_eq_true (show l + 1 ≤ m by omega), decide_eq_true (show j < m by omega)]; rfl
      · rw [decide_eq_false c, Bool.false_and, Bool.and_false]
    · rw [show 24 * 8 + j = 192 + j by omega, u8, if_neg (by omega), h8]
      apply tm_ext (by omega)
      intro m hm
      have hs1 := ta_sub (a := 0) (b := j) (by omega) (by omega) hm
      rw [ta_z] at hs1
      rw [b_and, hs1, ta_not _ hm, hv4 m hm]
      show _ = (decide (m < nn) && (decide (m < j) && !td_A par m j))
      by_cases c : m < j
      · rw [decide_eq_true c, decide_eq_true (show m < nn by omega), decide_eq_true (Nat.zero_le m)]; simp
      · rw [decide_eq_false c]; simp
  · have hj : j < i := by omega
    by_cases e1 : x = 1
    · subst e1
      rw [if_pos rfl, tm_ms]
      show _ = if decide (par i = nI j) = true then _ else _
      cases root with
      | true =>
        have hr : par i = -1 := hr
        rw [xk_Ulo (by omega) hj (by omega) (by simp), hI.1 1 (by omega) (by omega) j hj, if_pos rfl, hr, decide_eq_false (yl_ne (by omega)), if_neg (by simp)]
      | false =>
        have hr : p < i ∧ par i = nI p := hr
        rw [hr.2]
        by_cases c : j = p
        · subst c
          rw [show 24 * 1 + j = 24 + j by omega, xk_Up (by omega) hj, hw rfl, decide_eq_true rfl, if_pos rfl, show 24 + j = 24 * 1 + j by omega, hI.1 1 (by omega) (by omega) j hj, if_pos rfl]
        · rw [xk_Ulo (by omega) hj (by omega) (fun _ => ⟨by omega, fun _ => c⟩), hI.1 1 (by omega) (by omega) j hj, if_pos rfl, decide_eq_false (show ¬ nI p = nI j by rw [nI_eq (by omega) (by omega)]; omega), if_neg (by simp)]
    · rw [xk_Ulo (by omega) hj hx (fun z => ⟨by have := hpi z; omega, fun z2 => (e1 z2).elim⟩), hI.1 x hx h5 j hj, if_neg e1, if_neg e1]
section
variable {f_nodes f_depth f_known f_dues f_place f_gifts f_matched f_lists f_steps f_outcome f_made : Int32} {a_name a_parent a_lastOf a_way a_value a_axes a_named a_kind a_over a_ends a_count a_num a_placed a_asked a_holds a_due a_open a_there a_priority a_given a_matches a_stack a_rest a_position a_size a_at a_row a_pc a_first a_out a_large : Nat → Int32}
theorem xk_223 {post : SX → Prop} {J36 : Int32 → (Nat → Int32) → (Nat → Int32) → (Nat → Int32) → (Nat → Int32) → (Nat → Int32) → (Nat → Int32) → (Nat → Int32) → (Nat → Int32) → (Nat → Int32) → (Nat → Int32) → (Nat → Int32) → (Nat → Int32) → (Nat → Int32) → (Nat → Int32) → (Nat → Int32) → (Nat → Int32) → (Nat → Int32) → (Nat → Int32) → (Nat → Int32) → (Nat → Int32) → (Nat → Int32) → (Nat → Int32) → (Nat → Int32) → (Nat → Int32) → (Nat → Int32) → (Nat → Int32) → (Nat → Int32) → (Nat → Int32) → (Nat → Int32) → (Nat → Int32) → (Nat → Int32) → Prop} {nn i l : Nat} {x3 : Int32} (hn : f_nodes = nI nn) (h24 : nn ≤ 24) (hi : i < nn) (hl : a_lastOf i = nI l) (hJ : J36 (nI (i + 1)) a_name a_parent a_lastOf a_way a_value (upd (upd a_axes (168 + i) (((1 : Int32) <<< (nI nn &&& 31)) - ((2 : Int32) <<< (nI l &&& 31)))) (192 + i) ((((1 : Int32) <<< (nI i &&& 31)) - 1) &&& (x3 ^^^ (-1)))) a_named a_kind a_over a_ends a_count a_num a_placed a_asked a_holds a_due a_open a_there a_priority a_given a_matches a_stack a_rest a_position a_size a_at a_row a_pc a_first a_out a_large) : wX_learn_223 post J36 (nI i) x3 f_nodes f_depth f_known f_dues f_place f_gifts f_matched f_lists f_steps f_outcome f_made a_name a_parent a_lastOf a_way a_value a_axes a_named a_kind a_over a_ends a_count a_num a_placed a_asked a_holds a_due a_open a_there a_priority a_given a_matches a_stack a_rest a_position a_size a_at a_row a_pc a_first a_out a_large := by
  subst hn
  refine ⟨vp_in_nI (by omega) (by omega), ?_⟩
  rw [show (168 : Int32) + nI i = nI (168 + i) from nI_add 168 i, show (192 : Int32) + nI i = nI (192 + i) from nI_add 192 i]
  refine ⟨vp_in_nI (by omega) (by omega), ?_⟩
  rw [nI_clamp (by omega), nI_clamp (by omega), nI_clamp (by omega), hl]
  exact nm_e ⟨vp_in_nI (by omega) (by omega), nm_e (nm_r (nI_1 i) hJ)⟩
theorem xk_36r {post : SX → Prop} {J36 : Int32 → (Nat → Int32) → (Nat → Int32) → (Nat → Int32) → (Nat → Int32) → (Nat → Int32) → (Nat → Int32) → (Nat → Int32) → (Nat → Int32) → (Nat → Int32) → (Nat → Int32) → (Nat → Int32) → (Nat → Int32) → (Nat → Int32) → (Nat → Int32) → (Nat → Int32) → (Nat → Int32) → (Nat → Int32) → (Nat → Int32) → (Nat → Int32) → (Nat → Int32) → (Nat → Int32) → (Nat → Int32) → (Nat → Int32) → (Nat → Int32) → (Nat → Int32) → (Nat → Int32) → (Nat → Int32) → (Nat → Int32) → (Nat → Int32) → (Nat → Int32) → (Nat → Int32) → Prop} {nn i l : Nat} (hn : f_nodes = nI nn) (h24 : nn ≤ 24) (hi : i < nn) (hl : a_lastOf i = nI l) (v3 v7 v8 : Int32) (h3 : v3 = ((2 : Int32) <<< (nI l &&& 31)) - ((2 : Int32) <<< (nI i &&& 31))) (h7 : v7 = ((1 : Int32) <<< (nI nn &&& 31)) - ((2 : Int32) <<< (nI l &&& 31))) (h8 : v8 = (((1 : Int32) <<< (nI i &&& 31)) - 1) &&& ((0 : Int32) ^^^ (-1))) (hJ : J36 (nI (i + 1)) a_name a_parent a_lastOf a_way a_value (xk_U a_axes i 0 true 0 v3 0 0 0 v7 v8) a_named a_kind a_over a_ends a_count a_num a_placed a_asked a_holds a_due a_open a_there a_priority a_given a_matches a_stack a_rest a_position a_size a_at a_row a_pc a_first a_out a_large) : wX_learn_102 post J36 (nI i) (-1) 0 f_nodes f_depth f_known f_dues f_place f_gifts f_matched f_lists f_steps f_outcome f_made a_name a_parent a_lastOf a_way a_value a_axes a_named a_kind a_over a_ends a_count a_num a_placed a_asked a_holds a_due a_open a_there a_priority a_given a_matches a_stack a_rest a_position a_size a_at a_row a_pc a_first a_out a_large := by
  subst h3 h7 h8
  refine ⟨vp_in_nI (by omega) (by omega), ?_⟩
  rw [nI_clamp (by omega), hl, show (24 : Int32) + nI i = nI (24 + i) from nI_add 24 i, show (48 : Int32) + nI i = nI (48 + i) from nI_add 48 i]
  refine nm_e ⟨vp_in_nI (by omega) (by omega), nm_e ⟨vp_in_nI (by omega) (by omega), ?_⟩⟩
  rw [nI_clamp (by omega)]
  refine nm_e (br_f (by decide) ⟨vp_in_nI (by omega) (by omega), ?_⟩)
  rw [nI_clamp (by omega), show (72 : Int32) + nI i = nI (72 + i) from nI_add 72 i, show (96 : Int32) + nI i = nI (96 + i) from nI_add 96 i, show (144 : Int32) + nI i = nI (144 + i) from nI_add 144 i]
  refine nm_e ⟨vp_in_nI (by omega) (by omega), ?_⟩
  rw [nI_clamp (by omega)]
  refine nm_e ⟨vp_in_nI (by omega) (by omega), ?_⟩
  rw [nI_clamp (by omega)]
  refine nm_e (br_f (by decide) ⟨vp_in_nI (by omega) (by omega), ?_⟩)
  rw [nI_clamp (by omega)]
  exact nm_e (br_t (by decide) (xk_223 hn h24 hi hl hJ))
theorem xk_36p {post : SX → Prop} {J36 : Int32 → (Nat → Int32) → (Nat → Int32) → (Nat → Int32) → (Nat → Int32) → (Nat → Int32) → (Nat → Int32) → (Nat → Int32) → (Nat → Int32) → (Nat → Int32) → (Nat → Int32) → (Nat → Int32) → (Nat → Int32) → (Nat → Int32) → (Nat → Int32) → (Nat → Int32) → (Nat → Int32) → (Nat → Int32) → (Nat → Int32) → (Nat → Int32) → (Nat → Int32) → (Nat → Int32) → (Nat → Int32) → (Nat → Int32) → (Nat → Int32) → (Nat → Int32) → (Nat → Int32) → (Nat → Int32) → (Nat → Int32) → (Nat → Int32) → (Nat → Int32) → (Nat → Int32) → Prop} {nn i l p : Nat} (hn : f_nodes = nI nn) (h24 : nn ≤ 24) (hi : i < nn) (hl : a_lastOf i = nI l) (hp : p < i) (v3 v4 v7 v8 : Int32) (h3 : v3 = ((2 : Int32) <<< (nI l &&& 31)) - ((2 : Int32) <<< (nI i &&& 31))) (h7 : v7 = ((1 : Int32) <<< (nI nn &&& 31)) - ((2 : Int32) <<< (nI l &&& 31))) (h8 : v8 = (((1 : Int32) <<< (nI i &&& 31)) - 1) &&& (v4 ^^^ (-1))) (hJ : J36 (nI (i + 1)) a_name a_parent a_lastOf a_way a_value (xk_U a_axes i p false ((1 : Int32) <<< (nI p &&& 31)) v3 v4 (a_axes (24 + p)) (a_axes (24 + p) ||| ((1 : Int32) <<< (nI i &&& 31))) v7 v8) a_named a_kind a_over a_ends a_count a_num a_placed a_asked a_holds a_due a_open a_there a_priority a_given a_matches a_stack a_rest a_position a_size a_at a_row a_pc a_first a_out a_large) : wX_learn_102 post J36 (nI i) (nI p) v4 f_nodes f_depth f_known f_dues f_place f_gifts f_matched f_lists f_steps f_outcome f_made a_name a_parent a_lastOf a_way a_value a_axes a_named a_kind a_over a_ends a_count a_num a_placed a_asked a_holds a_due a_open a_there a_priority a_given a_matches a_stack a_rest a_position a_size a_at a_row a_pc a_first a_out a_large := by
  subst h3 h7 h8
  refine ⟨vp_in_nI (by omega) (by omega), ?_⟩
  rw [nI_clamp (by omega), hl, show (24 : Int32) + nI i = nI (24 + i) from nI_add 24 i, show (48 : Int32) + nI i = nI (48 + i) from nI_add 48 i]
  refine nm_e ⟨vp_in_nI (by omega) (by omega), nm_e ⟨vp_in_nI (by omega) (by omega), ?_⟩⟩
  rw [nI_clamp (by omega)]
  refine nm_e (br_t (nI_pos' (by omega)) ⟨vp_in_nI (by omega) (by omega), ?_⟩)
  rw [nI_clamp (by omega), show (72 : Int32) + nI i = nI (72 + i) from nI_add 72 i, show (96 : Int32) + nI i = nI (96 + i) from nI_add 96 i, show (144 : Int32) + nI i = nI (144 + i) from nI_add 144 i, show (24 : Int32) + nI p = nI (24 + p) from nI_add 24 p]
  refine nm_e ⟨vp_in_nI (by omega) (by omega), ?_⟩
  rw [nI_clamp (by omega)]
  refine nm_e ⟨vp_in_nI (by omega) (by omega), ?_⟩
  rw [nI_clamp (by omega)]
  refine nm_e (br_t (nI_pos' (by omega)) ⟨vp_in_nI (by omega) (by omega), ?_⟩)
  rw [nI_clamp (by omega), pk_un (by omega), pk_un (by omega), pk_un (by omega), pk_un (by omega), pk_un (by omega)]
  refine ⟨vp_in_nI (by omega) (by omega), ?_⟩
  rw [nI_clamp (by omega)]
  refine nm_e (br_f (nI_pos (by omega)) ?_)
  rw [show (24 : Int32) + nI p = nI (24 + p) from nI_add 24 p]
  refine ⟨vp_in_nI (by omega) (by omega), vp_in_nI (by omega) (by omega), ?_⟩
  rw [nI_clamp (by omega), pk_un (by omega), pk_un (by omega), pk_un (by omega), pk_un (by omega), pk_un (by omega), pk_un (by omega)]
  exact nm_e (xk_223 hn h24 hi hl hJ)
theorem xk_36 {post : SX → Prop} {nn : Nat} (hn : f_nodes = nI nn) (hP : td_P nn a_parent) (hN : td_N nn a_name) (hL : td_L nn a_parent a_lastOf) (hJ : ∀ ax nd, xk_I nn a_parent a_name nn ax nd → ∃ f, wX_learn_275 post f_nodes f_depth f_known f_dues f_place f_gifts f_matched f_lists f_steps f_outcome f_made f 0 a_name a_parent a_lastOf a_way a_value ax nd a_kind a_over a_ends a_count a_num a_placed a_asked a_holds a_due a_open a_there a_priority a_given a_matches a_stack a_rest a_position a_size a_at a_row a_pc a_first a_out a_large) : ∀ d i ax nd, i + d = nn → xk_I nn a_parent a_name i ax nd → wX_learn_36 post f_nodes f_depth f_known f_dues f_place f_gifts f_matched f_lists f_steps f_outcome f_made (d + 1) (nI i) a_name a_parent a_lastOf a_way a_value ax nd a_kind a_over a_ends a_count a_num a_placed a_asked a_holds a_due a_open a_there a_priority a_given a_matches a_stack a_rest a_position a_size a_at a_row a_pc a_first a_out a_large := by
  have h24 := hP.1
  have hn2 := hn
  subst hn
  intro d
  induction d with
  | zero =>
    intro i ax nd hi hI
    rw [show i = nn by omega] at hI ⊢
    exact br_t (Int32.le_refl _) (hJ ax nd hI)
  | succ d ih =>
    intro i ax nd hi hI
    obtain ⟨t0, ht, hnm⟩ := hN i (by omega)
    obtain ⟨l, l1, l2, l3, l4⟩ := hL i (by omega)
    refine br_f (nI_ge (by omega) (by omega)) ⟨vp_in_nI (by omega) (by omega), ?_⟩
    rw [nI_clamp (by omega), hnm]
    refine ⟨vp_in_nI (by omega) (by omega), vp_in_nI (by omega) (by omega), ?_⟩
    rw [nI_clamp (by omega)]
    refine nm_e (nm_e ⟨vp_in_nI (by omega) (by omega), ?_⟩)
    have hnd := xk_nm hI ht hnm
    rcases hP.2 i (by omega) with ⟨_, e⟩ | ⟨_, p, hp, e⟩
    · refine nm_r e (br_f (by decide) ?_)
      refine xk_36r (l := l) rfl h24 (by omega) l3 _ _ _ rfl rfl rfl ?_
      refine ih (i + 1) _ _ (by omega) (xk_st (root := true) (p := 0) (l := l) hP (by omega) hI e l1 l2 l4 rfl rfl rfl rfl (by simp) rfl rfl hnd)
    · refine nm_r e (br_t (nI_pos' (by omega)) ?_)
      rw [show (96 : Int32) + nI p = nI (96 + p) from nI_add 96 p]
      refine ⟨vp_in_nI (by omega) (by omega), ?_⟩
      rw [nI_clamp (by omega)]
      refine xk_36p (l := l) rfl h24 (by omega) l3 hp _ _ _ _ rfl rfl rfl ?_
      refine ih (i + 1) _ _ (by omega) (xk_st (root := false) (p := p) (l := l) hP (by omega) hI ⟨hp, e⟩ l1 l2 l4 rfl rfl rfl rfl (fun _ => rfl) rfl rfl hnd)
theorem xk_275 {post : SX → Prop} {nn : Nat} {nd : Nat → Int32} (hn : f_nodes = nI nn) (hP : td_P nn a_parent) (hp : ∀ ax, td_AX nn a_parent a_name ax nd → post (f_nodes, f_depth, f_known, f_dues, f_place, f_gifts, f_matched, f_lists, f_steps, f_outcome, f_made, a_name, a_parent, a_lastOf, a_way, a_value, ax, nd, a_kind, a_over, a_ends, a_count, a_num, a_placed, a_asked, a_holds, a_due, a_open, a_there, a_priority, a_given, a_matches, a_stack, a_rest, a_position, a_size, a_at, a_row, a_pc, a_first, a_out, a_large)) : ∀ d i ax, i + d = nn → xk_I nn a_parent a_name nn ax nd → (∀ j, j < i → ax (120 + j) = tm_ms (td_on a_parent 5 j) nn) → wX_learn_275 post f_nodes f_depth f_known f_dues f_place f_gifts f_matched f_lists f_steps f_outcome f_made (d + 1) (nI i) a_name a_parent a_lastOf a_way a_value ax nd a_kind a_over a_ends a_count a_num a_placed a_asked a_holds a_due a_open a_there a_priority a_given a_matches a_stack a_rest a_position a_size a_at a_row a_pc a_first a_out a_large := by
  have h24 := hP.1
  subst hn
  intro d
  induction d with
  | zero =>
    intro i ax hi hI h5
    refine br_t (nI_le (by omega) (by omega)) (hp ax ⟨fun x hx j hj => ?_, hI.2⟩)
    by_cases e : x = 5
    · subst e; exact h5 j (by omega)
    · rw [hI.1 x hx e j hj]
      by_cases e1 : x = 1
      · rw [if_pos e1]
      · rw [if_neg e1]
  | succ d ih =>
    intro i ax hi hI h5
    have keep : ∀ v, xk_I nn a_parent a_name nn (upd ax (120 + i) v) nd := by
      intro v
      refine ⟨fun x hx e j hj => ?_, hI.2⟩
      rw [pk_un (by omega)]
      exact hI.1 x hx e j hj
    have low : ∀ v, v = tm_ms (td_on a_parent 5 i) nn → ∀ j, j < i + 1 → upd ax (120 + i) v (120 + j) = tm_ms (td_on a_parent 5 j) nn := by
      intro v hv j hj
      by_cases e : j = i
      · subst e; rw [pk_us, hv]
      · rw [pk_un (by omega)]; exact h5 j (by omega)
    refine br_f (nI_ge (by omega) (by omega)) ⟨vp_in_nI (by omega) (by omega), ?_⟩
    rw [nI_clamp (by omega), show (120 : Int32) + nI i = nI (120 + i) from nI_add 120 i]
    rcases hP.2 i (by omega) with ⟨e0, e⟩ | ⟨_, p, hpp, e⟩
    · rw [e]
      refine br_f (by decide) ⟨vp_in_nI (by omega) (by omega), ?_⟩
      rw [nI_clamp (by omega)]
      refine nm_e (nm_r (nI_1 i) (ih (i + 1) _ (by omega) (keep _) (low _ ?_)))
      apply tm_ext (by omega)
      intro m hm
      rw [b_0]
      show false = (decide (m < nn) && (decide (a_parent m = a_parent i) && decide (i < m)))
      symm
      by_cases c : m < nn
      · rcases hP.2 m c with ⟨e2, _⟩ | ⟨_, q, hq, e2⟩
        · rw [decide_eq_false (show ¬ i < m by omega), Bool.and_false, Bool.and_false]
        · rw [e2, e, decide_eq_false (show ¬ nI q = -1 from fun z => yl_ne (a := q) (by omega) z.symm), Bool.false_and, Bool.and_false]
      · rw [decide_eq_false c, Bool.false_and]
    · rw [e]
      refine br_t (nI_pos' (by omega)) ⟨vp_in_nI (by omega) (by omega), ?_⟩
      rw [show (24 : Int32) + nI p = nI (24 + p) from nI_add 24 p, show (144 : Int32) + nI i = nI (144 + i) from nI_add 144 i]
      refine ⟨vp_in_nI (by omega) (by omega), vp_in_nI (by omega) (by omega), vp_in_nI (by omega) (by omega), ?_⟩
      rw [nI_clamp (by omega), nI_clamp (by omega), nI_clamp (by omega)]
      refine nm_e (nm_r (nI_1 i) (ih (i + 1) _ (by omega) (keep _) (low _ ?_)))
      apply tm_ext (by omega)
      intro m hm
      have a1 : ax (24 + p) = tm_ms (td_on a_parent 1 p) nn := by
        have := hI.1 1 (by omega) (by omega) p (by omega)
        rw [if_pos rfl] at this; exact this
      have a6 : ax (144 + i) = tm_ms (td_on a_parent 6 i) nn := by
        have := hI.1 6 (by omega) (by omega) i (by omega)
        rw [if_neg (by omega)] at this; exact this
      rw [b_and, b_and, ta_not _ hm, ta_not _ hm, ta_one i (by omega) m hm, a1, a6, tm_bt _ nn (by omega) m hm, tm_bt _ nn (by omega) m hm]
      show (((decide (m < nn) && decide (a_parent m = nI p)) && !(decide (m < nn) && (decide (a_parent m = a_parent i) && decide (m < i)))) && !decide (m = i)) = (decide (m < nn) && (decide (a_parent m = a_parent i) && decide (i < m)))
      rw [e]
      by_cases c : m < nn
      · rw [decide_eq_true c]
        by_cases c2 : a_parent m = nI p
        · rw [decide_eq_true c2]
          by_cases c3 : m < i
          · rw [decide_eq_true c3, decide_eq_false (show ¬ i < m by omega)]; simp
          · by_cases c4 : m = i
            · rw [decide_eq_true c4, decide_eq_false (show ¬ i < m by omega)]; simp
            · rw [decide_eq_false c3, decide_eq_false c4, decide_eq_true (show i < m by omega)]; simp
        · rw [decide_eq_false c2]; simp
      · rw [decide_eq_false c]; simp
theorem xk_15 {post : SX → Prop} (hJ : ∀ nd, (∀ j, j < 7 → nd j = 0) → ∃ f, wX_learn_36 post f_nodes f_depth f_known f_dues f_place f_gifts f_matched f_lists f_steps f_outcome f_made f 0 a_name a_parent a_lastOf a_way a_value a_axes nd a_kind a_over a_ends a_count a_num a_placed a_asked a_holds a_due a_open a_there a_priority a_given a_matches a_stack a_rest a_position a_size a_at a_row a_pc a_first a_out a_large) : ∀ d t nd, t + d = 7 → (∀ j, j < t → nd j = 0) → wX_learn_15 post f_nodes f_depth f_known f_dues f_place f_gifts f_matched f_lists f_steps f_outcome f_made (d + 1) (nI t) a_name a_parent a_lastOf a_way a_value a_axes nd a_kind a_over a_ends a_count a_num a_placed a_asked a_holds a_due a_open a_there a_priority a_given a_matches a_stack a_rest a_position a_size a_at a_row a_pc a_first a_out a_large := by
  intro d
  induction d with
  | zero =>
    intro t nd ht h
    exact br_t (nI_le (a := 7) (by omega) (by omega)) (hJ nd (fun j hj => h j (by omega)))
  | succ d ih =>
    intro t nd ht h
    refine br_f (nI_ge (b := 7) (by omega) (by omega)) ⟨vp_in_nI (by omega) (by omega), ?_⟩
    rw [nI_clamp (by omega)]
    refine nm_e (nm_r (nI_1 t) (ih (t + 1) _ (by omega) (fun j hj => ?_)))
    by_cases e : j = t
    · subst e; exact pk_us
    · rw [pk_un e]; exact h j (by omega)
/-- what is to be known of the document is known -/
theorem xk_learn {post : SX → Prop} {nn : Nat} (hn : f_nodes = nI nn) (hP : td_P nn a_parent) (hN : td_N nn a_name) (hL : td_L nn a_parent a_lastOf) (hk : f_known = 0 ∨ (f_known = 1 ∧ td_AX nn a_parent a_name a_axes a_named)) (hp : ∀ ax nd, xe_D nn a_parent a_name ax nd → post (f_nodes, f_depth, 1, f_dues, f_place, f_gifts, f_matched, f_lists, f_steps, f_outcome, f_made, a_name, a_parent, a_lastOf, a_way, a_value, ax, nd, a_kind, a_over, a_ends, a_count, a_num, a_placed, a_asked, a_holds, a_due, a_open, a_there, a_priority, a_given, a_matches, a_stack, a_rest, a_position, a_size, a_at, a_row, a_pc, a_first, a_out, a_large)) : wpX_learn post (f_nodes, f_depth, f_known, f_dues, f_place, f_gifts, f_matched, f_lists, f_steps, f_outcome, f_made, a_name, a_parent, a_lastOf, a_way, a_value, a_axes, a_named, a_kind, a_over, a_ends, a_count, a_num, a_placed, a_asked, a_holds, a_due, a_open, a_there, a_priority, a_given, a_matches, a_stack, a_rest, a_position, a_size, a_at, a_row, a_pc, a_first, a_out, a_large) := by
  rcases hk with e | ⟨e, hA⟩
  · refine br_t e ⟨7 + 1, xk_15 (fun nd h0 => ⟨nn + 1, xk_36 hn hP hN hL (fun ax nd' hI => ⟨nn + 1, xk_275 hn hP (fun ax' hA => hp ax' nd' ⟨hP, hN, hA⟩) nn 0 ax (by omega) hI (fun j hj => by omega)⟩) nn 0 a_axes nd (by omega) ⟨fun x _ _ j hj => by omega, fun t ht => h0 t ht⟩⟩) 7 0 a_named (by omega) (fun j hj => by omega)⟩
  · rw [e]
    exact br_f (by decide) (hp a_axes a_named ⟨hP, hN, hA⟩)
end
end
section
/-! what patterns match; the best rule -/
def tb_m (D : td_D) (T : td_T) (ps : List (Nat × List (Nat × Nat))) (j m : Nat) : Bool := (List.range j).any (fun a => (decide (a = m) || td_A D.2.1 a m) && bt (td_pv D T ps (td_1 a)) m)
theorem tb_m1 (D : td_D) (T : td_T) (ps : List (Nat × List (Nat × Nat))) (j m : Nat) : tb_m D T ps (j + 1) m = (tb_m D T ps j m || ((decide (j = m) || td_A D.2.1 j m) && bt (td_pv D T ps (td_1 j)) m)) := by
  unfold tb_m
  rw [List.range_succ, List.any_append]
  simp
/-- what is kept of the patterns is right -/
def rl_MT (D : td_D) (cnt : Nat → Nat) (kind num there matches' : Nat → Int32) (r : Nat) : Prop := there r = 1 → ∀ ps e, gm_S (xr_T kind num r).1 (cnt r) ps 0 e → ps ≠ [] → matches' r = tm_ms (tb_m D (xr_T kind num r) ps D.1) D.1
/-- what is kept of a rule is right -/
def rl_RU (cnt : Nat → Nat) (kind num over ends placed there bodyAt : Nat → Int32) : Prop := ∀ r, r < 6 → (there r = 0 ∨ there r = 1) ∧ (there r = 1 → gm_OK (xr_T kind num r).1 (cnt r) [3, 9] ∧ xr_SVi (xr_T kind num r).1 (cnt r) (31 * r) 0 over ends placed ∧ ∀ ps e, gm_S (xr_T kind num r).1 (cnt r) ps 0 e → ps ≠ [] → bodyAt r = nI e)
theorem rl_BR {K : Nat → Nat} {n b : Nat} {ov en pl : Nat → Int32} (h : xr_SVi K n b 0 ov en pl) : xr_BR K n b ov pl := fun p c hp => ⟨(h.2.2.1 p c (Nat.zero_le _) hp).1, (h.2.2.1 p c (Nat.zero_le _) hp).2.1⟩
theorem rl_ps {K : Nat → Nat} {n : Nat} {t : List Nat} (h : gm_OK K n (3 :: t)) : ∃ ps e, gm_S K n ps 0 e ∧ ps ≠ [] ∧ 0 < e ∧ e ≤ n ∧ gm_rd K (n - e) e t = none := by
  obtain ⟨-, -, ps, e, a1, a2, a3, a4, a5⟩ := gm_L5 (n := n) (q := 0) (d := n) (by omega) h.1
  exact ⟨ps, e, a2, a1, a3, a4, a5⟩
def tb_w (prio given : Nat → Int32) (r : Nat) (b : Int32) : Bool := decide (b < 0) || decide (prio b.toNatClampNeg < prio r) || (decide (prio r = prio b.toNatClampNeg) && !decide (given r ≤ given b.toNatClampNeg))
def tb_b (pick : Nat → Bool) (prio given : Nat → Int32) : Nat → Nat → Int32 → Int32
  | 0, _, b => b
  | d + 1, r, b => if pick r && tb_w prio given r b then tb_b pick prio given d (r + 1) (nI r) else tb_b pick prio given d (r + 1) b
section
variable {f_nodes f_depth f_known f_dues f_place f_gifts f_matched f_lists f_steps f_outcome f_made : Int32} {a_name a_parent a_lastOf a_way a_value a_axes a_named a_kind a_over a_ends a_count a_num a_placed a_asked a_holds a_due a_open a_there a_priority a_given a_matches a_stack a_rest a_position a_size a_at a_row a_pc a_first a_out a_large : Nat → Int32}
theorem xb_34 {post : SX → Prop} {J19 : Int32 → Int32 → Int32 → Int32 → Int32 → Int32 → Int32 → Int32 → Int32 → Int32 → Int32 → Int32 → (Nat → Int32) → (Nat → Int32) → (Nat → Int32) → (Nat → Int32) → (Nat → Int32) → (Nat → Int32) → (Nat → Int32) → (Nat → Int32) → (Nat → Int32) → (Nat → Int32) → (Nat → Int32) → (Nat → Int32) → (Nat → Int32) → (Nat → Int32) → (Nat → Int32) → (Nat → Int32) → (Nat → Int32) → (Nat → Int32) → (Nat → Int32) → (Nat → Int32) → (Nat → Int32) → (Nat → Int32) → (Nat → Int32) → (Nat → Int32) → (Nat → Int32) → (Nat → Int32) → (Nat → Int32) → (Nat → Int32) → (Nat → Int32) → (Nat → Int32) → (Nat → Int32) → Prop} {nn r : Nat} {cnt : Nat → Nat} {ps : List (Nat × List (Nat × Nat))} {e : Nat} (hn : f_nodes = nI nn) (hD : xe_D nn a_parent a_name a_axes a_named) (hK : xr_K a_kind a_num) (hr : r < 6) (hcn : ∀ q, q < 7 → cnt q ≤ 30) (hth : a_there r = 1) (hSV : xr_SVi (xr_T a_kind a_num r).1 (cnt r) (31 * r) 0 a_over a_ends a_placed) (hS : gm_S (xr_T a_kind a_num r).1 (cnt r) ps 0 e) (hps : ps ≠ []) : ∀ d j st as ho mt, j + d = nn → xr_CA (nn, a_parent, a_name, a_value) a_kind a_num cnt as ho → mt r = tm_ms (tb_m (nn, a_parent, a_name, a_value) (xr_T a_kind a_num r) ps j) nn → (∀ st' as' ho' mt', xr_CA (nn, a_parent, a_name, a_value) a_kind a_num cnt as' ho' → (∀ q, q ≠ r → mt' q = mt q) → mt' r = tm_ms (tb_m (nn, a_parent, a_name, a_value) (xr_T a_kind a_num r) ps nn) nn → J19 (nI (r + 1)) f_nodes f_depth f_known f_dues f_place f_gifts f_matched f_lists f_steps f_outcome f_made a_name a_parent a_lastOf a_way a_value a_axes a_named a_kind a_over a_ends a_count a_num a_placed as' ho' a_due a_open a_there a_priority a_given mt' st' a_rest a_position a_size a_at a_row a_pc a_first a_out a_large) → wX_match_34 post J19 (nI r) (d + 1) (nI j) f_nodes f_depth f_known f_dues f_place f_gifts f_matched f_lists f_steps f_outcome f_made a_name a_parent a_lastOf a_way a_value a_axes a_named a_kind a_over a_ends a_count a_num a_placed as ho a_due a_open a_there a_priority a_given mt st a_rest a_position a_size a_at a_row a_pc a_first a_out a_large := by
  have h24 := hD.1.1
  have hn2 := hn
  subst hn
  intro d
  induction d with
  | zero =>
    intro j st as ho mt hj hC hm hp
    rw [show j = nn by omega] at hm ⊢
    exact br_t (Int32.le_refl _) (nm_r (nI_1 r) (hp st as ho mt hC (fun _ _ => rfl) hm))
  | succ d ih =>
    intro j st as ho mt hj hC hm hp
    refine br_f (nI_ge (by omega) (by omega)) ⟨vp_in_nI (by omega) (by omega), ?_⟩
    rw [nI_clamp (by omega), hth]
    refine br_f (by decide) ?_
    rw [show (31 : Int32) * nI r = nI (31 * r) from pk_mul 31 r, show (72 : Int32) + nI j = nI (72 + j) from nI_add 72 j]
    refine xp_path (q := 0) hD hK (by omega) hcn (rl_BR hSV) hS (hSV.2.1 ps 0 e (Nat.zero_le _) hS hps) (by omega) hC (fun st' as' ho' hC' => ?_)
    refine ⟨vp_in_nI (by omega) (by omega), vp_in_nI (by omega) (by omega), vp_in_nI (by omega) (by omega), ?_⟩
    rw [nI_clamp (by omega)]
    refine nm_e (nm_r (nI_1 j) (ih (j + 1) st' as' ho' _ (by omega) hC' ?_ (fun st2 as2 ho2 mt2 g1 g2 g3 => hp st2 as2 ho2 mt2 g1 (fun q hq => (g2 q hq).trans (pk_un hq)) g3)))
    rw [pk_us, hm]
    apply tm_ext (by omega)
    intro m hm32
    have hpv := td_pvB (D := (nn, a_parent, a_name, a_value)) (T := xr_T a_kind a_num r) h24 ps (td_1 j) (xl_1B (by omega) h24)
    rw [b_or, tm_bt _ nn (by omega) m hm32, b_and, b_or, show 72 + j = 24 * 3 + j by omega, hD.2.2.1 3 (by omega) j (by omega), tm_bt _ nn (by omega) m hm32, ta_one j (by omega) m hm32, tb_m1]
    show ((decide (m < nn) && tb_m (nn, a_parent, a_name, a_value) (xr_T a_kind a_num r) ps j m) || (bt (td_pv (nn, a_parent, a_name, a_value) (xr_T a_kind a_num r) ps (td_1 j)) m && ((decide (m < nn) && td_A a_parent j m) || decide (m = j)))) = (decide (m < nn) && (tb_m (nn, a_parent, a_name, a_value) (xr_T a_kind a_num r) ps j m || ((decide (j = m) || td_A a_parent j m) && bt (td_pv (nn, a_parent, a_name, a_value) (xr_T a_kind a_num r) ps (td_1 j)) m)))
    by_cases c : m < nn
    · rw [decide_eq_true c, show decide (m = j) = decide (j = m) from decide_eq_decide.mpr (by omega)]
      cases bt (td_pv (nn, a_parent, a_name, a_value) (xr_T a_kind a_num r) ps (td_1 j)) m <;> cases decide (j = m) <;> cases td_A a_parent j m <;> simp
    · have hb : bt (td_pv (nn, a_parent, a_name, a_value) (xr_T a_kind a_num r) ps (td_1 j)) m = false := by
        cases z : bt (td_pv (nn, a_parent, a_name, a_value) (xr_T a_kind a_num r) ps (td_1 j)) m with
        | false => rfl
        | true => exact (c (hpv m hm32 z)).elim
      rw [hb, decide_eq_false c]; simp
theorem xb_19 {post : SX → Prop} {nn : Nat} {cnt : Nat → Nat} {bodyAt : Nat → Int32} (hn : f_nodes = nI nn) (hD : xe_D nn a_parent a_name a_axes a_named) (hK : xr_K a_kind a_num) (hcn : ∀ q, q < 7 → cnt q ≤ 30) (hR : rl_RU cnt a_kind a_num a_over a_ends a_placed a_there bodyAt) (hp : ∀ st' as' ho' mt', xr_CA (nn, a_parent, a_name, a_value) a_kind a_num cnt as' ho' → (∀ r, r < 6 → rl_MT (nn, a_parent, a_name, a_value) cnt a_kind a_num a_there mt' r) → post (f_nodes, f_depth, f_known, f_dues, f_place, f_gifts, f_matched, f_lists, f_steps, f_outcome, f_made, a_name, a_parent, a_lastOf, a_way, a_value, a_axes, a_named, a_kind, a_over, a_ends, a_count, a_num, a_placed, as', ho', a_due, a_open, a_there, a_priority, a_given, mt', st', a_rest, a_position, a_size, a_at, a_row, a_pc, a_first, a_out, a_large)) : ∀ d r st as ho mt, r + d = 6 → xr_CA (nn, a_parent, a_name, a_value) a_kind a_num cnt as ho → (∀ q, q < r → rl_MT (nn, a_parent, a_name, a_value) cnt a_kind a_num a_there mt q) → wX_match_19 post (d + 1) (nI r) f_nodes f_depth f_known f_dues f_place f_gifts f_matched f_lists f_steps f_outcome f_made a_name a_parent a_lastOf a_way a_value a_axes a_named a_kind a_over a_ends a_count a_num a_placed as ho a_due a_open a_there a_priority a_given mt st a_rest a_position a_size a_at a_row a_pc a_first a_out a_large := by
  have h24 := hD.1.1
  intro d
  induction d with
  | zero =>
    intro r st as ho mt hr hC hm
    exact br_t (nI_le (a := 6) (by omega) (by omega)) (hp st as ho mt hC (fun q hq => hm q (by omega)))
  | succ d ih =>
    intro r st as ho mt hr hC hm
    refine br_f (nI_ge (b := 6) (by omega) (by omega)) ⟨vp_in_nI (by omega) (by omega), ?_⟩
    rw [nI_clamp (by omega)]
    refine nm_e ⟨nn + 1, ?_⟩
    have keep : ∀ mt' : Nat → Int32, (∀ q, q ≠ r → mt' q = upd mt r 0 q) → rl_MT (nn, a_parent, a_name, a_value) cnt a_kind a_num a_there mt' r → ∀ q, q < r + 1 → rl_MT (nn, a_parent, a_name, a_value) cnt a_kind a_num a_there mt' q := by
      intro mt' g1 g2 q hq
      by_cases c : q = r
      · subst c; exact g2
      · intro h1 ps e h2 h3
        rw [g1 q c, pk_un c]
        exact hm q (by omega) h1 ps e h2 h3
    rcases (hR r (by omega)).1 with h0 | h1
    · have hgo : wX_match_34 post (wX_match_19 post (d + 1)) (nI r) (nn + 1) 0 f_nodes f_depth f_known f_dues f_place f_gifts f_matched f_lists f_steps f_outcome f_made a_name a_parent a_lastOf a_way a_value a_axes a_named a_kind a_over a_ends a_count a_num a_placed as ho a_due a_open a_there a_priority a_given (upd mt r 0) st a_rest a_position a_size a_at a_row a_pc a_first a_out a_large := by
        have hj : wX_match_19 post (d + 1) (nI (r + 1)) f_nodes f_depth f_known f_dues f_place f_gifts f_matched f_lists f_steps f_outcome f_made a_name a_parent a_lastOf a_way a_value a_axes a_named a_kind a_over a_ends a_count a_num a_placed as ho a_due a_open a_there a_priority a_given (upd mt r 0) st a_rest a_position a_size a_at a_row a_pc a_first a_out a_large := ih (r + 1) st as ho _ (by omega) hC (keep _ (fun _ _ => rfl) (fun z => by rw [h0] at z; exact absurd z (by decide)))
        refine br_c (fun _ => nm_r (nI_1 r) hj) (fun _ => ⟨vp_in_nI (by omega) (by omega), ?_⟩)
        rw [nI_clamp (by omega), h0]
        exact br_t rfl (nm_r (nI_1 r) hj)
      exact hgo
    · obtain ⟨hOK, hSV, -⟩ := (hR r (by omega)).2 h1
      obtain ⟨ps, e, hS, hps, -⟩ := rl_ps hOK
      refine xb_34 hn hD hK (by omega) hcn h1 hSV hS hps nn 0 st as ho _ (by omega) hC ?_ (fun st' as' ho' mt' g1 g2 g3 => ?_)
      · rw [pk_us]
        exact (xl_ms0 nn).symm
      · refine ih (r + 1) st' as' ho' mt' (by omega) g1 (keep mt' g2 (fun _ ps' e' h2 h3 => ?_))
        rw [(gm_Sd _ _ _ _ _ h2 hS).1]
        exact g3
/-- what every pattern matches -/
theorem xb_match {post : SX → Prop} {nn : Nat} {cnt : Nat → Nat} {bodyAt : Nat → Int32} (hn : f_nodes = nI nn) (hP : td_P nn a_parent) (hN : td_N nn a_name) (hL : td_L nn a_parent a_lastOf) (hk : f_known = 0 ∨ (f_known = 1 ∧ td_AX nn a_parent a_name a_axes a_named)) (hK : xr_K a_kind a_num) (hcn : ∀ q, q < 7 → cnt q ≤ 30) (hR : rl_RU cnt a_kind a_num a_over a_ends a_placed a_there bodyAt) (hC : xr_CA (nn, a_parent, a_name, a_value) a_kind a_num cnt a_asked a_holds) (hM : f_matched = 0 ∨ (f_matched = 1 ∧ ∀ r, r < 6 → rl_MT (nn, a_parent, a_name, a_value) cnt a_kind a_num a_there a_matches r)) (hp : ∀ ax nd st as ho mt, xe_D nn a_parent a_name ax nd → xr_CA (nn, a_parent, a_name, a_value) a_kind a_num cnt as ho → (∀ r, r < 6 → rl_MT (nn, a_parent, a_name, a_value) cnt a_kind a_num a_there mt r) → post (f_nodes, f_depth, 1, f_dues, f_place, f_gifts, 1, f_lists, f_steps, f_outcome, f_made, a_name, a_parent, a_lastOf, a_way, a_value, ax, nd, a_kind, a_over, a_ends, a_count, a_num, a_placed, as, ho, a_due, a_open, a_there, a_priority, a_given, mt, st, a_rest, a_position, a_size, a_at, a_row, a_pc, a_first, a_out, a_large)) : wpX_match post (f_nodes, f_depth, f_known, f_dues, f_place, f_gifts, f_matched, f_lists, f_steps, f_outcome, f_made, a_name, a_parent, a_lastOf, a_way, a_value, a_axes, a_named, a_kind, a_over, a_ends, a_count, a_num, a_placed, a_asked, a_holds, a_due, a_open, a_there, a_priority, a_given, a_matches, a_stack, a_rest, a_position, a_size, a_at, a_row, a_pc, a_first, a_out, a_large) := by
  refine xk_learn hn hP hN hL hk (fun ax nd hD => ?_)
  rcases hM with h0 | ⟨h1, hm⟩
  · exact br_t h0 ⟨6 + 1, xb_19 hn hD hK hcn hR (fun st as ho mt g1 g2 => hp ax nd st as ho mt hD g1 g2) 6 0 a_stack a_asked a_holds a_matches (by omega) hC (fun q hq => by omega)⟩
  · rw [h1]
    exact br_f (by decide) (hp ax nd a_stack a_asked a_holds a_matches hD hC hm)
theorem xb_4 {post : Int32 → Prop} {node : Nat} {pick : Nat → Bool} (hnode : node < 24) (hpk : ∀ r, r < 6 → pick r = (!decide (a_there r = 0) && bt (a_matches r) node)) : ∀ d r b, r + d = 6 → (b = -1 ∨ ∃ q, q < r ∧ b = nI q) → post (tb_b pick a_priority a_given d r b) → wX_best_4 post (nI node) f_nodes f_depth f_known f_dues f_place f_gifts f_matched f_lists f_steps f_outcome f_made a_name a_parent a_lastOf a_way a_value a_axes a_named a_kind a_over a_ends a_count a_num a_placed a_asked a_holds a_due a_open a_there a_priority a_given a_matches a_stack a_rest a_position a_size a_at a_row a_pc a_first a_out a_large (d + 1) b (nI r) := by
  intro d
  induction d with
  | zero => intro r b hr _ hp; exact br_t (nI_le (a := 6) (by omega) (by omega)) hp
  | succ d ih =>
    intro r b hr hb hp
    rw [tb_b, hpk r (by omega)] at hp
    refine br_f (nI_ge (b := 6) (by omega) (by omega)) ⟨vp_in_nI (by omega) (by omega), ?_⟩
    rw [nI_clamp (by omega)]
    have hb' : b = -1 ∨ ∃ q, q < r + 1 ∧ b = nI q := by
      rcases hb with e | ⟨q, h1, h2⟩
      · exact Or.inl e
      · exact Or.inr ⟨q, by omega, h2⟩
    have stay : (!decide (a_there r = 0) && bt (a_matches r) node && tb_w a_priority a_given r b) = false → wX_best_4 post (nI node) f_nodes f_depth f_known f_dues f_place f_gifts f_matched f_lists f_steps f_outcome f_made a_name a_parent a_lastOf a_way a_value a_axes a_named a_kind a_over a_ends a_count a_num a_placed a_asked a_holds a_due a_open a_there a_priority a_given a_matches a_stack a_rest a_position a_size a_at a_row a_pc a_first a_out a_large (d + 1) b (nI (r + 1)) := by
      intro z
      rw [z, if_neg (by simp)] at hp
      exact ih (r + 1) b (by omega) hb' hp
    have take : (!decide (a_there r = 0) && bt (a_matches r) node && tb_w a_priority a_given r b) = true → wX_best_4 post (nI node) f_nodes f_depth f_known f_dues f_place f_gifts f_matched f_lists f_steps f_outcome f_made a_name a_parent a_lastOf a_way a_value a_axes a_named a_kind a_over a_ends a_count a_num a_placed a_asked a_holds a_due a_open a_there a_priority a_given a_matches a_stack a_rest a_position a_size a_at a_row a_pc a_first a_out a_large (d + 1) (nI r) (nI (r + 1)) := by
      intro z
      rw [z, if_pos rfl] at hp
      exact ih (r + 1) (nI r) (by omega) (Or.inr ⟨r, by omega, rfl⟩) hp
    refine br_c (fun c => nm_r (nI_1 r) (stay (by simp [c]))) (fun c => ⟨vp_in_nI (by omega) (by omega), ?_⟩)
    refine br_c (fun c2 => nm_r (nI_1 r) (stay (by rw [(ta_tst _ (by omega)).mp c2]; simp))) (fun c2 => ?_)
    have hbit : bt (a_matches r) node = true := by
      cases h : bt (a_matches r) node with
      | true => rfl
      | false => exact (c2 ((ta_tst _ (by omega)).mpr h)).elim
    rw [decide_eq_false c, hbit] at stay take
    rcases hb with e | ⟨q, h1, h2⟩
    · subst e
      exact br_t yl_m1 (nm_r (nI_1 r) (take rfl))
    · subst h2
      have hw : tb_w a_priority a_given r (nI q) = (decide (a_priority q < a_priority r) || (decide (a_priority r = a_priority q) && !decide (a_given r ≤ a_given q))) := by
        unfold tb_w
        rw [decide_eq_false (nI_pos (show q < 2 ^ 31 by omega)), nI_clamp (by omega), Bool.false_or]
      rw [hw] at stay take
      refine br_f (nI_pos (by omega)) ⟨vp_in_nI (by omega) (by omega), vp_in_nI (by omega) (by omega), ?_⟩
      rw [nI_clamp (by omega)]
      refine br_c (fun c3 => nm_r (nI_1 r) (take (by simp [c3]))) (fun c3 => ⟨vp_in_nI (by omega) (by omega), vp_in_nI (by omega) (by omega), ?_⟩)
      refine br_c (fun c4 => ⟨vp_in_nI (by omega) (by omega), vp_in_nI (by omega) (by omega), ?_⟩) (fun c4 => nm_r (nI_1 r) (stay (by simp [c3, c4])))
      exact br_c (fun c5 => nm_r (nI_1 r) (stay (by rw [decide_eq_false c3, decide_eq_true c5]; simp))) (fun c5 => nm_r (nI_1 r) (take (by rw [decide_eq_true c4, decide_eq_false c5]; simp)))
theorem xb_best {post : Int32 → Prop} {node : Nat} {pick : Nat → Bool} (hnode : node < 24) (hpk : ∀ r, r < 6 → pick r = (!decide (a_there r = 0) && bt (a_matches r) node)) (hp : post (tb_b pick a_priority a_given 6 0 (-1))) : wpX_best post (f_nodes, f_depth, f_known, f_dues, f_place, f_gifts, f_matched, f_lists, f_steps, f_outcome, f_made, a_name, a_parent, a_lastOf, a_way, a_value, a_axes, a_named, a_kind, a_over, a_ends, a_count, a_num, a_placed, a_asked, a_holds, a_due, a_open, a_there, a_priority, a_given, a_matches, a_stack, a_rest, a_position, a_size, a_at, a_row, a_pc, a_first, a_out, a_large) (nI node) := ⟨7, xb_4 hnode hpk 6 0 (-1) (by omega) (Or.inl rfl) hp⟩
end
section
variable {g_nodes g_inner g_rules g_place g_listed g_depth g_row g_pc g_node g_position g_size g_fault g_put g_steps : Int32} {b_name b_parent b_value b_kind b_with b_count b_bodyAt b_priority b_given b_there b_wanted b_waiting b_within b_list b_left b_reached b_sizes b_each b_backRow b_backPc b_backNode b_backPosition b_backSize b_output : Nat → Int32}
theorem yb_2 {post : Int32 → SY → Prop} {nn b n e m r : Nat} {T : td_T} {ps : List (Nat × List (Nat × Nat))} (hg : g_nodes = nI nn) (hP : td_P nn b_parent) (hT : ye_T (30 * r) n T b_kind b_with) (hr : r < 6) (hS : gm_S T.1 n ps 0 e) (hps : ps ≠ []) (hba : b_bodyAt r = nI e) (hm : m < nn) : ∀ a, a < nn → ∀ f ld li wi, a + 1 < f → (∀ ld' li' wi', post (yl_b (bt (td_pv (nn, b_parent, b_name, b_value) T ps (td_1 a)) m || (List.range nn).any (fun x => td_A b_parent x a && bt (td_pv (nn, b_parent, b_name, b_value) T ps (td_1 x)) m))) (g_nodes, g_inner, g_rules, g_place, ld', g_depth, g_row, g_pc, g_node, g_position, g_size, g_fault, g_put, g_steps, b_name, b_parent, b_value, b_kind, b_with, b_count, b_bodyAt, b_priority, b_given, b_there, b_wanted, b_waiting, wi', li', b_left, b_reached, b_sizes, b_each, b_backRow, b_backPc, b_backNode, b_backPosition, b_backSize, b_output)) → wY_matches_2 post (nI r) (nI m) f (nI a) g_nodes g_inner g_rules g_place ld g_depth g_row g_pc g_node g_position g_size g_fault g_put g_steps b_name b_parent b_value b_kind b_with b_count b_bodyAt b_priority b_given b_there b_wanted b_waiting wi li b_left b_reached b_sizes b_each b_backRow b_backPc b_backNode b_backPosition b_backSize b_output := by
  have h24 := hP.1
  have hle := gm_Sle _ _ _ hS
  have hTn := hT.2.1
  intro a
  induction a using Nat.strongRecOn with
  | _ a ih =>
    intro ha f ld li wi hf hp
    obtain ⟨f, rfl⟩ : ∃ k, f = k + 1 := ⟨f - 1, by omega⟩
    refine br_f (nI_pos (by omega)) ⟨vp_in_nI (by omega) (by omega), ?_⟩
    rw [nI_clamp (show r < 2 ^ 31 by omega), nI_clamp (show a < 2 ^ 31 by omega), hba, show (30 : Int32) * nI r = nI (30 * r) from pk_mul 30 r, nI_add]
    refine yp_path (q := 0) (E := e) hg hP hT hle.2 (Nat.le_refl _) hS hps (fun ld' li' wi' => br_c (fun z => ⟨vp_in_nI (by omega) (by omega), ?_⟩) (fun z => ?_))
    · rw [(ta_tst _ (by omega)).mp z, Bool.false_or] at hp
      rcases hP.2 a ha with ⟨_, e1⟩ | ⟨_, q, hq, e1⟩
      · refine nm_r e1 ?_
        obtain ⟨f, rfl⟩ : ∃ k, f = k + 1 := ⟨f - 1, by omega⟩
        refine br_t yl_m1 ?_
        have hz : (List.range nn).any (fun x => td_A b_parent x a && bt (td_pv (nn, b_parent, b_name, b_value) T ps (td_1 x)) m) = false := by
          rw [List.any_eq_false]
          intro x _
          rw [td_A0 (nn := nn) e1]; simp
        rw [hz] at hp
        exact hp ld' li' wi'
      · refine nm_r e1 (ih q hq (by omega) f ld' li' wi' (by omega) (fun ld2 li2 wi2 => ?_))
        have hz : (List.range nn).any (fun x => td_A b_parent x a && bt (td_pv (nn, b_parent, b_name, b_value) T ps (td_1 x)) m) = (bt (td_pv (nn, b_parent, b_name, b_value) T ps (td_1 q)) m || (List.range nn).any (fun x => td_A b_parent x q && bt (td_pv (nn, b_parent, b_name, b_value) T ps (td_1 x)) m)) := by
          apply Bool.eq_iff_iff.mpr
          rw [Bool.or_eq_true, List.any_eq_true, List.any_eq_true]
          constructor
          · rintro ⟨x, y1, y2⟩
            rw [td_As hP ha hq e1, Bool.and_eq_true, Bool.or_eq_true, decide_eq_true_eq] at y2
            rcases y2 with ⟨rfl | y3, y4⟩
            · exact Or.inl y4
            · exact Or.inr ⟨x, y1, by rw [y3, y4]; rfl⟩
          · rintro (y1 | ⟨x, y1, y2⟩)
            · exact ⟨q, List.mem_range.mpr (by omega), by rw [td_As hP ha hq e1, y1]; simp⟩
            · rw [Bool.and_eq_true] at y2
              exact ⟨x, y1, by rw [td_As hP ha hq e1, y2.1, y2.2]; simp⟩
        rw [← hz]
        exact hp ld2 li2 wi2
    · have hbit : bt (td_pv (nn, b_parent, b_name, b_value) T ps (td_1 a)) m = true := by
        cases h : bt (td_pv (nn, b_parent, b_name, b_value) T ps (td_1 a)) m with
        | true => rfl
        | false => exact (z ((ta_tst _ (by omega)).mpr h)).elim
      rw [hbit, Bool.true_or] at hp
      exact hp ld' li' wi'
theorem yb_matches {post : Int32 → SY → Prop} {nn n e m r : Nat} {T : td_T} {ps : List (Nat × List (Nat × Nat))} (hg : g_nodes = nI nn) (hP : td_P nn b_parent) (hT : ye_T (30 * r) n T b_kind b_with) (hr : r < 6) (hS : gm_S T.1 n ps 0 e) (hps : ps ≠ []) (hba : b_bodyAt r = nI e) (hm : m < nn) (hp : ∀ ld li wi, post (yl_b (tb_m (nn, b_parent, b_name, b_value) T ps nn m)) (g_nodes, g_inner, g_rules, g_place, ld, g_depth, g_row, g_pc, g_node, g_position, g_size, g_fault, g_put, g_steps, b_name, b_parent, b_value, b_kind, b_with, b_count, b_bodyAt, b_priority, b_given, b_there, b_wanted, b_waiting, wi, li, b_left, b_reached, b_sizes, b_each, b_backRow, b_backPc, b_backNode, b_backPosition, b_backSize, b_output)) : wpY_matches post (g_nodes, g_inner, g_rules, g_place, g_listed, g_depth, g_row, g_pc, g_node, g_position, g_size, g_fault, g_put, g_steps, b_name, b_parent, b_value, b_kind, b_with, b_count, b_bodyAt, b_priority, b_given, b_there, b_wanted, b_waiting, b_within, b_list, b_left, b_reached, b_sizes, b_each, b_backRow, b_backPc, b_backNode, b_backPosition, b_backSize, b_output) (nI r) (nI m) := by
  refine ⟨m + 2, yb_2 (b := 0) hg hP hT hr hS hps hba hm m hm (m + 2) g_listed b_list b_within (by omega) (fun ld li wi => ?_)⟩
  have hz : tb_m (nn, b_parent, b_name, b_value) T ps nn m = (bt (td_pv (nn, b_parent, b_name, b_value) T ps (td_1 m)) m || (List.range nn).any (fun x => td_A b_parent x m && bt (td_pv (nn, b_parent, b_name, b_value) T ps (td_1 x)) m)) := by
    unfold tb_m
    apply Bool.eq_iff_iff.mpr
    rw [Bool.or_eq_true, List.any_eq_true, List.any_eq_true]
    constructor
    · rintro ⟨x, y1, y2⟩
      rw [Bool.and_eq_true, Bool.or_eq_true, decide_eq_true_eq] at y2
      rcases y2 with ⟨rfl | y3, y4⟩
      · exact Or.inl y4
      · exact Or.inr ⟨x, y1, by rw [show td_A b_parent x m = true from y3, y4]; rfl⟩
    · rintro (y1 | ⟨x, y1, y2⟩)
      · exact ⟨m, List.mem_range.mpr hm, by rw [y1]; simp⟩
      · rw [Bool.and_eq_true] at y2
        exact ⟨x, y1, by rw [show td_A (nn, b_parent, b_name, b_value).2.1 x m = true from y2.1, y2.2]; simp⟩
  rw [← hz]
  exact hp ld li wi
theorem yb_18 {post : Int32 → SY → Prop} {nn node : Nat} {pick : Nat → Bool} (hnode : node < nn) (hM : ∀ r, r < 6 → (b_there r = 0 ∨ b_there r = 1) ∧ (b_there r = 0 → pick r = false) ∧ (b_there r = 1 → ∀ (post : Int32 → SY → Prop) ld li wi, (∀ ld' li' wi', post (yl_b (pick r)) (g_nodes, g_inner, g_rules, g_place, ld', g_depth, g_row, g_pc, g_node, g_position, g_size, g_fault, g_put, g_steps, b_name, b_parent, b_value, b_kind, b_with, b_count, b_bodyAt, b_priority, b_given, b_there, b_wanted, b_waiting, wi', li', b_left, b_reached, b_sizes, b_each, b_backRow, b_backPc, b_backNode, b_backPosition, b_backSize, b_output)) → wpY_matches post (g_nodes, g_inner, g_rules, g_place, ld, g_depth, g_row, g_pc, g_node, g_position, g_size, g_fault, g_put, g_steps, b_name, b_parent, b_value, b_kind, b_with, b_count, b_bodyAt, b_priority, b_given, b_there, b_wanted, b_waiting, wi, li, b_left, b_reached, b_sizes, b_each, b_backRow, b_backPc, b_backNode, b_backPosition, b_backSize, b_output) (nI r) (nI node))) : ∀ d r b ld li wi, r + d = 6 → (b = -1 ∨ ∃ q, q < r ∧ b = nI q) → (∀ ld' li' wi', post (tb_b pick b_priority b_given d r b) (g_nodes, g_inner, g_rules, g_place, ld', g_depth, g_row, g_pc, g_node, g_position, g_size, g_fault, g_put, g_steps, b_name, b_parent, b_value, b_kind, b_with, b_count, b_bodyAt, b_priority, b_given, b_there, b_wanted, b_waiting, wi', li', b_left, b_reached, b_sizes, b_each, b_backRow, b_backPc, b_backNode, b_backPosition, b_backSize, b_output)) → wY_ruleFor_18 post (nI node) (d + 1) b (nI r) g_nodes g_inner g_rules g_place ld g_depth g_row g_pc g_node g_position g_size g_fault g_put g_steps b_name b_parent b_value b_kind b_with b_count b_bodyAt b_priority b_given b_there b_wanted b_waiting wi li b_left b_reached b_sizes b_each b_backRow b_backPc b_backNode b_backPosition b_backSize b_output := by
  intro d
  induction d with
  | zero => intro r b ld li wi hr _ hp; exact br_t (nI_le (a := 6) (by omega) (by omega)) (hp ld li wi)
  | succ d ih =>
    intro r b ld li wi hr hb hp
    obtain ⟨m01, m0, m1⟩ := hM r (by omega)
    refine br_f (nI_ge (b := 6) (by omega) (by omega)) ⟨vp_in_nI (by omega) (by omega), ?_⟩
    rw [nI_clamp (by omega)]
    have hb' : b = -1 ∨ ∃ q, q < r + 1 ∧ b = nI q := by
      rcases hb with e | ⟨q, h1, h2⟩
      · exact Or.inl e
      · exact Or.inr ⟨q, by omega, h2⟩
    rw [tb_b] at hp
    have stay : (pick r && tb_w b_priority b_given r b) = false → ∀ ld li wi, wY_ruleFor_18 post (nI node) (d + 1) b (nI (r + 1)) g_nodes g_inner g_rules g_place ld g_depth g_row g_pc g_node g_position g_size g_fault g_put g_steps b_name b_parent b_value b_kind b_with b_count b_bodyAt b_priority b_given b_there b_wanted b_waiting wi li b_left b_reached b_sizes b_each b_backRow b_backPc b_backNode b_backPosition b_backSize b_output := by
      intro z ld li wi
      rw [z, if_neg (by simp)] at hp
      exact ih (r + 1) b ld li wi (by omega) hb' hp
    have take : (pick r && tb_w b_priority b_given r b) = true → ∀ ld li wi, wY_ruleFor_18 post (nI node) (d + 1) (nI r) (nI (r + 1)) g_nodes g_inner g_rules g_place ld g_depth g_row g_pc g_node g_position g_size g_fault g_put g_steps b_name b_parent b_value b_kind b_with b_count b_bodyAt b_priority b_given b_there b_wanted b_waiting wi li b_left b_reached b_sizes b_each b_backRow b_backPc b_backNode b_backPosition b_backSize b_output := by
      intro z ld li wi
      rw [z, if_pos rfl] at hp
      exact ih (r + 1) (nI r) ld li wi (by omega) (Or.inr ⟨r, by omega, rfl⟩) hp
    have h86 : (pick r && tb_w b_priority b_given r b) = false → wY_ruleFor_86 post (wY_ruleFor_18 post (nI node) (d + 1)) (nI node) b (nI r) g_nodes g_inner g_rules g_place ld g_depth g_row g_pc g_node g_position g_size g_fault g_put g_steps b_name b_parent b_value b_kind b_with b_count b_bodyAt b_priority b_given b_there b_wanted b_waiting wi li b_left b_reached b_sizes b_each b_backRow b_backPc b_backNode b_backPosition b_backSize b_output := fun z => br_t rfl (nm_r (nI_1 r) (stay z ld li wi))
    have h82 : b_there r = 1 → tb_w b_priority b_given r b = true → wY_ruleFor_82 post (wY_ruleFor_18 post (nI node) (d + 1)) (nI node) b (nI r) g_nodes g_inner g_rules g_place ld g_depth g_row g_pc g_node g_position g_size g_fault g_put g_steps b_name b_parent b_value b_kind b_with b_count b_bodyAt b_priority b_given b_there b_wanted b_waiting wi li b_left b_reached b_sizes b_each b_backRow b_backPc b_backNode b_backPosition b_backSize b_output := by
      intro z1 z2
      refine br_f (by decide) (m1 z1 _ ld li wi (fun ld' li' wi' => yl_bt (fun w => nm_r (nI_1 r) (stay (by rw [w]; rfl) ld' li' wi')) (fun w => nm_r (nI_1 r) (take (by rw [w, z2]; rfl) ld' li' wi'))))
    rcases m01 with z0 | z1
    · rw [z0]
      exact br_t rfl (h86 (by rw [m0 z0]; rfl))
    · refine br_f (by rw [z1]; decide) ?_
      rcases hb with e | ⟨q, h1, h2⟩
      · subst e
        exact br_t yl_m1 (h82 z1 rfl)
      · subst h2
        have hw : tb_w b_priority b_given r (nI q) = (decide (b_priority q < b_priority r) || (decide (b_priority r = b_priority q) && !decide (b_given r ≤ b_given q))) := by
          unfold tb_w
          rw [decide_eq_false (nI_pos (show q < 2 ^ 31 by omega)), nI_clamp (by omega), Bool.false_or]
        refine br_f (nI_pos (by omega)) ⟨vp_in_nI (by omega) (by omega), vp_in_nI (by omega) (by omega), ?_⟩
        rw [nI_clamp (by omega)]
        refine br_c (fun c3 => h82 z1 (by rw [hw]; simp [c3])) (fun c3 => ⟨vp_in_nI (by omega) (by omega), vp_in_nI (by omega) (by omega), ?_⟩)
        refine br_c (fun c4 => ⟨vp_in_nI (by omega) (by omega), vp_in_nI (by omega) (by omega), ?_⟩) (fun c4 => h86 (by rw [hw]; simp [c3, c4]))
        exact br_c (fun c5 => h86 (by rw [hw, decide_eq_false c3, decide_eq_true c5]; simp)) (fun c5 => h82 z1 (by rw [hw, decide_eq_true c4, decide_eq_false c5]; simp))
end
end
section
/-! the relation -/
def rl_F (nn dep : Nat) (cnt : Nat → Nat) (f_nodes f_depth f_known f_matched g_nodes g_inner : Int32) (name parent lastOf way value axes named kind over ends count num placed asked holds there matches' kindY withY bodyAt : Nat → Int32) : Prop :=
  (f_nodes = nI nn ∧ g_nodes = nI nn ∧ f_depth = nI dep ∧ td_P nn parent ∧ td_N nn name ∧ td_L nn parent lastOf ∧ td_W nn dep parent lastOf way ∧ g_inner = (if dep = 0 then -1 else way (dep - 1)) ∧ (f_known = 0 ∨ (f_known = 1 ∧ td_AX nn parent name axes named))) ∧
  (xr_K kind num ∧ (∀ r, r < 7 → ∀ i, i < 30 → kindY (30 * r + i) = kind (31 * r + i) ∧ withY (30 * r + i) = num (31 * r + i)) ∧ (∀ r, r < 7 → count r = nI (cnt r) ∧ cnt r ≤ 30)) ∧
  rl_RU cnt kind num over ends placed there bodyAt ∧
  (f_matched = 0 ∨ (f_matched = 1 ∧ ∀ r, r < 6 → rl_MT (nn, parent, name, value) cnt kind num there matches' r)) ∧
  xr_CA (nn, parent, name, value) kind num cnt asked holds
def i_Rel (_ : Nat) (u : SX) (v : SY) : Prop := match u, v with
  | (f_nodes, f_depth, f_known, f_dues, f_place, f_gifts, f_matched, f_lists, f_steps, f_outcome, f_made, a_name, a_parent, a_lastOf, a_way, a_value, a_axes, a_named, a_kind, a_over, a_ends, a_count, a_num, a_placed, a_asked, a_holds, a_due, a_open, a_there, a_priority, a_given, a_matches, a_stack, a_rest, a_position, a_size, a_at, a_row, a_pc, a_first, a_out, a_large), (g_nodes, g_inner, g_rules, g_place, g_listed, g_depth, g_row, g_pc, g_node, g_position, g_size, g_fault, g_put, g_steps, b_name, b_parent, b_value, b_kind, b_with, b_count, b_bodyAt, b_priority, b_given, b_there, b_wanted, b_waiting, b_within, b_list, b_left, b_reached, b_sizes, b_each, b_backRow, b_backPc, b_backNode, b_backPosition, b_backSize, b_output) => b_name = a_name ∧ b_parent = a_parent ∧ b_value = a_value ∧ b_count = a_count ∧ b_priority = a_priority ∧ b_given = a_given ∧ b_there = a_there ∧ b_output = a_out ∧ g_place = f_place ∧ g_rules = f_gifts ∧ g_put = f_made ∧ g_steps = f_steps ∧ ∃ nn dep cnt, rl_F nn dep cnt f_nodes f_depth f_known f_matched g_nodes g_inner a_name a_parent a_lastOf a_way a_value a_axes a_named a_kind a_over a_ends a_count a_num a_placed a_asked a_holds a_there a_matches b_kind b_with b_bodyAt
theorem i_up {k : Nat} {u : SX} {v : SY} (h : i_Rel k u v) : i_Rel (k + 4) u v := h
theorem zz_el {k : Nat} {P : SX → SY → Prop} (h : ∀ (f_nodes f_depth f_known f_dues f_place f_gifts f_matched f_lists f_steps f_outcome f_made : Int32) (a_name a_parent a_lastOf a_way a_value a_axes a_named a_kind a_over a_ends a_count a_num a_placed a_asked a_holds a_due a_open a_there a_priority a_given a_matches a_stack a_rest a_position a_size a_at a_row a_pc a_first a_out a_large : Nat → Int32) (g_nodes g_inner g_listed g_depth g_row g_pc g_node g_position g_size g_fault : Int32) (b_kind b_with b_bodyAt b_wanted b_waiting b_within b_list b_left b_reached b_sizes b_each b_backRow b_backPc b_backNode b_backPosition b_backSize : Nat → Int32) (nn dep : Nat) (cnt : Nat → Nat), rl_F nn dep cnt f_nodes f_depth f_known f_matched g_nodes g_inner a_name a_parent a_lastOf a_way a_value a_axes a_named a_kind a_over a_ends a_count a_num a_placed a_asked a_holds a_there a_matches b_kind b_with b_bodyAt → P (f_nodes, f_depth, f_known, f_dues, f_place, f_gifts, f_matched, f_lists, f_steps, f_outcome, f_made, a_name, a_parent, a_lastOf, a_way, a_value, a_axes, a_named, a_kind, a_over, a_ends, a_count, a_num, a_placed, a_asked, a_holds, a_due, a_open, a_there, a_priority, a_given, a_matches, a_stack, a_rest, a_position, a_size, a_at, a_row, a_pc, a_first, a_out, a_large) (g_nodes, g_inner, f_gifts, f_place, g_listed, g_depth, g_row, g_pc, g_node, g_position, g_size, g_fault, f_made, f_steps, a_name, a_parent, a_value, b_kind, b_with, a_count, b_bodyAt, a_priority, a_given, a_there, b_wanted, b_waiting, b_within, b_list, b_left, b_reached, b_sizes, b_each, b_backRow, b_backPc, b_backNode, b_backPosition, b_backSize, a_out)) {u : SX} {v : SY} (I : i_Rel k u v) : P u v := by
  obtain ⟨f_nodes, f_depth, f_known, f_dues, f_place, f_gifts, f_matched, f_lists, f_steps, f_outcome, f_made, a_name, a_parent, a_lastOf, a_way, a_value, a_axes, a_named, a_kind, a_over, a_ends, a_count, a_num, a_placed, a_asked, a_holds, a_due, a_open, a_there, a_priority, a_given, a_matches, a_stack, a_rest, a_position, a_size, a_at, a_row, a_pc, a_first, a_out, a_large⟩ := u
  obtain ⟨g_nodes, g_inner, g_rules, g_place, g_listed, g_depth, g_row, g_pc, g_node, g_position, g_size, g_fault, g_put, g_steps, b_name, b_parent, b_value, b_kind, b_with, b_count, b_bodyAt, b_priority, b_given, b_there, b_wanted, b_waiting, b_within, b_list, b_left, b_reached, b_sizes, b_each, b_backRow, b_backPc, b_backNode, b_backPosition, b_backSize, b_output⟩ := v
  obtain ⟨e0, e1, e2, e3, e4, e5, e6, e7, e8, e9, e10, e11, nn, dep, cnt, F⟩ := I
  subst e0 e1 e2 e3 e4 e5 e6 e7 e8 e9 e10 e11
  exact h _ _ _ _ _ _ _ _ _ _ _ _ _ _ _ _ _ _ _ _ _ _ _ _ _ _ _ _ _ _ _ _ _ _ _ _ _ _ _ _ _ _ _ _ _ _ _ _ _ _ _ _ _ _ _ _ _ _ _ _ _ _ _ _ _ _ _ _ nn dep cnt F
theorem zz_in {k : Nat} {f_nodes f_depth f_known f_dues f_place f_gifts f_matched f_lists f_steps f_outcome f_made : Int32} {a_name a_parent a_lastOf a_way a_value a_axes a_named a_kind a_over a_ends a_count a_num a_placed a_asked a_holds a_due a_open a_there a_priority a_given a_matches a_stack a_rest a_position a_size a_at a_row a_pc a_first a_out a_large : Nat → Int32} {g_nodes g_inner g_listed g_depth g_row g_pc g_node g_position g_size g_fault : Int32} {b_kind b_with b_bodyAt b_wanted b_waiting b_within b_list b_left b_reached b_sizes b_each b_backRow b_backPc b_backNode b_backPosition b_backSize : Nat → Int32} {nn dep : Nat} {cnt : Nat → Nat} (F : rl_F nn dep cnt f_nodes f_depth f_known f_matched g_nodes g_inner a_name a_parent a_lastOf a_way a_value a_axes a_named a_kind a_over a_ends a_count a_num a_placed a_asked a_holds a_there a_matches b_kind b_with b_bodyAt) : i_Rel k (f_nodes, f_depth, f_known, f_dues, f_place, f_gifts, f_matched, f_lists, f_steps, f_outcome, f_made, a_name, a_parent, a_lastOf, a_way, a_value, a_axes, a_named, a_kind, a_over, a_ends, a_count, a_num, a_placed, a_asked, a_holds, a_due, a_open, a_there, a_priority, a_given, a_matches, a_stack, a_rest, a_position, a_size, a_at, a_row, a_pc, a_first, a_out, a_large) (g_nodes, g_inner, f_gifts, f_place, g_listed, g_depth, g_row, g_pc, g_node, g_position, g_size, g_fault, f_made, f_steps, a_name, a_parent, a_value, b_kind, b_with, a_count, b_bodyAt, a_priority, a_given, a_there, b_wanted, b_waiting, b_within, b_list, b_left, b_reached, b_sizes, b_each, b_backRow, b_backPc, b_backNode, b_backPosition, b_backSize, a_out) := ⟨rfl, rfl, rfl, rfl, rfl, rfl, rfl, rfl, rfl, rfl, rfl, rfl, nn, dep, cnt, F⟩
theorem i_vc0 : wpX_init (fun u => wpY_init (fun v => i_Rel 0 u v)) := by
  refine ⟨rfl, rfl, rfl, rfl, rfl, rfl, rfl, rfl, rfl, rfl, rfl, rfl, 0, 0, fun _ => 0, ⟨rfl, rfl, rfl, ⟨by omega, fun n h => by omega⟩, fun n h => by omega, fun n h => by omega, ⟨fun _ => 0, fun k h => by omega⟩, rfl, Or.inl rfl⟩, ⟨fun r _ i _ => ⟨0, by omega, rfl, fun z => by omega⟩, fun _ _ _ _ => ⟨rfl, rfl⟩, fun _ _ => ⟨rfl, Nat.zero_le _⟩⟩, fun r _ => ⟨Or.inl rfl, fun z => absurd (show (0 : Int32) = 1 from z) (by decide)⟩, Or.inl rfl, fun r _ i h => absurd h (Nat.not_lt_zero _)⟩
end
section
/-! calls that change little -/
theorem rl_T7 {kind num kind' num' : Nat → Int32} {r : Nat} (h : ∀ i, i < 30 → kind' (31 * r + i) = kind (31 * r + i) ∧ num' (31 * r + i) = num (31 * r + i)) : xr_T kind' num' r = xr_T kind num r := by
  unfold xr_T
  refine Prod.ext ?_ ?_
  · funext i
    show (if i < 30 then (kind' (31 * r + i)).toNatClampNeg else 0) = (if i < 30 then (kind (31 * r + i)).toNatClampNeg else 0)
    by_cases c : i < 30
    · rw [if_pos c, if_pos c, (h i c).1]
    · rw [if_neg c, if_neg c]
  · funext i
    show (if i < 30 then num' (31 * r + i) else 0) = (if i < 30 then num (31 * r + i) else 0)
    by_cases c : i < 30
    · rw [if_pos c, if_pos c, (h i c).2]
    · rw [if_neg c, if_neg c]
theorem rl_CA0 {D : td_D} {kind num : Nat → Int32} {cnt : Nat → Nat} {asked holds : Nat → Int32} (hc : ∀ r, r < 7 → cnt r ≤ 30) (h : ∀ c, c < 217 → asked c = 0) : xr_CA D kind num cnt asked holds := by
  intro r hr i hi m hm hb
  have := hc r hr
  rw [h (31 * r + i) (by omega), b_0] at hb
  cases hb
theorem xr_SVc {K : Nat → Nat} {n b : Nat} {ov en pl ov' en' pl' : Nat → Int32} (h : ∀ i, i < n → ov' (b + i) = ov (b + i) ∧ en' (b + i) = en (b + i) ∧ pl' (b + i) = pl (b + i)) (hS : xr_SVi K n b 0 ov en pl) : xr_SVi K n b 0 ov' en' pl' := by
  obtain ⟨h1, h2, h3, h4⟩ := hS
  refine ⟨fun its q e hq a b => ?_, fun ps q s hq a b => ?_, fun p c hq a => ?_, fun p e hq a b c => ?_⟩
  · rw [(h q (xv_Nk (m := 0) a b).2).1]; exact h1 its q e hq a b
  · rw [(h q (gm_Slt a b).2.1).1]; exact h2 ps q s hq a b
  · have := a.2.1
    have := a.2.2.1
    rw [(h p (by omega)).1, (h p (by omega)).2.2]; exact h3 p c hq a
  · have := (gm_UL (n := n) (n - (p + 1)) (p + 1) 0 e (by omega) c).2.2.2
    rw [(h p a).1, (h e this).2.1]; exact h4 p e hq a b c
theorem rl_RUc {cnt cnt' : Nat → Nat} {kind num over ends placed there bodyAt kind' num' over' ends' placed' : Nat → Int32} (hR : rl_RU cnt kind num over ends placed there bodyAt) (hc : ∀ r, r < 6 → cnt' r = cnt r) (hc30 : ∀ r, r < 6 → cnt r ≤ 30) (h1 : ∀ c, c < 186 → kind' c = kind c ∧ num' c = num c) (h2 : ∀ c, c < 186 → over' c = over c ∧ ends' c = ends c ∧ placed' c = placed c) : rl_RU cnt' kind' num' over' ends' placed' there bodyAt := by
  intro r hr
  have e : xr_T kind' num' r = xr_T kind num r := rl_T7 (fun i hi => h1 _ (by omega))
  obtain ⟨a, b⟩ := hR r hr
  refine ⟨a, fun z => ?_⟩
  obtain ⟨b1, b2, b3⟩ := b z
  have := hc30 r hr
  rw [e, hc r hr]
  exact ⟨b1, xr_SVc (fun i hi => h2 _ (by omega)) b2, b3⟩
theorem rl_MTc {D : td_D} {cnt cnt' : Nat → Nat} {kind num there mt kind' num' : Nat → Int32} {r : Nat} (hM : rl_MT D cnt kind num there mt r) (hr : r < 6) (hc : cnt' r = cnt r) (h1 : ∀ c, c < 186 → kind' c = kind c ∧ num' c = num c) : rl_MT D cnt' kind' num' there mt r := by
  have e : xr_T kind' num' r = xr_T kind num r := rl_T7 (fun i hi => h1 _ (by omega))
  intro h ps x hS hps
  rw [e, hc] at hS
  rw [e]
  exact hM h ps x hS hps
theorem gm_Wc {K K' : Nat → Nat} : ∀ d m q, (∀ x, q ≤ x → x < q + d → K' x = K x) → gm_W K d m q → gm_W K' d m q := by
  intro d
  induction d with
  | zero => intro m q _ h; exact h
  | succ d ih =>
    intro m q hx h
    rw [gm_W] at h ⊢
    rw [hx q (by omega) (by omega)]
    by_cases c1 : K q = 15
    · rw [if_pos c1] at h ⊢; exact ih _ _ (fun x a b => hx x (by omega) (by omega)) h
    · rw [if_neg c1] at h ⊢
      refine ⟨h.1, ?_⟩
      by_cases c2 : K q ≤ 6
      · rw [if_pos c2] at h ⊢; exact ih _ _ (fun x a b => hx x (by omega) (by omega)) h.2
      · rw [if_neg c2] at h ⊢
        by_cases c3 : K q = 14
        · rw [if_pos c3] at h ⊢; exact ih _ _ (fun x a b => hx x (by omega) (by omega)) h.2
        · rw [if_neg c3] at h ⊢; exact ih _ _ (fun x a b => hx x (by omega) (by omega)) h.2
theorem gm_PBc {K K' : Nat → Nat} {n n' p c : Nat} (hx : ∀ x, x < n → K' x = K x) (hn : n ≤ n') (h : gm_PB K n p c) : gm_PB K' n' p c := by
  obtain ⟨h1, h2, h3, h4, h5, h6⟩ := h
  refine ⟨?_, h2, by omega, ?_, fun x a b => ?_, gm_Wc _ _ _ (fun x a b => hx x (by omega)) h6⟩
  · rw [hx p (by omega)]; exact h1
  · rw [hx c h3]; exact h4
  · rw [hx x (by omega)]; exact h5 x a b
theorem td_plc {D : td_D} {T T' : td_T} {e : Nat} (hx : ∀ x, x < e → T'.1 x = T.1 x ∧ T'.2 x = T.2 x) : ∀ d q set, q + d ≤ e → td_pl D T' d q set = td_pl D T d q set := by
  intro d
  induction d with
  | zero => intro q set _; rfl
  | succ d ih =>
    intro q set h
    rw [td_pl, td_pl, (hx q (by omega)).1, (hx q (by omega)).2, ih (q + 1) _ (by omega)]
theorem td_csc {D : td_D} {T T' : td_T} {e node : Nat} {pos many : Int32} (hx : ∀ x, x < e → T'.1 x = T.1 x ∧ T'.2 x = T.2 x) : ∀ d, d ≤ e → td_cs D T' e node pos many d = td_cs D T e node pos many d := by
  intro d
  induction d with
  | zero => intro _; rfl
  | succ d ih =>
    intro h
    rw [td_cs, td_cs, ih (by omega), (hx (e - 1 - d) (by omega)).1, (hx (e - 1 - d) (by omega)).2, td_plc hx d (e - d) _ (by omega)]
theorem td_cvc {D : td_D} {T T' : td_T} {p e node : Nat} {pos many : Int32} (hx : ∀ x, x < e → T'.1 x = T.1 x ∧ T'.2 x = T.2 x) : td_cv D T' p e node pos many = td_cv D T p e node pos many := by
  unfold td_cv
  rw [td_csc hx (e - 1 - p) (by omega)]
section
variable {f_nodes f_depth f_known f_dues f_place f_gifts f_matched f_lists f_steps f_outcome f_made : Int32} {a_name a_parent a_lastOf a_way a_value a_axes a_named a_kind a_over a_ends a_count a_num a_placed a_asked a_holds a_due a_open a_there a_priority a_given a_matches a_stack a_rest a_position a_size a_at a_row a_pc a_first a_out a_large : Nat → Int32}
theorem xm_12 {post : SX → Prop} (hp : ∀ as', (∀ c, c < 217 → as' c = 0) → post (f_nodes, f_depth, f_known, f_dues, f_place, f_gifts, f_matched, f_lists, f_steps, f_outcome, f_made, a_name, a_parent, a_lastOf, a_way, a_value, a_axes, a_named, a_kind, a_over, a_ends, a_count, a_num, a_placed, as', a_holds, a_due, a_open, a_there, a_priority, a_given, a_matches, a_stack, a_rest, a_position, a_size, a_at, a_row, a_pc, a_first, a_out, a_large)) : ∀ d i as, i + d = 217 → (∀ c, c < i → as c = 0) → wX_changed_12 post f_nodes f_depth f_known f_dues f_place f_gifts f_matched f_lists f_steps f_outcome f_made (d + 1) (nI i) a_name a_parent a_lastOf a_way a_value a_axes a_named a_kind a_over a_ends a_count a_num a_placed as a_holds a_due a_open a_there a_priority a_given a_matches a_stack a_rest a_position a_size a_at a_row a_pc a_first a_out a_large := by
  intro d
  induction d with
  | zero =>
    intro i as hi h
    exact br_t (nI_le (a := 217) (by omega) (by omega)) (hp as (fun c hc => h c (by omega)))
  | succ d ih =>
    intro i as hi h
    refine br_f (nI_ge (b := 217) (by omega) (by omega)) ⟨vp_in_nI (by omega) (by omega), ?_⟩
    rw [nI_clamp (by omega)]
    refine nm_e (nm_r (nI_1 i) (ih (i + 1) _ (by omega) (fun c hc => ?_)))
    by_cases e : c = i
    · subst e; exact pk_us
    · rw [pk_un e]; exact h c (by omega)
theorem xm_changed {post : SX → Prop} (hp : ∀ as', (∀ c, c < 217 → as' c = 0) → post (f_nodes, f_depth, 0, f_dues, f_place, f_gifts, 0, f_lists, f_steps, f_outcome, f_made, a_name, a_parent, a_lastOf, a_way, a_value, a_axes, a_named, a_kind, a_over, a_ends, a_count, a_num, a_placed, as', a_holds, a_due, a_open, a_there, a_priority, a_given, a_matches, a_stack, a_rest, a_position, a_size, a_at, a_row, a_pc, a_first, a_out, a_large)) : wpX_changed post (f_nodes, f_depth, f_known, f_dues, f_place, f_gifts, f_matched, f_lists, f_steps, f_outcome, f_made, a_name, a_parent, a_lastOf, a_way, a_value, a_axes, a_named, a_kind, a_over, a_ends, a_count, a_num, a_placed, a_asked, a_holds, a_due, a_open, a_there, a_priority, a_given, a_matches, a_stack, a_rest, a_position, a_size, a_at, a_row, a_pc, a_first, a_out, a_large) := ⟨218, xm_12 (f_known := 0) (f_matched := 0) hp 217 0 a_asked (by omega) (fun c hc => by omega)⟩
end
theorem i_vc_place {k : Nat} {u : SX} {v : SY} (I : i_Rel k u v) (hk : k + 4 ≤ 2048) : wpX_place (fun r => wpY_place (fun r' => r' = r ∧ i_Rel (k + 4) u v) v) u := by
  refine zz_el (P := fun u v => wpX_place (fun r => wpY_place (fun r' => r' = r ∧ i_Rel (k + 4) u v) v) u) ?_ I
  intro f_nodes f_depth f_known f_dues f_place f_gifts f_matched f_lists f_steps f_outcome f_made a_name a_parent a_lastOf a_way a_value a_axes a_named a_kind a_over a_ends a_count a_num a_placed a_asked a_holds a_due a_open a_there a_priority a_given a_matches a_stack a_rest a_position a_size a_at a_row a_pc a_first a_out a_large g_nodes g_inner g_listed g_depth g_row g_pc g_node g_position g_size g_fault b_kind b_with b_bodyAt b_wanted b_waiting b_within b_list b_left b_reached b_sizes b_each b_backRow b_backPc b_backNode b_backPosition b_backSize nn dep cnt F
  exact ⟨rfl, zz_in F⟩
theorem i_vc_size {k : Nat} {u : SX} {v : SY} (I : i_Rel k u v) (hk : k + 4 ≤ 2048) : wpX_size (fun r => wpY_size (fun r' => r' = r ∧ i_Rel (k + 4) u v) v) u := by
  refine zz_el (P := fun u v => wpX_size (fun r => wpY_size (fun r' => r' = r ∧ i_Rel (k + 4) u v) v) u) ?_ I
  intro f_nodes f_depth f_known f_dues f_place f_gifts f_matched f_lists f_steps f_outcome f_made a_name a_parent a_lastOf a_way a_value a_axes a_named a_kind a_over a_ends a_count a_num a_placed a_asked a_holds a_due a_open a_there a_priority a_given a_matches a_stack a_rest a_position a_size a_at a_row a_pc a_first a_out a_large g_nodes g_inner g_listed g_depth g_row g_pc g_node g_position g_size g_fault b_kind b_with b_bodyAt b_wanted b_waiting b_within b_list b_left b_reached b_sizes b_each b_backRow b_backPc b_backNode b_backPosition b_backSize nn dep cnt F
  exact ⟨rfl, zz_in F⟩
theorem i_vc_steps {k : Nat} {u : SX} {v : SY} (I : i_Rel k u v) (hk : k + 4 ≤ 2048) : wpX_steps (fun r => wpY_steps (fun r' => r' = r ∧ i_Rel (k + 4) u v) v) u := by
  refine zz_el (P := fun u v => wpX_steps (fun r => wpY_steps (fun r' => r' = r ∧ i_Rel (k + 4) u v) v) u) ?_ I
  intro f_nodes f_depth f_known f_dues f_place f_gifts f_matched f_lists f_steps f_outcome f_made a_name a_parent a_lastOf a_way a_value a_axes a_named a_kind a_over a_ends a_count a_num a_placed a_asked a_holds a_due a_open a_there a_priority a_given a_matches a_stack a_rest a_position a_size a_at a_row a_pc a_first a_out a_large g_nodes g_inner g_listed g_depth g_row g_pc g_node g_position g_size g_fault b_kind b_with b_bodyAt b_wanted b_waiting b_within b_list b_left b_reached b_sizes b_each b_backRow b_backPc b_backNode b_backPosition b_backSize nn dep cnt F
  exact ⟨rfl, zz_in F⟩
theorem i_vc_output {k : Nat} {u : SX} {v : SY} (I : i_Rel k u v) (hk : k + 4 ≤ 2048) (v1 : Int32) : wpX_output (fun r => wpY_output (fun r' => r' = r ∧ i_Rel (k + 4) u v) v v1) u v1 := by
  refine zz_el (P := fun u v => wpX_output (fun r => wpY_output (fun r' => r' = r ∧ i_Rel (k + 4) u v) v v1) u v1) ?_ I
  intro f_nodes f_depth f_known f_dues f_place f_gifts f_matched f_lists f_steps f_outcome f_made a_name a_parent a_lastOf a_way a_value a_axes a_named a_kind a_over a_ends a_count a_num a_placed a_asked a_holds a_due a_open a_there a_priority a_given a_matches a_stack a_rest a_position a_size a_at a_row a_pc a_first a_out a_large g_nodes g_inner g_listed g_depth g_row g_pc g_node g_position g_size g_fault b_kind b_with b_bodyAt b_wanted b_waiting b_within b_list b_left b_reached b_sizes b_each b_backRow b_backPc b_backNode b_backPosition b_backSize nn dep cnt F
  rcases pk_ix v1 (n := 60) (by omega) with z | z | ⟨j, hj, rfl⟩
  · exact br_t z (br_t z (br_f (by decide) ⟨rfl, zz_in F⟩))
  · have h0 : ¬ v1 < 0 := fun w => absurd (Int32.lt_of_le_of_lt z w) (by decide)
    have h1 : (59 : Int32) < v1 := Int32.lt_of_lt_of_le (show (59 : Int32) < nI 60 by decide) z
    have h2 : ¬ v1 < 60 := Int32.not_lt.mpr z
    exact br_f h0 (br_t h1 (br_f h0 (br_f h2 (br_f (by decide) ⟨rfl, zz_in F⟩))))
  · refine br_f (nI_pos (by omega)) (br_f (nI_nlt (a := 59) (by omega) (by omega)) (br_c (fun z => ⟨vp_in_nI (by omega) (by omega), ?_⟩) (fun z => ?_)))
    · exact br_f (nI_pos (by omega)) (br_t (nI_lt (b := 60) (by omega) (by omega)) (br_t rfl (br_t z ⟨vp_in_nI (by omega) (by omega), rfl, zz_in F⟩)))
    · exact br_f (nI_pos (by omega)) (br_t (nI_lt (b := 60) (by omega) (by omega)) (br_t rfl (br_f z ⟨rfl, zz_in F⟩)))
theorem i_vc_close {k : Nat} {u : SX} {v : SY} (I : i_Rel k u v) (hk : k + 4 ≤ 2048) : wpX_close (fun r u' => wpY_close (fun r' v' => r' = r ∧ i_Rel (k + 4) u' v') v) u := by
  refine zz_el (P := fun u v => wpX_close (fun r u' => wpY_close (fun r' v' => r' = r ∧ i_Rel (k + 4) u' v') v) u) ?_ I
  intro f_nodes f_depth f_known f_dues f_place f_gifts f_matched f_lists f_steps f_outcome f_made a_name a_parent a_lastOf a_way a_value a_axes a_named a_kind a_over a_ends a_count a_num a_placed a_asked a_holds a_due a_open a_there a_priority a_given a_matches a_stack a_rest a_position a_size a_at a_row a_pc a_first a_out a_large g_nodes g_inner g_listed g_depth g_row g_pc g_node g_position g_size g_fault b_kind b_with b_bodyAt b_wanted b_waiting b_within b_list b_left b_reached b_sizes b_each b_backRow b_backPc b_backNode b_backPosition b_backSize nn dep cnt F
  have F2 := F
  obtain ⟨⟨f1, f2, f3, hP, hN, hL, hW, f8, hkn⟩, hrest⟩ := F
  have h24 := hP.1
  cases dep with
  | zero =>
    refine br_t f3 ?_
    rw [if_pos rfl] at f8
    refine br_f (by rw [f8]; decide) ⟨rfl, zz_in F2⟩
  | succ dep =>
    have hW2 := hW
    obtain ⟨wy, hw⟩ := hW
    obtain ⟨w1, w2, w3, w4, w5, w6⟩ := hw dep (by omega)
    rw [if_neg (by omega), Nat.add_sub_cancel, w1] at f8
    subst f3 f8
    refine br_f (nI_ne0 (by omega) (by omega)) (nm_r (nI_pred _) ⟨vp_in_nI (by omega) (by omega), ?_⟩)
    rw [nI_clamp (by omega), w1]
    refine br_t (nI_pos' (by omega)) ⟨vp_in_nI (by omega) (by omega), ?_⟩
    rw [nI_clamp (by omega)]
    refine nm_e ⟨rfl, zz_in (nn := nn) (dep := dep) (cnt := cnt) ⟨⟨f1, f2, rfl, hP, hN, hL, ⟨wy, fun j hj => hw j (by omega)⟩, ?_, hkn⟩, hrest⟩⟩
    by_cases c : dep = 0
    · rw [if_pos c]
      rcases hP.2 (wy dep) w3 with ⟨_, e⟩ | ⟨e, _⟩
      · exact e
      · have := w5 c; omega
    · rw [if_neg c, (w6 (by omega)).2, (hw (dep - 1) (by omega)).1]
theorem i_vc_clear {k : Nat} {u : SX} {v : SY} (I : i_Rel k u v) (hk : k + 4 ≤ 2048) : wpX_clear (fun r u' => wpY_clear (fun r' v' => r' = r ∧ i_Rel (k + 4) u' v') v) u := by
  refine zz_el (P := fun u v => wpX_clear (fun r u' => wpY_clear (fun r' v' => r' = r ∧ i_Rel (k + 4) u' v') v) u) ?_ I
  intro f_nodes f_depth f_known f_dues f_place f_gifts f_matched f_lists f_steps f_outcome f_made a_name a_parent a_lastOf a_way a_value a_axes a_named a_kind a_over a_ends a_count a_num a_placed a_asked a_holds a_due a_open a_there a_priority a_given a_matches a_stack a_rest a_position a_size a_at a_row a_pc a_first a_out a_large g_nodes g_inner g_listed g_depth g_row g_pc g_node g_position g_size g_fault b_kind b_with b_bodyAt b_wanted b_waiting b_within b_list b_left b_reached b_sizes b_each b_backRow b_backPc b_backNode b_backPosition b_backSize nn dep cnt F
  obtain ⟨⟨f1, f2, f3, hP, hN, hL, hW, f8, hkn⟩, ⟨hK, hKY, hcn⟩, hR, hM, hC⟩ := F
  unfold wpX_clear
  dsimp only
  refine xm_changed (fun as' h0 => ?_)
  refine ⟨f2.trans f1.symm, zz_in (nn := 0) (dep := 0) (cnt := cnt) ⟨⟨rfl, rfl, rfl, ⟨by omega, fun n h => by omega⟩, fun n h => by omega, fun n h => by omega, ⟨fun _ => 0, fun k h => by omega⟩, rfl, Or.inl rfl⟩, ⟨hK, hKY, hcn⟩, hR, Or.inl rfl, rl_CA0 (fun r hr => (hcn r hr).2) h0⟩⟩
theorem i_vc_wipe {k : Nat} {u : SX} {v : SY} (I : i_Rel k u v) (hk : k + 4 ≤ 2048) : wpX_wipe (fun r u' => wpY_wipe (fun r' v' => r' = r ∧ i_Rel (k + 4) u' v') v) u := by
  refine zz_el (P := fun u v => wpX_wipe (fun r u' => wpY_wipe (fun r' v' => r' = r ∧ i_Rel (k + 4) u' v') v) u) ?_ I
  intro f_nodes f_depth f_known f_dues f_place f_gifts f_matched f_lists f_steps f_outcome f_made a_name a_parent a_lastOf a_way a_value a_axes a_named a_kind a_over a_ends a_count a_num a_placed a_asked a_holds a_due a_open a_there a_priority a_given a_matches a_stack a_rest a_position a_size a_at a_row a_pc a_first a_out a_large g_nodes g_inner g_listed g_depth g_row g_pc g_node g_position g_size g_fault b_kind b_with b_bodyAt b_wanted b_waiting b_within b_list b_left b_reached b_sizes b_each b_backRow b_backPc b_backNode b_backPosition b_backSize nn dep cnt F
  obtain ⟨hD, ⟨hK, hKY, hcn⟩, hR, hM, hC⟩ := F
  have h6 : ∀ r, r < 6 → (fun r => if r = 6 then 0 else cnt r) r = cnt r := fun r hr => if_neg (by omega)
  refine nm_e (nm_e (nm_e (nm_e ⟨rfl, zz_in (nn := nn) (dep := dep) (cnt := fun r => if r = 6 then 0 else cnt r) ⟨hD, ⟨hK, hKY, fun r hr => ?_⟩, rl_RUc hR h6 (fun r hr => (hcn r (by omega)).2) (fun _ _ => ⟨rfl, rfl⟩) (fun _ _ => ⟨rfl, rfl, rfl⟩), ?_, ?_⟩⟩)))
  · by_cases c : r = 6
    · subst c
      rw [pk_us]
      exact ⟨rfl, Nat.zero_le _⟩
    · rw [pk_un c]
      show _ = nI (if r = 6 then 0 else cnt r) ∧ (if r = 6 then 0 else cnt r) ≤ 30
      rw [if_neg c]
      exact hcn r hr
  · rcases hM with z | ⟨z, hM⟩
    · exact Or.inl z
    · exact Or.inr ⟨z, fun r hr => rl_MTc (hM r hr) hr (h6 r hr) (fun _ _ => ⟨rfl, rfl⟩)⟩
  · intro r hr i hi m hm hb
    by_cases c : r = 6
    · subst c
      exact absurd hi (Nat.not_lt_zero _)
    · have e : (if r = 6 then 0 else cnt r) = cnt r := if_neg c
      have hi : i < (if r = 6 then 0 else cnt r) := hi
      rw [e] at hi
      show _ ∧ ∃ e, gm_PB _ (if r = 6 then 0 else cnt r) i e ∧ _
      rw [e]
      exact hC r hr i hi m hm hb
theorem i_vc_drop {k : Nat} {u : SX} {v : SY} (I : i_Rel k u v) (hk : k + 4 ≤ 2048) (v1 : Int32) : wpX_drop (fun r u' => wpY_drop (fun r' v' => r' = r ∧ i_Rel (k + 4) u' v') v v1) u v1 := by
  refine zz_el (P := fun u v => wpX_drop (fun r u' => wpY_drop (fun r' v' => r' = r ∧ i_Rel (k + 4) u' v') v v1) u v1) ?_ I
  intro f_nodes f_depth f_known f_dues f_place f_gifts f_matched f_lists f_steps f_outcome f_made a_name a_parent a_lastOf a_way a_value a_axes a_named a_kind a_over a_ends a_count a_num a_placed a_asked a_holds a_due a_open a_there a_priority a_given a_matches a_stack a_rest a_position a_size a_at a_row a_pc a_first a_out a_large g_nodes g_inner g_listed g_depth g_row g_pc g_node g_position g_size g_fault b_kind b_with b_bodyAt b_wanted b_waiting b_within b_list b_left b_reached b_sizes b_each b_backRow b_backPc b_backNode b_backPosition b_backSize nn dep cnt F
  rcases pk_ix v1 (n := 6) (by omega) with z | z | ⟨j, hj, rfl⟩
  · exact br_t z (br_t z (br_f (by decide) ⟨rfl, zz_in F⟩))
  · have h0 : ¬ v1 < 0 := fun w => absurd (Int32.lt_of_le_of_lt z w) (by decide)
    have h1 : (5 : Int32) < v1 := Int32.lt_of_lt_of_le (show (5 : Int32) < nI 6 by decide) z
    have h2 : ¬ v1 < 6 := Int32.not_lt.mpr z
    exact br_f h0 (br_t h1 (br_f h0 (br_f h2 (br_f (by decide) ⟨rfl, zz_in F⟩))))
  · have F2 := F
    obtain ⟨hD, ⟨hK, hKY, hcn⟩, hR, hM, hC⟩ := F
    refine br_f (nI_pos (by omega)) (br_f (nI_nlt (a := 5) (by omega) (by omega)) ⟨vp_in_nI (by omega) (by omega), ?_⟩)
    rw [nI_clamp (by omega)]
    refine br_c (fun z => ?_) (fun z => ⟨vp_in_nI (by omega) (by omega), nm_e ?_⟩)
    · refine br_f (nI_pos (by omega)) (br_t (nI_lt (b := 6) (by omega) (by omega)) (br_t rfl ⟨vp_in_nI (by omega) (by omega), ?_⟩))
      rw [nI_clamp (by omega)]
      exact br_t z ⟨rfl, zz_in F2⟩
    · refine br_f (nI_pos (by omega)) (br_t (nI_lt (b := 6) (by omega) (by omega)) (br_t rfl ⟨vp_in_nI (by omega) (by omega), ?_⟩))
      rw [nI_clamp (by omega)]
      refine br_f z ⟨vp_in_nI (by omega) (by omega), nm_e ⟨rfl, zz_in (nn := nn) (dep := dep) (cnt := cnt) ⟨hD, ⟨hK, hKY, hcn⟩, ?_, Or.inl rfl, hC⟩⟩⟩
      intro r hr
      by_cases c : r = j
      · subst c
        rw [pk_us]
        exact ⟨Or.inl rfl, fun w => absurd w (by decide)⟩
      · rw [pk_un c]
        exact hR r hr
theorem i_vc_relabel {k : Nat} {u : SX} {v : SY} (I : i_Rel k u v) (hk : k + 4 ≤ 2048) (v1 : Int32) (v2 : Int32) (v3 : Int32) : wpX_relabel (fun r u' => wpY_relabel (fun r' v' => r' = r ∧ i_Rel (k + 4) u' v') v v1 v2 v3) u v1 v2 v3 := by
  refine zz_el (P := fun u v => wpX_relabel (fun r u' => wpY_relabel (fun r' v' => r' = r ∧ i_Rel (k + 4) u' v') v v1 v2 v3) u v1 v2 v3) ?_ I
  intro f_nodes f_depth f_known f_dues f_place f_gifts f_matched f_lists f_steps f_outcome f_made a_name a_parent a_lastOf a_way a_value a_axes a_named a_kind a_over a_ends a_count a_num a_placed a_asked a_holds a_due a_open a_there a_priority a_given a_matches a_stack a_rest a_position a_size a_at a_row a_pc a_first a_out a_large g_nodes g_inner g_listed g_depth g_row g_pc g_node g_position g_size g_fault b_kind b_with b_bodyAt b_wanted b_waiting b_within b_list b_left b_reached b_sizes b_each b_backRow b_backPc b_backNode b_backPosition b_backSize nn dep cnt F
  have F2 := F
  obtain ⟨⟨f1, f2, f3, hP, hN, hL, hW, f8, hkn⟩, ⟨hK, hKY, hcn⟩, hR, hM, hC⟩ := F
  have h24 := hP.1
  subst f1 f2
  unfold wpX_relabel wpX_isNode wpY_relabel wpY_out
  dsimp only
  rcases pk_ix v1 (n := nn) (by omega) with z | z | ⟨j, hj, rfl⟩
  · exact br_t z (br_t rfl (br_t z (br_f (by decide) ⟨rfl, zz_in F2⟩)))
  · have h0 : ¬ v1 < 0 := fun w => absurd (Int32.lt_of_le_of_lt z w) (Int32.not_lt.mpr (nI_pos' (by omega)))
    exact br_f h0 (br_t z (br_t rfl (br_f h0 (br_f (Int32.not_lt.mpr z) (br_f (by decide) ⟨rfl, zz_in F2⟩)))))
  · refine br_f (nI_pos (by omega)) (br_f (nI_ge hj (by omega)) (br_f (by decide) ?_))
    rcases pk_ix v2 (n := 6) (by omega) with z | z | ⟨t, ht, rfl⟩
    · refine br_t z (br_f (nI_pos (by omega)) (br_t (nI_lt hj (by omega)) (br_t rfl (br_t z (br_f (by decide) ⟨rfl, zz_in F2⟩)))))
    · have h0 : ¬ v2 < 0 := fun w => absurd (Int32.lt_of_le_of_lt z w) (by decide)
      have h1 : ¬ v2 ≤ 5 := fun w => absurd (Int32.le_trans z w) (by decide)
      exact br_f h0 (br_f h1 (br_f (nI_pos (by omega)) (br_t (nI_lt hj (by omega)) (br_t rfl (br_f h0 (br_f (Int32.not_lt.mpr z) (br_f (by decide) ⟨rfl, zz_in F2⟩)))))))
    · refine br_f (nI_pos (by omega)) (br_t (nI_le (b := 5) (by omega) (by omega)) ⟨vp_in_nI (by omega) (by omega), ?_⟩)
      rw [nI_clamp (by omega), nb_3 (by omega)]
      refine nm_e ⟨vp_in_nI (by omega) (by omega), nm_e ?_⟩
      refine xm_changed (fun as' h0 => ?_)
      refine br_f (nI_pos (by omega)) (br_t (nI_lt hj (by omega)) (br_t rfl (br_f (nI_pos (by omega)) (br_t (nI_lt (b := 6) (by omega) (by omega)) (br_t rfl ⟨vp_in_nI (by omega) (by omega), nm_e ⟨vp_in_nI (by omega) (by omega), nm_e ⟨rfl, zz_in (nn := nn) (dep := dep) (cnt := cnt) ⟨⟨rfl, rfl, f3, hP, ?_, hL, hW, f8, Or.inl rfl⟩, ⟨hK, hKY, hcn⟩, hR, Or.inl rfl, rl_CA0 (fun r hr => (hcn r hr).2) h0⟩⟩⟩⟩)))))
      intro n hn
      by_cases c : n = j
      · subst c; exact ⟨t, ht, pk_us⟩
      · obtain ⟨t', h1, h2⟩ := hN n hn
        exact ⟨t', h1, (pk_un c).trans h2⟩
end
section
/-! a node is opened; a token is put -/
theorem td_anc {nn dep : Nat} {par way la : Nat → Int32} {wy : Nat → Nat} (hP : td_P nn par) (hw : ∀ k, k < dep → way k = nI (wy k) ∧ k ≤ wy k ∧ wy k < nn ∧ la (wy k) = nI (nn - 1) ∧ (k = 0 → wy k = 0) ∧ (0 < k → wy (k - 1) < wy k ∧ par (wy k) = nI (wy (k - 1)))) (a : Nat) : ∀ k, k < dep → (td_A par a (wy k) = true ↔ ∃ j, j < k ∧ wy j = a) := by
  intro k
  induction k with
  | zero =>
    intro h
    obtain ⟨_, _, h3, _, h5, _⟩ := hw 0 h
    have e0 := h5 rfl
    have : par (wy 0) = -1 := by
      rcases hP.2 (wy 0) h3 with ⟨_, e⟩ | ⟨e, _⟩
      · exact e
      · omega
    rw [td_A0 (nn := nn) this]
    exact ⟨fun z => absurd z (by decide), fun ⟨j, hj, _⟩ => by omega⟩
  | succ k ih =>
    intro h
    obtain ⟨_, _, h3, _, _, h6⟩ := hw (k + 1) h
    obtain ⟨g1, g2⟩ := h6 (by omega)
    rw [Nat.add_sub_cancel] at g1 g2
    rw [td_As hP h3 g1 g2, Bool.or_eq_true, decide_eq_true_eq, ih (by omega)]
    constructor
    · rintro (z | ⟨j, hj, z⟩)
      · exact ⟨k, by omega, z⟩
      · exact ⟨j, by omega, z⟩
    · rintro ⟨j, hj, z⟩
      by_cases c : j = k
      · subst c; exact Or.inl z
      · exact Or.inr ⟨j, by omega, z⟩
theorem td_open {nn dep : Nat} {par la way la' : Nat → Int32} {pv : Int32} {wy : Nat → Nat} (hP : td_P nn par) (hL : td_L nn par la) (hw : ∀ k, k < dep → way k = nI (wy k) ∧ k ≤ wy k ∧ wy k < nn ∧ la (wy k) = nI (nn - 1) ∧ (k = 0 → wy k = 0) ∧ (0 < k → wy (k - 1) < wy k ∧ par (wy k) = nI (wy (k - 1)))) (hn : nn < 24) (hd : dep = 0 → nn = 0) (hpv : pv = if dep = 0 then -1 else nI (wy (dep - 1))) (h1 : ∀ k, k < dep → la' (wy k) = nI nn) (h2 : ∀ n, (∀ k, k < dep → wy k ≠ n) → la' n = la n) : td_P (nn + 1) (upd par nn pv) ∧ td_L (nn + 1) (upd par nn pv) (upd la' nn (nI nn)) ∧ td_W (nn + 1) (dep + 1) (upd par nn pv) (upd la' nn (nI nn)) (upd way dep (nI nn)) := by
  have hP' : td_P (nn + 1) (upd par nn pv) := by
    refine ⟨by omega, fun n h => ?_⟩
    by_cases c : n = nn
    · subst c
      rw [pk_us, hpv]
      by_cases d : dep = 0
      · rw [if_pos d]; exact Or.inl ⟨hd d, rfl⟩
      · rw [if_neg d]
        have := (hw (dep - 1) (by omega)).2.2.1
        exact Or.inr ⟨by omega, wy (dep - 1), this, rfl⟩
    · rw [pk_un c]; exact hP.2 n (by omega)
  have hold : ∀ a m, m < nn → td_A (upd par nn pv) a m = td_A par a m := fun a m hm => td_Ac hP hm (fun i hi => pk_un (by omega))
  have hnew : ∀ a, td_A (upd par nn pv) a nn = true ↔ ∃ k, k < dep ∧ wy k = a := by
    intro a
    by_cases d : dep = 0
    · rw [td_A0 (nn := nn) (by rw [pk_us, hpv, if_pos d])]
      exact ⟨fun z => absurd z (by decide), fun ⟨j, hj, _⟩ => by omega⟩
    · have hq := (hw (dep - 1) (by omega)).2.2.1
      rw [td_As hP' (show nn < nn + 1 by omega) hq (by rw [pk_us, hpv, if_neg d]), hold a _ hq, Bool.or_eq_true, decide_eq_true_eq, td_anc hP hw a (dep - 1) (by omega)]
      constructor
      · rintro (z | ⟨j, hj, z⟩)
        · exact ⟨dep - 1, by omega, z⟩
        · exact ⟨j, by omega, z⟩
      · rintro ⟨j, hj, z⟩
        by_cases c : j = dep - 1
        · subst c; exact Or.inl z
        · exact Or.inr ⟨j, by omega, z⟩
  have hnewF : ∀ a, (¬ ∃ k, k < dep ∧ wy k = a) → td_A (upd par nn pv) a nn = false := by
    intro a h
    cases z : td_A (upd par nn pv) a nn with
    | false => rfl
    | true => exact (h ((hnew a).mp z)).elim
  refine ⟨hP', ?_, ?_⟩
  · intro n h
    by_cases c : n = nn
    · subst c
      refine ⟨n, Nat.le_refl _, by omega, pk_us, fun m hm => ?_⟩
      rw [decide_eq_false (show ¬ n < m by omega), Bool.false_and]
      cases z : td_A (upd par n pv) n m with
      | false => rfl
      | true => have := td_Alt hP' m hm z; omega
    · rw [pk_un c]
      obtain ⟨l, l1, l2, l3, l4⟩ := hL n (by omega)
      by_cases w : ∃ k, k < dep ∧ wy k = n
      · have w' := w
        obtain ⟨k, hk, e⟩ := w
        have e1 := h1 k hk
        rw [e] at e1
        have e2 := (hw k hk).2.2.2.1
        rw [e, l3, nI_eq (by omega) (by omega)] at e2
        refine ⟨nn, by omega, by omega, e1, fun m hm => ?_⟩
        by_cases cm : m = nn
        · subst cm
          rw [(hnew n).mpr w', decide_eq_true (show n < m by omega), decide_eq_true (Nat.le_refl m)]; rfl
        · rw [hold n m (by omega), l4 m (by omega), decide_eq_true (show m ≤ l by omega), decide_eq_true (show m ≤ nn by omega)]
      · refine ⟨l, l1, by omega, (h2 n (fun k hk e => w ⟨k, hk, e⟩)).trans l3, fun m hm => ?_⟩
        by_cases cm : m = nn
        · subst cm
          rw [hnewF n w, decide_eq_false (show ¬ m ≤ l by omega), Bool.and_false]
        · rw [hold n m (by omega), l4 m (by omega)]
  · refine ⟨fun k => if k = dep then nn else wy k, fun k hk => ?_⟩
    by_cases c : k = dep
    · subst c
      simp only [if_pos]
      rw [pk_us, pk_us]
      by_cases d : k = 0
      · exact ⟨rfl, by omega, by omega, by rw [Nat.add_sub_cancel], fun _ => hd d, fun z => by omega⟩
      · obtain ⟨_, g2, g3, _⟩ := hw (k - 1) (by omega)
        refine ⟨rfl, by omega, by omega, by rw [Nat.add_sub_cancel], fun z => (d z).elim, fun _ => ?_⟩
        rw [if_neg (by omega), pk_us, hpv, if_neg d]
        exact ⟨g3, rfl⟩
    · obtain ⟨g1, g2, g3, g4, g5, g6⟩ := hw k (by omega)
      simp only [if_neg c]
      rw [pk_un c, pk_un (by omega), h1 k (by omega)]
      refine ⟨g1, g2, by omega, by rw [Nat.add_sub_cancel], g5, fun z => ?_⟩
      rw [if_neg (by omega), pk_un (by omega)]
      exact g6 z
section
variable {f_nodes f_depth f_known f_dues f_place f_gifts f_matched f_lists f_steps f_outcome f_made : Int32} {a_name a_parent a_lastOf a_way a_value a_axes a_named a_kind a_over a_ends a_count a_num a_placed a_asked a_holds a_due a_open a_there a_priority a_given a_matches a_stack a_rest a_position a_size a_at a_row a_pc a_first a_out a_large : Nat → Int32}
theorem xo_88 {post : Int32 → SX → Prop} {nn dep : Nat} {wy : Nat → Nat} (hn : f_nodes = nI nn) (hd : f_depth = nI dep) (hw : ∀ k, k < dep → a_way k = nI (wy k) ∧ wy k < nn) (h24 : nn < 24) (hdn : dep ≤ nn) (hp : ∀ la as, (∀ k, k < dep → la (wy k) = nI nn) → (∀ n, (∀ k, k < dep → wy k ≠ n) → la n = a_lastOf n) → (∀ c, c < 217 → as c = 0) → post (nI nn) (nI (nn + 1), nI (dep + 1), 0, f_dues, f_place, f_gifts, 0, f_lists, f_steps, f_outcome, f_made, a_name, a_parent, (upd la nn (nI nn)), (upd a_way dep (nI nn)), a_value, a_axes, a_named, a_kind, a_over, a_ends, a_count, a_num, a_placed, as, a_holds, a_due, a_open, a_there, a_priority, a_given, a_matches, a_stack, a_rest, a_position, a_size, a_at, a_row, a_pc, a_first, a_out, a_large)) : ∀ d i la, i + d = dep → (∀ k, k < i → la (wy k) = nI nn) → (∀ n, (∀ k, k < i → wy k ≠ n) → la n = a_lastOf n) → wX_open_88 post f_nodes f_depth f_known f_dues f_place f_gifts f_matched f_lists f_steps f_outcome f_made (d + 1) (nI i) a_name a_parent la a_way a_value a_axes a_named a_kind a_over a_ends a_count a_num a_placed a_asked a_holds a_due a_open a_there a_priority a_given a_matches a_stack a_rest a_position a_size a_at a_row a_pc a_first a_out a_large := by
  subst hn hd
  intro d
  induction d with
  | zero =>
    intro i la hi h1 h2
    rw [show i = dep by omega] at h1 h2
    refine br_t (nI_le (by omega) (by omega)) ⟨vp_in_nI (by omega) (by omega), ?_⟩
    rw [nI_clamp (by omega), nb_3 (by omega)]
    refine nm_e (nm_r (nI_1 _) ⟨vp_in_nI (by omega) (by omega), ?_⟩)
    rw [nI_clamp (by omega)]
    exact nm_e (xm_changed (fun as h0 => nm_r (nI_1 nn) (hp la as h1 h2 h0)))
  | succ d ih =>
    intro i la hi h1 h2
    obtain ⟨g1, g2⟩ := hw i (by omega)
    refine br_f (nI_ge (by omega) (by omega)) ⟨vp_in_nI (by omega) (by omega), ?_⟩
    rw [nI_clamp (by omega), g1]
    refine ⟨vp_in_nI (by omega) (by omega), ?_⟩
    rw [nI_clamp (by omega), nb_3 (by omega)]
    refine nm_e (nm_r (nI_1 i) (ih (i + 1) _ (by omega) (fun k hk => ?_) (fun n h => ?_)))
    · by_cases c : wy k = wy i
      · rw [c, pk_us]
      · rw [pk_un c]
        exact h1 k (by
          by_cases e : k = i
          · subst e; exact (c rfl).elim
          · omega)
    · rw [pk_un (fun z => h i (by omega) z.symm)]
      exact h2 n (fun k hk => h k (by omega))
end
theorem xo_m1 : vp_nar .byte (-1) = -1 := by rw [vp_nar_byte]; decide
theorem xo_m2 : vp_nar .byte ((-1 : Int32).toInt8.toInt32) = -1 := by rw [vp_nar_byte]; decide
theorem i_vc_open {k : Nat} {u : SX} {v : SY} (I : i_Rel k u v) (hk : k + 4 ≤ 2048) (v1 : Int32) (v2 : Int32) : wpX_open (fun r u' => wpY_open (fun r' v' => r' = r ∧ i_Rel (k + 4) u' v') v v1 v2) u v1 v2 := by
  refine zz_el (P := fun u v => wpX_open (fun r u' => wpY_open (fun r' v' => r' = r ∧ i_Rel (k + 4) u' v') v v1 v2) u v1 v2) ?_ I
  intro f_nodes f_depth f_known f_dues f_place f_gifts f_matched f_lists f_steps f_outcome f_made a_name a_parent a_lastOf a_way a_value a_axes a_named a_kind a_over a_ends a_count a_num a_placed a_asked a_holds a_due a_open a_there a_priority a_given a_matches a_stack a_rest a_position a_size a_at a_row a_pc a_first a_out a_large g_nodes g_inner g_listed g_depth g_row g_pc g_node g_position g_size g_fault b_kind b_with b_bodyAt b_wanted b_waiting b_within b_list b_left b_reached b_sizes b_each b_backRow b_backPc b_backNode b_backPosition b_backSize nn dep cnt F
  have F2 := F
  obtain ⟨⟨f1, f2, f3, hP, hN, hL, hW, f8, hkn⟩, ⟨hK, hKY, hcn⟩, hR, hM, hC⟩ := F
  have h24 := hP.1
  subst f1 f2 f3
  rcases pk_ix v1 (n := 6) (by omega) with z | z | ⟨t, ht, rfl⟩
  · exact br_t z (br_t z (br_f (by decide) ⟨rfl, zz_in F2⟩))
  · have h0 : ¬ v1 < 0 := fun w => absurd (Int32.lt_of_le_of_lt z w) (by decide)
    have h1 : (5 : Int32) < v1 := Int32.lt_of_lt_of_le (show (5 : Int32) < nI 6 by decide) z
    exact br_f h0 (br_t h1 (br_f h0 (br_f (Int32.not_lt.mpr z) (br_f (by decide) ⟨rfl, zz_in F2⟩))))
  · refine br_f (nI_pos (by omega)) (br_f (nI_nlt (a := 5) (by omega) (by omega)) ?_)
    obtain ⟨wy, hw⟩ := hW
    have hdn : dep ≤ nn := by
      by_cases d : dep = 0
      · omega
      · have := hw (dep - 1) (by omega); omega
    by_cases c24 : nn = 24
    · subst c24
      exact br_t rfl (br_f (nI_pos (by omega)) (br_t (nI_lt (b := 6) (by omega) (by omega)) (br_t rfl (br_t rfl ⟨rfl, zz_in F2⟩))))
    · have main : (dep = 0 → nn = 0) → wX_open_34 (fun r u' => wpY_open (fun r' v' => r' = r ∧ i_Rel (k + 4) u' v') (nI nn, g_inner, f_gifts, f_place, g_listed, g_depth, g_row, g_pc, g_node, g_position, g_size, g_fault, f_made, f_steps, a_name, a_parent, a_value, b_kind, b_with, a_count, b_bodyAt, a_priority, a_given, a_there, b_wanted, b_waiting, b_within, b_list, b_left, b_reached, b_sizes, b_each, b_backRow, b_backPc, b_backNode, b_backPosition, b_backSize, a_out) (nI t) v2) (nI t) v2 (nI nn) (nI dep) f_known f_dues f_place f_gifts f_matched f_lists f_steps f_outcome f_made a_name a_parent a_lastOf a_way a_value a_axes a_named a_kind a_over a_ends a_count a_num a_placed a_asked a_holds a_due a_open a_there a_priority a_given a_matches a_stack a_rest a_position a_size a_at a_row a_pc a_first a_out a_large := by
        intro hd
        refine ⟨vp_in_nI (by omega) (by omega), ?_⟩
        rw [nI_clamp (by omega), nb_3 (by omega)]
        refine nm_e ⟨vp_in_nI (by omega) (by omega), nm_e ?_⟩
        have fin : ∀ pv, pv = (if dep = 0 then -1 else nI (wy (dep - 1))) → ∃ f, wX_open_88 (fun r u' => wpY_open (fun r' v' => r' = r ∧ i_Rel (k + 4) u' v') (nI nn, g_inner, f_gifts, f_place, g_listed, g_depth, g_row, g_pc, g_node, g_position, g_size, g_fault, f_made, f_steps, a_name, a_parent, a_value, b_kind, b_with, a_count, b_bodyAt, a_priority, a_given, a_there, b_wanted, b_waiting, b_within, b_list, b_left, b_reached, b_sizes, b_each, b_backRow, b_backPc, b_backNode, b_backPosition, b_backSize, a_out) (nI t) v2) (nI nn) (nI dep) f_known f_dues f_place f_gifts f_matched f_lists f_steps f_outcome f_made f 0 (upd a_name nn (nI t)) (upd a_parent nn pv) a_lastOf a_way (upd a_value nn v2) a_axes a_named a_kind a_over a_ends a_count a_num a_placed a_asked a_holds a_due a_open a_there a_priority a_given a_matches a_stack a_rest a_position a_size a_at a_row a_pc a_first a_out a_large := by
          intro pv hpv
          refine ⟨dep + 1, xo_88 (wy := wy) rfl rfl (fun k hk => ⟨(hw k hk).1, (hw k hk).2.2.1⟩) (by omega) hdn (fun la as h1 h2 h0 => ?_) dep 0 a_lastOf (by omega) (fun k hk => by omega) (fun n _ => rfl)⟩
          obtain ⟨o1, o2, o3⟩ := td_open hP hL hw (by omega) hd hpv h1 h2
          have hin : g_inner = pv := by
            rw [f8, hpv]
            by_cases d : dep = 0
            · rw [if_pos d, if_pos d]
            · rw [if_neg d, if_neg d, (hw (dep - 1) (by omega)).1]
          have h34 : wY_open_34 (fun r' v' => r' = nI nn ∧ i_Rel (k + 4) (nI (nn + 1), nI (dep + 1), 0, f_dues, f_place, f_gifts, 0, f_lists, f_steps, f_outcome, f_made, (upd a_name nn (nI t)), (upd a_parent nn pv), (upd la nn (nI nn)), (upd a_way dep (nI nn)), (upd a_value nn v2), a_axes, a_named, a_kind, a_over, a_ends, a_count, a_num, a_placed, as, a_holds, a_due, a_open, a_there, a_priority, a_given, a_matches, a_stack, a_rest, a_position, a_size, a_at, a_row, a_pc, a_first, a_out, a_large) v') (nI t) v2 (nI nn) g_inner f_gifts f_place g_listed g_depth g_row g_pc g_node g_position g_size g_fault f_made f_steps a_name a_parent a_value b_kind b_with a_count b_bodyAt a_priority a_given a_there b_wanted b_waiting b_within b_list b_left b_reached b_sizes b_each b_backRow b_backPc b_backNode b_backPosition b_backSize a_out := by
            refine ⟨vp_in_nI (by omega) (by omega), ?_⟩
            rw [nI_clamp (by omega), nb_3 (by omega)]
            refine nm_e ⟨vp_in_nI (by omega) (by omega), nm_e ⟨vp_in_nI (by omega) (by omega), ?_⟩⟩
            have hnar : vp_nar .byte g_inner.toInt8.toInt32 = pv := by
              rw [hin, hpv]
              by_cases d : dep = 0
              · rw [if_pos d]; exact xo_m2
              · rw [if_neg d]
                have := (hw (dep - 1) (by omega)).2.2.1
                exact nb_3 (by omega)
            rw [hnar]
            refine nm_e (nm_r (nI_1 nn) ⟨rfl, zz_in (nn := nn + 1) (dep := dep + 1) (cnt := cnt) ⟨⟨rfl, rfl, rfl, o1, ?_, o2, o3, ?_, Or.inl rfl⟩, ⟨hK, hKY, hcn⟩, hR, Or.inl rfl, rl_CA0 (fun r hr => (hcn r hr).2) h0⟩⟩)
            · intro n hn
              by_cases c : n = nn
              · subst c; exact ⟨t, ht, pk_us⟩
              · obtain ⟨t', g1, g2⟩ := hN n (by omega)
                exact ⟨t', g1, (pk_un c).trans g2⟩
            · rw [if_neg (by omega), Nat.add_sub_cancel, pk_us]
          refine br_f (nI_pos (by omega)) (br_t (nI_lt (b := 6) (by omega) (by omega)) (br_t rfl (br_f (fun z => c24 ((nI_eq (by omega) (by omega)).mp z)) (br_c (fun z => h34) (fun z => br_t ?_ h34)))))
          by_cases d : dep = 0
          · have := hd d
            rw [this] at z
            exact absurd (show nI 0 ≤ 0 by decide) z
          · rw [hin, hpv, if_neg d]
            have := (hw (dep - 1) (by omega)).2.2.1
            exact nI_pos' (by omega)
        refine pk_eq dep 0 (fun d => ⟨vp_in_nI (by omega) (by omega), ?_⟩) (fun d => ?_)
        · rw [xo_m1]
          exact nm_e (fin (-1) (by rw [if_pos d]))
        · rw [show nI dep - 1 = nI (dep - 1) from pk_sub (b := 1) (by omega)]
          refine ⟨vp_in_nI (by omega) (by omega), vp_in_nI (by omega) (by omega), ?_⟩
          have g := hw (dep - 1) (by omega)
          rw [nI_clamp (by omega), g.1, nb_2 (by omega)]
          exact nm_e (fin _ (by rw [if_neg d]))
      refine br_f (fun z => c24 ((nI_eq (by omega) (by omega)).mp z)) ?_
      refine pk_le nn 0 (fun z => main (fun _ => by omega)) (fun z => pk_eq dep 0 (fun d => ?_) (fun d => main (fun y => (d y).elim)))
      rw [if_pos d] at f8
      refine br_f (nI_pos (by omega)) (br_t (nI_lt (b := 6) (by omega) (by omega)) (br_t rfl (br_f (fun z => c24 ((nI_eq (by omega) (by omega)).mp z)) (br_f (nI_nle z (by omega)) (br_f (by rw [f8]; decide) ⟨rfl, zz_in F2⟩)))))
end
section
/-! a token is put -/
def tk_ok (j : Nat) (v : Int32) : Prop := (j = 15 → ∃ w, v = nI w ∧ w ≤ 70 ∧ w % 8 ≤ 6) ∧ (j = 21 → ∃ w, v = nI w ∧ w ≤ 5)
section
variable {f_nodes f_depth f_known f_dues f_place f_gifts f_matched f_lists f_steps f_outcome f_made : Int32} {a_name a_parent a_lastOf a_way a_value a_axes a_named a_kind a_over a_ends a_count a_num a_placed a_asked a_holds a_due a_open a_there a_priority a_given a_matches a_stack a_rest a_position a_size a_at a_row a_pc a_first a_out a_large : Nat → Int32}
theorem xt_22 {post : Int32 → SX → Prop} {j c : Nat} {v : Int32} (hj : j ≤ 26) (hc : a_count 6 = nI c) (hc30 : c ≤ 30) (h0 : (¬ tk_ok j v ∨ c = 30) → post 0 (f_nodes, f_depth, f_known, f_dues, f_place, f_gifts, f_matched, f_lists, f_steps, f_outcome, f_made, a_name, a_parent, a_lastOf, a_way, a_value, a_axes, a_named, a_kind, a_over, a_ends, a_count, a_num, a_placed, a_asked, a_holds, a_due, a_open, a_there, a_priority, a_given, a_matches, a_stack, a_rest, a_position, a_size, a_at, a_row, a_pc, a_first, a_out, a_large)) (h1 : tk_ok j v → c < 30 → post 1 (f_nodes, f_depth, f_known, f_dues, f_place, f_gifts, f_matched, f_lists, f_steps, f_outcome, f_made, a_name, a_parent, a_lastOf, a_way, a_value, a_axes, a_named, (upd a_kind (186 + c) (nI j)), a_over, a_ends, (upd a_count 6 (nI (c + 1))), (upd a_num (186 + c) v), a_placed, (upd a_asked (186 + c) 0), a_holds, a_due, a_open, a_there, a_priority, a_given, a_matches, a_stack, a_rest, a_position, a_size, a_at, a_row, a_pc, a_first, a_out, a_large)) : wX_token_22 post (nI j) v f_nodes f_depth f_known f_dues f_place f_gifts f_matched f_lists f_steps f_outcome f_made a_name a_parent a_lastOf a_way a_value a_axes a_named a_kind a_over a_ends a_count a_num a_placed a_asked a_holds a_due a_open a_there a_priority a_given a_matches a_stack a_rest a_position a_size a_at a_row a_pc a_first a_out a_large := by
  have h62 : tk_ok j v → wX_token_62 post (nI j) v f_nodes f_depth f_known f_dues f_place f_gifts f_matched f_lists f_steps f_outcome f_made a_name a_parent a_lastOf a_way a_value a_axes a_named a_kind a_over a_ends a_count a_num a_placed a_asked a_holds a_due a_open a_there a_priority a_given a_matches a_stack a_rest a_position a_size a_at a_row a_pc a_first a_out a_large := by
    intro ok
    unfold wX_token_62
    rw [hc]
    refine pk_eq c 30 (fun z => h0 (Or.inr z)) (fun z => ?_)
    rw [nI_1, nb_3 (by omega)]
    refine nm_e (nm_r (nI_add 186 c) ⟨vp_in_nI (by omega) (by omega), ?_⟩)
    rw [nI_clamp (by omega), nb_3 (by omega)]
    exact nm_e ⟨vp_in_nI (by omega) (by omega), nm_e ⟨vp_in_nI (by omega) (by omega), nm_e (h1 ok (by omega))⟩⟩
  have h47 : (j = 15 → ∃ w, v = nI w ∧ w ≤ 70 ∧ w % 8 ≤ 6) → wX_token_47 post (nI j) v f_nodes f_depth f_known f_dues f_place f_gifts f_matched f_lists f_steps f_outcome f_made a_name a_parent a_lastOf a_way a_value a_axes a_named a_kind a_over a_ends a_count a_num a_placed a_asked a_holds a_due a_open a_there a_priority a_given a_matches a_stack a_rest a_position a_size a_at a_row a_pc a_first a_out a_large := by
    intro h15
    refine pk_eq j 21 (fun z => ?_) (fun z => h62 ⟨h15, fun y => (z y).elim⟩)
    rcases pk_ix v (n := 6) (by omega) with y | y | ⟨w, hw, rfl⟩
    · refine br_t y (h0 (Or.inl (fun ok => ?_)))
      obtain ⟨w, rfl, hw⟩ := ok.2 z
      exact nI_pos (by omega) y
    · have hv : ¬ v < 0 := fun w => absurd (Int32.lt_of_le_of_lt y w) (by decide)
      have hv5 : (5 : Int32) < v := Int32.lt_of_lt_of_le (show (5 : Int32) < nI 6 by decide) y
      refine br_f hv (br_t hv5 (h0 (Or.inl (fun ok => ?_))))
      obtain ⟨w, rfl, hw⟩ := ok.2 z
      exact nI_ge (show w < 6 by omega) (by omega) y
    · exact br_f (nI_pos (by omega)) (br_f (nI_nlt (a := 5) (by omega) (by omega)) (h62 ⟨h15, fun _ => ⟨w, rfl, by omega⟩⟩))
  refine pk_eq j 15 (fun z => ?_) (fun z => h47 (fun y => (z y).elim))
  rcases pk_ix v (n := 71) (by omega) with y | y | ⟨w, hw, rfl⟩
  · refine br_t y (h0 (Or.inl (fun ok => ?_)))
    obtain ⟨w, rfl, hw⟩ := ok.1 z
    exact nI_pos (by omega) y
  · have hv : ¬ v < 0 := fun w => absurd (Int32.lt_of_le_of_lt y w) (by decide)
    have hv5 : (70 : Int32) < v := Int32.lt_of_lt_of_le (show (70 : Int32) < nI 71 by decide) y
    refine br_f hv (br_t hv5 (h0 (Or.inl (fun ok => ?_))))
    obtain ⟨w, rfl, hw, _⟩ := ok.1 z
    exact nI_ge (show w < 71 by omega) (by omega) y
  · refine br_f (nI_pos (by omega)) (br_f (nI_nlt (a := 70) (by omega) (by omega)) ⟨by decide, ?_⟩)
    rw [show nI w - nI w / 8 * 8 = nI (w % 8) from pk_rem (a := w) (d := 8) (by omega) (by omega) (by omega)]
    refine pk_lt 6 (w % 8) (fun y => h0 (Or.inl (fun ok => ?_))) (fun y => h47 (fun _ => ⟨w, rfl, by omega, by omega⟩))
    obtain ⟨w2, e, hw2, h3⟩ := ok.1 z
    rw [nI_eq (by omega) (by omega)] at e
    omega
end
section
variable {g_nodes g_inner g_rules g_place g_listed g_depth g_row g_pc g_node g_position g_size g_fault g_put g_steps : Int32} {b_name b_parent b_value b_kind b_with b_count b_bodyAt b_priority b_given b_there b_wanted b_waiting b_within b_list b_left b_reached b_sizes b_each b_backRow b_backPc b_backNode b_backPosition b_backSize b_output : Nat → Int32}
theorem yt_27 {post : Int32 → SY → Prop} {j c : Nat} {v : Int32} (hj : j ≤ 26) (hc : b_count 6 = nI c) (hc30 : c ≤ 30) (h0 : (¬ tk_ok j v ∨ c = 30) → post 0 (g_nodes, g_inner, g_rules, g_place, g_listed, g_depth, g_row, g_pc, g_node, g_position, g_size, g_fault, g_put, g_steps, b_name, b_parent, b_value, b_kind, b_with, b_count, b_bodyAt, b_priority, b_given, b_there, b_wanted, b_waiting, b_within, b_list, b_left, b_reached, b_sizes, b_each, b_backRow, b_backPc, b_backNode, b_backPosition, b_backSize, b_output)) (h1 : tk_ok j v → c < 30 → post 1 (g_nodes, g_inner, g_rules, g_place, g_listed, g_depth, g_row, g_pc, g_node, g_position, g_size, g_fault, g_put, g_steps, b_name, b_parent, b_value, (upd b_kind (180 + c) (nI j)), (upd b_with (180 + c) v), (upd b_count 6 (nI (c + 1))), b_bodyAt, b_priority, b_given, b_there, b_wanted, b_waiting, b_within, b_list, b_left, b_reached, b_sizes, b_each, b_backRow, b_backPc, b_backNode, b_backPosition, b_backSize, b_output)) : wY_token_27 post (nI j) v 1 g_nodes g_inner g_rules g_place g_listed g_depth g_row g_pc g_node g_position g_size g_fault g_put g_steps b_name b_parent b_value b_kind b_with b_count b_bodyAt b_priority b_given b_there b_wanted b_waiting b_within b_list b_left b_reached b_sizes b_each b_backRow b_backPc b_backNode b_backPosition b_backSize b_output := by
  refine br_f (by decide) ?_
  rw [hc]
  refine pk_eq c 30 (fun z => h0 (Or.inr z)) (fun z => ?_)
  have h87 : tk_ok j v → wY_token_87 post (nI j) v g_nodes g_inner g_rules g_place g_listed g_depth g_row g_pc g_node g_position g_size g_fault g_put g_steps b_name b_parent b_value b_kind b_with b_count b_bodyAt b_priority b_given b_there b_wanted b_waiting b_within b_list b_left b_reached b_sizes b_each b_backRow b_backPc b_backNode b_backPosition b_backSize b_output := by
    intro ok
    unfold wY_token_87
    rw [hc, nI_1, nb_3 (by omega)]
    refine nm_e (nm_r (nI_add 180 c) ⟨vp_in_nI (by omega) (by omega), ?_⟩)
    rw [nI_clamp (by omega), nb_3 (by omega)]
    exact nm_e ⟨vp_in_nI (by omega) (by omega), nm_e (h1 ok (by omega))⟩
  have h61 : (j = 21 → ∃ w, v = nI w ∧ w ≤ 5) → wY_token_61 post (nI j) v g_nodes g_inner g_rules g_place g_listed g_depth g_row g_pc g_node g_position g_size g_fault g_put g_steps b_name b_parent b_value b_kind b_with b_count b_bodyAt b_priority b_given b_there b_wanted b_waiting b_within b_list b_left b_reached b_sizes b_each b_backRow b_backPc b_backNode b_backPosition b_backSize b_output := by
    intro h21
    refine pk_eq j 15 (fun z => ?_) (fun z => h87 ⟨fun y => (z y).elim, h21⟩)
    rcases pk_ix v (n := 72) (by omega) with y | y | ⟨w, hw, rfl⟩
    · refine br_t y (br_f (by decide) (h0 (Or.inl (fun ok => ?_))))
      obtain ⟨w, rfl, hw⟩ := ok.1 z
      exact nI_pos (by omega) y
    · have hv : ¬ v < 0 := fun w => absurd (Int32.lt_of_le_of_lt y w) (by decide)
      refine br_f hv (br_f (Int32.not_lt.mpr y) (br_f (by decide) (h0 (Or.inl (fun ok => ?_)))))
      obtain ⟨w, rfl, hw, _⟩ := ok.1 z
      exact nI_ge (show w < 72 by omega) (by omega) y
    · refine br_f (nI_pos (by omega)) (br_t (nI_lt (b := 72) (by omega) (by omega)) (br_t rfl ?_))
      rw [xl_m8 hw]
      refine pk_eq (w % 8) 7 (fun y => h0 (Or.inl (fun ok => ?_))) (fun y => h87 ⟨fun _ => ⟨w, rfl, by omega, by omega⟩, h21⟩)
      obtain ⟨w2, e, hw2, h3⟩ := ok.1 z
      rw [nI_eq (by omega) (by omega)] at e
      omega
  refine pk_eq j 21 (fun z => ?_) (fun z => h61 (fun y => (z y).elim))
  rcases pk_ix v (n := 6) (by omega) with y | y | ⟨w, hw, rfl⟩
  · refine br_t y (br_f (by decide) (h0 (Or.inl (fun ok => ?_))))
    obtain ⟨w, rfl, hw⟩ := ok.2 z
    exact nI_pos (by omega) y
  · have hv : ¬ v < 0 := fun w => absurd (Int32.lt_of_le_of_lt y w) (by decide)
    refine br_f hv (br_f (Int32.not_lt.mpr y) (br_f (by decide) (h0 (Or.inl (fun ok => ?_)))))
    obtain ⟨w, rfl, hw⟩ := ok.2 z
    exact nI_ge (show w < 6 by omega) (by omega) y
  · exact br_f (nI_pos (by omega)) (br_t (nI_lt (b := 6) (by omega) (by omega)) (br_t rfl (h61 (fun _ => ⟨w, rfl, by omega⟩))))
end
theorem tk_F {nn dep j : Nat} {cnt : Nat → Nat} {v : Int32} {f_nodes f_depth f_known f_matched g_nodes g_inner : Int32} {a_name a_parent a_lastOf a_way a_value a_axes a_named a_kind a_over a_ends a_count a_num a_placed a_asked a_holds a_there a_matches b_kind b_with b_bodyAt : Nat → Int32} (F : rl_F nn dep cnt f_nodes f_depth f_known f_matched g_nodes g_inner a_name a_parent a_lastOf a_way a_value a_axes a_named a_kind a_over a_ends a_count a_num a_placed a_asked a_holds a_there a_matches b_kind b_with b_bodyAt) (hj : j ≤ 26) (hc : cnt 6 < 30) (ok : tk_ok j v) : rl_F nn dep (fun r => if r = 6 then cnt 6 + 1 else cnt r) f_nodes f_depth f_known f_matched g_nodes g_inner a_name a_parent a_lastOf a_way a_value a_axes a_named (upd a_kind (186 + cnt 6) (nI j)) a_over a_ends (upd a_count 6 (nI (cnt 6 + 1))) (upd a_num (186 + cnt 6) v) a_placed (upd a_asked (186 + cnt 6) 0) a_holds a_there a_matches (upd b_kind (180 + cnt 6) (nI j)) (upd b_with (180 + cnt 6) v) b_bodyAt := by
  obtain ⟨hD, ⟨hK, hKY, hcn⟩, hR, hM, hC⟩ := F
  have h6 : ∀ r, r < 6 → (fun r => if r = 6 then cnt 6 + 1 else cnt r) r = cnt r := fun r hr => if_neg (by omega)
  have hlow : ∀ c, c < 186 → upd a_kind (186 + cnt 6) (nI j) c = a_kind c ∧ upd a_num (186 + cnt 6) v c = a_num c := fun c hc => ⟨pk_un (by omega), pk_un (by omega)⟩
  refine ⟨hD, ⟨fun r hr i hi => ?_, fun r hr i hi => ?_, fun r hr => ?_⟩, rl_RUc hR h6 (fun r hr => (hcn r (by omega)).2) hlow (fun _ _ => ⟨rfl, rfl, rfl⟩), ?_, ?_⟩
  · by_cases c : 31 * r + i = 186 + cnt 6
    · rw [c, pk_us, pk_us]
      exact ⟨j, hj, rfl, ok.1⟩
    · rw [pk_un c, pk_un c]
      exact hK r hr i hi
  · by_cases c : 31 * r + i = 186 + cnt 6
    · have c2 : 30 * r + i = 180 + cnt 6 := by omega
      rw [c, c2, pk_us, pk_us, pk_us, pk_us]
      exact ⟨rfl, rfl⟩
    · have c2 : 30 * r + i ≠ 180 + cnt 6 := by omega
      rw [pk_un c, pk_un c, pk_un c2, pk_un c2]
      exact hKY r hr i hi
  · show upd a_count 6 (nI (cnt 6 + 1)) r = nI (if r = 6 then cnt 6 + 1 else cnt r) ∧ (if r = 6 then cnt 6 + 1 else cnt r) ≤ 30
    by_cases c : r = 6
    · subst c
      rw [pk_us, if_pos rfl]
      exact ⟨rfl, by omega⟩
    · rw [pk_un c, if_neg c]
      exact hcn r hr
  · rcases hM with z | ⟨z, hM⟩
    · exact Or.inl z
    · exact Or.inr ⟨z, fun r hr => rl_MTc (hM r hr) hr (h6 r hr) hlow⟩
  · intro r hr i hi m hm hb
    have hi : i < (if r = 6 then cnt 6 + 1 else cnt r) := hi
    show _ ∧ ∃ e, gm_PB _ (if r = 6 then cnt 6 + 1 else cnt r) i e ∧ _
    by_cases c : r = 6
    · subst c
      rw [if_pos rfl] at hi ⊢
      by_cases ci : i = cnt 6
      · subst ci
        rw [pk_us, b_0] at hb
        cases hb
      · rw [pk_un (by omega)] at hb
        obtain ⟨g1, e, g2, g3⟩ := hC 6 hr i (by omega) m hm hb
        have hT : ∀ x, x < cnt 6 → (xr_T (upd a_kind (186 + cnt 6) (nI j)) (upd a_num (186 + cnt 6) v) 6).1 x = (xr_T a_kind a_num 6).1 x ∧ (xr_T (upd a_kind (186 + cnt 6) (nI j)) (upd a_num (186 + cnt 6) v) 6).2 x = (xr_T a_kind a_num 6).2 x := by
          intro x hx
          unfold xr_T
          dsimp only
          rw [pk_un (by omega), pk_un (by omega)]
          exact ⟨rfl, rfl⟩
        refine ⟨g1, e, gm_PBc (fun x hx => (hT x hx).1) (by omega) g2, ?_⟩
        have he := g2.2.2.1
        rw [td_cvc (fun x hx => hT x (by omega))]
        exact g3
    · rw [if_neg c] at hi ⊢
      have := (hcn r hr).2
      rw [pk_un (by omega)] at hb
      have e : xr_T (upd a_kind (186 + cnt 6) (nI j)) (upd a_num (186 + cnt 6) v) r = xr_T a_kind a_num r := rl_T7 (fun i hi => ⟨pk_un (by omega), pk_un (by omega)⟩)
      rw [e]
      exact hC r hr i hi m hm hb
theorem i_vc_token {k : Nat} {u : SX} {v : SY} (I : i_Rel k u v) (hk : k + 4 ≤ 2048) (v1 : Int32) (v2 : Int32) : wpX_token (fun r u' => wpY_token (fun r' v' => r' = r ∧ i_Rel (k + 4) u' v') v v1 v2) u v1 v2 := by
  refine zz_el (P := fun u v => wpX_token (fun r u' => wpY_token (fun r' v' => r' = r ∧ i_Rel (k + 4) u' v') v v1 v2) u v1 v2) ?_ I
  intro f_nodes f_depth f_known f_dues f_place f_gifts f_matched f_lists f_steps f_outcome f_made a_name a_parent a_lastOf a_way a_value a_axes a_named a_kind a_over a_ends a_count a_num a_placed a_asked a_holds a_due a_open a_there a_priority a_given a_matches a_stack a_rest a_position a_size a_at a_row a_pc a_first a_out a_large g_nodes g_inner g_listed g_depth g_row g_pc g_node g_position g_size g_fault b_kind b_with b_bodyAt b_wanted b_waiting b_within b_list b_left b_reached b_sizes b_each b_backRow b_backPc b_backNode b_backPosition b_backSize nn dep cnt F
  have hc6 := F.2.1.2.2 6 (by omega)
  rcases pk_ix v1 (n := 27) (by omega) with z | z | ⟨j, hj, rfl⟩
  · have h20 : v1 < 20 := Int32.lt_of_lt_of_le z (by decide)
    exact br_t z (br_t z (br_t h20 (br_t rfl ⟨rfl, zz_in F⟩)))
  · have h0 : ¬ v1 < 0 := fun w => absurd (Int32.lt_of_le_of_lt z w) (by decide)
    have h26 : (26 : Int32) < v1 := Int32.lt_of_lt_of_le (show (26 : Int32) < nI 27 by decide) z
    have h17 : ¬ v1 ≤ 17 := fun w => absurd (Int32.le_trans z w) (by decide)
    have h20 : ¬ v1 < 20 := fun w => absurd (Int32.lt_of_le_of_lt z w) (by decide)
    exact br_f h0 (br_t h26 (br_f h0 (br_f h17 (br_f h20 (br_t h26 (br_t rfl ⟨rfl, zz_in F⟩))))))
  · have main : (j ≤ 17 ∨ 20 ≤ j) → wX_token_22 (fun r u' => wpY_token (fun r' v' => r' = r ∧ i_Rel (k + 4) u' v') (g_nodes, g_inner, f_gifts, f_place, g_listed, g_depth, g_row, g_pc, g_node, g_position, g_size, g_fault, f_made, f_steps, a_name, a_parent, a_value, b_kind, b_with, a_count, b_bodyAt, a_priority, a_given, a_there, b_wanted, b_waiting, b_within, b_list, b_left, b_reached, b_sizes, b_each, b_backRow, b_backPc, b_backNode, b_backPosition, b_backSize, a_out) (nI j) v2) (nI j) v2 f_nodes f_depth f_known f_dues f_place f_gifts f_matched f_lists f_steps f_outcome f_made a_name a_parent a_lastOf a_way a_value a_axes a_named a_kind a_over a_ends a_count a_num a_placed a_asked a_holds a_due a_open a_there a_priority a_given a_matches a_stack a_rest a_position a_size a_at a_row a_pc a_first a_out a_large := by
      intro hjj
      have yk : ∀ {post : Int32 → SY → Prop}, wY_token_27 post (nI j) v2 1 g_nodes g_inner f_gifts f_place g_listed g_depth g_row g_pc g_node g_position g_size g_fault f_made f_steps a_name a_parent a_value b_kind b_with a_count b_bodyAt a_priority a_given a_there b_wanted b_waiting b_within b_list b_left b_reached b_sizes b_each b_backRow b_backPc b_backNode b_backPosition b_backSize a_out → wpY_token post (g_nodes, g_inner, f_gifts, f_place, g_listed, g_depth, g_row, g_pc, g_node, g_position, g_size, g_fault, f_made, f_steps, a_name, a_parent, a_value, b_kind, b_with, a_count, b_bodyAt, a_priority, a_given, a_there, b_wanted, b_waiting, b_within, b_list, b_left, b_reached, b_sizes, b_each, b_backRow, b_backPc, b_backNode, b_backPosition, b_backSize, a_out) (nI j) v2 := by
        intro post h
        refine br_f (nI_pos (by omega)) (pk_le j 17 (fun _ => h) (fun y => br_f (nI_nlt (b := 20) (by omega) (by omega)) (br_f (nI_nlt (a := 26) (by omega) (by omega)) h)))
      refine xt_22 (c := cnt 6) (by omega) hc6.1 hc6.2 (fun h => yk (yt_27 (c := cnt 6) (by omega) hc6.1 hc6.2 (fun _ => ⟨rfl, zz_in F⟩) (fun ok hc => ?_))) (fun ok hc => yk (yt_27 (c := cnt 6) (by omega) hc6.1 hc6.2 (fun h => ?_) (fun _ _ => ⟨rfl, zz_in (tk_F F (by omega) hc ok)⟩)))
      · rcases h with h | h
        · exact (h ok).elim
        · omega
      · rcases h with h | h
        · exact (h ok).elim
        · omega
    refine br_f (nI_pos (by omega)) (br_f (nI_nlt (a := 26) (by omega) (by omega)) (pk_le j 17 (fun y => main (Or.inl y)) (fun y => pk_lt j 20 (fun w => ?_) (fun w => main (Or.inr w)))))
    exact br_f (nI_pos (by omega)) (br_f (nI_ge (a := 17) y (by omega)) (br_t (nI_lt (b := 20) w (by omega)) (br_t rfl ⟨rfl, zz_in F⟩)))
end
section
/-! select, number, ruleFor -/
theorem rl_yT {kind num kindY withY : Nat → Int32} (hK : xr_K kind num) (hKY : ∀ r, r < 7 → ∀ i, i < 30 → kindY (30 * r + i) = kind (31 * r + i) ∧ withY (30 * r + i) = num (31 * r + i)) {r n : Nat} (hr : r < 7) (hn : n ≤ 30) : ye_T (30 * r) n (xr_T kind num r) kindY withY := by
  obtain ⟨_, _, h⟩ := xr_KT hK hr hn
  refine ⟨by omega, hn, fun i hi => ?_⟩
  obtain ⟨a, b, c, d⟩ := h i hi
  obtain ⟨e, f⟩ := hKY r hr i (by omega)
  exact ⟨e.trans a, b, f.trans c, d⟩
theorem gm_nil {K : Nat → Nat} {d q : Nat} (h : gm_rd K d q [] = none) : d = 0 := by
  cases d with
  | zero => rfl
  | succ d => rw [gm_rd] at h; cases h
section
variable {f_nodes f_depth f_known f_dues f_place f_gifts f_matched f_lists f_steps f_outcome f_made : Int32} {a_name a_parent a_lastOf a_way a_value a_axes a_named a_kind a_over a_ends a_count a_num a_placed a_asked a_holds a_due a_open a_there a_priority a_given a_matches a_stack a_rest a_position a_size a_at a_row a_pc a_first a_out a_large : Nat → Int32}
theorem xq_reads {post : Int32 → SX → Prop} {n w : Nat} {T : td_T} (hT : xe_T 186 n T a_kind a_num) (hc : a_count 6 = nI n) (hw : w = 1 ∨ w = 3) (hn : gm_OK T.1 n [w] → ∀ dd du ov en pl op, (∀ c, c < 186 → ov c = a_over c ∧ en c = a_ends c ∧ pl c = a_placed c) → xr_SVi T.1 n 186 0 ov en pl → post 1 (f_nodes, f_depth, f_known, dd, f_place, f_gifts, f_matched, f_lists, f_steps, f_outcome, f_made, a_name, a_parent, a_lastOf, a_way, a_value, a_axes, a_named, a_kind, ov, en, a_count, a_num, pl, a_asked, a_holds, du, op, a_there, a_priority, a_given, a_matches, a_stack, a_rest, a_position, a_size, a_at, a_row, a_pc, a_first, a_out, a_large)) (hi : ∀ i, gm_rd T.1 n 0 [w] = some i → i ≤ n → ∀ dd du, post 0 (f_nodes, f_depth, f_known, dd, nI i, f_gifts, f_matched, f_lists, f_steps, f_outcome, f_made, a_name, a_parent, a_lastOf, a_way, a_value, a_axes, a_named, a_kind, a_over, a_ends, a_count, a_num, a_placed, a_asked, a_holds, du, a_open, a_there, a_priority, a_given, a_matches, a_stack, a_rest, a_position, a_size, a_at, a_row, a_pc, a_first, a_out, a_large)) : wpX_reads post (f_nodes, f_depth, f_known, f_dues, f_place, f_gifts, f_matched, f_lists, f_steps, f_outcome, f_made, a_name, a_parent, a_lastOf, a_way, a_value, a_axes, a_named, a_kind, a_over, a_ends, a_count, a_num, a_placed, a_asked, a_holds, a_due, a_open, a_there, a_priority, a_given, a_matches, a_stack, a_rest, a_position, a_size, a_at, a_row, a_pc, a_first, a_out, a_large) (nI w) := by
  have hTn := hT.2.1
  unfold wpX_reads
  dsimp only
  refine xd_push (s := []) rfl trivial (by omega) (by decide) (fun due hd => ?_)
  refine xd_read (s := [w]) hT hc rfl hd (by simp) ⟨by omega, by omega, trivial⟩ (by rcases hw with rfl | rfl <;> decide) (fun ok dd du ov en pl op h1 h2 => ?_) (fun i h1 h2 dd du => ?_)
  · exact br_t (by decide) (br_f (by decide) (hn ok dd du ov en pl op h1 h2))
  · exact br_f (nI_pos (by omega)) (br_t (nI_pos' (by omega)) (hi i h1 h2 dd du))
theorem xq_path {post : Int32 → SX → Prop} {nn node s : Nat} {cnt : Nat → Nat} {ps : List (Nat × List (Nat × Nat))} (hD : xe_D nn a_parent a_name a_axes a_named) (hK : xr_K a_kind a_num) (hcn : ∀ q, q < 7 → cnt q ≤ 30) (h2 : xr_SVi (xr_T a_kind a_num 6).1 (cnt 6) 186 0 a_over a_ends a_placed) (hS : gm_S (xr_T a_kind a_num 6).1 (cnt 6) ps 0 s) (hps : ps ≠ []) (hnode : node < nn) (hC : xr_CA (nn, a_parent, a_name, a_value) a_kind a_num cnt a_asked a_holds)
    (hp : ∀ st' as' ho', xr_CA (nn, a_parent, a_name, a_value) a_kind a_num cnt as' ho' → post (td_pv (nn, a_parent, a_name, a_value) (xr_T a_kind a_num 6) ps (td_1 node)) (f_nodes, f_depth, f_known, f_dues, f_place, f_gifts, f_matched, f_lists, f_steps, f_outcome, f_made, a_name, a_parent, a_lastOf, a_way, a_value, a_axes, a_named, a_kind, a_over, a_ends, a_count, a_num, a_placed, as', ho', a_due, a_open, a_there, a_priority, a_given, a_matches, st', a_rest, a_position, a_size, a_at, a_row, a_pc, a_first, a_out, a_large)) : wpX_path post (f_nodes, f_depth, f_known, f_dues, f_place, f_gifts, f_matched, f_lists, f_steps, f_outcome, f_made, a_name, a_parent, a_lastOf, a_way, a_value, a_axes, a_named, a_kind, a_over, a_ends, a_count, a_num, a_placed, a_asked, a_holds, a_due, a_open, a_there, a_priority, a_given, a_matches, a_stack, a_rest, a_position, a_size, a_at, a_row, a_pc, a_first, a_out, a_large) 186 186 (nI node) := by
  have e1 : (31 * 6 : Nat) = 186 := rfl
  have h : wpX_path post (f_nodes, f_depth, f_known, f_dues, f_place, f_gifts, f_matched, f_lists, f_steps, f_outcome, f_made, a_name, a_parent, a_lastOf, a_way, a_value, a_axes, a_named, a_kind, a_over, a_ends, a_count, a_num, a_placed, a_asked, a_holds, a_due, a_open, a_there, a_priority, a_given, a_matches, a_stack, a_rest, a_position, a_size, a_at, a_row, a_pc, a_first, a_out, a_large) (nI (31 * 6 + 0)) (nI (31 * 6)) (nI node) := by
    refine xp_path (r := 6) (q := 0) (cnt := cnt) hD hK (by omega) hcn ?_ hS ?_ hnode hC hp
    · rw [e1]; exact rl_BR h2
    · rw [e1]; exact h2.2.1 ps 0 s (Nat.zero_le _) hS hps
  rw [Nat.add_zero, e1] at h
  exact h
theorem xq_num {post : Int32 → SX → Prop} {nn node e : Nat} {cnt : Nat → Nat} {its : List (Nat × List (Nat × List (Nat × Nat)))} (hD : xe_D nn a_parent a_name a_axes a_named) (hK : xr_K a_kind a_num) (hcn : ∀ q, q < 7 → cnt q ≤ 30) (h2 : xr_SVi (xr_T a_kind a_num 6).1 (cnt 6) 186 0 a_over a_ends a_placed) (hNn : gm_N (xr_T a_kind a_num 6).1 (cnt 6) its 0 e) (hCn : gm_C (xr_T a_kind a_num 6).1 its 1) (hnode : node < nn) (hC : xr_CA (nn, a_parent, a_name, a_value) a_kind a_num cnt a_asked a_holds)
    (hp : ∀ lg st as ho, xr_CA (nn, a_parent, a_name, a_value) a_kind a_num cnt as ho → post ((td_nv (nn, a_parent, a_name, a_value) (xr_T a_kind a_num 6) node 1 1 its).headD 0) (f_nodes, f_depth, f_known, f_dues, f_place, f_gifts, f_matched, f_lists, f_steps, f_outcome, f_made, a_name, a_parent, a_lastOf, a_way, a_value, a_axes, a_named, a_kind, a_over, a_ends, a_count, a_num, a_placed, as, ho, a_due, a_open, a_there, a_priority, a_given, a_matches, st, a_rest, a_position, a_size, a_at, a_row, a_pc, a_first, a_out, lg)) : wpX_numberAt post (f_nodes, f_depth, f_known, f_dues, f_place, f_gifts, f_matched, f_lists, f_steps, f_outcome, f_made, a_name, a_parent, a_lastOf, a_way, a_value, a_axes, a_named, a_kind, a_over, a_ends, a_count, a_num, a_placed, a_asked, a_holds, a_due, a_open, a_there, a_priority, a_given, a_matches, a_stack, a_rest, a_position, a_size, a_at, a_row, a_pc, a_first, a_out, a_large) 186 186 (nI node) 1 1 := by
  have e1 : (31 * 6 : Nat) = 186 := rfl
  have h : wpX_numberAt post (f_nodes, f_depth, f_known, f_dues, f_place, f_gifts, f_matched, f_lists, f_steps, f_outcome, f_made, a_name, a_parent, a_lastOf, a_way, a_value, a_axes, a_named, a_kind, a_over, a_ends, a_count, a_num, a_placed, a_asked, a_holds, a_due, a_open, a_there, a_priority, a_given, a_matches, a_stack, a_rest, a_position, a_size, a_at, a_row, a_pc, a_first, a_out, a_large) (nI (31 * 6 + 0)) (nI (31 * 6)) (nI node) 1 1 := by
    refine xn_number (r := 6) (q := 0) (cnt := cnt) hD hK (by omega) hcn ?_ ?_ hnode (by omega) hNn hCn ?_ hC hp
    · rw [e1]; exact rl_BR h2
    · rw [e1]; exact fun ps q s => h2.2.1 ps q s (Nat.zero_le _)
    · rw [e1]; exact h2.1 its 0 _ (Nat.zero_le _) hNn hCn
  rw [Nat.add_zero, e1] at h
  exact h
end
section
variable {g_nodes g_inner g_rules g_place g_listed g_depth g_row g_pc g_node g_position g_size g_fault g_put g_steps : Int32} {b_name b_parent b_value b_kind b_with b_count b_bodyAt b_priority b_given b_there b_wanted b_waiting b_within b_list b_left b_reached b_sizes b_each b_backRow b_backPc b_backNode b_backPosition b_backSize b_output : Nat → Int32}
theorem yq_path {post : Int32 → SY → Prop} {nn n s node : Nat} {T : td_T} {ps : List (Nat × List (Nat × Nat))} (hg : g_nodes = nI nn) (hP : td_P nn b_parent) (hT : ye_T 180 n T b_kind b_with) (hc : b_count 6 = nI n) (hs : s ≤ n) (hS : gm_S T.1 n ps 0 s) (hps : ps ≠ []) (hp : ∀ ld li wi, post (td_pv (nn, b_parent, b_name, b_value) T ps (td_1 node)) (g_nodes, g_inner, g_rules, g_place, ld, g_depth, g_row, g_pc, g_node, g_position, g_size, g_fault, g_put, g_steps, b_name, b_parent, b_value, b_kind, b_with, b_count, b_bodyAt, b_priority, b_given, b_there, b_wanted, b_waiting, wi, li, b_left, b_reached, b_sizes, b_each, b_backRow, b_backPc, b_backNode, b_backPosition, b_backSize, b_output)) : wpY_path post (g_nodes, g_inner, g_rules, g_place, g_listed, g_depth, g_row, g_pc, g_node, g_position, g_size, g_fault, g_put, g_steps, b_name, b_parent, b_value, b_kind, b_with, b_count, b_bodyAt, b_priority, b_given, b_there, b_wanted, b_waiting, b_within, b_list, b_left, b_reached, b_sizes, b_each, b_backRow, b_backPc, b_backNode, b_backPosition, b_backSize, b_output) 180 (180 + b_count 6) (nI node) := by
  have h : wpY_path post (g_nodes, g_inner, g_rules, g_place, g_listed, g_depth, g_row, g_pc, g_node, g_position, g_size, g_fault, g_put, g_steps, b_name, b_parent, b_value, b_kind, b_with, b_count, b_bodyAt, b_priority, b_given, b_there, b_wanted, b_waiting, b_within, b_list, b_left, b_reached, b_sizes, b_each, b_backRow, b_backPc, b_backNode, b_backPosition, b_backSize, b_output) (nI (180 + 0)) (nI (180 + n)) (nI node) := yp_path hg hP hT (Nat.le_refl _) hs hS hps hp
  rw [Nat.add_zero] at h
  rw [hc, show (180 : Int32) + nI n = nI (180 + n) from nI_add 180 n]
  exact h
theorem yq_num {post : Int32 → SY → Prop} {nn n node : Nat} {T : td_T} {its : List (Nat × List (Nat × List (Nat × Nat)))} (hg : g_nodes = nI nn) (hP : td_P nn b_parent) (hT : ye_T 180 n T b_kind b_with) (hc : b_count 6 = nI n) (hNn : gm_N T.1 n its 0 n) (hCn : gm_C T.1 its 1) (hnode : node < nn) (hp : ∀ wt ld li wi, post ((td_nv (nn, b_parent, b_name, b_value) T node 1 1 its).headD 0) (g_nodes, g_inner, g_rules, g_place, ld, g_depth, g_row, g_pc, g_node, g_position, g_size, g_fault, g_put, g_steps, b_name, b_parent, b_value, b_kind, b_with, b_count, b_bodyAt, b_priority, b_given, b_there, b_wanted, wt, wi, li, b_left, b_reached, b_sizes, b_each, b_backRow, b_backPc, b_backNode, b_backPosition, b_backSize, b_output)) : wpY_outerNumber post (g_nodes, g_inner, g_rules, g_place, g_listed, g_depth, g_row, g_pc, g_node, g_position, g_size, g_fault, g_put, g_steps, b_name, b_parent, b_value, b_kind, b_with, b_count, b_bodyAt, b_priority, b_given, b_there, b_wanted, b_waiting, b_within, b_list, b_left, b_reached, b_sizes, b_each, b_backRow, b_backPc, b_backNode, b_backPosition, b_backSize, b_output) 180 (180 + b_count 6) (nI node) 1 1 := by
  have h : wpY_outerNumber post (g_nodes, g_inner, g_rules, g_place, g_listed, g_depth, g_row, g_pc, g_node, g_position, g_size, g_fault, g_put, g_steps, b_name, b_parent, b_value, b_kind, b_with, b_count, b_bodyAt, b_priority, b_given, b_there, b_wanted, b_waiting, b_within, b_list, b_left, b_reached, b_sizes, b_each, b_backRow, b_backPc, b_backNode, b_backPosition, b_backSize, b_output) (nI (180 + 0)) (nI (180 + n)) (nI node) 1 1 := yn_number hg hP hT hnode (by omega) hNn hCn hp
  rw [Nat.add_zero] at h
  rw [hc, show (180 : Int32) + nI n = nI (180 + n) from nI_add 180 n]
  exact h
theorem yb_rule {post : Int32 → SY → Prop} {nn node : Nat} {pick : Nat → Bool} (hg : g_nodes = nI nn) (h24 : nn ≤ 24) (hnode : node < nn) (hM : ∀ r, r < 6 → (b_there r = 0 ∨ b_there r = 1) ∧ (b_there r = 0 → pick r = false) ∧ (b_there r = 1 → ∀ (post : Int32 → SY → Prop) ld li wi, (∀ ld' li' wi', post (yl_b (pick r)) (g_nodes, g_inner, g_rules, g_place, ld', g_depth, g_row, g_pc, g_node, g_position, g_size, g_fault, g_put, g_steps, b_name, b_parent, b_value, b_kind, b_with, b_count, b_bodyAt, b_priority, b_given, b_there, b_wanted, b_waiting, wi', li', b_left, b_reached, b_sizes, b_each, b_backRow, b_backPc, b_backNode, b_backPosition, b_backSize, b_output)) → wpY_matches post (g_nodes, g_inner, g_rules, g_place, ld, g_depth, g_row, g_pc, g_node, g_position, g_size, g_fault, g_put, g_steps, b_name, b_parent, b_value, b_kind, b_with, b_count, b_bodyAt, b_priority, b_given, b_there, b_wanted, b_waiting, wi, li, b_left, b_reached, b_sizes, b_each, b_backRow, b_backPc, b_backNode, b_backPosition, b_backSize, b_output) (nI r) (nI node))) (hp : ∀ ld li wi, post (tb_b pick b_priority b_given 6 0 (-1)) (g_nodes, g_inner, g_rules, g_place, ld, g_depth, g_row, g_pc, g_node, g_position, g_size, g_fault, g_put, g_steps, b_name, b_parent, b_value, b_kind, b_with, b_count, b_bodyAt, b_priority, b_given, b_there, b_wanted, b_waiting, wi, li, b_left, b_reached, b_sizes, b_each, b_backRow, b_backPc, b_backNode, b_backPosition, b_backSize, b_output)) : wpY_ruleFor post (g_nodes, g_inner, g_rules, g_place, g_listed, g_depth, g_row, g_pc, g_node, g_position, g_size, g_fault, g_put, g_steps, b_name, b_parent, b_value, b_kind, b_with, b_count, b_bodyAt, b_priority, b_given, b_there, b_wanted, b_waiting, b_within, b_list, b_left, b_reached, b_sizes, b_each, b_backRow, b_backPc, b_backNode, b_backPosition, b_backSize, b_output) (nI node) := by
  subst hg
  exact br_f (nI_pos (by omega)) (br_t (nI_lt hnode (by omega)) (br_t rfl ⟨7, yb_18 hnode hM 6 0 (-1) g_listed b_list b_within (by omega) (Or.inl rfl) hp⟩))
theorem yb_pick {nn node : Nat} {cnt : Nat → Nat} {kind num over ends placed mt : Nat → Int32} (hg : g_nodes = nI nn) (hP : td_P nn b_parent) (hnode : node < nn) (hK : xr_K kind num) (hKY : ∀ r, r < 7 → ∀ i, i < 30 → b_kind (30 * r + i) = kind (31 * r + i) ∧ b_with (30 * r + i) = num (31 * r + i)) (hcn : ∀ q, q < 7 → cnt q ≤ 30) (hR : rl_RU cnt kind num over ends placed b_there b_bodyAt) (hMT : ∀ r, r < 6 → rl_MT (nn, b_parent, b_name, b_value) cnt kind num b_there mt r) : ∀ r, r < 6 → (b_there r = 0 ∨ b_there r = 1) ∧ (b_there r = 0 → (!decide (b_there r = 0) && bt (mt r) node) = false) ∧ (b_there r = 1 → ∀ (post : Int32 → SY → Prop) ld li wi, (∀ ld' li' wi', post (yl_b (!decide (b_there r = 0) && bt (mt r) node)) (g_nodes, g_inner, g_rules, g_place, ld', g_depth, g_row, g_pc, g_node, g_position, g_size, g_fault, g_put, g_steps, b_name, b_parent, b_value, b_kind, b_with, b_count, b_bodyAt, b_priority, b_given, b_there, b_wanted, b_waiting, wi', li', b_left, b_reached, b_sizes, b_each, b_backRow, b_backPc, b_backNode, b_backPosition, b_backSize, b_output)) → wpY_matches post (g_nodes, g_inner, g_rules, g_place, ld, g_depth, g_row, g_pc, g_node, g_position, g_size, g_fault, g_put, g_steps, b_name, b_parent, b_value, b_kind, b_with, b_count, b_bodyAt, b_priority, b_given, b_there, b_wanted, b_waiting, wi, li, b_left, b_reached, b_sizes, b_each, b_backRow, b_backPc, b_backNode, b_backPosition, b_backSize, b_output) (nI r) (nI node)) := by
  intro r hr
  have h24 := hP.1
  obtain ⟨h01, h1⟩ := hR r hr
  refine ⟨h01, fun z => by rw [z]; rfl, fun z post ld li wi hp => ?_⟩
  obtain ⟨ok, _, hb⟩ := h1 z
  obtain ⟨ps, e, hS, hps, -⟩ := rl_ps ok
  have e1 : (!decide (b_there r = 0) && bt (mt r) node) = tb_m (nn, b_parent, b_name, b_value) (xr_T kind num r) ps nn node := by
    have h0 : decide (b_there r = 0) = false := by rw [z]; rfl
    rw [h0, hMT r hr z ps e hS hps]
    show (true && bt (tm_ms (tb_m (nn, b_parent, b_name, b_value) (xr_T kind num r) ps nn) nn) node) = _
    rw [Bool.true_and, tm_btT (by omega) hnode]
  rw [e1] at hp
  exact yb_matches hg hP (rl_yT hK hKY (by omega) (hcn r (by omega))) hr hS hps (hb ps e hS hps) hnode hp
end
theorem i_vc_select {k : Nat} {u : SX} {v : SY} (I : i_Rel k u v) (hk : k + 4 ≤ 2048) (v1 : Int32) : wpX_select (fun r u' => wpY_select (fun r' v' => r' = r ∧ i_Rel (k + 4) u' v') v v1) u v1 := by
  refine zz_el (P := fun u v => wpX_select (fun r u' => wpY_select (fun r' v' => r' = r ∧ i_Rel (k + 4) u' v') v v1) u v1) ?_ I
  intro f_nodes f_depth f_known f_dues f_place f_gifts f_matched f_lists f_steps f_outcome f_made a_name a_parent a_lastOf a_way a_value a_axes a_named a_kind a_over a_ends a_count a_num a_placed a_asked a_holds a_due a_open a_there a_priority a_given a_matches a_stack a_rest a_position a_size a_at a_row a_pc a_first a_out a_large g_nodes g_inner g_listed g_depth g_row g_pc g_node g_position g_size g_fault b_kind b_with b_bodyAt b_wanted b_waiting b_within b_list b_left b_reached b_sizes b_each b_backRow b_backPc b_backNode b_backPosition b_backSize nn dep cnt F
  have F2 := F
  obtain ⟨⟨f1, f2, f3, hP, hN, hL, hW, f8, hkn⟩, ⟨hK, hKY, hcn⟩, hR, hM, hC⟩ := F
  have h24 := hP.1
  subst f1 f2
  unfold wpX_select wpX_isNode
  dsimp only
  rcases pk_ix v1 (n := nn) (by omega) with z | z | ⟨j, hj, rfl⟩
  · exact br_t z (br_t rfl (br_t z (br_f (by decide) ⟨rfl, zz_in F2⟩)))
  · have h0 : ¬ v1 < 0 := fun w => absurd (Int32.lt_of_le_of_lt z w) (Int32.not_lt.mpr (nI_pos' (by omega)))
    exact br_f h0 (br_t z (br_t rfl (br_f h0 (br_f (Int32.not_lt.mpr z) (br_f (by decide) ⟨rfl, zz_in F2⟩)))))
  · obtain ⟨hc6, hc30⟩ := hcn 6 (by omega)
    have hTX : xe_T 186 (cnt 6) (xr_T a_kind a_num 6) a_kind a_num := xr_KT hK (r := 6) (n := cnt 6) (by omega) hc30
    have hTY : ye_T 180 (cnt 6) (xr_T a_kind a_num 6) b_kind b_with := rl_yT hK hKY (r := 6) (n := cnt 6) (by omega) hc30
    have yk : ∀ {post : Int32 → SY → Prop}, (gm_rd (xr_T a_kind a_num 6).1 (cnt 6) 0 [3] = none → ∀ wa, wpY_path (fun r_43 u => match u with | (g_nodes44, g_inner44, g_rules44, g_place44, g_listed44, g_depth44, g_row44, g_pc44, g_node44, g_position44, g_size44, g_fault44, g_put44, g_steps44, b_name44, b_parent44, b_value44, b_kind44, b_with44, b_count44, b_bodyAt44, b_priority44, b_given44, b_there44, b_wanted44, b_waiting44, b_within44, b_list44, b_left44, b_reached44, b_sizes44, b_each44, b_backRow44, b_backPc44, b_backNode44, b_backPosition44, b_backSize44, b_output44) => (post r_43 (g_nodes44, g_inner44, g_rules44, g_place44, g_listed44, g_depth44, g_row44, g_pc44, g_node44, g_position44, g_size44, g_fault44, g_put44, g_steps44, b_name44, b_parent44, b_value44, b_kind44, b_with44, b_count44, b_bodyAt44, b_priority44, b_given44, b_there44, b_wanted44, b_waiting44, b_within44, b_list44, b_left44, b_reached44, b_sizes44, b_each44, b_backRow44, b_backPc44, b_backNode44, b_backPosition44, b_backSize44, b_output44))) (nI nn, g_inner, f_gifts, f_place, g_listed, g_depth, g_row, g_pc, g_node, g_position, g_size, g_fault, f_made, f_steps, a_name, a_parent, a_value, b_kind, b_with, a_count, b_bodyAt, a_priority, a_given, a_there, wa, b_waiting, b_within, b_list, b_left, b_reached, b_sizes, b_each, b_backRow, b_backPc, b_backNode, b_backPosition, b_backSize, a_out) 180 (180 + (a_count 6)) (nI j)) → (∀ i, gm_rd (xr_T a_kind a_num 6).1 (cnt 6) 0 [3] = some i → i ≤ cnt 6 → ∀ wa, post (-3) (nI nn, g_inner, f_gifts, nI i, g_listed, g_depth, g_row, g_pc, g_node, g_position, g_size, g_fault, f_made, f_steps, a_name, a_parent, a_value, b_kind, b_with, a_count, b_bodyAt, a_priority, a_given, a_there, wa, b_waiting, b_within, b_list, b_left, b_reached, b_sizes, b_each, b_backRow, b_backPc, b_backNode, b_backPosition, b_backSize, a_out)) → (∀ i, gm_rd (xr_T a_kind a_num 6).1 (cnt 6) 0 [3] = some i → i ≤ cnt 6) → wpY_select post (nI nn, g_inner, f_gifts, f_place, g_listed, g_depth, g_row, g_pc, g_node, g_position, g_size, g_fault, f_made, f_steps, a_name, a_parent, a_value, b_kind, b_with, a_count, b_bodyAt, a_priority, a_given, a_there, b_wanted, b_waiting, b_within, b_list, b_left, b_reached, b_sizes, b_each, b_backRow, b_backPc, b_backNode, b_backPosition, b_backSize, a_out) (nI j) := by
      intro post hn hi hle
      refine br_f (nI_pos (by omega)) (br_t (nI_lt hj (by omega)) (br_t rfl ?_))
      refine ym_path (n := cnt 6) (T := xr_T a_kind a_num 6) hTY hc6 (fun h wa => br_t (by decide) (hn h wa)) (fun i h wa => br_f (nI_pos (by have := hle i h; omega)) (hi i h (hle i h) wa))
    refine br_f (nI_pos (by omega)) (br_f (nI_ge hj (by omega)) (br_f (by decide) ?_))
    refine xq_reads (w := 3) (n := cnt 6) (T := xr_T a_kind a_num 6) hTX hc6 (Or.inr rfl) (fun ok dd du ov en pl op h1 h2 => br_f (by decide) ?_) (fun i h1 h2 dd du => br_t rfl ?_)
    · obtain ⟨ps, s, hS, hps, hs0, hsn, -⟩ := rl_ps ok
      refine xk_learn rfl hP hN hL hkn (fun ax nd hD => ?_)
      refine xq_path (cnt := cnt) hD hK (fun q hq => (hcn q hq).2) h2 hS hps hj hC (fun st as ho hC' => ?_)
      refine yk (fun _ wa => ?_) (fun i hi => by rw [ok.1] at hi; cases hi) (fun i hi => by rw [ok.1] at hi; cases hi)
      refine yq_path (n := cnt 6) rfl hP hTY hc6 hsn hS hps (fun ld li wi => ⟨rfl, zz_in (nn := nn) (dep := dep) (cnt := cnt) ⟨⟨rfl, rfl, f3, hP, hN, hL, hW, f8, Or.inr ⟨rfl, hD.2.2⟩⟩, ⟨hK, hKY, hcn⟩, rl_RUc hR (fun _ _ => rfl) (fun r hr => (hcn r (by omega)).2) (fun _ _ => ⟨rfl, rfl⟩) h1, hM, hC'⟩⟩)
    · exact yk (fun h => by rw [h] at h1; cases h1) (fun i' hi' _ wa => by
        rw [h1] at hi'
        have e := Option.some.inj hi'
        subst e
        exact ⟨rfl, zz_in (nn := nn) (dep := dep) (cnt := cnt) ⟨⟨rfl, rfl, f3, hP, hN, hL, hW, f8, hkn⟩, ⟨hK, hKY, hcn⟩, hR, hM, hC⟩⟩) (fun i' hi' => by
        rw [h1] at hi'
        have e := Option.some.inj hi'
        omega)
theorem i_vc_number {k : Nat} {u : SX} {v : SY} (I : i_Rel k u v) (hk : k + 4 ≤ 2048) (v1 : Int32) : wpX_number (fun r u' => wpY_number (fun r' v' => r' = r ∧ i_Rel (k + 4) u' v') v v1) u v1 := by
  refine zz_el (P := fun u v => wpX_number (fun r u' => wpY_number (fun r' v' => r' = r ∧ i_Rel (k + 4) u' v') v v1) u v1) ?_ I
  intro f_nodes f_depth f_known f_dues f_place f_gifts f_matched f_lists f_steps f_outcome f_made a_name a_parent a_lastOf a_way a_value a_axes a_named a_kind a_over a_ends a_count a_num a_placed a_asked a_holds a_due a_open a_there a_priority a_given a_matches a_stack a_rest a_position a_size a_at a_row a_pc a_first a_out a_large g_nodes g_inner g_listed g_depth g_row g_pc g_node g_position g_size g_fault b_kind b_with b_bodyAt b_wanted b_waiting b_within b_list b_left b_reached b_sizes b_each b_backRow b_backPc b_backNode b_backPosition b_backSize nn dep cnt F
  have F2 := F
  obtain ⟨⟨f1, f2, f3, hP, hN, hL, hW, f8, hkn⟩, ⟨hK, hKY, hcn⟩, hR, hM, hC⟩ := F
  have h24 := hP.1
  subst f1 f2
  unfold wpX_number wpX_isNode
  dsimp only
  rcases pk_ix v1 (n := nn) (by omega) with z | z | ⟨j, hj, rfl⟩
  · exact br_t z (br_t rfl (br_t z (br_f (by decide) ⟨rfl, zz_in F2⟩)))
  · have h0 : ¬ v1 < 0 := fun w => absurd (Int32.lt_of_le_of_lt z w) (Int32.not_lt.mpr (nI_pos' (by omega)))
    exact br_f h0 (br_t z (br_t rfl (br_f h0 (br_f (Int32.not_lt.mpr z) (br_f (by decide) ⟨rfl, zz_in F2⟩)))))
  · obtain ⟨hc6, hc30⟩ := hcn 6 (by omega)
    have hTX : xe_T 186 (cnt 6) (xr_T a_kind a_num 6) a_kind a_num := xr_KT hK (r := 6) (n := cnt 6) (by omega) hc30
    have hTY : ye_T 180 (cnt 6) (xr_T a_kind a_num 6) b_kind b_with := rl_yT hK hKY (r := 6) (n := cnt 6) (by omega) hc30
    have yk : ∀ {post : Int64 → SY → Prop}, (gm_rd (xr_T a_kind a_num 6).1 (cnt 6) 0 [1] = none → ∀ wa, wpY_outerNumber (fun r_43 u => match u with | (g_nodes44, g_inner44, g_rules44, g_place44, g_listed44, g_depth44, g_row44, g_pc44, g_node44, g_position44, g_size44, g_fault44, g_put44, g_steps44, b_name44, b_parent44, b_value44, b_kind44, b_with44, b_count44, b_bodyAt44, b_priority44, b_given44, b_there44, b_wanted44, b_waiting44, b_within44, b_list44, b_left44, b_reached44, b_sizes44, b_each44, b_backRow44, b_backPc44, b_backNode44, b_backPosition44, b_backSize44, b_output44) => (post r_43.toInt64 (g_nodes44, g_inner44, g_rules44, g_place44, g_listed44, g_depth44, g_row44, g_pc44, g_node44, g_position44, g_size44, g_fault44, g_put44, g_steps44, b_name44, b_parent44, b_value44, b_kind44, b_with44, b_count44, b_bodyAt44, b_priority44, b_given44, b_there44, b_wanted44, b_waiting44, b_within44, b_list44, b_left44, b_reached44, b_sizes44, b_each44, b_backRow44, b_backPc44, b_backNode44, b_backPosition44, b_backSize44, b_output44))) (nI nn, g_inner, f_gifts, f_place, g_listed, g_depth, g_row, g_pc, g_node, g_position, g_size, g_fault, f_made, f_steps, a_name, a_parent, a_value, b_kind, b_with, a_count, b_bodyAt, a_priority, a_given, a_there, wa, b_waiting, b_within, b_list, b_left, b_reached, b_sizes, b_each, b_backRow, b_backPc, b_backNode, b_backPosition, b_backSize, a_out) 180 (180 + (a_count 6)) (nI j) 1 1) → (∀ i, gm_rd (xr_T a_kind a_num 6).1 (cnt 6) 0 [1] = some i → i ≤ cnt 6 → ∀ wa, post (-9223372036854775807) (nI nn, g_inner, f_gifts, nI i, g_listed, g_depth, g_row, g_pc, g_node, g_position, g_size, g_fault, f_made, f_steps, a_name, a_parent, a_value, b_kind, b_with, a_count, b_bodyAt, a_priority, a_given, a_there, wa, b_waiting, b_within, b_list, b_left, b_reached, b_sizes, b_each, b_backRow, b_backPc, b_backNode, b_backPosition, b_backSize, a_out)) → (∀ i, gm_rd (xr_T a_kind a_num 6).1 (cnt 6) 0 [1] = some i → i ≤ cnt 6) → wpY_number post (nI nn, g_inner, f_gifts, f_place, g_listed, g_depth, g_row, g_pc, g_node, g_position, g_size, g_fault, f_made, f_steps, a_name, a_parent, a_value, b_kind, b_with, a_count, b_bodyAt, a_priority, a_given, a_there, b_wanted, b_waiting, b_within, b_list, b_left, b_reached, b_sizes, b_each, b_backRow, b_backPc, b_backNode, b_backPosition, b_backSize, a_out) (nI j) := by
      intro post hn hi hle
      refine br_f (nI_pos (by omega)) (br_t (nI_lt hj (by omega)) (br_t rfl ?_))
      refine ym_number (n := cnt 6) (T := xr_T a_kind a_num 6) hTY hc6 (fun h wa => br_t (by decide) (hn h wa)) (fun i h wa => br_f (nI_pos (by have := hle i h; omega)) (hi i h (hle i h) wa))
    refine br_f (nI_pos (by omega)) (br_f (nI_ge hj (by omega)) (br_f (by decide) ?_))
    refine xq_reads (w := 1) (n := cnt 6) (T := xr_T a_kind a_num 6) hTX hc6 (Or.inl rfl) (fun ok dd du ov en pl op h1 h2 => br_f (by decide) ?_) (fun i h1 h2 dd du => br_t rfl ?_)
    · obtain ⟨its, e, hNn, hCn, _, hle, hnil⟩ := gm_L6 (n := cnt 6) (s := []) (cnt 6) 0 1 (by omega) ok.1
      have hen := gm_nil hnil
      have hen2 : e = cnt 6 := by omega
      subst hen2
      refine xk_learn rfl hP hN hL hkn (fun ax nd hD => ?_)
      refine xq_num (cnt := cnt) hD hK (fun q hq => (hcn q hq).2) h2 hNn hCn hj hC (fun lg st as ho hC' => ?_)
      refine yk (fun _ wa => ?_) (fun i hi => by rw [ok.1] at hi; cases hi) (fun i hi => by rw [ok.1] at hi; cases hi)
      refine yq_num (n := cnt 6) rfl hP hTY hc6 hNn hCn hj (fun wt ld li wi => ⟨rfl, zz_in (nn := nn) (dep := dep) (cnt := cnt) ⟨⟨rfl, rfl, f3, hP, hN, hL, hW, f8, Or.inr ⟨rfl, hD.2.2⟩⟩, ⟨hK, hKY, hcn⟩, rl_RUc hR (fun _ _ => rfl) (fun r hr => (hcn r (by omega)).2) (fun _ _ => ⟨rfl, rfl⟩) h1, hM, hC'⟩⟩)
    · exact yk (fun h => by rw [h] at h1; cases h1) (fun i' hi' _ wa => by
        rw [h1] at hi'
        have e := Option.some.inj hi'
        subst e
        exact ⟨rfl, zz_in (nn := nn) (dep := dep) (cnt := cnt) ⟨⟨rfl, rfl, f3, hP, hN, hL, hW, f8, hkn⟩, ⟨hK, hKY, hcn⟩, hR, hM, hC⟩⟩) (fun i' hi' => by
        rw [h1] at hi'
        have e := Option.some.inj hi'
        omega)
theorem i_vc_ruleFor {k : Nat} {u : SX} {v : SY} (I : i_Rel k u v) (hk : k + 4 ≤ 2048) (v1 : Int32) : wpX_ruleFor (fun r u' => wpY_ruleFor (fun r' v' => r' = r ∧ i_Rel (k + 4) u' v') v v1) u v1 := by
  refine zz_el (P := fun u v => wpX_ruleFor (fun r u' => wpY_ruleFor (fun r' v' => r' = r ∧ i_Rel (k + 4) u' v') v v1) u v1) ?_ I
  intro f_nodes f_depth f_known f_dues f_place f_gifts f_matched f_lists f_steps f_outcome f_made a_name a_parent a_lastOf a_way a_value a_axes a_named a_kind a_over a_ends a_count a_num a_placed a_asked a_holds a_due a_open a_there a_priority a_given a_matches a_stack a_rest a_position a_size a_at a_row a_pc a_first a_out a_large g_nodes g_inner g_listed g_depth g_row g_pc g_node g_position g_size g_fault b_kind b_with b_bodyAt b_wanted b_waiting b_within b_list b_left b_reached b_sizes b_each b_backRow b_backPc b_backNode b_backPosition b_backSize nn dep cnt F
  have F2 := F
  obtain ⟨⟨f1, f2, f3, hP, hN, hL, hW, f8, hkn⟩, ⟨hK, hKY, hcn⟩, hR, hM, hC⟩ := F
  have h24 := hP.1
  subst f1 f2
  unfold wpX_ruleFor wpX_isNode
  dsimp only
  rcases pk_ix v1 (n := nn) (by omega) with z | z | ⟨j, hj, rfl⟩
  · exact br_t z (br_t rfl (br_t z (br_f (by decide) ⟨rfl, zz_in F2⟩)))
  · have h0 : ¬ v1 < 0 := fun w => absurd (Int32.lt_of_le_of_lt z w) (Int32.not_lt.mpr (nI_pos' (by omega)))
    exact br_f h0 (br_t z (br_t rfl (br_f h0 (br_f (Int32.not_lt.mpr z) (br_f (by decide) ⟨rfl, zz_in F2⟩)))))
  · refine br_f (nI_pos (by omega)) (br_f (nI_ge hj (by omega)) (br_f (by decide) ?_))
    refine xb_match rfl hP hN hL hkn hK (fun q hq => (hcn q hq).2) hR hC hM (fun ax nd st as ho mt hD hC' hMT => ?_)
    refine xb_best (node := j) (pick := fun r => !decide (a_there r = 0) && bt (mt r) j) (by omega) (fun r hr => rfl) ?_
    refine yb_rule (pick := fun r => !decide (a_there r = 0) && bt (mt r) j) rfl h24 hj (yb_pick (mt := mt) rfl hP hj hK hKY (fun q hq => (hcn q hq).2) hR hMT) (fun ld li wi => ⟨rfl, zz_in (nn := nn) (dep := dep) (cnt := cnt) ⟨⟨rfl, rfl, f3, hP, hN, hL, hW, f8, Or.inr ⟨rfl, hD.2.2⟩⟩, ⟨hK, hKY, hcn⟩, hR, Or.inr ⟨rfl, hMT⟩, hC'⟩⟩)
end
section
/-! tokens that agree up to n are read alike -/
theorem gm_rdc {K K' : Nat → Nat} : ∀ d q s, (∀ x, q ≤ x → x < q + d → K' x = K x) → gm_rd K' d q s = gm_rd K d q s := by
  intro d
  induction d with
  | zero => intro q s _; rfl
  | succ d ih =>
    intro q s h
    rw [gm_rd, gm_rd, h q (by omega) (by omega)]
    cases gm_p (K q) s with
    | nil => rfl
    | cons x t =>
      dsimp only
      cases gm_f x (K q) with
      | none => rfl
      | some l => exact ih (q + 1) _ (fun x a b => h x (by omega) (by omega))
theorem gm_Bc {K K' : Nat → Nat} {n : Nat} (hx : ∀ x, x < n → K' x = K x) : ∀ brs p e, gm_B K n brs p e → gm_B K' n brs p e := by
  intro brs
  induction brs with
  | nil => intro p e h; exact ⟨h.1, fun z => by rw [hx p z]; exact h.2 z⟩
  | cons b t ih => intro p e h; exact ⟨h.1, gm_PBc hx (Nat.le_refl _) h.2.1, ih _ _ h.2.2⟩
theorem gm_Sc {K K' : Nat → Nat} {n : Nat} (hx : ∀ x, x < n → K' x = K x) : ∀ ps q e, gm_S K n ps q e → gm_S K' n ps q e := by
  intro ps
  induction ps with
  | nil => intro q e h; exact ⟨h.1, fun z => by rw [hx q z]; exact h.2.1 z, h.2.2⟩
  | cons s t ih =>
    intro q e h
    obtain ⟨a, b, c, d, f, g⟩ := h
    exact ⟨a, b, by rw [hx q b]; exact c, d, gm_Bc hx _ _ _ f, ih _ _ g⟩
theorem gm_Nc {K K' : Nat → Nat} {n : Nat} (hx : ∀ x, x < n → K' x = K x) : ∀ its q e m, gm_N K n its q e → gm_C K its m → gm_N K' n its q e ∧ gm_C K' its m := by
  intro its
  induction its with
  | nil => intro q e m h hc; exact ⟨h, hc⟩
  | cons i t ih =>
    intro q e m h hc
    obtain ⟨a, b, c, d⟩ := h
    obtain ⟨f, g⟩ := hc
    have key : ∀ c m', gm_N K n t c e → gm_C K t m' → gm_N K' n t c e ∧ gm_C K' t m' := fun c m' x y => ih _ _ _ x y
    have ek : K' i.1 = K i.1 := hx _ (by omega)
    have hcc : ∀ c, gm_N K n t c e → (if K' i.1 ≤ 6 then gm_C K' t (m - 1) else if K' i.1 = 14 then gm_C K' t m else gm_C K' t (m + 1)) := by
      intro c x
      rw [ek]
      by_cases z : K i.1 ≤ 6
      · rw [if_pos z] at g ⊢; exact (key _ _ x g).2
      · rw [if_neg z] at g ⊢
        by_cases z : K i.1 = 14
        · rw [if_pos z] at g ⊢; exact (key _ _ x g).2
        · rw [if_neg z] at g ⊢; exact (key _ _ x g).2
    have hnn : ∀ c, gm_N K n t c e → gm_N K' n t c e := by
      intro c x
      by_cases z : K i.1 ≤ 6
      · rw [if_pos z] at g; exact (key _ _ x g).1
      · rw [if_neg z] at g
        by_cases z : K i.1 = 14
        · rw [if_pos z] at g; exact (key _ _ x g).1
        · rw [if_neg z] at g; exact (key _ _ x g).1
    rcases d with ⟨k1, k2, k3, c2, k4, k5⟩ | ⟨k1, k2, k5⟩
    · exact ⟨⟨a, b, by rw [hx q b]; exact c, Or.inl ⟨by rw [hx q b]; exact k1, by rw [hx q b]; exact k2, k3, c2, gm_Sc hx _ _ _ k4, hnn _ k5⟩⟩, f, hcc _ k5⟩
    · exact ⟨⟨a, b, by rw [hx q b]; exact c, Or.inr ⟨by rw [hx q b]; exact k1, k2, hnn _ k5⟩⟩, f, hcc _ k5⟩
theorem gm_Uc {K K' : Nat → Nat} : ∀ d q, (∀ x, q ≤ x → x < q + d → K' x = K x) → gm_U K' d q = gm_U K d q := by
  intro d
  induction d with
  | zero => intro q _; rfl
  | succ d ih =>
    intro q h
    rw [gm_U, gm_U, h q (by omega) (by omega), ih (q + 1) (fun x a b => h x (by omega) (by omega))]
theorem xr_SVm {K K' : Nat → Nat} {n b b' : Nat} {ov en pl ov' en' pl' : Nat → Int32} (hx : ∀ x, x < n → K' x = K x) (hn : n ≤ 30) (hk : ∀ x, x < n → K x ≤ 26) (h : ∀ i, i < n → ov' (b' + i) = vp_nar .byte (ov (b + i)) ∧ en' (b' + i) = vp_nar .byte (en (b + i)) ∧ pl' (b' + i) = vp_nar .boolean (pl (b + i))) (hS : xr_SVi K n b 0 ov en pl) : xr_SVi K' n b' 0 ov' en' pl' := by
  have hx' : ∀ x, x < n → K x = K' x := fun x z => (hx x z).symm
  obtain ⟨h1, h2, h3, h4⟩ := hS
  refine ⟨fun its q e hq a c => ?_, fun ps q s hq a c => ?_, fun p c hq a => ?_, fun p e hq a c d => ?_⟩
  · obtain ⟨a', c'⟩ := gm_Nc hx' _ _ _ _ a c
    have := gm_Nle _ _ _ _ a c
    rw [(h q (xv_Nk (m := 0) a c).2).1, h1 its q e hq a' c', nb_2 (by omega)]
  · have := gm_Sle _ _ _ a
    rw [(h q (gm_Slt a c).2.1).1, h2 ps q s hq (gm_Sc hx' _ _ _ a) c, nb_2 (by omega)]
  · have a' := gm_PBc hx' (Nat.le_refl _) a
    have g1 := a.2.1
    have g2 := a.2.2.1
    obtain ⟨e1, e2, e3⟩ := h3 p c hq a'
    have hpl : vp_nar .boolean (pl (b + p)) = pl (b + p) := by
      rcases e3 with e3 | e3 <;> rw [e3] <;> rfl
    rw [(h p (by omega)).1, (h p (by omega)).2.2, e1, nb_2 (by omega), hpl]
    refine ⟨rfl, fun z y y1 y2 => ?_, e3⟩
    rw [hx y (by omega)]
    exact e2 z y y1 y2
  · rw [gm_Uc _ _ (fun x y z => hx x (by omega))] at d
    rw [hx p a] at c
    have := (gm_UL (n := n) (n - (p + 1)) (p + 1) 0 e (by omega) d).2.2.2
    obtain ⟨e1, e2⟩ := h4 p e hq a c d
    have := hk p a
    rw [(h p a).1, (h e (by omega)).2.1, e1, e2, nb_2 (by omega), nb_2 (by omega), hx p a]
    exact ⟨rfl, rfl⟩
/-- i tokens of the draft stand in row r -/
def xr_CP (r i : Nat) (kind num over ends placed asked kd nu ov en pl as : Nat → Int32) : Prop :=
  (∀ c, (c < 31 * r ∨ 31 * r + i ≤ c) → kd c = kind c ∧ nu c = num c ∧ ov c = over c ∧ en c = ends c ∧ pl c = placed c ∧ as c = asked c) ∧
  (∀ j, j < i → kd (31 * r + j) = vp_nar .byte (kind (186 + j)) ∧ nu (31 * r + j) = num (186 + j) ∧ ov (31 * r + j) = vp_nar .byte (over (186 + j)) ∧ en (31 * r + j) = vp_nar .byte (ends (186 + j)) ∧ pl (31 * r + j) = vp_nar .boolean (placed (186 + j)) ∧ as (31 * r + j) = 0)
section
variable {f_nodes f_depth f_known f_dues f_place f_gifts f_matched f_lists f_steps f_outcome f_made : Int32} {a_name a_parent a_lastOf a_way a_value a_axes a_named a_kind a_over a_ends a_count a_num a_placed a_asked a_holds a_due a_open a_there a_priority a_given a_matches a_stack a_rest a_position a_size a_at a_row a_pc a_first a_out a_large : Nat → Int32}
theorem xr_63 {post : Int32 → SX → Prop} {r n : Nat} {pr : Int32} (hr : r < 6) (hn : n ≤ 30) (hp : ∀ kd nu ov en pl as, xr_CP r n a_kind a_num a_over a_ends a_placed a_asked kd nu ov en pl as → post 0 (f_nodes, f_depth, f_known, f_dues, f_place, (f_gifts + 1), 0, f_lists, f_steps, f_outcome, f_made, a_name, a_parent, a_lastOf, a_way, a_value, a_axes, a_named, kd, ov, en, (upd a_count r (nI n)), nu, pl, as, a_holds, a_due, a_open, (upd a_there r 1), (upd a_priority r pr), (upd a_given r (f_gifts + 1)), a_matches, a_stack, a_rest, a_position, a_size, a_at, a_row, a_pc, a_first, a_out, a_large)) : ∀ d i kd nu ov en pl as, i + d = n → xr_CP r i a_kind a_num a_over a_ends a_placed a_asked kd nu ov en pl as → wX_rule_63 post (nI r) pr (nI n) (d + 1) (nI i) f_nodes f_depth f_known f_dues f_place f_gifts f_matched f_lists f_steps f_outcome f_made a_name a_parent a_lastOf a_way a_value a_axes a_named kd ov en a_count nu pl as a_holds a_due a_open a_there a_priority a_given a_matches a_stack a_rest a_position a_size a_at a_row a_pc a_first a_out a_large := by
  intro d
  induction d with
  | zero =>
    intro i kd nu ov en pl as hi hC
    rw [show i = n by omega] at hC
    refine br_t (nI_le (by omega) (by omega)) ⟨vp_in_nI (by omega) (by omega), ?_⟩
    rw [nI_clamp (by omega), nb_3 (by omega)]
    exact nm_e ⟨vp_in_nI (by omega) (by omega), nm_e ⟨vp_in_nI (by omega) (by omega), nm_e (nm_e ⟨vp_in_nI (by omega) (by omega), nm_e (hp kd nu ov en pl as hC)⟩)⟩⟩
  | succ d ih =>
    intro i kd nu ov en pl as hi hC
    obtain ⟨h1, h2⟩ := hC
    refine br_f (nI_ge (by omega) (by omega)) ?_
    rw [show (186 : Int32) + nI i = nI (186 + i) from nI_add 186 i, show (31 : Int32) * nI r = nI (31 * r) from pk_mul 31 r, nI_add]
    obtain ⟨g1, g2, g3, g4, g5, g6⟩ := h1 (186 + i) (Or.inr (by omega))
    refine ⟨vp_in_nI (by omega) (by omega), vp_in_nI (by omega) (by omega), ?_⟩
    rw [nI_clamp (by omega), nI_clamp (by omega), g1, g2, g3, g4, g5]
    refine nm_e ⟨vp_in_nI (by omega) (by omega), vp_in_nI (by omega) (by omega), nm_e ⟨vp_in_nI (by omega) (by omega), vp_in_nI (by omega) (by omega), nm_e ⟨vp_in_nI (by omega) (by omega), vp_in_nI (by omega) (by omega), nm_e ⟨vp_in_nI (by omega) (by omega), vp_in_nI (by omega) (by omega), nm_e ⟨vp_in_nI (by omega) (by omega), nm_e (nm_r (nI_1 i) (ih (i + 1) _ _ _ _ _ _ (by omega) ⟨fun c hc => ?_, fun j hj => ?_⟩))⟩⟩⟩⟩⟩
    · rw [pk_un (by omega), pk_un (by omega), pk_un (by omega), pk_un (by omega), pk_un (by omega), pk_un (by omega)]
      exact h1 c (by omega)
    · by_cases e : j = i
      · subst e
        rw [pk_us, pk_us, pk_us, pk_us, pk_us, pk_us]
        exact ⟨rfl, rfl, rfl, rfl, rfl, rfl⟩
      · rw [pk_un (by omega), pk_un (by omega), pk_un (by omega), pk_un (by omega), pk_un (by omega), pk_un (by omega)]
        exact h2 j (by omega)
end
section
variable {g_nodes g_inner g_rules g_place g_listed g_depth g_row g_pc g_node g_position g_size g_fault g_put g_steps : Int32} {b_name b_parent b_value b_kind b_with b_count b_bodyAt b_priority b_given b_there b_wanted b_waiting b_within b_list b_left b_reached b_sizes b_each b_backRow b_backPc b_backNode b_backPosition b_backSize b_output : Nat → Int32}
theorem yr_77 {post : Int32 → SY → Prop} {r n e : Nat} {T : td_T} {ps : List (Nat × List (Nat × Nat))} (hr : r < 6) (hT : ye_T 180 n T b_kind b_with) (hS : gm_S T.1 n ps 0 e) (hps : ps ≠ []) (hp : ∀ kd wt, (∀ c, (c < 30 * r ∨ 30 * r + n ≤ c) → kd c = b_kind c ∧ wt c = b_with c) → (∀ j, j < n → kd (30 * r + j) = b_kind (180 + j) ∧ wt (30 * r + j) = b_with (180 + j)) → post 0 (g_nodes, g_inner, g_rules, g_place, g_listed, g_depth, g_row, g_pc, g_node, g_position, g_size, g_fault, g_put, g_steps, b_name, b_parent, b_value, kd, wt, b_count, (upd b_bodyAt r (nI e)), b_priority, b_given, b_there, b_wanted, b_waiting, b_within, b_list, b_left, b_reached, b_sizes, b_each, b_backRow, b_backPc, b_backNode, b_backPosition, b_backSize, b_output)) : ∀ d i kd wt, i + d = n → (∀ c, (c < 30 * r ∨ 30 * r + i ≤ c) → kd c = b_kind c ∧ wt c = b_with c) → (∀ j, j < i → kd (30 * r + j) = b_kind (180 + j) ∧ wt (30 * r + j) = b_with (180 + j)) → wY_rule_77 post (nI r) (nI n) g_nodes g_inner g_rules g_place g_listed g_depth g_row g_pc g_node g_position g_size g_fault g_put g_steps (d + 1) (nI i) b_name b_parent b_value kd wt b_count b_bodyAt b_priority b_given b_there b_wanted b_waiting b_within b_list b_left b_reached b_sizes b_each b_backRow b_backPc b_backNode b_backPosition b_backSize b_output := by
  have hTn := hT.2.1
  have hle := gm_Sle _ _ _ hS
  intro d
  induction d with
  | zero =>
    intro i kd wt hi h1 h2
    rw [show i = n by omega] at h1 h2
    refine br_t (nI_le (by omega) (by omega)) ?_
    rw [show (30 : Int32) * nI r = nI (30 * r) from pk_mul 30 r, nI_add]
    refine yp_end (b := 30 * r) (q := 0) (E := n) (T := T) (ps := ps) (e := e) ⟨by omega, hTn, fun i hi => ?_⟩ (Nat.le_refl _) hle.2 hS hps ⟨vp_in_nI (by omega) (by omega), ?_⟩
    · rw [(h2 i hi).1, (h2 i hi).2]
      exact hT.2.2 i hi
    · rw [nI_clamp (by omega), pk_sub (by omega), show 30 * r + e - 30 * r = e by omega, nb_3 (by omega)]
      exact nm_e (hp kd wt h1 h2)
  | succ d ih =>
    intro i kd wt hi h1 h2
    refine br_f (nI_ge (by omega) (by omega)) ?_
    rw [show (180 : Int32) + nI i = nI (180 + i) from nI_add 180 i, show (30 : Int32) * nI r = nI (30 * r) from pk_mul 30 r, nI_add]
    obtain ⟨g1, g2⟩ := h1 (180 + i) (Or.inr (by omega))
    obtain ⟨t1, t2, -⟩ := hT.2.2 i (by omega)
    refine ⟨vp_in_nI (by omega) (by omega), vp_in_nI (by omega) (by omega), ?_⟩
    rw [nI_clamp (by omega), nI_clamp (by omega), g1, g2, t1, nb_2 (by omega), ← t1]
    refine nm_e ⟨vp_in_nI (by omega) (by omega), vp_in_nI (by omega) (by omega), nm_e (nm_r (nI_1 i) (ih (i + 1) _ _ (by omega) (fun c hc => ?_) (fun j hj => ?_)))⟩
    · rw [pk_un (by omega), pk_un (by omega)]
      exact h1 c (by omega)
    · by_cases e : j = i
      · subst e
        rw [pk_us, pk_us]
        exact ⟨rfl, rfl⟩
      · rw [pk_un (by omega), pk_un (by omega)]
        exact h2 j (by omega)
end
theorem ru_F {nn dep r n : Nat} {cnt : Nat → Nat} {ov0 en0 pl0 kd nu ov en pl as kdY wtY bo : Nat → Int32} {f_nodes f_depth f_known f_matched g_nodes g_inner : Int32} {a_name a_parent a_lastOf a_way a_value a_axes a_named a_kind a_over a_ends a_count a_num a_placed a_asked a_holds a_there a_matches b_kind b_with b_bodyAt : Nat → Int32} (F : rl_F nn dep cnt f_nodes f_depth f_known f_matched g_nodes g_inner a_name a_parent a_lastOf a_way a_value a_axes a_named a_kind a_over a_ends a_count a_num a_placed a_asked a_holds a_there a_matches b_kind b_with b_bodyAt) (hr : r < 6) (hn : n = cnt 6) (hlow : ∀ c, c < 186 → ov0 c = a_over c ∧ en0 c = a_ends c ∧ pl0 c = a_placed c) (hSV : xr_SVi (xr_T a_kind a_num 6).1 n 186 0 ov0 en0 pl0) (ok : gm_OK (xr_T a_kind a_num 6).1 n [3, 9]) (hCP : xr_CP r n a_kind a_num ov0 en0 pl0 a_asked kd nu ov en pl as) (hY1 : ∀ c, (c < 30 * r ∨ 30 * r + n ≤ c) → kdY c = b_kind c ∧ wtY c = b_with c) (hY2 : ∀ j, j < n → kdY (30 * r + j) = b_kind (180 + j) ∧ wtY (30 * r + j) = b_with (180 + j)) (hb1 : ∀ ps e, gm_S (xr_T a_kind a_num 6).1 n ps 0 e → ps ≠ [] → bo r = nI e) (hb2 : ∀ q, q ≠ r → bo q = b_bodyAt q) : rl_F nn dep (fun q => if q = r then n else if q = 6 then 0 else cnt q) f_nodes f_depth f_known 0 g_nodes g_inner a_name a_parent a_lastOf a_way a_value a_axes a_named kd ov en (upd (upd a_count 6 0) r (nI n)) nu pl as a_holds (upd a_there r 1) a_matches kdY wtY bo := by
  obtain ⟨hD, ⟨hK, hKY, hcn⟩, hR, hM, hC⟩ := F
  obtain ⟨c1, c2⟩ := hCP
  have hn30 := (hcn 6 (by omega)).2
  rw [← hn] at hn30
  have hTX := xr_KT hK (r := 6) (n := n) (by omega) hn30
  have hbyte : ∀ j, j < n → vp_nar .byte (a_kind (186 + j)) = a_kind (186 + j) := by
    intro j hj
    obtain ⟨t1, t2, -⟩ := hTX.2.2 j hj
    rw [show a_kind (186 + j) = _ from t1, nb_2 (by omega)]
  have out : ∀ q, q < 7 → q ≠ r → ∀ i, i < 30 → (31 * q + i < 31 * r ∨ 31 * r + n ≤ 31 * q + i) := by
    intro q hq hqr i hi
    rcases Nat.lt_or_ge q r with z | z
    · left; omega
    · right; omega
  have hTo : ∀ q, q < 7 → q ≠ r → xr_T kd nu q = xr_T a_kind a_num q := fun q hq hqr => rl_T7 (fun i hi => ⟨(c1 _ (out q hq hqr i hi)).1, (c1 _ (out q hq hqr i hi)).2.1⟩)
  have hTr : ∀ x, x < n → (xr_T kd nu r).1 x = (xr_T a_kind a_num 6).1 x := by
    intro x hx
    unfold xr_T
    dsimp only
    rw [if_pos (by omega), if_pos (by omega), (c2 x hx).1, hbyte x hx]
  refine ⟨hD, ⟨fun q hq i hi => ?_, fun q hq i hi => ?_, fun q hq => ?_⟩, fun q hq => ?_, Or.inl rfl, ?_⟩
  · by_cases e : q = r
    · subst e
      by_cases e2 : i < n
      · rw [(c2 i e2).1, (c2 i e2).2.1, hbyte i e2]
        exact hK 6 (by omega) i hi
      · rw [(c1 (31 * q + i) (Or.inr (by omega))).1, (c1 (31 * q + i) (Or.inr (by omega))).2.1]
        exact hK q hq i hi
    · rw [(c1 _ (out q hq e i hi)).1, (c1 _ (out q hq e i hi)).2.1]
      exact hK q hq i hi
  · by_cases e : q = r
    · subst e
      by_cases e2 : i < n
      · rw [(c2 i e2).1, (c2 i e2).2.1, hbyte i e2, (hY2 i e2).1, (hY2 i e2).2]
        exact hKY 6 (by omega) i hi
      · rw [(c1 (31 * q + i) (Or.inr (by omega))).1, (c1 (31 * q + i) (Or.inr (by omega))).2.1, (hY1 (30 * q + i) (Or.inr (by omega))).1, (hY1 (30 * q + i) (Or.inr (by omega))).2]
        exact hKY q hq i hi
    · have o : 30 * q + i < 30 * r ∨ 30 * r + n ≤ 30 * q + i := by
        rcases Nat.lt_or_ge q r with z | z
        · left; omega
        · right; omega
      rw [(c1 _ (out q hq e i hi)).1, (c1 _ (out q hq e i hi)).2.1, (hY1 _ o).1, (hY1 _ o).2]
      exact hKY q hq i hi
  · show upd (upd a_count 6 0) r (nI n) q = nI (if q = r then n else if q = 6 then 0 else cnt q) ∧ (if q = r then n else if q = 6 then 0 else cnt q) ≤ 30
    by_cases e : q = r
    · rw [if_pos e, e, pk_us]; exact ⟨rfl, hn30⟩
    · rw [if_neg e, pk_un e]
      by_cases e6 : q = 6
      · rw [if_pos e6, e6, pk_us]; exact ⟨rfl, by omega⟩
      · rw [if_neg e6, pk_un e6]; exact hcn q hq
  · show (upd a_there r 1 q = 0 ∨ upd a_there r 1 q = 1) ∧ (upd a_there r 1 q = 1 → gm_OK (xr_T kd nu q).1 (if q = r then n else if q = 6 then 0 else cnt q) [3, 9] ∧ xr_SVi (xr_T kd nu q).1 (if q = r then n else if q = 6 then 0 else cnt q) (31 * q) 0 ov en pl ∧ ∀ ps e, gm_S (xr_T kd nu q).1 (if q = r then n else if q = 6 then 0 else cnt q) ps 0 e → ps ≠ [] → bo q = nI e)
    by_cases e : q = r
    · subst e
      rw [pk_us, if_pos rfl]
      refine ⟨Or.inr rfl, fun _ => ⟨⟨?_, ok.2⟩, ?_, fun ps e' h1 h2 => hb1 ps e' (gm_Sc (fun x hx => (hTr x hx).symm) _ _ _ h1) h2⟩⟩
      · rw [gm_rdc n 0 [3, 9] (fun x _ hx => hTr x (by omega))]; exact ok.1
      · exact xr_SVm hTr hn30 (fun x hx => (hTX.2.2 x hx).2.1) (fun i hi => ⟨(c2 i hi).2.2.1, (c2 i hi).2.2.2.1, (c2 i hi).2.2.2.2.1⟩) hSV
    · have hq30 := (hcn q (by omega)).2
      rw [pk_un e, if_neg e, if_neg (by omega), hTo q (by omega) e, hb2 q e]
      obtain ⟨a, b⟩ := hR q hq
      refine ⟨a, fun z => ?_⟩
      obtain ⟨b1, b2, b3⟩ := b z
      refine ⟨b1, xr_SVc (fun i hi => ?_) b2, b3⟩
      obtain ⟨_, _, x3, x4, x5, _⟩ := c1 _ (out q (by omega) e i (by omega))
      obtain ⟨y1, y2, y3⟩ := hlow (31 * q + i) (by omega)
      exact ⟨x3.trans y1, x4.trans y2, x5.trans y3⟩
  · intro q hq i hi m hm hb
    have hi : i < (if q = r then n else if q = 6 then 0 else cnt q) := hi
    show _ ∧ ∃ e, gm_PB _ (if q = r then n else if q = 6 then 0 else cnt q) i e ∧ _
    by_cases e : q = r
    · subst e
      rw [if_pos rfl] at hi
      rw [(c2 i hi).2.2.2.2.2, b_0] at hb
      cases hb
    · rw [if_neg e] at hi ⊢
      by_cases e6 : q = 6
      · rw [if_pos e6] at hi; omega
      · rw [if_neg e6] at hi ⊢
        have hq30 := (hcn q hq).2
        obtain ⟨_, _, _, _, _, x6⟩ := c1 _ (out q hq e i (by omega))
        rw [x6] at hb
        rw [hTo q hq e]
        exact hC q hq i hi m hm hb
theorem ru_F0 {nn dep : Nat} {cnt : Nat → Nat} {f_nodes f_depth f_known f_matched g_nodes g_inner : Int32} {a_name a_parent a_lastOf a_way a_value a_axes a_named a_kind a_over a_ends a_count a_num a_placed a_asked a_holds a_there a_matches b_kind b_with b_bodyAt : Nat → Int32} (F : rl_F nn dep cnt f_nodes f_depth f_known f_matched g_nodes g_inner a_name a_parent a_lastOf a_way a_value a_axes a_named a_kind a_over a_ends a_count a_num a_placed a_asked a_holds a_there a_matches b_kind b_with b_bodyAt) : rl_F nn dep (fun q => if q = 6 then 0 else cnt q) f_nodes f_depth f_known f_matched g_nodes g_inner a_name a_parent a_lastOf a_way a_value a_axes a_named a_kind a_over a_ends (upd a_count 6 0) a_num a_placed a_asked a_holds a_there a_matches b_kind b_with b_bodyAt := by
  obtain ⟨hD, ⟨hK, hKY, hcn⟩, hR, hM, hC⟩ := F
  have h6 : ∀ r, r < 6 → (fun r => if r = 6 then 0 else cnt r) r = cnt r := fun r hr => if_neg (by omega)
  refine ⟨hD, ⟨hK, hKY, fun r hr => ?_⟩, rl_RUc hR h6 (fun r hr => (hcn r (by omega)).2) (fun _ _ => ⟨rfl, rfl⟩) (fun _ _ => ⟨rfl, rfl, rfl⟩), ?_, ?_⟩
  · show upd a_count 6 0 r = nI (if r = 6 then 0 else cnt r) ∧ (if r = 6 then 0 else cnt r) ≤ 30
    by_cases c : r = 6
    · rw [c, pk_us, if_pos rfl]
      exact ⟨rfl, Nat.zero_le _⟩
    · rw [pk_un c, if_neg c]
      exact hcn r hr
  · rcases hM with z | ⟨z, hM⟩
    · exact Or.inl z
    · exact Or.inr ⟨z, fun r hr => rl_MTc (hM r hr) hr (h6 r hr) (fun _ _ => ⟨rfl, rfl⟩)⟩
  · intro r hr i hi m hm hb
    have hi : i < (if r = 6 then 0 else cnt r) := hi
    show _ ∧ ∃ e, gm_PB _ (if r = 6 then 0 else cnt r) i e ∧ _
    by_cases c : r = 6
    · rw [if_pos c] at hi; omega
    · rw [if_neg c] at hi ⊢
      exact hC r hr i hi m hm hb
theorem i_vc_rule {k : Nat} {u : SX} {v : SY} (I : i_Rel k u v) (hk : k + 4 ≤ 2048) (v1 : Int32) (v2 : Int32) : wpX_rule (fun r u' => wpY_rule (fun r' v' => r' = r ∧ i_Rel (k + 4) u' v') v v1 v2) u v1 v2 := by
  refine zz_el (P := fun u v => wpX_rule (fun r u' => wpY_rule (fun r' v' => r' = r ∧ i_Rel (k + 4) u' v') v v1 v2) u v1 v2) ?_ I
  intro f_nodes f_depth f_known f_dues f_place f_gifts f_matched f_lists f_steps f_outcome f_made a_name a_parent a_lastOf a_way a_value a_axes a_named a_kind a_over a_ends a_count a_num a_placed a_asked a_holds a_due a_open a_there a_priority a_given a_matches a_stack a_rest a_position a_size a_at a_row a_pc a_first a_out a_large g_nodes g_inner g_listed g_depth g_row g_pc g_node g_position g_size g_fault b_kind b_with b_bodyAt b_wanted b_waiting b_within b_list b_left b_reached b_sizes b_each b_backRow b_backPc b_backNode b_backPosition b_backSize nn dep cnt F
  have F2 := F
  obtain ⟨hD, ⟨hK, hKY, hcn⟩, hR, hM, hC⟩ := F
  rcases pk_ix v1 (n := 6) (by omega) with z | z | ⟨r, hr, rfl⟩
  · exact br_t z (br_t z (br_f (by decide) ⟨rfl, zz_in F2⟩))
  · have h0 : ¬ v1 < 0 := fun w => absurd (Int32.lt_of_le_of_lt z w) (by decide)
    have h1 : ¬ v1 ≤ 5 := fun w => absurd (Int32.le_trans z w) (by decide)
    exact br_f h0 (br_f h1 (br_f h0 (br_f (Int32.not_lt.mpr z) (br_f (by decide) ⟨rfl, zz_in F2⟩))))
  · obtain ⟨hc6, hc30⟩ := hcn 6 (by omega)
    have hTX : xe_T 186 (cnt 6) (xr_T a_kind a_num 6) a_kind a_num := xr_KT hK (r := 6) (n := cnt 6) (by omega) hc30
    have hTY : ye_T 180 (cnt 6) (xr_T a_kind a_num 6) b_kind b_with := rl_yT hK hKY (r := 6) (n := cnt 6) (by omega) hc30
    have yok : ∀ {post : Int32 → SY → Prop}, gm_OK (xr_T a_kind a_num 6).1 (cnt 6) [3, 9] → (∀ wa kd wt bo, (∀ c, (c < 30 * r ∨ 30 * r + cnt 6 ≤ c) → kd c = b_kind c ∧ wt c = b_with c) → (∀ j, j < cnt 6 → kd (30 * r + j) = b_kind (180 + j) ∧ wt (30 * r + j) = b_with (180 + j)) → (∀ ps e, gm_S (xr_T a_kind a_num 6).1 (cnt 6) ps 0 e → ps ≠ [] → bo r = nI e) → (∀ q, q ≠ r → bo q = b_bodyAt q) → post 0 (g_nodes, g_inner, (f_gifts + 1), f_place, g_listed, g_depth, g_row, g_pc, g_node, g_position, g_size, g_fault, f_made, f_steps, a_name, a_parent, a_value, kd, wt, (upd (upd a_count 6 0) r (nI (cnt 6))), bo, (upd a_priority r v2), (upd a_given r (f_gifts + 1)), (upd a_there r 1), wa, b_waiting, b_within, b_list, b_left, b_reached, b_sizes, b_each, b_backRow, b_backPc, b_backNode, b_backPosition, b_backSize, a_out)) → wpY_rule post (g_nodes, g_inner, f_gifts, f_place, g_listed, g_depth, g_row, g_pc, g_node, g_position, g_size, g_fault, f_made, f_steps, a_name, a_parent, a_value, b_kind, b_with, a_count, b_bodyAt, a_priority, a_given, a_there, b_wanted, b_waiting, b_within, b_list, b_left, b_reached, b_sizes, b_each, b_backRow, b_backPc, b_backNode, b_backPosition, b_backSize, a_out) (nI r) v2 := by
      intro post ok hp
      obtain ⟨ps, e, hS, hps, -⟩ := rl_ps ok
      have hle := gm_Sle _ _ _ hS
      refine br_f (nI_pos (by omega)) (br_t (nI_lt (b := 6) (by omega) (by omega)) (br_t rfl ?_))
      refine ym_rule (n := cnt 6) (T := xr_T a_kind a_num 6) hTY hc6 (fun _ wa => ?_) (fun i h => by rw [ok.1] at h; cases h)
      refine nm_r hc6 (nm_e (br_t (by decide) ⟨vp_in_nI (by omega) (by omega), ?_⟩))
      rw [nI_clamp (by omega), nb_3 (by omega)]
      refine nm_e ⟨vp_in_nI (by omega) (by omega), nm_e ⟨vp_in_nI (by omega) (by omega), nm_e (nm_e ⟨vp_in_nI (by omega) (by omega), nm_e ⟨cnt 6 + 1, ?_⟩⟩)⟩⟩
      refine yr_77 (e := e) (ps := ps) hr hTY hS hps (fun kd wt g1 g2 => ?_) (cnt 6) 0 b_kind b_with (by omega) (fun _ _ => ⟨rfl, rfl⟩) (fun j hj => by omega)
      exact hp wa kd wt _ g1 g2 (fun ps' e' h1 h2 => by rw [pk_us, (gm_Sd _ _ _ _ _ h1 hS).2]) (fun q hq => pk_un hq)
    have ybad : ∀ {post : Int32 → SY → Prop} {i : Nat}, gm_rd (xr_T a_kind a_num 6).1 (cnt 6) 0 [3, 9] = some i → i ≤ cnt 6 → (∀ wa, post 3 (g_nodes, g_inner, f_gifts, nI i, g_listed, g_depth, g_row, g_pc, g_node, g_position, g_size, g_fault, f_made, f_steps, a_name, a_parent, a_value, b_kind, b_with, (upd a_count 6 0), b_bodyAt, a_priority, a_given, a_there, wa, b_waiting, b_within, b_list, b_left, b_reached, b_sizes, b_each, b_backRow, b_backPc, b_backNode, b_backPosition, b_backSize, a_out)) → wpY_rule post (g_nodes, g_inner, f_gifts, f_place, g_listed, g_depth, g_row, g_pc, g_node, g_position, g_size, g_fault, f_made, f_steps, a_name, a_parent, a_value, b_kind, b_with, a_count, b_bodyAt, a_priority, a_given, a_there, b_wanted, b_waiting, b_within, b_list, b_left, b_reached, b_sizes, b_each, b_backRow, b_backPc, b_backNode, b_backPosition, b_backSize, a_out) (nI r) v2 := by
      intro post i h1 h2 hp
      refine br_f (nI_pos (by omega)) (br_t (nI_lt (b := 6) (by omega) (by omega)) (br_t rfl ?_))
      refine ym_rule (n := cnt 6) (T := xr_T a_kind a_num 6) hTY hc6 (fun h => by rw [h] at h1; cases h1) (fun i' h wa => ?_)
      rw [h1] at h
      have e := Option.some.inj h
      subst e
      exact nm_e (nm_e (br_f (nI_pos (by omega)) (hp wa)))
    refine br_f (nI_pos (by omega)) (br_t (nI_le (b := 5) (by omega) (by omega)) ?_)
    refine xd_push (v := 9) (s := []) rfl trivial (by omega) (by decide) (fun due h1 => xd_push (v := 3) (s := [9]) rfl h1 (by omega) (by decide) (fun due2 h2 => ?_))
    refine xd_read (s := [3, 9]) hTX hc6 rfl h2 (by simp) ⟨by omega, by omega, by omega, by omega, trivial⟩ (by decide) (fun ok dd du ov en pl op g1 g2 => ?_) (fun i g1 g2 dd du => ?_)
    · refine nm_r hc6 (nm_e (br_t (by decide) ⟨cnt 6 + 1, xr_63 hr hc30 (fun kd nu ov2 en2 pl2 as2 hCP => ?_) (cnt 6) 0 a_kind a_num ov en pl a_asked (by omega) ⟨fun _ _ => ⟨rfl, rfl, rfl, rfl, rfl, rfl⟩, fun j hj => by omega⟩⟩))
      refine yok ok (fun wa kdY wtY bo y1 y2 y3 y4 => ⟨rfl, zz_in (ru_F F2 hr rfl g1 g2 ok hCP y1 y2 y3 y4)⟩)
    · refine nm_r hc6 (nm_e (br_f (nI_pos (by omega)) ?_))
      exact ybad g1 g2 (fun wa => ⟨rfl, zz_in (ru_F0 F2)⟩)
end
section
/-! transforming: what is put, lists that begin -/
def tr_o (out : Nat → Int32) (mk : Nat) (v : Int32) : Nat → Int32 := if mk < 60 then upd out mk v else out
theorem tb_bv {pick : Nat → Bool} {prio given : Nat → Int32} : ∀ d r b, r + d = 6 → (tb_b pick prio given d r b = b ∨ ∃ q, q < 6 ∧ pick q = true ∧ tb_b pick prio given d r b = nI q) := by
  intro d
  induction d with
  | zero => intro r b _; exact Or.inl rfl
  | succ d ih =>
    intro r b hr
    rw [tb_b]
    by_cases c : (pick r && tb_w prio given r b) = true
    · rw [if_pos c]
      rcases ih (r + 1) (nI r) (by omega) with e | e
      · exact Or.inr ⟨r, by omega, (Bool.and_eq_true_iff.mp c).1, e⟩
      · exact Or.inr e
    · rw [if_neg c]
      exact ih (r + 1) b (by omega)
section
variable {f_nodes f_depth f_known f_dues f_place f_gifts f_matched f_lists f_steps f_outcome f_made : Int32} {a_name a_parent a_lastOf a_way a_value a_axes a_named a_kind a_over a_ends a_count a_num a_placed a_asked a_holds a_due a_open a_there a_priority a_given a_matches a_stack a_rest a_position a_size a_at a_row a_pc a_first a_out a_large : Nat → Int32}
theorem xT_put {post : SX → Prop} {mk : Nat} {v : Int32} (hm : f_made = nI mk) (hk : mk < 100000) (hp : post (f_nodes, f_depth, f_known, f_dues, f_place, f_gifts, f_matched, f_lists, f_steps, f_outcome, nI (mk + 1), a_name, a_parent, a_lastOf, a_way, a_value, a_axes, a_named, a_kind, a_over, a_ends, a_count, a_num, a_placed, a_asked, a_holds, a_due, a_open, a_there, a_priority, a_given, a_matches, a_stack, a_rest, a_position, a_size, a_at, a_row, a_pc, a_first, (tr_o a_out mk v), a_large)) : wpX_put post (f_nodes, f_depth, f_known, f_dues, f_place, f_gifts, f_matched, f_lists, f_steps, f_outcome, f_made, a_name, a_parent, a_lastOf, a_way, a_value, a_axes, a_named, a_kind, a_over, a_ends, a_count, a_num, a_placed, a_asked, a_holds, a_due, a_open, a_there, a_priority, a_given, a_matches, a_stack, a_rest, a_position, a_size, a_at, a_row, a_pc, a_first, a_out, a_large) v := by
  subst hm
  unfold tr_o at hp
  refine pk_le 60 mk (fun z => nm_r (nI_1 _) ?_) (fun z => ⟨vp_in_nI (by omega) (by omega), ?_⟩)
  · rw [if_neg (by omega)] at hp; exact hp
  · rw [nI_clamp (by omega)]
    rw [if_pos z] at hp
    exact nm_e (nm_r (nI_1 _) hp)
theorem xT_list {post : SX → Prop} {L r nn : Nat} {set fb : Int32} (hL : f_lists = nI L) (hL12 : L ≤ 12) (h24 : nn ≤ 24) (hs : tm_B nn set) (hr : r < 7) (hfb : vp_nar .byte fb.toInt8.toInt32 = fb) (h12 : L = 12 → post (f_nodes, f_depth, f_known, f_dues, f_place, f_gifts, f_matched, f_lists, f_steps, 2, f_made, a_name, a_parent, a_lastOf, a_way, a_value, a_axes, a_named, a_kind, a_over, a_ends, a_count, a_num, a_placed, a_asked, a_holds, a_due, a_open, a_there, a_priority, a_given, a_matches, a_stack, a_rest, a_position, a_size, a_at, a_row, a_pc, a_first, a_out, a_large)) (hp : L < 12 → post (f_nodes, f_depth, f_known, f_dues, f_place, f_gifts, f_matched, nI (L + 1), f_steps, f_outcome, f_made, a_name, a_parent, a_lastOf, a_way, a_value, a_axes, a_named, a_kind, a_over, a_ends, a_count, a_num, a_placed, a_asked, a_holds, a_due, a_open, a_there, a_priority, a_given, a_matches, a_stack, (upd a_rest L set), (upd a_position L 0), (upd a_size L (nI (tm_mem nn set).length)), a_at, (upd a_row L (nI r)), (upd a_pc L (-1)), (upd a_first L fb), a_out, a_large)) : wpX_list post (f_nodes, f_depth, f_known, f_dues, f_place, f_gifts, f_matched, f_lists, f_steps, f_outcome, f_made, a_name, a_parent, a_lastOf, a_way, a_value, a_axes, a_named, a_kind, a_over, a_ends, a_count, a_num, a_placed, a_asked, a_holds, a_due, a_open, a_there, a_priority, a_given, a_matches, a_stack, a_rest, a_position, a_size, a_at, a_row, a_pc, a_first, a_out, a_large) set (nI r) fb := by
  subst hL
  refine pk_eq L 12 (fun z => h12 z) (fun z => ⟨vp_in_nI (by omega) (by omega), ?_⟩)
  rw [nI_clamp (by omega), nb_3 (by omega), hfb, xo_m1]
  refine nm_e ⟨vp_in_nI (by omega) (by omega), nm_e (xl_bits (tm_Smem h24 hs) ⟨vp_in_nI (by omega) (by omega), nm_e ⟨vp_in_nI (by omega) (by omega), nm_e ⟨vp_in_nI (by omega) (by omega), nm_e ⟨vp_in_nI (by omega) (by omega), nm_e (nm_r (nI_1 _) (hp (by omega)))⟩⟩⟩⟩)⟩
end
section
variable {g_nodes g_inner g_rules g_place g_listed g_depth g_row g_pc g_node g_position g_size g_fault g_put g_steps : Int32} {b_name b_parent b_value b_kind b_with b_count b_bodyAt b_priority b_given b_there b_wanted b_waiting b_within b_list b_left b_reached b_sizes b_each b_backRow b_backPc b_backNode b_backPosition b_backSize b_output : Nat → Int32}
theorem yT_emit {post : SY → Prop} {mk : Nat} {v : Int32} (hm : g_put = nI mk) (hk : mk < 100000) (hp : post (g_nodes, g_inner, g_rules, g_place, g_listed, g_depth, g_row, g_pc, g_node, g_position, g_size, g_fault, nI (mk + 1), g_steps, b_name, b_parent, b_value, b_kind, b_with, b_count, b_bodyAt, b_priority, b_given, b_there, b_wanted, b_waiting, b_within, b_list, b_left, b_reached, b_sizes, b_each, b_backRow, b_backPc, b_backNode, b_backPosition, b_backSize, (tr_o b_output mk v))) : wpY_emit post (g_nodes, g_inner, g_rules, g_place, g_listed, g_depth, g_row, g_pc, g_node, g_position, g_size, g_fault, g_put, g_steps, b_name, b_parent, b_value, b_kind, b_with, b_count, b_bodyAt, b_priority, b_given, b_there, b_wanted, b_waiting, b_within, b_list, b_left, b_reached, b_sizes, b_each, b_backRow, b_backPc, b_backNode, b_backPosition, b_backSize, b_output) v := by
  subst hm
  unfold tr_o at hp
  refine pk_le 60 mk (fun z => nm_r (nI_1 _) ?_) (fun z => ⟨vp_in_nI (by omega) (by omega), ?_⟩)
  · rw [if_neg (by omega)] at hp; exact hp
  · rw [nI_clamp (by omega)]
    rw [if_pos z] at hp
    exact nm_e (nm_r (nI_1 _) hp)
theorem yT_begin {post : SY → Prop} {L nn : Nat} {set body : Int32} (hL : g_depth = nI L) (hL12 : L ≤ 12) (hg : g_nodes = nI nn) (h24 : nn ≤ 24) (h12 : L = 12 → post (g_nodes, g_inner, g_rules, g_place, g_listed, g_depth, g_row, g_pc, g_node, g_position, g_size, 2, g_put, g_steps, b_name, b_parent, b_value, b_kind, b_with, b_count, b_bodyAt, b_priority, b_given, b_there, b_wanted, b_waiting, b_within, b_list, b_left, b_reached, b_sizes, b_each, b_backRow, b_backPc, b_backNode, b_backPosition, b_backSize, b_output)) (hp : L < 12 → post (g_nodes, g_inner, g_rules, g_place, g_listed, nI (L + 1), -1, g_pc, g_node, g_position, g_size, g_fault, g_put, g_steps, b_name, b_parent, b_value, b_kind, b_with, b_count, b_bodyAt, b_priority, b_given, b_there, b_wanted, b_waiting, b_within, b_list, (upd b_left L set), (upd b_reached L 0), (upd b_sizes L (nI (tm_mem nn set).length)), (upd b_each L body), (upd b_backRow L g_row), (upd b_backPc L g_pc), (upd b_backNode L g_node), (upd b_backPosition L g_position), (upd b_backSize L g_size), b_output)) : wpY_begin post (g_nodes, g_inner, g_rules, g_place, g_listed, g_depth, g_row, g_pc, g_node, g_position, g_size, g_fault, g_put, g_steps, b_name, b_parent, b_value, b_kind, b_with, b_count, b_bodyAt, b_priority, b_given, b_there, b_wanted, b_waiting, b_within, b_list, b_left, b_reached, b_sizes, b_each, b_backRow, b_backPc, b_backNode, b_backPosition, b_backSize, b_output) set body := by
  subst hL
  refine pk_eq L 12 (fun z => h12 z) (fun z => ⟨vp_in_nI (by omega) (by omega), ?_⟩)
  rw [nI_clamp (by omega)]
  refine nm_e ⟨vp_in_nI (by omega) (by omega), nm_e (yl_told (k := 4) hg h24 (by omega) (by omega) ⟨vp_in_nI (by omega) (by omega), nm_e ⟨vp_in_nI (by omega) (by omega), nm_e ⟨vp_in_nI (by omega) (by omega), nm_e ⟨vp_in_nI (by omega) (by omega), nm_e ⟨vp_in_nI (by omega) (by omega), nm_e ⟨vp_in_nI (by omega) (by omega), nm_e ⟨vp_in_nI (by omega) (by omega), nm_e (nm_r (nI_1 _) (hp (by omega)))⟩⟩⟩⟩⟩⟩⟩)⟩
/-- the children of a node, and what is done with them -/
theorem yT_36 {post : SY → Prop} {nn node : Nat} (hg : g_nodes = nI nn) (h24 : nn ≤ 24) (hnode : node < nn) (h0 : tm_ms (td_on b_parent 1 node) nn = 0 → wpY_emit (fun u => match u with | (g_nodes84, g_inner84, g_rules84, g_place84, g_listed84, g_depth84, g_row84, g_pc84, g_node84, g_position84, g_size84, g_fault84, g_put84, g_steps84, b_name84, b_parent84, b_value84, b_kind84, b_with84, b_count84, b_bodyAt84, b_priority84, b_given84, b_there84, b_wanted84, b_waiting84, b_within84, b_list84, b_left84, b_reached84, b_sizes84, b_each84, b_backRow84, b_backPc84, b_backNode84, b_backPosition84, b_backSize84, b_output84) => (post (g_nodes84, g_inner84, g_rules84, g_place84, g_listed84, g_depth84, g_row84, g_pc84, g_node84, g_position84, g_size84, g_fault84, g_put84, g_steps84, b_name84, b_parent84, b_value84, b_kind84, b_with84, b_count84, b_bodyAt84, b_priority84, b_given84, b_there84, b_wanted84, b_waiting84, b_within84, b_list84, b_left84, b_reached84, b_sizes84, b_each84, b_backRow84, b_backPc84, b_backNode84, b_backPosition84, b_backSize84, b_output84))) (g_nodes, g_inner, g_rules, g_place, g_listed, g_depth, g_row, g_pc, g_node, g_position, g_size, g_fault, g_put, g_steps, b_name, b_parent, b_value, b_kind, b_with, b_count, b_bodyAt, b_priority, b_given, b_there, b_wanted, b_waiting, b_within, b_list, b_left, b_reached, b_sizes, b_each, b_backRow, b_backPc, b_backNode, b_backPosition, b_backSize, b_output) (b_value node)) (h1 : ¬ tm_ms (td_on b_parent 1 node) nn = 0 → wpY_begin (fun u => match u with | (g_nodes44, g_inner44, g_rules44, g_place44, g_listed44, g_depth44, g_row44, g_pc44, g_node44, g_position44, g_size44, g_fault44, g_put44, g_steps44, b_name44, b_parent44, b_value44, b_kind44, b_with44, b_count44, b_bodyAt44, b_priority44, b_given44, b_there44, b_wanted44, b_waiting44, b_within44, b_list44, b_left44, b_reached44, b_sizes44, b_each44, b_backRow44, b_backPc44, b_backNode44, b_backPosition44, b_backSize44, b_output44) => (post (g_nodes44, g_inner44, g_rules44, g_place44, g_listed44, g_depth44, g_row44, g_pc44, g_node44, g_position44, g_size44, g_fault44, g_put44, g_steps44, b_name44, b_parent44, b_value44, b_kind44, b_with44, b_count44, b_bodyAt44, b_priority44, b_given44, b_there44, b_wanted44, b_waiting44, b_within44, b_list44, b_left44, b_reached44, b_sizes44, b_each44, b_backRow44, b_backPc44, b_backNode44, b_backPosition44, b_backSize44, b_output44))) (g_nodes, g_inner, g_rules, g_place, g_listed, g_depth, g_row, g_pc, g_node, g_position, g_size, g_fault, g_put, g_steps, b_name, b_parent, b_value, b_kind, b_with, b_count, b_bodyAt, b_priority, b_given, b_there, b_wanted, b_waiting, b_within, b_list, b_left, b_reached, b_sizes, b_each, b_backRow, b_backPc, b_backNode, b_backPosition, b_backSize, b_output) (tm_ms (td_on b_parent 1 node) nn) (-1)) : ∀ d m, m + d = nn → wY_handle_36 post (nI node) g_nodes g_inner g_rules g_place g_listed g_depth g_row g_pc g_node g_position g_size g_fault g_put g_steps b_name b_parent b_value b_kind b_with b_count b_bodyAt b_priority b_given b_there b_wanted b_waiting b_within b_list b_left b_reached b_sizes b_each b_backRow b_backPc b_backNode b_backPosition b_backSize b_output (d + 1) (tm_ms (td_on b_parent 1 node) m) (nI m) := by
  subst hg
  intro d
  induction d with
  | zero =>
    intro m hm
    rw [show m = nn by omega]
    refine br_t (Int32.le_refl _) (br_c (fun z => ⟨vp_in_nI (by omega) (by omega), ?_⟩) (fun z => h1 z))
    rw [nI_clamp (by omega)]
    exact h0 z
  | succ d ih =>
    intro m hm
    have key := ih (m + 1) (by omega)
    rw [tm_ms] at key
    refine br_f (nI_ge (by omega) (by omega)) ⟨vp_in_nI (by omega) (by omega), ?_⟩
    rw [nI_clamp (by omega)]
    refine br_c (fun z => nm_e (nm_r (nI_1 m) ?_)) (fun z => nm_r (nI_1 m) ?_)
    · rw [if_pos (show td_on b_parent 1 node m = true from decide_eq_true z)] at key
      exact key
    · rw [if_neg (show ¬ td_on b_parent 1 node m = true from fun y => z (of_decide_eq_true y))] at key
      exact key
end
/-! frames -/
def tr_BP (cnt : Nat → Nat) (kind num : Nat → Int32) (r p : Nat) : Prop := ∃ m, gm_BP (xr_T kind num r).1 (cnt r) p m
def tr_A (nn : Nat) (cnt : Nat → Nat) (kind num there rest position size row first left reached sizes each backRow : Nat → Int32) (f : Nat) : Prop := rest f = left f ∧ tm_B nn (rest f) ∧ position f = reached f ∧ size f = sizes f ∧ ((first f = -1 ∧ each f = -1) ∨ ∃ r b, r < 6 ∧ there r = 1 ∧ tr_BP cnt kind num r b ∧ first f = nI b ∧ row f = nI r ∧ each f = nI (30 * r + b) ∧ backRow f = nI r)
def tr_S (nn : Nat) (cnt : Nat → Nat) (kind num there position size at' row pc : Nat → Int32) (f : Nat) (yrow ypc ynode ypos ysize : Int32) : Prop := (pc f = -1 ∧ yrow = -1) ∨ ∃ r p nd, r < 6 ∧ there r = 1 ∧ tr_BP cnt kind num r p ∧ nd < nn ∧ row f = nI r ∧ pc f = nI p ∧ at' f = nI nd ∧ yrow = nI r ∧ ypc = nI (30 * r + p) ∧ ynode = nI nd ∧ ypos = position f ∧ ysize = size f
def tr_I (nn : Nat) (cnt : Nat → Nat) (kind num there : Nat → Int32) (L : Nat) (rest position size at' row pc first left reached sizes each backRow backPc backNode backPosition backSize : Nat → Int32) (yrow ypc ynode ypos ysize : Int32) : Prop :=
  (∀ f, f < L → tr_A nn cnt kind num there rest position size row first left reached sizes each backRow f) ∧
  (∀ f, f + 1 < L → tr_S nn cnt kind num there position size at' row pc f (backRow (f + 1)) (backPc (f + 1)) (backNode (f + 1)) (backPosition (f + 1)) (backSize (f + 1))) ∧
  (∀ l, L = l + 1 → tr_S nn cnt kind num there position size at' row pc l yrow ypc ynode ypos ysize)
theorem tr_top {nn : Nat} {cnt : Nat → Nat} {kind num there : Nat → Int32} {l : Nat} {rest position size at' row pc first left reached sizes each backRow backPc backNode backPosition backSize rest2 position2 at2 row2 pc2 left2 reached2 : Nat → Int32} {yrow ypc ynode ypos ysize yrow2 ypc2 ynode2 ypos2 ysize2 : Int32} (h : tr_I nn cnt kind num there (l + 1) rest position size at' row pc first left reached sizes each backRow backPc backNode backPosition backSize yrow ypc ynode ypos ysize)
    (h1 : ∀ f, f < l → rest2 f = rest f) (h2 : ∀ f, f < l → position2 f = position f) (h3 : ∀ f, f < l → at2 f = at' f) (h4 : ∀ f, f < l → row2 f = row f) (h5 : ∀ f, f < l → pc2 f = pc f) (h6 : ∀ f, f < l → left2 f = left f) (h7 : ∀ f, f < l → reached2 f = reached f)
    (hA : tr_A nn cnt kind num there rest2 position2 size row2 first left2 reached2 sizes each backRow l) (hS : tr_S nn cnt kind num there position2 size at2 row2 pc2 l yrow2 ypc2 ynode2 ypos2 ysize2) : tr_I nn cnt kind num there (l + 1) rest2 position2 size at2 row2 pc2 first left2 reached2 sizes each backRow backPc backNode backPosition backSize yrow2 ypc2 ynode2 ypos2 ysize2 := by
  obtain ⟨a, b, c⟩ := h
  refine ⟨fun f hf => ?_, fun f hf => ?_, fun l' e => ?_⟩
  · by_cases e : f = l
    · subst e; exact hA
    · have := a f hf
      unfold tr_A at this ⊢
      rw [h1 f (by omega), h2 f (by omega), h4 f (by omega), h6 f (by omega), h7 f (by omega)]
      exact this
  · have := b f hf
    unfold tr_S at this ⊢
    rw [h2 f (by omega), h3 f (by omega), h4 f (by omega), h5 f (by omega)]
    exact this
  · have e : l' = l := by omega
    subst e; exact hS
theorem tr_pop {nn : Nat} {cnt : Nat → Nat} {kind num there : Nat → Int32} {l : Nat} {rest position size at' row pc first left reached sizes each backRow backPc backNode backPosition backSize : Nat → Int32} {yrow ypc ynode ypos ysize : Int32} (h : tr_I nn cnt kind num there (l + 1) rest position size at' row pc first left reached sizes each backRow backPc backNode backPosition backSize yrow ypc ynode ypos ysize) : tr_I nn cnt kind num there l rest position size at' row pc first left reached sizes each backRow backPc backNode backPosition backSize (backRow l) (backPc l) (backNode l) (backPosition l) (backSize l) := by
  obtain ⟨a, b, c⟩ := h
  refine ⟨fun f hf => a f (by omega), fun f hf => b f (by omega), fun l' e => ?_⟩
  subst e
  exact b l' (by omega)
theorem tr_push {nn : Nat} {cnt : Nat → Nat} {kind num there : Nat → Int32} {L : Nat} {rest position size at' row pc first left reached sizes each backRow backPc backNode backPosition backSize : Nat → Int32} {yrow ypc ynode ypos ysize set sz rw' fb eb : Int32} (h : tr_I nn cnt kind num there L rest position size at' row pc first left reached sizes each backRow backPc backNode backPosition backSize yrow ypc ynode ypos ysize) (hs : tm_B nn set) (hfe : (fb = -1 ∧ eb = -1) ∨ ∃ r b, r < 6 ∧ there r = 1 ∧ tr_BP cnt kind num r b ∧ fb = nI b ∧ rw' = nI r ∧ eb = nI (30 * r + b) ∧ yrow = nI r) : tr_I nn cnt kind num there (L + 1) (upd rest L set) (upd position L 0) (upd size L sz) at' (upd row L rw') (upd pc L (-1)) (upd first L fb) (upd left L set) (upd reached L 0) (upd sizes L sz) (upd each L eb) (upd backRow L yrow) (upd backPc L ypc) (upd backNode L ynode) (upd backPosition L ypos) (upd backSize L ysize) (-1) ypc ynode ypos ysize := by
  obtain ⟨a, b, c⟩ := h
  refine ⟨fun f hf => ?_, fun f hf => ?_, fun l' e => ?_⟩
  · unfold tr_A
    by_cases e : f = L
    · subst e
      rw [pk_us, pk_us, pk_us, pk_us, pk_us, pk_us, pk_us, pk_us, pk_us, pk_us]
      exact ⟨rfl, hs, rfl, rfl, hfe⟩
    · rw [pk_un e, pk_un e, pk_un e, pk_un e, pk_un e, pk_un e, pk_un e, pk_un e, pk_un e, pk_un e]
      exact a f (by omega)
  · unfold tr_S
    rw [pk_un (show f ≠ L by omega), pk_un (show f ≠ L by omega), pk_un (show f ≠ L by omega), pk_un (show f ≠ L by omega)]
    by_cases e : f + 1 = L
    · rw [e, pk_us, pk_us, pk_us, pk_us, pk_us]
      exact c f e.symm
    · rw [pk_un e, pk_un e, pk_un e, pk_un e, pk_un e]
      exact b f (by omega)
  · have e : l' = L := by omega
    subst e
    exact Or.inl ⟨pk_us, rfl⟩
/-! the measure -/
def tr_w (x : Int32) : Nat := if x < 0 then 1 else 2 * (30 - x.toNatClampNeg) + 2
def tr_sw (pc : Nat → Int32) : Nat → Nat
  | 0 => 0
  | L + 1 => tr_sw pc L + tr_w (pc L)
theorem tr_sw_c {pc pc2 : Nat → Int32} : ∀ L, (∀ f, f < L → pc2 f = pc f) → tr_sw pc2 L = tr_sw pc L := by
  intro L
  induction L with
  | zero => intro _; rfl
  | succ L ih => intro h; rw [tr_sw, tr_sw, ih (fun f hf => h f (by omega)), h L (by omega)]
theorem tr_sw_u {pc : Nat → Int32} {l : Nat} {v : Int32} : tr_sw (upd pc l v) (l + 1) = tr_sw pc l + tr_w v := by
  rw [tr_sw, tr_sw_c l (fun f hf => pk_un (by omega)), pk_us]
theorem tr_w1 : tr_w (-1) = 1 := by decide
theorem tr_wn {p : Nat} (h : p ≤ 30) : tr_w (nI p) = 2 * (30 - p) + 2 := by
  unfold tr_w
  rw [if_neg (nI_pos (by omega)), nI_clamp (by omega)]
end
section
/-! transforming: the component's steps -/
section
variable {f_nodes f_depth f_known f_dues f_place f_gifts f_matched f_lists f_steps f_outcome f_made : Int32} {a_name a_parent a_lastOf a_way a_value a_axes a_named a_kind a_over a_ends a_count a_num a_placed a_asked a_holds a_due a_open a_there a_priority a_given a_matches a_stack a_rest a_position a_size a_at a_row a_pc a_first a_out a_large : Nat → Int32}
theorem xA_pop {post : SX → Prop} {l : Nat} (hl : l < 12) (hL : f_lists = nI (l + 1)) (h : a_rest l = 0) (hp : post (f_nodes, f_depth, f_known, f_dues, f_place, f_gifts, f_matched, nI l, f_steps, f_outcome, f_made, a_name, a_parent, a_lastOf, a_way, a_value, a_axes, a_named, a_kind, a_over, a_ends, a_count, a_num, a_placed, a_asked, a_holds, a_due, a_open, a_there, a_priority, a_given, a_matches, a_stack, a_rest, a_position, a_size, a_at, a_row, a_pc, a_first, a_out, a_large)) : wpX_advance post (f_nodes, f_depth, f_known, f_dues, f_place, f_gifts, f_matched, f_lists, f_steps, f_outcome, f_made, a_name, a_parent, a_lastOf, a_way, a_value, a_axes, a_named, a_kind, a_over, a_ends, a_count, a_num, a_placed, a_asked, a_holds, a_due, a_open, a_there, a_priority, a_given, a_matches, a_stack, a_rest, a_position, a_size, a_at, a_row, a_pc, a_first, a_out, a_large) (nI l) := by
  subst hL
  refine ⟨vp_in_nI (by omega) (by omega), ?_⟩
  rw [nI_clamp (by omega)]
  exact br_t h (nm_r (nI_pred _) hp)
theorem xA_long {post : SX → Prop} {l : Nat} (hl : l < 12) (h : ¬ a_rest l = 0) (hS : f_steps = 150) (hp : post (f_nodes, f_depth, f_known, f_dues, f_place, f_gifts, f_matched, f_lists, f_steps, 1, f_made, a_name, a_parent, a_lastOf, a_way, a_value, a_axes, a_named, a_kind, a_over, a_ends, a_count, a_num, a_placed, a_asked, a_holds, a_due, a_open, a_there, a_priority, a_given, a_matches, a_stack, a_rest, a_position, a_size, a_at, a_row, a_pc, a_first, a_out, a_large)) : wpX_advance post (f_nodes, f_depth, f_known, f_dues, f_place, f_gifts, f_matched, f_lists, f_steps, f_outcome, f_made, a_name, a_parent, a_lastOf, a_way, a_value, a_axes, a_named, a_kind, a_over, a_ends, a_count, a_num, a_placed, a_asked, a_holds, a_due, a_open, a_there, a_priority, a_given, a_matches, a_stack, a_rest, a_position, a_size, a_at, a_row, a_pc, a_first, a_out, a_large) (nI l) := by
  refine ⟨vp_in_nI (by omega) (by omega), ?_⟩
  rw [nI_clamp (by omega)]
  exact br_f h (br_t hS hp)
theorem xA_each {post : SX → Prop} {l S a b : Nat} {t : List Nat} (hl : l < 12) (hs : tm_S (a_rest l) (a :: t)) (hS : f_steps = nI S) (hS2 : S < 150) (hf : a_first l = nI b) (hb : b < 128) (hp : post (f_nodes, f_depth, f_known, f_dues, f_place, f_gifts, f_matched, f_lists, nI (S + 1), f_outcome, f_made, a_name, a_parent, a_lastOf, a_way, a_value, a_axes, a_named, a_kind, a_over, a_ends, a_count, a_num, a_placed, a_asked, a_holds, a_due, a_open, a_there, a_priority, a_given, a_matches, a_stack, (upd a_rest l (a_rest l &&& (a_rest l - 1))), (upd a_position l (a_position l + 1)), a_size, (upd a_at l (nI a)), a_row, (upd a_pc l (nI b)), a_first, a_out, a_large)) : wpX_advance post (f_nodes, f_depth, f_known, f_dues, f_place, f_gifts, f_matched, f_lists, f_steps, f_outcome, f_made, a_name, a_parent, a_lastOf, a_way, a_value, a_axes, a_named, a_kind, a_over, a_ends, a_count, a_num, a_placed, a_asked, a_holds, a_due, a_open, a_there, a_priority, a_given, a_matches, a_stack, a_rest, a_position, a_size, a_at, a_row, a_pc, a_first, a_out, a_large) (nI l) := by
  subst hS
  obtain ⟨h1, h2, -⟩ := tm_cons hs
  refine ⟨vp_in_nI (by omega) (by omega), ?_⟩
  rw [nI_clamp (by omega)]
  refine br_f (tm_nz h2) (br_f (fun z => by have := (nI_eq (b := 150) (by omega) (by omega)).mp z; omega) (nm_r (nI_1 S) ⟨vp_in_nI (by omega) (by omega), xl_lowS hs ⟨vp_in_nI (by omega) (by omega), vp_in_nI (by omega) (by omega), vp_in_nI (by omega) (by omega), nm_e ⟨vp_in_nI (by omega) (by omega), ?_⟩⟩⟩))
  rw [nb_3 (by omega), hf, nb_2 hb]
  exact nm_e ⟨vp_in_nI (by omega) (by omega), vp_in_nI (by omega) (by omega), nm_e ⟨vp_in_nI (by omega) (by omega), br_f (nI_pos (by omega)) ⟨vp_in_nI (by omega) (by omega), vp_in_nI (by omega) (by omega), nm_e hp⟩⟩⟩
theorem xA_best {post : SX → Prop} {l S a nn : Nat} {t : List Nat} {pick : Nat → Bool} (hl : l < 12) (hs : tm_S (a_rest l) (a :: t)) (hS : f_steps = nI S) (hS2 : S < 150) (hf : a_first l = -1) (hpk : ∀ r, r < 6 → pick r = (!decide (a_there r = 0) && bt (a_matches r) a))
    (hr : ∀ r, r < 6 → pick r = true → tb_b pick a_priority a_given 6 0 (-1) = nI r → ∃ e, e < 128 ∧ a_over (31 * r) = nI e ∧ post (f_nodes, f_depth, f_known, f_dues, f_place, f_gifts, f_matched, f_lists, nI (S + 1), f_outcome, f_made, a_name, a_parent, a_lastOf, a_way, a_value, a_axes, a_named, a_kind, a_over, a_ends, a_count, a_num, a_placed, a_asked, a_holds, a_due, a_open, a_there, a_priority, a_given, a_matches, a_stack, (upd a_rest l (a_rest l &&& (a_rest l - 1))), (upd a_position l (a_position l + 1)), a_size, (upd a_at l (nI a)), (upd a_row l (nI r)), (upd a_pc l (nI e)), a_first, a_out, a_large))
    (h0 : tb_b pick a_priority a_given 6 0 (-1) = -1 → a_axes (24 + a) = 0 → wpX_put (fun u => match u with | (f_nodes110, f_depth110, f_known110, f_dues110, f_place110, f_gifts110, f_matched110, f_lists110, f_steps110, f_outcome110, f_made110, a_name110, a_parent110, a_lastOf110, a_way110, a_value110, a_axes110, a_named110, a_kind110, a_over110, a_ends110, a_count110, a_num110, a_placed110, a_asked110, a_holds110, a_due110, a_open110, a_there110, a_priority110, a_given110, a_matches110, a_stack110, a_rest110, a_position110, a_size110, a_at110, a_row110, a_pc110, a_first110, a_out110, a_large110) => (post (f_nodes110, f_depth110, f_known110, f_dues110, f_place110, f_gifts110, f_matched110, f_lists110, f_steps110, f_outcome110, f_made110, a_name110, a_parent110, a_lastOf110, a_way110, a_value110, a_axes110, a_named110, a_kind110, a_over110, a_ends110, a_count110, a_num110, a_placed110, a_asked110, a_holds110, a_due110, a_open110, a_there110, a_priority110, a_given110, a_matches110, a_stack110, a_rest110, a_position110, a_size110, a_at110, a_row110, a_pc110, a_first110, a_out110, a_large110))) (f_nodes, f_depth, f_known, f_dues, f_place, f_gifts, f_matched, f_lists, nI (S + 1), f_outcome, f_made, a_name, a_parent, a_lastOf, a_way, a_value, a_axes, a_named, a_kind, a_over, a_ends, a_count, a_num, a_placed, a_asked, a_holds, a_due, a_open, a_there, a_priority, a_given, a_matches, a_stack, (upd a_rest l (a_rest l &&& (a_rest l - 1))), (upd a_position l (a_position l + 1)), a_size, (upd a_at l (nI a)), a_row, a_pc, a_first, a_out, a_large) (a_value a))
    (h1 : tb_b pick a_priority a_given 6 0 (-1) = -1 → ¬ a_axes (24 + a) = 0 → wpX_list (fun u => match u with | (f_nodes66, f_depth66, f_known66, f_dues66, f_place66, f_gifts66, f_matched66, f_lists66, f_steps66, f_outcome66, f_made66, a_name66, a_parent66, a_lastOf66, a_way66, a_value66, a_axes66, a_named66, a_kind66, a_over66, a_ends66, a_count66, a_num66, a_placed66, a_asked66, a_holds66, a_due66, a_open66, a_there66, a_priority66, a_given66, a_matches66, a_stack66, a_rest66, a_position66, a_size66, a_at66, a_row66, a_pc66, a_first66, a_out66, a_large66) => (post (f_nodes66, f_depth66, f_known66, f_dues66, f_place66, f_gifts66, f_matched66, f_lists66, f_steps66, f_outcome66, f_made66, a_name66, a_parent66, a_lastOf66, a_way66, a_value66, a_axes66, a_named66, a_kind66, a_over66, a_ends66, a_count66, a_num66, a_placed66, a_asked66, a_holds66, a_due66, a_open66, a_there66, a_priority66, a_given66, a_matches66, a_stack66, a_rest66, a_position66, a_size66, a_at66, a_row66, a_pc66, a_first66, a_out66, a_large66))) (f_nodes, f_depth, f_known, f_dues, f_place, f_gifts, f_matched, f_lists, nI (S + 1), f_outcome, f_made, a_name, a_parent, a_lastOf, a_way, a_value, a_axes, a_named, a_kind, a_over, a_ends, a_count, a_num, a_placed, a_asked, a_holds, a_due, a_open, a_there, a_priority, a_given, a_matches, a_stack, (upd a_rest l (a_rest l &&& (a_rest l - 1))), (upd a_position l (a_position l + 1)), a_size, (upd a_at l (nI a)), a_row, a_pc, a_first, a_out, a_large) (a_axes (24 + a)) 0 (-1)) : wpX_advance post (f_nodes, f_depth, f_known, f_dues, f_place, f_gifts, f_matched, f_lists, f_steps, f_outcome, f_made, a_name, a_parent, a_lastOf, a_way, a_value, a_axes, a_named, a_kind, a_over, a_ends, a_count, a_num, a_placed, a_asked, a_holds, a_due, a_open, a_there, a_priority, a_given, a_matches, a_stack, a_rest, a_position, a_size, a_at, a_row, a_pc, a_first, a_out, a_large) (nI l) := by
  subst hS
  obtain ⟨g1, g2, -⟩ := tm_cons hs
  refine ⟨vp_in_nI (by omega) (by omega), ?_⟩
  rw [nI_clamp (by omega)]
  refine br_f (tm_nz g2) (br_f (fun z => by have := (nI_eq (b := 150) (by omega) (by omega)).mp z; omega) (nm_r (nI_1 S) ⟨vp_in_nI (by omega) (by omega), xl_lowS hs ⟨vp_in_nI (by omega) (by omega), vp_in_nI (by omega) (by omega), vp_in_nI (by omega) (by omega), nm_e ⟨vp_in_nI (by omega) (by omega), ?_⟩⟩⟩))
  rw [nb_3 (by omega), hf]
  refine nm_e ⟨vp_in_nI (by omega) (by omega), vp_in_nI (by omega) (by omega), nm_e ⟨vp_in_nI (by omega) (by omega), br_t yl_m1 (xb_best (node := a) (pick := pick) g1 hpk ?_)⟩⟩
  rcases tb_bv (pick := pick) (prio := a_priority) (given := a_given) 6 0 (-1) (by omega) with e | ⟨q, hq, hpq, e⟩
  · rw [e]
    refine br_t yl_m1 ?_
    rw [show (24 : Int32) + nI a = nI (24 + a) from nI_add 24 a]
    refine ⟨vp_in_nI (by omega) (by omega), ?_⟩
    rw [nI_clamp (by omega), nI_clamp (show a < 2 ^ 31 by omega)]
    exact br_c (fun z => ⟨vp_in_nI (by omega) (by omega), h0 e z⟩) (fun z => ⟨vp_in_nI (by omega) (by omega), h1 e z⟩)
  · obtain ⟨x, x1, x2, x3⟩ := hr q hq hpq e
    rw [e]
    refine br_f (nI_pos (by omega)) ⟨vp_in_nI (by omega) (by omega), ?_⟩
    rw [nb_3 (by omega), show (31 : Int32) * nI q = nI (31 * q) from pk_mul 31 q]
    refine nm_e ⟨vp_in_nI (by omega) (by omega), vp_in_nI (by omega) (by omega), ?_⟩
    rw [nI_clamp (by omega), x2, nb_2 x1]
    exact nm_e x3
/-! one turn of the loop -/
theorem xS_adv {post : Int32 → SX → Prop} {l n : Nat} (hl : l < 12) (hL : f_lists = nI (l + 1)) (ho : f_outcome = 0) (hpc : a_pc l = -1) (h : wpX_advance (fun u => match u with | (f_nodes146, f_depth146, f_known146, f_dues146, f_place146, f_gifts146, f_matched146, f_lists146, f_steps146, f_outcome146, f_made146, a_name146, a_parent146, a_lastOf146, a_way146, a_value146, a_axes146, a_named146, a_kind146, a_over146, a_ends146, a_count146, a_num146, a_placed146, a_asked146, a_holds146, a_due146, a_open146, a_there146, a_priority146, a_given146, a_matches146, a_stack146, a_rest146, a_position146, a_size146, a_at146, a_row146, a_pc146, a_first146, a_out146, a_large146) => (wX_transform_40 post n f_nodes146 f_depth146 f_known146 f_dues146 f_place146 f_gifts146 f_matched146 f_lists146 f_steps146 f_outcome146 f_made146 a_name146 a_parent146 a_lastOf146 a_way146 a_value146 a_axes146 a_named146 a_kind146 a_over146 a_ends146 a_count146 a_num146 a_placed146 a_asked146 a_holds146 a_due146 a_open146 a_there146 a_priority146 a_given146 a_matches146 a_stack146 a_rest146 a_position146 a_size146 a_at146 a_row146 a_pc146 a_first146 a_out146 a_large146)) (f_nodes, f_depth, f_known, f_dues, f_place, f_gifts, f_matched, f_lists, f_steps, f_outcome, f_made, a_name, a_parent, a_lastOf, a_way, a_value, a_axes, a_named, a_kind, a_over, a_ends, a_count, a_num, a_placed, a_asked, a_holds, a_due, a_open, a_there, a_priority, a_given, a_matches, a_stack, a_rest, a_position, a_size, a_at, a_row, a_pc, a_first, a_out, a_large) (nI l)) : wX_transform_40 post (n + 1) f_nodes f_depth f_known f_dues f_place f_gifts f_matched f_lists f_steps f_outcome f_made a_name a_parent a_lastOf a_way a_value a_axes a_named a_kind a_over a_ends a_count a_num a_placed a_asked a_holds a_due a_open a_there a_priority a_given a_matches a_stack a_rest a_position a_size a_at a_row a_pc a_first a_out a_large := by
  subst hL
  refine br_f (nI_nle (by omega) (by omega)) (br_t ho (nm_r (nI_pred _) ⟨vp_in_nI (by omega) (by omega), ?_⟩))
  rw [nI_clamp (by omega), hpc]
  exact br_f (by decide) h
theorem xS_end {post : Int32 → SX → Prop} {l n r c : Nat} (hl : l < 12) (hL : f_lists = nI (l + 1)) (ho : f_outcome = 0) (hpc : a_pc l = nI c) (hrw : a_row l = nI r) (hr : r < 7) (hc : a_count r = nI c) (hc30 : c ≤ 30) (h : wX_transform_40 post n f_nodes f_depth f_known f_dues f_place f_gifts f_matched f_lists f_steps f_outcome f_made a_name a_parent a_lastOf a_way a_value a_axes a_named a_kind a_over a_ends a_count a_num a_placed a_asked a_holds a_due a_open a_there a_priority a_given a_matches a_stack a_rest a_position a_size a_at a_row (upd a_pc l (-1)) a_first a_out a_large) : wX_transform_40 post (n + 1) f_nodes f_depth f_known f_dues f_place f_gifts f_matched f_lists f_steps f_outcome f_made a_name a_parent a_lastOf a_way a_value a_axes a_named a_kind a_over a_ends a_count a_num a_placed a_asked a_holds a_due a_open a_there a_priority a_given a_matches a_stack a_rest a_position a_size a_at a_row a_pc a_first a_out a_large := by
  subst hL
  refine br_f (nI_nle (by omega) (by omega)) (br_t ho (nm_r (nI_pred _) ⟨vp_in_nI (by omega) (by omega), ?_⟩))
  rw [nI_clamp (by omega), hpc, hrw]
  refine br_t (nI_pos' (by omega)) ⟨vp_in_nI (by omega) (by omega), vp_in_nI (by omega) (by omega), vp_in_nI (by omega) (by omega), ?_⟩
  rw [nI_clamp (by omega), hc, xo_m1]
  exact br_f (nI_nlt (by omega) (by omega)) ⟨vp_in_nI (by omega) (by omega), nm_e h⟩
theorem xS_exec {post : Int32 → SX → Prop} {l n r p c : Nat} (hl : l < 12) (hL : f_lists = nI (l + 1)) (ho : f_outcome = 0) (hpc : a_pc l = nI p) (hrw : a_row l = nI r) (hr : r < 7) (hc : a_count r = nI c) (hc30 : c ≤ 30) (hp : p < c) (h : wpX_execute (fun u => match u with | (f_nodes101, f_depth101, f_known101, f_dues101, f_place101, f_gifts101, f_matched101, f_lists101, f_steps101, f_outcome101, f_made101, a_name101, a_parent101, a_lastOf101, a_way101, a_value101, a_axes101, a_named101, a_kind101, a_over101, a_ends101, a_count101, a_num101, a_placed101, a_asked101, a_holds101, a_due101, a_open101, a_there101, a_priority101, a_given101, a_matches101, a_stack101, a_rest101, a_position101, a_size101, a_at101, a_row101, a_pc101, a_first101, a_out101, a_large101) => (wX_transform_40 post n f_nodes101 f_depth101 f_known101 f_dues101 f_place101 f_gifts101 f_matched101 f_lists101 f_steps101 f_outcome101 f_made101 a_name101 a_parent101 a_lastOf101 a_way101 a_value101 a_axes101 a_named101 a_kind101 a_over101 a_ends101 a_count101 a_num101 a_placed101 a_asked101 a_holds101 a_due101 a_open101 a_there101 a_priority101 a_given101 a_matches101 a_stack101 a_rest101 a_position101 a_size101 a_at101 a_row101 a_pc101 a_first101 a_out101 a_large101)) (f_nodes, f_depth, f_known, f_dues, f_place, f_gifts, f_matched, f_lists, f_steps, f_outcome, f_made, a_name, a_parent, a_lastOf, a_way, a_value, a_axes, a_named, a_kind, a_over, a_ends, a_count, a_num, a_placed, a_asked, a_holds, a_due, a_open, a_there, a_priority, a_given, a_matches, a_stack, a_rest, a_position, a_size, a_at, a_row, a_pc, a_first, a_out, a_large) (nI l) (nI (31 * r)) (nI (31 * r + p))) : wX_transform_40 post (n + 1) f_nodes f_depth f_known f_dues f_place f_gifts f_matched f_lists f_steps f_outcome f_made a_name a_parent a_lastOf a_way a_value a_axes a_named a_kind a_over a_ends a_count a_num a_placed a_asked a_holds a_due a_open a_there a_priority a_given a_matches a_stack a_rest a_position a_size a_at a_row a_pc a_first a_out a_large := by
  subst hL
  refine br_f (nI_nle (by omega) (by omega)) (br_t ho (nm_r (nI_pred _) ⟨vp_in_nI (by omega) (by omega), ?_⟩))
  rw [nI_clamp (by omega), hpc, hrw]
  refine br_t (nI_pos' (by omega)) ⟨vp_in_nI (by omega) (by omega), vp_in_nI (by omega) (by omega), vp_in_nI (by omega) (by omega), ?_⟩
  rw [nI_clamp (by omega), hc, show (31 : Int32) * nI r = nI (31 * r) from pk_mul 31 r, nI_add]
  exact br_t (nI_lt hp (by omega)) ⟨vp_in_nI (by omega) (by omega), vp_in_nI (by omega) (by omega), vp_in_nI (by omega) (by omega), h⟩
theorem xS_stop {post : Int32 → SX → Prop} {l n : Nat} (hl : l < 12) (hL : f_lists = nI (l + 1)) (ho : ¬ f_outcome = 0) (h : post f_outcome (f_nodes, f_depth, f_known, f_dues, f_place, f_gifts, f_matched, f_lists, f_steps, f_outcome, f_made, a_name, a_parent, a_lastOf, a_way, a_value, a_axes, a_named, a_kind, a_over, a_ends, a_count, a_num, a_placed, a_asked, a_holds, a_due, a_open, a_there, a_priority, a_given, a_matches, a_stack, a_rest, a_position, a_size, a_at, a_row, a_pc, a_first, a_out, a_large)) : wX_transform_40 post (n + 1) f_nodes f_depth f_known f_dues f_place f_gifts f_matched f_lists f_steps f_outcome f_made a_name a_parent a_lastOf a_way a_value a_axes a_named a_kind a_over a_ends a_count a_num a_placed a_asked a_holds a_due a_open a_there a_priority a_given a_matches a_stack a_rest a_position a_size a_at a_row a_pc a_first a_out a_large := by
  subst hL
  exact br_f (nI_nle (by omega) (by omega)) (br_f ho h)
/-! a token is executed -/
theorem xE_pre {l r p nd k : Nat} {Q : Int32 → Int32 → Int32 → Prop} (hl : l < 12) (hr : r < 6) (hp : p < 30) (hat : a_at l = nI nd) (hpc : a_pc l = nI p) (hkd : a_kind (31 * r + p) = nI k) (h : Q (nI nd) (nI (p + 1)) (nI k)) : vp_in (nI l) 12 ∧ (∀ x4 : Int32, x4 = a_at (nI l).toNatClampNeg → (vp_in (nI l) 12 ∧ (∀ x5 : Int32, x5 = (a_pc (nI l).toNatClampNeg) + 1 → (vp_in (nI (31 * r + p)) 217 ∧ (∀ k6 : Int32, k6 = a_kind (nI (31 * r + p)).toNatClampNeg → Q x4 x5 k6))))) := by
  rw [nI_clamp (by omega), nI_clamp (by omega), hat, hpc, hkd, nI_1]
  exact ⟨vp_in_nI (by omega) (by omega), nm_e ⟨vp_in_nI (by omega) (by omega), nm_e ⟨vp_in_nI (by omega) (by omega), nm_e h⟩⟩⟩
theorem xE_text {post : SX → Prop} {l r p nd mk : Nat} (hl : l < 12) (hr : r < 6) (hp : p < 30) (hat : a_at l = nI nd) (hpc : a_pc l = nI p) (hkd : a_kind (31 * r + p) = nI 20) (hm : f_made = nI mk) (hmk : mk < 100000) (h : post (f_nodes, f_depth, f_known, f_dues, f_place, f_gifts, f_matched, f_lists, f_steps, f_outcome, nI (mk + 1), a_name, a_parent, a_lastOf, a_way, a_value, a_axes, a_named, a_kind, a_over, a_ends, a_count, a_num, a_placed, a_asked, a_holds, a_due, a_open, a_there, a_priority, a_given, a_matches, a_stack, a_rest, a_position, a_size, a_at, a_row, (upd a_pc l (nI (p + 1))), a_first, (tr_o a_out mk (a_num (31 * r + p))), a_large)) : wpX_execute post (f_nodes, f_depth, f_known, f_dues, f_place, f_gifts, f_matched, f_lists, f_steps, f_outcome, f_made, a_name, a_parent, a_lastOf, a_way, a_value, a_axes, a_named, a_kind, a_over, a_ends, a_count, a_num, a_placed, a_asked, a_holds, a_due, a_open, a_there, a_priority, a_given, a_matches, a_stack, a_rest, a_position, a_size, a_at, a_row, a_pc, a_first, a_out, a_large) (nI l) (nI (31 * r)) (nI (31 * r + p)) := by
  refine xE_pre hl hr hp hat hpc hkd (br_f (by decide) (br_f (by decide) (br_t rfl ⟨vp_in_nI (by omega) (by omega), ?_⟩)))
  rw [nI_clamp (by omega), nI_clamp (by omega), nb_3 (by omega)]
  exact xT_put hm hmk ⟨vp_in_nI (by omega) (by omega), nm_e h⟩
theorem xE_elem {post : SX → Prop} {l r p nd mk : Nat} (hl : l < 12) (hr : r < 6) (hp : p < 30) (hat : a_at l = nI nd) (hpc : a_pc l = nI p) (hkd : a_kind (31 * r + p) = nI 21) (hm : f_made = nI mk) (hmk : mk < 100000) (h : post (f_nodes, f_depth, f_known, f_dues, f_place, f_gifts, f_matched, f_lists, f_steps, f_outcome, nI (mk + 1), a_name, a_parent, a_lastOf, a_way, a_value, a_axes, a_named, a_kind, a_over, a_ends, a_count, a_num, a_placed, a_asked, a_holds, a_due, a_open, a_there, a_priority, a_given, a_matches, a_stack, a_rest, a_position, a_size, a_at, a_row, (upd a_pc l (nI (p + 1))), a_first, (tr_o a_out mk (1000000 + a_num (31 * r + p))), a_large)) : wpX_execute post (f_nodes, f_depth, f_known, f_dues, f_place, f_gifts, f_matched, f_lists, f_steps, f_outcome, f_made, a_name, a_parent, a_lastOf, a_way, a_value, a_axes, a_named, a_kind, a_over, a_ends, a_count, a_num, a_placed, a_asked, a_holds, a_due, a_open, a_there, a_priority, a_given, a_matches, a_stack, a_rest, a_position, a_size, a_at, a_row, a_pc, a_first, a_out, a_large) (nI l) (nI (31 * r)) (nI (31 * r + p)) := by
  refine xE_pre hl hr hp hat hpc hkd (br_f (by decide) (br_f (by decide) (br_f (by decide) (br_t rfl ⟨vp_in_nI (by omega) (by omega), ?_⟩))))
  rw [nI_clamp (by omega), nI_clamp (by omega), nb_3 (by omega)]
  exact xT_put hm hmk ⟨vp_in_nI (by omega) (by omega), nm_e h⟩
theorem xE_288 {post : SX → Prop} {l r p kb : Nat} (hl : l < 12) (hr : r < 6) (hp : p < 30) (hen : a_ends (31 * r + p) = nI kb) (hkb : kb ≤ 26) (h25 : kb = 25 → post (f_nodes, f_depth, f_known, f_dues, f_place, f_gifts, f_matched, f_lists, f_steps, f_outcome, f_made, a_name, a_parent, a_lastOf, a_way, a_value, a_axes, a_named, a_kind, a_over, a_ends, a_count, a_num, a_placed, a_asked, a_holds, a_due, a_open, a_there, a_priority, a_given, a_matches, a_stack, a_rest, a_position, a_size, a_at, a_row, (upd a_pc l (-1)), a_first, a_out, a_large)) (hno : kb ≠ 25 → post (f_nodes, f_depth, f_known, f_dues, f_place, f_gifts, f_matched, f_lists, f_steps, f_outcome, f_made, a_name, a_parent, a_lastOf, a_way, a_value, a_axes, a_named, a_kind, a_over, a_ends, a_count, a_num, a_placed, a_asked, a_holds, a_due, a_open, a_there, a_priority, a_given, a_matches, a_stack, a_rest, a_position, a_size, a_at, a_row, (upd a_pc l (nI (p + 1))), a_first, a_out, a_large)) : wX_execute_288 post (nI l) (nI (31 * r + p)) (nI (p + 1)) f_nodes f_depth f_known f_dues f_place f_gifts f_matched f_lists f_steps f_outcome f_made a_name a_parent a_lastOf a_way a_value a_axes a_named a_kind a_over a_ends a_count a_num a_placed a_asked a_holds a_due a_open a_there a_priority a_given a_matches a_stack a_rest a_position a_size a_at a_row a_pc a_first a_out a_large := by
  refine ⟨vp_in_nI (by omega) (by omega), ?_⟩
  rw [nI_clamp (by omega), nI_clamp (by omega), hen, xo_m2, nb_3 (by omega)]
  exact pk_eq kb 25 (fun z => ⟨vp_in_nI (by omega) (by omega), nm_e (h25 z)⟩) (fun z => ⟨vp_in_nI (by omega) (by omega), nm_e (hno z)⟩)
theorem xE_end {post : SX → Prop} {l r p nd mk kb : Nat} (hl : l < 12) (hr : r < 6) (hp : p < 30) (hat : a_at l = nI nd) (hpc : a_pc l = nI p) (hkd : a_kind (31 * r + p) = nI 26) (hm : f_made = nI mk) (hmk : mk < 100000) (hen : a_ends (31 * r + p) = nI kb) (hkb : kb = 21 ∨ kb = 24 ∨ kb = 25) (h21 : kb = 21 → post (f_nodes, f_depth, f_known, f_dues, f_place, f_gifts, f_matched, f_lists, f_steps, f_outcome, nI (mk + 1), a_name, a_parent, a_lastOf, a_way, a_value, a_axes, a_named, a_kind, a_over, a_ends, a_count, a_num, a_placed, a_asked, a_holds, a_due, a_open, a_there, a_priority, a_given, a_matches, a_stack, a_rest, a_position, a_size, a_at, a_row, (upd a_pc l (nI (p + 1))), a_first, (tr_o a_out mk 2000000), a_large)) (h24 : kb = 24 → post (f_nodes, f_depth, f_known, f_dues, f_place, f_gifts, f_matched, f_lists, f_steps, f_outcome, f_made, a_name, a_parent, a_lastOf, a_way, a_value, a_axes, a_named, a_kind, a_over, a_ends, a_count, a_num, a_placed, a_asked, a_holds, a_due, a_open, a_there, a_priority, a_given, a_matches, a_stack, a_rest, a_position, a_size, a_at, a_row, (upd a_pc l (nI (p + 1))), a_first, a_out, a_large)) (h25 : kb = 25 → post (f_nodes, f_depth, f_known, f_dues, f_place, f_gifts, f_matched, f_lists, f_steps, f_outcome, f_made, a_name, a_parent, a_lastOf, a_way, a_value, a_axes, a_named, a_kind, a_over, a_ends, a_count, a_num, a_placed, a_asked, a_holds, a_due, a_open, a_there, a_priority, a_given, a_matches, a_stack, a_rest, a_position, a_size, a_at, a_row, (upd a_pc l (-1)), a_first, a_out, a_large)) : wpX_execute post (f_nodes, f_depth, f_known, f_dues, f_place, f_gifts, f_matched, f_lists, f_steps, f_outcome, f_made, a_name, a_parent, a_lastOf, a_way, a_value, a_axes, a_named, a_kind, a_over, a_ends, a_count, a_num, a_placed, a_asked, a_holds, a_due, a_open, a_there, a_priority, a_given, a_matches, a_stack, a_rest, a_position, a_size, a_at, a_row, a_pc, a_first, a_out, a_large) (nI l) (nI (31 * r)) (nI (31 * r + p)) := by
  refine xE_pre hl hr hp hat hpc hkd (br_f (by decide) (br_t (by decide) ⟨vp_in_nI (by omega) (by omega), ?_⟩))
  rw [nI_clamp (by omega), hen]
  refine pk_eq kb 21 (fun z => ?_) (fun z => ?_)
  · exact xT_put hm hmk (xE_288 hl hr hp hen (by omega) (fun y => by omega) (fun _ => h21 z))
  · exact xE_288 hl hr hp hen (by omega) h25 (fun y => h24 (by omega))
theorem xE_val {post : SX → Prop} {l r p nd mk nn e : Nat} {cnt : Nat → Nat} {its : List (Nat × List (Nat × List (Nat × Nat)))} (hl : l < 12) (hr : r < 6) (hp : p < 30) (hat : a_at l = nI nd) (hpc : a_pc l = nI p) (hkd : a_kind (31 * r + p) = nI 22) (hm : f_made = nI mk) (hmk : mk < 100000) (hD : xe_D nn a_parent a_name a_axes a_named) (hK : xr_K a_kind a_num) (hcn : ∀ q, q < 7 → cnt q ≤ 30) (hSV : xr_SVi (xr_T a_kind a_num r).1 (cnt r) (31 * r) 0 a_over a_ends a_placed) (hnd : nd < nn) (hN : gm_N (xr_T a_kind a_num r).1 (cnt r) its (p + 1) e) (hC : gm_C (xr_T a_kind a_num r).1 its 1) (hA : xr_CA (nn, a_parent, a_name, a_value) a_kind a_num cnt a_asked a_holds)
    (h : ∀ lg st as ho, xr_CA (nn, a_parent, a_name, a_value) a_kind a_num cnt as ho → post (f_nodes, f_depth, f_known, f_dues, f_place, f_gifts, f_matched, f_lists, f_steps, f_outcome, nI (mk + 1), a_name, a_parent, a_lastOf, a_way, a_value, a_axes, a_named, a_kind, a_over, a_ends, a_count, a_num, a_placed, as, ho, a_due, a_open, a_there, a_priority, a_given, a_matches, st, a_rest, a_position, a_size, a_at, a_row, (upd a_pc l (nI e)), a_first, (tr_o a_out mk ((td_nv (nn, a_parent, a_name, a_value) (xr_T a_kind a_num r) nd (a_position l) (a_size l) its).headD 0)), lg)) : wpX_execute post (f_nodes, f_depth, f_known, f_dues, f_place, f_gifts, f_matched, f_lists, f_steps, f_outcome, f_made, a_name, a_parent, a_lastOf, a_way, a_value, a_axes, a_named, a_kind, a_over, a_ends, a_count, a_num, a_placed, a_asked, a_holds, a_due, a_open, a_there, a_priority, a_given, a_matches, a_stack, a_rest, a_position, a_size, a_at, a_row, a_pc, a_first, a_out, a_large) (nI l) (nI (31 * r)) (nI (31 * r + p)) := by
  have hle := gm_Nle _ _ _ _ hN hC
  have h30 := hcn r (by omega)
  have hov := hSV.1 its (p + 1) e (Nat.zero_le _) hN hC
  refine xE_pre hl hr hp hat hpc hkd (br_f (by decide) (br_f (by decide) (br_f (by decide) (br_f (by decide) (br_t rfl ?_)))))
  rw [show nI (31 * r + p) + 1 = nI (31 * r + (p + 1)) from (nI_1 _).trans (congrArg nI (show 31 * r + p + 1 = 31 * r + (p + 1) by omega))]
  refine ⟨vp_in_nI (by omega) (by omega), ?_⟩
  rw [nI_clamp (by omega), nI_clamp (by omega)]
  refine nm_r hov ⟨vp_in_nI (by omega) (by omega), vp_in_nI (by omega) (by omega), ?_⟩
  rw [nb_3 (by omega)]
  exact xn_number hD hK (by omega) hcn (rl_BR hSV) (fun ps q s => hSV.2.1 ps q s (Nat.zero_le _)) hnd (by omega) hN hC hov hA (fun lg st as ho hA' => xT_put hm hmk ⟨vp_in_nI (by omega) (by omega), nm_e (h lg st as ho hA')⟩)
theorem xE_if {post : SX → Prop} {l r p nd nn e z : Nat} {cnt : Nat → Nat} {its : List (Nat × List (Nat × List (Nat × Nat)))} (hl : l < 12) (hr : r < 6) (hp : p < 30) (hat : a_at l = nI nd) (hpc : a_pc l = nI p) (hkd : a_kind (31 * r + p) = nI 24) (hD : xe_D nn a_parent a_name a_axes a_named) (hK : xr_K a_kind a_num) (hcn : ∀ q, q < 7 → cnt q ≤ 30) (hSV : xr_SVi (xr_T a_kind a_num r).1 (cnt r) (31 * r) 0 a_over a_ends a_placed) (hnd : nd < nn) (hN : gm_N (xr_T a_kind a_num r).1 (cnt r) its (p + 1) e) (hC : gm_C (xr_T a_kind a_num r).1 its 1) (hov2 : a_over (31 * r + p) = nI (z + 1)) (hz : z < 30) (hA : xr_CA (nn, a_parent, a_name, a_value) a_kind a_num cnt a_asked a_holds)
    (h : ∀ lg st as ho, xr_CA (nn, a_parent, a_name, a_value) a_kind a_num cnt as ho → post (f_nodes, f_depth, f_known, f_dues, f_place, f_gifts, f_matched, f_lists, f_steps, f_outcome, f_made, a_name, a_parent, a_lastOf, a_way, a_value, a_axes, a_named, a_kind, a_over, a_ends, a_count, a_num, a_placed, as, ho, a_due, a_open, a_there, a_priority, a_given, a_matches, st, a_rest, a_position, a_size, a_at, a_row, (upd a_pc l (nI (if (td_nv (nn, a_parent, a_name, a_value) (xr_T a_kind a_num r) nd (a_position l) (a_size l) its).headD 0 = 0 then z + 1 else e))), a_first, a_out, lg)) : wpX_execute post (f_nodes, f_depth, f_known, f_dues, f_place, f_gifts, f_matched, f_lists, f_steps, f_outcome, f_made, a_name, a_parent, a_lastOf, a_way, a_value, a_axes, a_named, a_kind, a_over, a_ends, a_count, a_num, a_placed, a_asked, a_holds, a_due, a_open, a_there, a_priority, a_given, a_matches, a_stack, a_rest, a_position, a_size, a_at, a_row, a_pc, a_first, a_out, a_large) (nI l) (nI (31 * r)) (nI (31 * r + p)) := by
  have hle := gm_Nle _ _ _ _ hN hC
  have h30 := hcn r (by omega)
  have hov := hSV.1 its (p + 1) e (Nat.zero_le _) hN hC
  refine xE_pre hl hr hp hat hpc hkd (br_f (by decide) (br_f (by decide) (br_f (by decide) (br_f (by decide) (br_f (by decide) (br_f (by decide) (br_t rfl ?_)))))))
  rw [show nI (31 * r + p) + 1 = nI (31 * r + (p + 1)) from (nI_1 _).trans (congrArg nI (show 31 * r + p + 1 = 31 * r + (p + 1) by omega))]
  refine ⟨vp_in_nI (by omega) (by omega), ?_⟩
  rw [nI_clamp (by omega), nI_clamp (by omega), nI_clamp (by omega)]
  refine nm_r hov ⟨vp_in_nI (by omega) (by omega), vp_in_nI (by omega) (by omega), ?_⟩
  refine xn_number hD hK (by omega) hcn (rl_BR hSV) (fun ps q s => hSV.2.1 ps q s (Nat.zero_le _)) hnd (by omega) hN hC hov hA (fun lg st as ho hA' => ?_)
  have hh := h lg st as ho hA'
  refine br_c (fun c => ⟨vp_in_nI (by omega) (by omega), nm_r hov2 ⟨vp_in_nI (by omega) (by omega), ?_⟩⟩) (fun c => ⟨vp_in_nI (by omega) (by omega), ?_⟩)
  · rw [if_pos c] at hh
    rw [nb_3 (by omega)]
    exact nm_e hh
  · rw [if_neg c] at hh
    rw [nb_3 (by omega)]
    exact nm_e hh
theorem xE_app {post : SX → Prop} {l r p nd nn e : Nat} {cnt : Nat → Nat} {ps : List (Nat × List (Nat × Nat))} (hl : l < 12) (hr : r < 6) (hp : p < 30) (hat : a_at l = nI nd) (hpc : a_pc l = nI p) (hkd : a_kind (31 * r + p) = nI 23) (hD : xe_D nn a_parent a_name a_axes a_named) (hK : xr_K a_kind a_num) (hcn : ∀ q, q < 7 → cnt q ≤ 30) (hSV : xr_SVi (xr_T a_kind a_num r).1 (cnt r) (31 * r) 0 a_over a_ends a_placed) (hnd : nd < nn) (hS : gm_S (xr_T a_kind a_num r).1 (cnt r) ps (p + 1) e) (hps : ps ≠ []) (hA : xr_CA (nn, a_parent, a_name, a_value) a_kind a_num cnt a_asked a_holds)
    (h : ∀ st as ho, xr_CA (nn, a_parent, a_name, a_value) a_kind a_num cnt as ho → wpX_list (fun u => match u with | (f_nodes341, f_depth341, f_known341, f_dues341, f_place341, f_gifts341, f_matched341, f_lists341, f_steps341, f_outcome341, f_made341, a_name341, a_parent341, a_lastOf341, a_way341, a_value341, a_axes341, a_named341, a_kind341, a_over341, a_ends341, a_count341, a_num341, a_placed341, a_asked341, a_holds341, a_due341, a_open341, a_there341, a_priority341, a_given341, a_matches341, a_stack341, a_rest341, a_position341, a_size341, a_at341, a_row341, a_pc341, a_first341, a_out341, a_large341) => (post (f_nodes341, f_depth341, f_known341, f_dues341, f_place341, f_gifts341, f_matched341, f_lists341, f_steps341, f_outcome341, f_made341, a_name341, a_parent341, a_lastOf341, a_way341, a_value341, a_axes341, a_named341, a_kind341, a_over341, a_ends341, a_count341, a_num341, a_placed341, a_asked341, a_holds341, a_due341, a_open341, a_there341, a_priority341, a_given341, a_matches341, a_stack341, a_rest341, a_position341, a_size341, a_at341, a_row341, a_pc341, a_first341, a_out341, a_large341))) (f_nodes, f_depth, f_known, f_dues, f_place, f_gifts, f_matched, f_lists, f_steps, f_outcome, f_made, a_name, a_parent, a_lastOf, a_way, a_value, a_axes, a_named, a_kind, a_over, a_ends, a_count, a_num, a_placed, as, ho, a_due, a_open, a_there, a_priority, a_given, a_matches, st, a_rest, a_position, a_size, a_at, a_row, (upd a_pc l (nI e)), a_first, a_out, a_large) (td_pv (nn, a_parent, a_name, a_value) (xr_T a_kind a_num r) ps (td_1 nd)) 0 (-1)) : wpX_execute post (f_nodes, f_depth, f_known, f_dues, f_place, f_gifts, f_matched, f_lists, f_steps, f_outcome, f_made, a_name, a_parent, a_lastOf, a_way, a_value, a_axes, a_named, a_kind, a_over, a_ends, a_count, a_num, a_placed, a_asked, a_holds, a_due, a_open, a_there, a_priority, a_given, a_matches, a_stack, a_rest, a_position, a_size, a_at, a_row, a_pc, a_first, a_out, a_large) (nI l) (nI (31 * r)) (nI (31 * r + p)) := by
  have hle := gm_Sle _ _ _ hS
  have h30 := hcn r (by omega)
  have hov := hSV.2.1 ps (p + 1) e (Nat.zero_le _) hS hps
  refine xE_pre hl hr hp hat hpc hkd (br_f (by decide) (br_f (by decide) (br_f (by decide) (br_f (by decide) (br_f (by decide) (br_t rfl ?_))))))
  rw [show nI (31 * r + p) + 1 = nI (31 * r + (p + 1)) from (nI_1 _).trans (congrArg nI (show 31 * r + p + 1 = 31 * r + (p + 1) by omega))]
  refine ⟨vp_in_nI (by omega) (by omega), ?_⟩
  rw [nI_clamp (by omega), nI_clamp (by omega)]
  refine nm_r hov ⟨vp_in_nI (by omega) (by omega), ?_⟩
  rw [nb_3 (by omega)]
  exact nm_e (xp_path hD hK (by omega) hcn (rl_BR hSV) hS hov hnd hA h)
theorem xE_each {post : SX → Prop} {l r p nd nn e z : Nat} {cnt : Nat → Nat} {ps : List (Nat × List (Nat × Nat))} (hl : l < 12) (hr : r < 6) (hp : p < 30) (hat : a_at l = nI nd) (hpc : a_pc l = nI p) (hrw : a_row l = nI r) (hkd : a_kind (31 * r + p) = nI 25) (hD : xe_D nn a_parent a_name a_axes a_named) (hK : xr_K a_kind a_num) (hcn : ∀ q, q < 7 → cnt q ≤ 30) (hSV : xr_SVi (xr_T a_kind a_num r).1 (cnt r) (31 * r) 0 a_over a_ends a_placed) (hnd : nd < nn) (hS : gm_S (xr_T a_kind a_num r).1 (cnt r) ps (p + 1) e) (hps : ps ≠ []) (hov2 : a_over (31 * r + p) = nI (z + 1)) (hz : z < 30) (hA : xr_CA (nn, a_parent, a_name, a_value) a_kind a_num cnt a_asked a_holds)
    (h : ∀ st as ho, xr_CA (nn, a_parent, a_name, a_value) a_kind a_num cnt as ho → wpX_list (fun u => match u with | (f_nodes488, f_depth488, f_known488, f_dues488, f_place488, f_gifts488, f_matched488, f_lists488, f_steps488, f_outcome488, f_made488, a_name488, a_parent488, a_lastOf488, a_way488, a_value488, a_axes488, a_named488, a_kind488, a_over488, a_ends488, a_count488, a_num488, a_placed488, a_asked488, a_holds488, a_due488, a_open488, a_there488, a_priority488, a_given488, a_matches488, a_stack488, a_rest488, a_position488, a_size488, a_at488, a_row488, a_pc488, a_first488, a_out488, a_large488) => (post (f_nodes488, f_depth488, f_known488, f_dues488, f_place488, f_gifts488, f_matched488, f_lists488, f_steps488, f_outcome488, f_made488, a_name488, a_parent488, a_lastOf488, a_way488, a_value488, a_axes488, a_named488, a_kind488, a_over488, a_ends488, a_count488, a_num488, a_placed488, a_asked488, a_holds488, a_due488, a_open488, a_there488, a_priority488, a_given488, a_matches488, a_stack488, a_rest488, a_position488, a_size488, a_at488, a_row488, a_pc488, a_first488, a_out488, a_large488))) (f_nodes, f_depth, f_known, f_dues, f_place, f_gifts, f_matched, f_lists, f_steps, f_outcome, f_made, a_name, a_parent, a_lastOf, a_way, a_value, a_axes, a_named, a_kind, a_over, a_ends, a_count, a_num, a_placed, as, ho, a_due, a_open, a_there, a_priority, a_given, a_matches, st, a_rest, a_position, a_size, a_at, a_row, (upd a_pc l (nI (z + 1))), a_first, a_out, a_large) (td_pv (nn, a_parent, a_name, a_value) (xr_T a_kind a_num r) ps (td_1 nd)) (nI r) (nI e)) : wpX_execute post (f_nodes, f_depth, f_known, f_dues, f_place, f_gifts, f_matched, f_lists, f_steps, f_outcome, f_made, a_name, a_parent, a_lastOf, a_way, a_value, a_axes, a_named, a_kind, a_over, a_ends, a_count, a_num, a_placed, a_asked, a_holds, a_due, a_open, a_there, a_priority, a_given, a_matches, a_stack, a_rest, a_position, a_size, a_at, a_row, a_pc, a_first, a_out, a_large) (nI l) (nI (31 * r)) (nI (31 * r + p)) := by
  have hle := gm_Sle _ _ _ hS
  have h30 := hcn r (by omega)
  have hov := hSV.2.1 ps (p + 1) e (Nat.zero_le _) hS hps
  refine xE_pre hl hr hp hat hpc hkd (br_f (by decide) (br_f (by decide) (br_f (by decide) (br_f (by decide) (br_f (by decide) (br_f (by decide) (br_f (by decide) (br_t rfl ⟨vp_in_nI (by omega) (by omega), vp_in_nI (by omega) (by omega), ?_⟩))))))))
  rw [nI_clamp (by omega), nI_clamp (by omega), hov2, nb_2 (by omega), show nI (31 * r + p) + 1 = nI (31 * r + (p + 1)) from (nI_1 _).trans (congrArg nI (show 31 * r + p + 1 = 31 * r + (p + 1) by omega))]
  refine nm_e (xp_path hD hK (by omega) hcn (rl_BR hSV) hS hov hnd hA (fun st as ho hA' => ⟨vp_in_nI (by omega) (by omega), vp_in_nI (by omega) (by omega), ?_⟩))
  rw [nI_clamp (by omega), hrw, hov]
  exact h st as ho hA'
end
end
section
/-! transforming: the reference's steps -/
theorem tr_uu (f : Nat → Int32) (k : Nat) (x y : Int32) : upd (upd f k x) k y = upd f k y := by
  funext j
  by_cases e : j = k
  · subst e; rw [pk_us, pk_us]
  · rw [pk_un e, pk_un e, pk_un e]
section
variable {g_nodes g_inner g_rules g_place g_listed g_depth g_row g_pc g_node g_position g_size g_fault g_put g_steps : Int32} {b_name b_parent b_value b_kind b_with b_count b_bodyAt b_priority b_given b_there b_wanted b_waiting b_within b_list b_left b_reached b_sizes b_each b_backRow b_backPc b_backNode b_backPosition b_backSize b_output : Nat → Int32}
theorem yA_pop {post : SY → Prop} {l : Nat} (hl : l < 12) (hL : g_depth = nI (l + 1)) (h : b_left l = 0) (hp : post (g_nodes, g_inner, g_rules, g_place, g_listed, nI l, b_backRow l, b_backPc l, b_backNode l, b_backPosition l, b_backSize l, g_fault, g_put, g_steps, b_name, b_parent, b_value, b_kind, b_with, b_count, b_bodyAt, b_priority, b_given, b_there, b_wanted, b_waiting, b_within, b_list, b_left, b_reached, b_sizes, b_each, b_backRow, b_backPc, b_backNode, b_backPosition, b_backSize, b_output)) : wpY_nextNode post (g_nodes, g_inner, g_rules, g_place, g_listed, g_depth, g_row, g_pc, g_node, g_position, g_size, g_fault, g_put, g_steps, b_name, b_parent, b_value, b_kind, b_with, b_count, b_bodyAt, b_priority, b_given, b_there, b_wanted, b_waiting, b_within, b_list, b_left, b_reached, b_sizes, b_each, b_backRow, b_backPc, b_backNode, b_backPosition, b_backSize, b_output) := by
  subst hL
  refine nm_r (nI_pred _) ⟨vp_in_nI (by omega) (by omega), ?_⟩
  rw [nI_clamp (by omega)]
  exact br_t h (nm_r (nI_pred _) ⟨vp_in_nI (by omega) (by omega), nm_e ⟨vp_in_nI (by omega) (by omega), nm_e ⟨vp_in_nI (by omega) (by omega), nm_e ⟨vp_in_nI (by omega) (by omega), nm_e ⟨vp_in_nI (by omega) (by omega), nm_e hp⟩⟩⟩⟩⟩)
theorem yA_long {post : SY → Prop} {l : Nat} (hl : l < 12) (hL : g_depth = nI (l + 1)) (h : ¬ b_left l = 0) (hS : g_steps = 150) (hp : post (g_nodes, g_inner, g_rules, g_place, g_listed, g_depth, g_row, g_pc, g_node, g_position, g_size, 1, g_put, g_steps, b_name, b_parent, b_value, b_kind, b_with, b_count, b_bodyAt, b_priority, b_given, b_there, b_wanted, b_waiting, b_within, b_list, b_left, b_reached, b_sizes, b_each, b_backRow, b_backPc, b_backNode, b_backPosition, b_backSize, b_output)) : wpY_nextNode post (g_nodes, g_inner, g_rules, g_place, g_listed, g_depth, g_row, g_pc, g_node, g_position, g_size, g_fault, g_put, g_steps, b_name, b_parent, b_value, b_kind, b_with, b_count, b_bodyAt, b_priority, b_given, b_there, b_wanted, b_waiting, b_within, b_list, b_left, b_reached, b_sizes, b_each, b_backRow, b_backPc, b_backNode, b_backPosition, b_backSize, b_output) := by
  subst hL
  refine nm_r (nI_pred _) ⟨vp_in_nI (by omega) (by omega), ?_⟩
  rw [nI_clamp (by omega)]
  exact br_f h (br_t hS hp)
theorem yA_105 {post : SY → Prop} {l a : Nat} {t : List Nat} (hl : l < 12) (hs : tm_S (b_left l) (a :: t))
    (h : ((b_each l < 0 → (wpY_handle (fun u => match u with | (g_nodes17, g_inner17, g_rules17, g_place17, g_listed17, g_depth17, g_row17, g_pc17, g_node17, g_position17, g_size17, g_fault17, g_put17, g_steps17, b_name17, b_parent17, b_value17, b_kind17, b_with17, b_count17, b_bodyAt17, b_priority17, b_given17, b_there17, b_wanted17, b_waiting17, b_within17, b_list17, b_left17, b_reached17, b_sizes17, b_each17, b_backRow17, b_backPc17, b_backNode17, b_backPosition17, b_backSize17, b_output17) => (((0 ≤ g_row17 → (wY_nextNode_193 post (nI l) (nI a) g_nodes17 g_inner17 g_rules17 g_place17 g_listed17 g_depth17 g_row17 g_pc17 g_node17 g_position17 g_size17 g_fault17 g_put17 g_steps17 b_name17 b_parent17 b_value17 b_kind17 b_with17 b_count17 b_bodyAt17 b_priority17 b_given17 b_there17 b_wanted17 b_waiting17 b_within17 b_list17 b_left17 b_reached17 b_sizes17 b_each17 b_backRow17 b_backPc17 b_backNode17 b_backPosition17 b_backSize17 b_output17)) ∧ (¬ 0 ≤ g_row17 → (post (g_nodes17, g_inner17, g_rules17, g_place17, g_listed17, g_depth17, g_row17, g_pc17, g_node17, g_position17, g_size17, g_fault17, g_put17, g_steps17, b_name17, b_parent17, b_value17, b_kind17, b_with17, b_count17, b_bodyAt17, b_priority17, b_given17, b_there17, b_wanted17, b_waiting17, b_within17, b_list17, b_left17, b_reached17, b_sizes17, b_each17, b_backRow17, b_backPc17, b_backNode17, b_backPosition17, b_backSize17, b_output17)))))) (g_nodes, g_inner, g_rules, g_place, g_listed, g_depth, g_row, g_pc, g_node, g_position, g_size, g_fault, g_put, g_steps, b_name, b_parent, b_value, b_kind, b_with, b_count, b_bodyAt, b_priority, b_given, b_there, b_wanted, b_waiting, b_within, b_list, (upd b_left l (b_left l &&& (((1 : Int32) <<< (nI a &&& 31)) ^^^ (-1)))), (upd b_reached l (b_reached l + 1)), b_sizes, b_each, b_backRow, b_backPc, b_backNode, b_backPosition, b_backSize, b_output) (nI a))) ∧ (¬ b_each l < 0 → (wY_nextNode_193 post (nI l) (nI a) g_nodes g_inner g_rules g_place g_listed g_depth (b_backRow l) (b_each l) g_node g_position g_size g_fault g_put g_steps b_name b_parent b_value b_kind b_with b_count b_bodyAt b_priority b_given b_there b_wanted b_waiting b_within b_list (upd b_left l (b_left l &&& (((1 : Int32) <<< (nI a &&& 31)) ^^^ (-1)))) (upd b_reached l (b_reached l + 1)) b_sizes b_each b_backRow b_backPc b_backNode b_backPosition b_backSize b_output)))) : ∀ d i, i + d = a → wY_nextNode_105 post (nI l) g_nodes g_inner g_rules g_place g_listed g_depth g_row g_pc g_node g_position g_size g_fault g_put g_steps b_name b_parent b_value b_kind b_with b_count b_bodyAt b_priority b_given b_there b_wanted b_waiting b_within b_list b_left b_reached b_sizes b_each b_backRow b_backPc b_backNode b_backPosition b_backSize b_output (d + 1) (nI i) := by
  obtain ⟨h1, h2, h3, -⟩ := tm_cons hs
  intro d
  induction d with
  | zero =>
    intro i hi
    rw [show i = a by omega]
    refine ⟨vp_in_nI (by omega) (by omega), ?_⟩
    rw [nI_clamp (by omega)]
    refine br_f (ta_tstT _ (by omega) h2) ⟨vp_in_nI (by omega) (by omega), vp_in_nI (by omega) (by omega), nm_e ⟨vp_in_nI (by omega) (by omega), vp_in_nI (by omega) (by omega), nm_e ⟨vp_in_nI (by omega) (by omega), ?_⟩⟩⟩
    exact ⟨h.1, fun z => ⟨vp_in_nI (by omega) (by omega), nm_e ⟨vp_in_nI (by omega) (by omega), nm_e (h.2 z)⟩⟩⟩
  | succ d ih =>
    intro i hi
    refine ⟨vp_in_nI (by omega) (by omega), ?_⟩
    rw [nI_clamp (by omega)]
    exact br_t (ta_tstF _ (by omega) (h3 i (by omega))) (nm_r (nI_1 i) (ih (i + 1) (by omega)))
theorem yA_go {post : SY → Prop} {l S a : Nat} {t : List Nat} (hl : l < 12) (hL : g_depth = nI (l + 1)) (hs : tm_S (b_left l) (a :: t)) (hS : g_steps = nI S) (hS2 : S < 150)
    (h : ((b_each l < 0 → (wpY_handle (fun u => match u with | (g_nodes17, g_inner17, g_rules17, g_place17, g_listed17, g_depth17, g_row17, g_pc17, g_node17, g_position17, g_size17, g_fault17, g_put17, g_steps17, b_name17, b_parent17, b_value17, b_kind17, b_with17, b_count17, b_bodyAt17, b_priority17, b_given17, b_there17, b_wanted17, b_waiting17, b_within17, b_list17, b_left17, b_reached17, b_sizes17, b_each17, b_backRow17, b_backPc17, b_backNode17, b_backPosition17, b_backSize17, b_output17) => (((0 ≤ g_row17 → (wY_nextNode_193 post (nI l) (nI a) g_nodes17 g_inner17 g_rules17 g_place17 g_listed17 g_depth17 g_row17 g_pc17 g_node17 g_position17 g_size17 g_fault17 g_put17 g_steps17 b_name17 b_parent17 b_value17 b_kind17 b_with17 b_count17 b_bodyAt17 b_priority17 b_given17 b_there17 b_wanted17 b_waiting17 b_within17 b_list17 b_left17 b_reached17 b_sizes17 b_each17 b_backRow17 b_backPc17 b_backNode17 b_backPosition17 b_backSize17 b_output17)) ∧ (¬ 0 ≤ g_row17 → (post (g_nodes17, g_inner17, g_rules17, g_place17, g_listed17, g_depth17, g_row17, g_pc17, g_node17, g_position17, g_size17, g_fault17, g_put17, g_steps17, b_name17, b_parent17, b_value17, b_kind17, b_with17, b_count17, b_bodyAt17, b_priority17, b_given17, b_there17, b_wanted17, b_waiting17, b_within17, b_list17, b_left17, b_reached17, b_sizes17, b_each17, b_backRow17, b_backPc17, b_backNode17, b_backPosition17, b_backSize17, b_output17)))))) (g_nodes, g_inner, g_rules, g_place, g_listed, g_depth, g_row, g_pc, g_node, g_position, g_size, g_fault, g_put, nI (S + 1), b_name, b_parent, b_value, b_kind, b_with, b_count, b_bodyAt, b_priority, b_given, b_there, b_wanted, b_waiting, b_within, b_list, (upd b_left l (b_left l &&& (((1 : Int32) <<< (nI a &&& 31)) ^^^ (-1)))), (upd b_reached l (b_reached l + 1)), b_sizes, b_each, b_backRow, b_backPc, b_backNode, b_backPosition, b_backSize, b_output) (nI a))) ∧ (¬ b_each l < 0 → (wY_nextNode_193 post (nI l) (nI a) g_nodes g_inner g_rules g_place g_listed g_depth (b_backRow l) (b_each l) g_node g_position g_size g_fault g_put (nI (S + 1)) b_name b_parent b_value b_kind b_with b_count b_bodyAt b_priority b_given b_there b_wanted b_waiting b_within b_list (upd b_left l (b_left l &&& (((1 : Int32) <<< (nI a &&& 31)) ^^^ (-1)))) (upd b_reached l (b_reached l + 1)) b_sizes b_each b_backRow b_backPc b_backNode b_backPosition b_backSize b_output)))) : wpY_nextNode post (g_nodes, g_inner, g_rules, g_place, g_listed, g_depth, g_row, g_pc, g_node, g_position, g_size, g_fault, g_put, g_steps, b_name, b_parent, b_value, b_kind, b_with, b_count, b_bodyAt, b_priority, b_given, b_there, b_wanted, b_waiting, b_within, b_list, b_left, b_reached, b_sizes, b_each, b_backRow, b_backPc, b_backNode, b_backPosition, b_backSize, b_output) := by
  subst hL hS
  obtain ⟨h1, h2, h3, -⟩ := tm_cons hs
  refine nm_r (nI_pred _) ⟨vp_in_nI (by omega) (by omega), ?_⟩
  rw [nI_clamp (by omega)]
  exact br_f (tm_nz h2) (br_f (fun z => by have := (nI_eq (b := 150) (by omega) (by omega)).mp z; omega) (nm_r (nI_1 S) ⟨a + 1, yA_105 hl hs h a 0 (by omega)⟩))
theorem yA_193 {post : SY → Prop} {l : Nat} {x2 : Int32} (hl : l < 12) (h : post (g_nodes, g_inner, g_rules, g_place, g_listed, g_depth, g_row, g_pc, x2, b_reached l, b_sizes l, g_fault, g_put, g_steps, b_name, b_parent, b_value, b_kind, b_with, b_count, b_bodyAt, b_priority, b_given, b_there, b_wanted, b_waiting, b_within, b_list, b_left, b_reached, b_sizes, b_each, b_backRow, b_backPc, b_backNode, b_backPosition, b_backSize, b_output)) : wY_nextNode_193 post (nI l) x2 g_nodes g_inner g_rules g_place g_listed g_depth g_row g_pc g_node g_position g_size g_fault g_put g_steps b_name b_parent b_value b_kind b_with b_count b_bodyAt b_priority b_given b_there b_wanted b_waiting b_within b_list b_left b_reached b_sizes b_each b_backRow b_backPc b_backNode b_backPosition b_backSize b_output := by
  refine ⟨vp_in_nI (by omega) (by omega), ?_⟩
  rw [nI_clamp (by omega)]
  exact nm_e ⟨vp_in_nI (by omega) (by omega), nm_e h⟩
theorem yA_each {post : SY → Prop} {l S a x : Nat} {t : List Nat} (hl : l < 12) (hL : g_depth = nI (l + 1)) (hs : tm_S (b_left l) (a :: t)) (hS : g_steps = nI S) (hS2 : S < 150) (hx : b_each l = nI x) (hx2 : x < 1000) (hp : post (g_nodes, g_inner, g_rules, g_place, g_listed, g_depth, b_backRow l, nI x, nI a, (b_reached l + 1), b_sizes l, g_fault, g_put, nI (S + 1), b_name, b_parent, b_value, b_kind, b_with, b_count, b_bodyAt, b_priority, b_given, b_there, b_wanted, b_waiting, b_within, b_list, (upd b_left l (b_left l &&& (((1 : Int32) <<< (nI a &&& 31)) ^^^ (-1)))), (upd b_reached l (b_reached l + 1)), b_sizes, b_each, b_backRow, b_backPc, b_backNode, b_backPosition, b_backSize, b_output)) : wpY_nextNode post (g_nodes, g_inner, g_rules, g_place, g_listed, g_depth, g_row, g_pc, g_node, g_position, g_size, g_fault, g_put, g_steps, b_name, b_parent, b_value, b_kind, b_with, b_count, b_bodyAt, b_priority, b_given, b_there, b_wanted, b_waiting, b_within, b_list, b_left, b_reached, b_sizes, b_each, b_backRow, b_backPc, b_backNode, b_backPosition, b_backSize, b_output) := by
  refine yA_go hl hL hs hS hS2 (br_f (by rw [hx]; exact nI_pos (by omega)) (yA_193 hl ?_))
  rw [pk_us, hx]
  exact hp
theorem yA_handle {post : SY → Prop} {l S a nn mk : Nat} {t : List Nat} {pick : Nat → Bool} (hl : l < 12) (hL : g_depth = nI (l + 1)) (hs : tm_S (b_left l) (a :: t)) (hS : g_steps = nI S) (hS2 : S < 150) (hx : b_each l = -1) (hrow : g_row = -1) (hg : g_nodes = nI nn) (hP : td_P nn b_parent) (ha : a < nn) (hm : g_put = nI mk) (hmk : mk < 100000)
    (hM : ∀ r, r < 6 → (b_there r = 0 ∨ b_there r = 1) ∧ (b_there r = 0 → pick r = false) ∧ (b_there r = 1 → ∀ (post : Int32 → SY → Prop) ld li wi, (∀ ld' li' wi', post (yl_b (pick r)) (g_nodes, g_inner, g_rules, g_place, ld', g_depth, g_row, g_pc, g_node, g_position, g_size, g_fault, g_put, nI (S + 1), b_name, b_parent, b_value, b_kind, b_with, b_count, b_bodyAt, b_priority, b_given, b_there, b_wanted, b_waiting, wi', li', (upd b_left l (b_left l &&& (((1 : Int32) <<< (nI a &&& 31)) ^^^ (-1)))), (upd b_reached l (b_reached l + 1)), b_sizes, b_each, b_backRow, b_backPc, b_backNode, b_backPosition, b_backSize, b_output)) → wpY_matches post (g_nodes, g_inner, g_rules, g_place, ld, g_depth, g_row, g_pc, g_node, g_position, g_size, g_fault, g_put, nI (S + 1), b_name, b_parent, b_value, b_kind, b_with, b_count, b_bodyAt, b_priority, b_given, b_there, b_wanted, b_waiting, wi, li, (upd b_left l (b_left l &&& (((1 : Int32) <<< (nI a &&& 31)) ^^^ (-1)))), (upd b_reached l (b_reached l + 1)), b_sizes, b_each, b_backRow, b_backPc, b_backNode, b_backPosition, b_backSize, b_output) (nI r) (nI a)))
    (hr : ∀ r, r < 6 → pick r = true → tb_b pick b_priority b_given 6 0 (-1) = nI r → ∃ e, e ≤ 30 ∧ b_bodyAt r = nI e ∧ ∀ ld li wi, post (g_nodes, g_inner, g_rules, g_place, ld, g_depth, nI r, nI (30 * r + e), nI a, (b_reached l + 1), b_sizes l, g_fault, g_put, nI (S + 1), b_name, b_parent, b_value, b_kind, b_with, b_count, b_bodyAt, b_priority, b_given, b_there, b_wanted, b_waiting, wi, li, (upd b_left l (b_left l &&& (((1 : Int32) <<< (nI a &&& 31)) ^^^ (-1)))), (upd b_reached l (b_reached l + 1)), b_sizes, b_each, b_backRow, b_backPc, b_backNode, b_backPosition, b_backSize, b_output))
    (h0 : tb_b pick b_priority b_given 6 0 (-1) = -1 → tm_ms (td_on b_parent 1 a) nn = 0 → ∀ ld li wi, post (g_nodes, g_inner, g_rules, g_place, ld, g_depth, g_row, g_pc, g_node, g_position, g_size, g_fault, nI (mk + 1), nI (S + 1), b_name, b_parent, b_value, b_kind, b_with, b_count, b_bodyAt, b_priority, b_given, b_there, b_wanted, b_waiting, wi, li, (upd b_left l (b_left l &&& (((1 : Int32) <<< (nI a &&& 31)) ^^^ (-1)))), (upd b_reached l (b_reached l + 1)), b_sizes, b_each, b_backRow, b_backPc, b_backNode, b_backPosition, b_backSize, (tr_o b_output mk (b_value a))))
    (h12 : tb_b pick b_priority b_given 6 0 (-1) = -1 → ¬ tm_ms (td_on b_parent 1 a) nn = 0 → l + 1 = 12 → ∀ ld li wi, post (g_nodes, g_inner, g_rules, g_place, ld, g_depth, g_row, g_pc, g_node, g_position, g_size, 2, g_put, nI (S + 1), b_name, b_parent, b_value, b_kind, b_with, b_count, b_bodyAt, b_priority, b_given, b_there, b_wanted, b_waiting, wi, li, (upd b_left l (b_left l &&& (((1 : Int32) <<< (nI a &&& 31)) ^^^ (-1)))), (upd b_reached l (b_reached l + 1)), b_sizes, b_each, b_backRow, b_backPc, b_backNode, b_backPosition, b_backSize, b_output))
    (h1 : tb_b pick b_priority b_given 6 0 (-1) = -1 → ¬ tm_ms (td_on b_parent 1 a) nn = 0 → l + 1 < 12 → ∀ ld li wi, post (g_nodes, g_inner, g_rules, g_place, ld, nI (l + 1 + 1), -1, g_pc, g_node, g_position, g_size, g_fault, g_put, nI (S + 1), b_name, b_parent, b_value, b_kind, b_with, b_count, b_bodyAt, b_priority, b_given, b_there, b_wanted, b_waiting, wi, li, (upd (upd b_left l (b_left l &&& (((1 : Int32) <<< (nI a &&& 31)) ^^^ (-1)))) (l + 1) (tm_ms (td_on b_parent 1 a) nn)), (upd (upd b_reached l (b_reached l + 1)) (l + 1) 0), (upd b_sizes (l + 1) (nI (tm_mem nn (tm_ms (td_on b_parent 1 a) nn)).length)), (upd b_each (l + 1) (-1)), (upd b_backRow (l + 1) (-1)), (upd b_backPc (l + 1) g_pc), (upd b_backNode (l + 1) g_node), (upd b_backPosition (l + 1) g_position), (upd b_backSize (l + 1) g_size), b_output)) : wpY_nextNode post (g_nodes, g_inner, g_rules, g_place, g_listed, g_depth, g_row, g_pc, g_node, g_position, g_size, g_fault, g_put, g_steps, b_name, b_parent, b_value, b_kind, b_with, b_count, b_bodyAt, b_priority, b_given, b_there, b_wanted, b_waiting, b_within, b_list, b_left, b_reached, b_sizes, b_each, b_backRow, b_backPc, b_backNode, b_backPosition, b_backSize, b_output) := by
  have h24 := hP.1
  refine yA_go hl hL hs hS hS2 (br_t (by rw [hx]; exact yl_m1) ?_)
  subst hrow
  refine yb_rule hg h24 ha hM (fun ld li wi => ?_)
  rcases tb_bv (pick := pick) (prio := b_priority) (given := b_given) 6 0 (-1) (by omega) with e | ⟨q, hq, hpq, e⟩
  · rw [e]
    refine br_t yl_m1 ⟨nn + 1, ?_⟩
    refine yT_36 hg h24 ha (fun z => ?_) (fun z => ?_) nn 0 (by omega)
    · exact yT_emit hm hmk (br_f (by decide) (h0 e z ld li wi))
    · refine yT_begin hL (by omega) hg h24 (fun y => br_f (by decide) (h12 e z y ld li wi)) (fun y => br_f (by decide) (h1 e z y ld li wi))
  · obtain ⟨x, x1, x2, x3⟩ := hr q hq hpq e
    rw [e]
    refine br_f (nI_pos (by omega)) ⟨vp_in_nI (by omega) (by omega), ?_⟩
    rw [nI_clamp (by omega), x2, show (30 : Int32) * nI q = nI (30 * q) from pk_mul 30 q, nI_add]
    refine nm_e (br_t (nI_pos' (by omega)) (yA_193 hl ?_))
    rw [pk_us]
    exact x3 ld li wi
/-! one turn of the loop -/
theorem yS_next {post : Int32 → SY → Prop} {l n : Nat} (hl : l < 12) (hL : g_depth = nI (l + 1)) (ho : g_fault = 0) (hr : g_row = -1) (h : wpY_nextNode (fun u => match u with | (g_nodes84, g_inner84, g_rules84, g_place84, g_listed84, g_depth84, g_row84, g_pc84, g_node84, g_position84, g_size84, g_fault84, g_put84, g_steps84, b_name84, b_parent84, b_value84, b_kind84, b_with84, b_count84, b_bodyAt84, b_priority84, b_given84, b_there84, b_wanted84, b_waiting84, b_within84, b_list84, b_left84, b_reached84, b_sizes84, b_each84, b_backRow84, b_backPc84, b_backNode84, b_backPosition84, b_backSize84, b_output84) => (wY_transform_40 post n g_nodes84 g_inner84 g_rules84 g_place84 g_listed84 g_depth84 g_row84 g_pc84 g_node84 g_position84 g_size84 g_fault84 g_put84 g_steps84 b_name84 b_parent84 b_value84 b_kind84 b_with84 b_count84 b_bodyAt84 b_priority84 b_given84 b_there84 b_wanted84 b_waiting84 b_within84 b_list84 b_left84 b_reached84 b_sizes84 b_each84 b_backRow84 b_backPc84 b_backNode84 b_backPosition84 b_backSize84 b_output84)) (g_nodes, g_inner, g_rules, g_place, g_listed, g_depth, g_row, g_pc, g_node, g_position, g_size, g_fault, g_put, g_steps, b_name, b_parent, b_value, b_kind, b_with, b_count, b_bodyAt, b_priority, b_given, b_there, b_wanted, b_waiting, b_within, b_list, b_left, b_reached, b_sizes, b_each, b_backRow, b_backPc, b_backNode, b_backPosition, b_backSize, b_output)) : wY_transform_40 post (n + 1) g_nodes g_inner g_rules g_place g_listed g_depth g_row g_pc g_node g_position g_size g_fault g_put g_steps b_name b_parent b_value b_kind b_with b_count b_bodyAt b_priority b_given b_there b_wanted b_waiting b_within b_list b_left b_reached b_sizes b_each b_backRow b_backPc b_backNode b_backPosition b_backSize b_output := by
  subst hL hr
  exact br_f (nI_nle (by omega) (by omega)) (br_t ho (br_f (by decide) h))
theorem yS_exec {post : Int32 → SY → Prop} {l n r : Nat} (hl : l < 12) (hL : g_depth = nI (l + 1)) (ho : g_fault = 0) (hr : g_row = nI r) (hr6 : r < 6) (h : wpY_execute (fun u => match u with | (g_nodes45, g_inner45, g_rules45, g_place45, g_listed45, g_depth45, g_row45, g_pc45, g_node45, g_position45, g_size45, g_fault45, g_put45, g_steps45, b_name45, b_parent45, b_value45, b_kind45, b_with45, b_count45, b_bodyAt45, b_priority45, b_given45, b_there45, b_wanted45, b_waiting45, b_within45, b_list45, b_left45, b_reached45, b_sizes45, b_each45, b_backRow45, b_backPc45, b_backNode45, b_backPosition45, b_backSize45, b_output45) => (wY_transform_40 post n g_nodes45 g_inner45 g_rules45 g_place45 g_listed45 g_depth45 g_row45 g_pc45 g_node45 g_position45 g_size45 g_fault45 g_put45 g_steps45 b_name45 b_parent45 b_value45 b_kind45 b_with45 b_count45 b_bodyAt45 b_priority45 b_given45 b_there45 b_wanted45 b_waiting45 b_within45 b_list45 b_left45 b_reached45 b_sizes45 b_each45 b_backRow45 b_backPc45 b_backNode45 b_backPosition45 b_backSize45 b_output45)) (g_nodes, g_inner, g_rules, g_place, g_listed, g_depth, g_row, g_pc, g_node, g_position, g_size, g_fault, g_put, g_steps, b_name, b_parent, b_value, b_kind, b_with, b_count, b_bodyAt, b_priority, b_given, b_there, b_wanted, b_waiting, b_within, b_list, b_left, b_reached, b_sizes, b_each, b_backRow, b_backPc, b_backNode, b_backPosition, b_backSize, b_output)) : wY_transform_40 post (n + 1) g_nodes g_inner g_rules g_place g_listed g_depth g_row g_pc g_node g_position g_size g_fault g_put g_steps b_name b_parent b_value b_kind b_with b_count b_bodyAt b_priority b_given b_there b_wanted b_waiting b_within b_list b_left b_reached b_sizes b_each b_backRow b_backPc b_backNode b_backPosition b_backSize b_output := by
  subst hL
  exact br_f (nI_nle (by omega) (by omega)) (br_t ho (br_t (by rw [hr]; exact nI_pos' (by omega)) h))
theorem yS_stop {post : Int32 → SY → Prop} {l n : Nat} (hl : l < 12) (hL : g_depth = nI (l + 1)) (ho : ¬ g_fault = 0) (h : post g_fault (g_nodes, g_inner, g_rules, g_place, g_listed, g_depth, g_row, g_pc, g_node, g_position, g_size, g_fault, g_put, g_steps, b_name, b_parent, b_value, b_kind, b_with, b_count, b_bodyAt, b_priority, b_given, b_there, b_wanted, b_waiting, b_within, b_list, b_left, b_reached, b_sizes, b_each, b_backRow, b_backPc, b_backNode, b_backPosition, b_backSize, b_output)) : wY_transform_40 post (n + 1) g_nodes g_inner g_rules g_place g_listed g_depth g_row g_pc g_node g_position g_size g_fault g_put g_steps b_name b_parent b_value b_kind b_with b_count b_bodyAt b_priority b_given b_there b_wanted b_waiting b_within b_list b_left b_reached b_sizes b_each b_backRow b_backPc b_backNode b_backPosition b_backSize b_output := by
  subst hL
  exact br_f (nI_nle (by omega) (by omega)) (br_f ho h)
/-! a token is executed -/
theorem yE_stop {post : SY → Prop} {r c : Nat} (hr : r < 6) (hrow : g_row = nI r) (hpc : g_pc = nI (30 * r + c)) (hc : b_count r = nI c) (h : post (g_nodes, g_inner, g_rules, g_place, g_listed, g_depth, -1, g_pc, g_node, g_position, g_size, g_fault, g_put, g_steps, b_name, b_parent, b_value, b_kind, b_with, b_count, b_bodyAt, b_priority, b_given, b_there, b_wanted, b_waiting, b_within, b_list, b_left, b_reached, b_sizes, b_each, b_backRow, b_backPc, b_backNode, b_backPosition, b_backSize, b_output)) : wpY_execute post (g_nodes, g_inner, g_rules, g_place, g_listed, g_depth, g_row, g_pc, g_node, g_position, g_size, g_fault, g_put, g_steps, b_name, b_parent, b_value, b_kind, b_with, b_count, b_bodyAt, b_priority, b_given, b_there, b_wanted, b_waiting, b_within, b_list, b_left, b_reached, b_sizes, b_each, b_backRow, b_backPc, b_backNode, b_backPosition, b_backSize, b_output) := by
  subst hrow hpc
  refine ⟨vp_in_nI (by omega) (by omega), ?_⟩
  rw [nI_clamp (by omega), hc, show (30 : Int32) * nI r = nI (30 * r) from pk_mul 30 r, nI_add]
  exact nm_e (br_t rfl h)
theorem yE_pre {r p c k : Nat} {A : Prop} {Q : Int32 → Int32 → Int32 → Prop} (hr : r < 6) (hp : p < c) (hc30 : c ≤ 30) (hrow : g_row = nI r) (hpc : g_pc = nI (30 * r + p)) (hc : b_count r = nI c) (hkd : b_kind (30 * r + p) = nI k) (h : Q (nI (30 * r + c)) (nI k) (nI (30 * r + (p + 1)))) : vp_in g_row 7 ∧ (∀ x1 : Int32, x1 = (30 * g_row) + (b_count g_row.toNatClampNeg) → (((g_pc = x1 → A) ∧ (¬ g_pc = x1 → (vp_in g_pc 210 ∧ (∀ x3 : Int32, x3 = b_kind g_pc.toNatClampNeg → (∀ x6 : Int32, x6 = g_pc + 1 → Q x1 x3 x6))))))) := by
  subst hrow hpc
  refine ⟨vp_in_nI (by omega) (by omega), ?_⟩
  rw [nI_clamp (by omega), hc, show (30 : Int32) * nI r = nI (30 * r) from pk_mul 30 r, nI_add]
  refine nm_e (br_f (fun z => by have := (nI_eq (by omega) (by omega)).mp z; omega) ⟨vp_in_nI (by omega) (by omega), ?_⟩)
  rw [nI_clamp (by omega), hkd, nI_1]
  exact nm_e (nm_e h)
theorem yE_text {post : SY → Prop} {r p c mk : Nat} (hr : r < 6) (hp : p < c) (hc30 : c ≤ 30) (hrow : g_row = nI r) (hpc : g_pc = nI (30 * r + p)) (hc : b_count r = nI c) (hkd : b_kind (30 * r + p) = nI 20) (hm : g_put = nI mk) (hmk : mk < 100000) (h : post (g_nodes, g_inner, g_rules, g_place, g_listed, g_depth, g_row, nI (30 * r + (p + 1)), g_node, g_position, g_size, g_fault, nI (mk + 1), g_steps, b_name, b_parent, b_value, b_kind, b_with, b_count, b_bodyAt, b_priority, b_given, b_there, b_wanted, b_waiting, b_within, b_list, b_left, b_reached, b_sizes, b_each, b_backRow, b_backPc, b_backNode, b_backPosition, b_backSize, (tr_o b_output mk (b_with (30 * r + p))))) : wpY_execute post (g_nodes, g_inner, g_rules, g_place, g_listed, g_depth, g_row, g_pc, g_node, g_position, g_size, g_fault, g_put, g_steps, b_name, b_parent, b_value, b_kind, b_with, b_count, b_bodyAt, b_priority, b_given, b_there, b_wanted, b_waiting, b_within, b_list, b_left, b_reached, b_sizes, b_each, b_backRow, b_backPc, b_backNode, b_backPosition, b_backSize, b_output) := by
  refine yE_pre hr hp hc30 hrow hpc hc hkd (br_t rfl ?_)
  rw [hpc]
  refine ⟨vp_in_nI (by omega) (by omega), ?_⟩
  rw [nI_clamp (by omega)]
  exact yT_emit hm hmk h
theorem yE_elem {post : SY → Prop} {r p c mk : Nat} (hr : r < 6) (hp : p < c) (hc30 : c ≤ 30) (hrow : g_row = nI r) (hpc : g_pc = nI (30 * r + p)) (hc : b_count r = nI c) (hkd : b_kind (30 * r + p) = nI 21) (hm : g_put = nI mk) (hmk : mk < 100000) (h : post (g_nodes, g_inner, g_rules, g_place, g_listed, g_depth, g_row, nI (30 * r + (p + 1)), g_node, g_position, g_size, g_fault, nI (mk + 1), g_steps, b_name, b_parent, b_value, b_kind, b_with, b_count, b_bodyAt, b_priority, b_given, b_there, b_wanted, b_waiting, b_within, b_list, b_left, b_reached, b_sizes, b_each, b_backRow, b_backPc, b_backNode, b_backPosition, b_backSize, (tr_o b_output mk (1000000 + b_with (30 * r + p))))) : wpY_execute post (g_nodes, g_inner, g_rules, g_place, g_listed, g_depth, g_row, g_pc, g_node, g_position, g_size, g_fault, g_put, g_steps, b_name, b_parent, b_value, b_kind, b_with, b_count, b_bodyAt, b_priority, b_given, b_there, b_wanted, b_waiting, b_within, b_list, b_left, b_reached, b_sizes, b_each, b_backRow, b_backPc, b_backNode, b_backPosition, b_backSize, b_output) := by
  refine yE_pre hr hp hc30 hrow hpc hc hkd (br_f (by decide) (br_t rfl ?_))
  rw [hpc]
  refine ⟨vp_in_nI (by omega) (by omega), ?_⟩
  rw [nI_clamp (by omega)]
  exact yT_emit hm hmk h
theorem yE_end {post : SY → Prop} {r p c mk pb : Nat} {T : td_T} {t : List Nat} (hr : r < 6) (hp : p < c) (hc30 : c ≤ 30) (hrow : g_row = nI r) (hpc : g_pc = nI (30 * r + p)) (hc : b_count r = nI c) (hkd : b_kind (30 * r + p) = nI 26) (hm : g_put = nI mk) (hmk : mk < 100000) (hT : ye_T (30 * r) c T b_kind b_with) (hL : gm_L T.1 p = pb :: t) (hkb : T.1 pb = 21 ∨ T.1 pb = 24 ∨ T.1 pb = 25) (h21 : T.1 pb = 21 → post (g_nodes, g_inner, g_rules, g_place, g_listed, g_depth, g_row, nI (30 * r + (p + 1)), g_node, g_position, g_size, g_fault, nI (mk + 1), g_steps, b_name, b_parent, b_value, b_kind, b_with, b_count, b_bodyAt, b_priority, b_given, b_there, b_wanted, b_waiting, b_within, b_list, b_left, b_reached, b_sizes, b_each, b_backRow, b_backPc, b_backNode, b_backPosition, b_backSize, (tr_o b_output mk 2000000))) (h24 : T.1 pb = 24 → post (g_nodes, g_inner, g_rules, g_place, g_listed, g_depth, g_row, nI (30 * r + (p + 1)), g_node, g_position, g_size, g_fault, g_put, g_steps, b_name, b_parent, b_value, b_kind, b_with, b_count, b_bodyAt, b_priority, b_given, b_there, b_wanted, b_waiting, b_within, b_list, b_left, b_reached, b_sizes, b_each, b_backRow, b_backPc, b_backNode, b_backPosition, b_backSize, b_output)) (h25 : T.1 pb = 25 → post (g_nodes, g_inner, g_rules, g_place, g_listed, g_depth, -1, nI (30 * r + (p + 1)), g_node, g_position, g_size, g_fault, g_put, g_steps, b_name, b_parent, b_value, b_kind, b_with, b_count, b_bodyAt, b_priority, b_given, b_there, b_wanted, b_waiting, b_within, b_list, b_left, b_reached, b_sizes, b_each, b_backRow, b_backPc, b_backNode, b_backPosition, b_backSize, b_output)) : wpY_execute post (g_nodes, g_inner, g_rules, g_place, g_listed, g_depth, g_row, g_pc, g_node, g_position, g_size, g_fault, g_put, g_steps, b_name, b_parent, b_value, b_kind, b_with, b_count, b_bodyAt, b_priority, b_given, b_there, b_wanted, b_waiting, b_within, b_list, b_left, b_reached, b_sizes, b_each, b_backRow, b_backPc, b_backNode, b_backPosition, b_backSize, b_output) := by
  refine yE_pre hr hp hc30 hrow hpc hc hkd (br_f (by decide) (br_f (by decide) (br_t rfl ?_)))
  rw [hpc]
  refine yn_op (n := c) hT hp hL ?_
  refine pk_eq (T.1 pb) 21 (fun z => ?_) (fun z => ?_)
  · exact yT_emit hm hmk (pk_eq (T.1 pb) 25 (fun y => by omega) (fun _ => h21 z))
  · exact pk_eq (T.1 pb) 25 (fun y => h25 y) (fun y => h24 (by omega))
theorem yE_val {post : SY → Prop} {r p c mk nn nd e : Nat} {T : td_T} {its : List (Nat × List (Nat × List (Nat × Nat)))} (hr : r < 6) (hp : p < c) (hc30 : c ≤ 30) (hrow : g_row = nI r) (hpc : g_pc = nI (30 * r + p)) (hc : b_count r = nI c) (hkd : b_kind (30 * r + p) = nI 22) (hm : g_put = nI mk) (hmk : mk < 100000) (hg : g_nodes = nI nn) (hP : td_P nn b_parent) (hnd : nd < nn) (hgn : g_node = nI nd) (hT : ye_T (30 * r) c T b_kind b_with) (hN : gm_N T.1 c its (p + 1) e) (hC : gm_C T.1 its 1)
    (h : ∀ wt ld li wi, post (g_nodes, g_inner, g_rules, g_place, ld, g_depth, g_row, nI (30 * r + e), g_node, g_position, g_size, g_fault, nI (mk + 1), g_steps, b_name, b_parent, b_value, b_kind, b_with, b_count, b_bodyAt, b_priority, b_given, b_there, b_wanted, wt, wi, li, b_left, b_reached, b_sizes, b_each, b_backRow, b_backPc, b_backNode, b_backPosition, b_backSize, (tr_o b_output mk ((td_nv (nn, b_parent, b_name, b_value) T nd g_position g_size its).headD 0)))) : wpY_execute post (g_nodes, g_inner, g_rules, g_place, g_listed, g_depth, g_row, g_pc, g_node, g_position, g_size, g_fault, g_put, g_steps, b_name, b_parent, b_value, b_kind, b_with, b_count, b_bodyAt, b_priority, b_given, b_there, b_wanted, b_waiting, b_within, b_list, b_left, b_reached, b_sizes, b_each, b_backRow, b_backPc, b_backNode, b_backPosition, b_backSize, b_output) := by
  have hle := gm_Nle _ _ _ _ hN hC
  refine yE_pre hr hp hc30 hrow hpc hc hkd (br_f (by decide) (br_f (by decide) (br_f (by decide) (br_t rfl ?_))))
  unfold wY_execute_118
  rw [hgn] at h
  rw [hpc, hgn, show nI (30 * r + p) + 1 = nI (30 * r + (p + 1)) from (nI_1 _).trans (congrArg nI (show 30 * r + p + 1 = 30 * r + (p + 1) by omega))]
  refine yn_end (n := c) hT hN hC ?_
  exact yn_number hg hP hT hnd (by omega) hN hC (fun wt ld li wi => br_t rfl (yT_emit hm hmk (h wt ld li wi)))
theorem yE_if {post : SY → Prop} {r p c nn nd e z : Nat} {T : td_T} {its : List (Nat × List (Nat × List (Nat × Nat)))} (hr : r < 6) (hp : p < c) (hc30 : c ≤ 30) (hrow : g_row = nI r) (hpc : g_pc = nI (30 * r + p)) (hc : b_count r = nI c) (hkd : b_kind (30 * r + p) = nI 24) (hg : g_nodes = nI nn) (hP : td_P nn b_parent) (hnd : nd < nn) (hgn : g_node = nI nd) (hT : ye_T (30 * r) c T b_kind b_with) (hN : gm_N T.1 c its (p + 1) e) (hC : gm_C T.1 its 1) (hU : (gm_U T.1 (c - (p + 1)) (p + 1))[0]? = some z)
    (h : ∀ wt ld li wi, post (g_nodes, g_inner, g_rules, g_place, ld, g_depth, g_row, nI (30 * r + (if (td_nv (nn, b_parent, b_name, b_value) T nd g_position g_size its).headD 0 = 0 then z + 1 else e)), g_node, g_position, g_size, g_fault, g_put, g_steps, b_name, b_parent, b_value, b_kind, b_with, b_count, b_bodyAt, b_priority, b_given, b_there, b_wanted, wt, wi, li, b_left, b_reached, b_sizes, b_each, b_backRow, b_backPc, b_backNode, b_backPosition, b_backSize, b_output)) : wpY_execute post (g_nodes, g_inner, g_rules, g_place, g_listed, g_depth, g_row, g_pc, g_node, g_position, g_size, g_fault, g_put, g_steps, b_name, b_parent, b_value, b_kind, b_with, b_count, b_bodyAt, b_priority, b_given, b_there, b_wanted, b_waiting, b_within, b_list, b_left, b_reached, b_sizes, b_each, b_backRow, b_backPc, b_backNode, b_backPosition, b_backSize, b_output) := by
  have hle := gm_Nle _ _ _ _ hN hC
  refine yE_pre hr hp hc30 hrow hpc hc hkd (br_f (by decide) (br_f (by decide) (br_f (by decide) (br_f (by decide) (br_t rfl ?_)))))
  unfold wY_execute_118
  rw [hgn] at h
  rw [hpc, hgn, show nI (30 * r + p) + 1 = nI (30 * r + (p + 1)) from (nI_1 _).trans (congrArg nI (show 30 * r + p + 1 = 30 * r + (p + 1) by omega))]
  refine yn_end (n := c) hT hN hC ?_
  refine yn_number hg hP hT hnd (by omega) hN hC (fun wt ld li wi => br_f (by decide) (br_c (fun y => ?_) (fun y => ?_)))
  · have hh := h wt ld li wi
    rw [if_pos y] at hh
    refine yn_of (n := c) hT hp hU (nm_r ((nI_1 _).trans (congrArg nI (show 30 * r + z + 1 = 30 * r + (z + 1) by omega))) hh)
  · have hh := h wt ld li wi
    rw [if_neg y] at hh
    exact hh
theorem yE_app {post : SY → Prop} {r p c nn nd e L : Nat} {T : td_T} {ps : List (Nat × List (Nat × Nat))} (hr : r < 6) (hp : p < c) (hc30 : c ≤ 30) (hrow : g_row = nI r) (hpc : g_pc = nI (30 * r + p)) (hc : b_count r = nI c) (hkd : b_kind (30 * r + p) = nI 23) (hg : g_nodes = nI nn) (hP : td_P nn b_parent) (hnd : nd < nn) (hgn : g_node = nI nd) (hT : ye_T (30 * r) c T b_kind b_with) (hS : gm_S T.1 c ps (p + 1) e) (hps : ps ≠ []) (hL : g_depth = nI L) (hL12 : L ≤ 12) (hfa : g_fault = 0)
    (h12 : L = 12 → ∀ ld li wi, post (g_nodes, g_inner, g_rules, g_place, ld, g_depth, g_row, nI (30 * r + e), g_node, g_position, g_size, 2, g_put, g_steps, b_name, b_parent, b_value, b_kind, b_with, b_count, b_bodyAt, b_priority, b_given, b_there, b_wanted, b_waiting, wi, li, b_left, b_reached, b_sizes, b_each, b_backRow, b_backPc, b_backNode, b_backPosition, b_backSize, b_output))
    (h : L < 12 → ∀ ld li wi, post (g_nodes, g_inner, g_rules, g_place, ld, nI (L + 1), -1, nI (30 * r + e), g_node, g_position, g_size, g_fault, g_put, g_steps, b_name, b_parent, b_value, b_kind, b_with, b_count, b_bodyAt, b_priority, b_given, b_there, b_wanted, b_waiting, wi, li, (upd b_left L (td_pv (nn, b_parent, b_name, b_value) T ps (td_1 nd))), (upd b_reached L 0), (upd b_sizes L (nI (tm_mem nn (td_pv (nn, b_parent, b_name, b_value) T ps (td_1 nd))).length)), (upd b_each L (-1)), (upd b_backRow L (nI r)), (upd b_backPc L (nI (30 * r + e))), (upd b_backNode L g_node), (upd b_backPosition L g_position), (upd b_backSize L g_size), b_output)) : wpY_execute post (g_nodes, g_inner, g_rules, g_place, g_listed, g_depth, g_row, g_pc, g_node, g_position, g_size, g_fault, g_put, g_steps, b_name, b_parent, b_value, b_kind, b_with, b_count, b_bodyAt, b_priority, b_given, b_there, b_wanted, b_waiting, b_within, b_list, b_left, b_reached, b_sizes, b_each, b_backRow, b_backPc, b_backNode, b_backPosition, b_backSize, b_output) := by
  have hle := gm_Sle _ _ _ hS
  refine yE_pre hr hp hc30 hrow hpc hc hkd (br_f (by decide) (br_f (by decide) (br_f (by decide) (br_f (by decide) (br_f (by decide) ?_)))))
  subst hrow hfa
  rw [hpc, show nI (30 * r + p) + 1 = nI (30 * r + (p + 1)) from (nI_1 _).trans (congrArg nI (show 30 * r + p + 1 = 30 * r + (p + 1) by omega))]
  refine yp_end (E := c) hT (Nat.le_refl _) hle.2 hS hps ?_
  rw [hgn]
  rw [hgn] at h h12
  refine yp_path hg hP hT hle.2 (Nat.le_refl _) hS hps (fun ld li wi => br_f (by decide) (br_f (by decide) ?_))
  refine yT_begin hL hL12 hg hP.1 (fun y => br_f (by decide) (h12 y ld li wi)) (fun y => br_t rfl (br_f (by decide) (h y ld li wi)))
theorem yE_each {post : SY → Prop} {r p c nn nd e L z : Nat} {T : td_T} {ps : List (Nat × List (Nat × Nat))} (hr : r < 6) (hp : p < c) (hc30 : c ≤ 30) (hrow : g_row = nI r) (hpc : g_pc = nI (30 * r + p)) (hc : b_count r = nI c) (hkd : b_kind (30 * r + p) = nI 25) (hg : g_nodes = nI nn) (hP : td_P nn b_parent) (hnd : nd < nn) (hgn : g_node = nI nd) (hT : ye_T (30 * r) c T b_kind b_with) (hS : gm_S T.1 c ps (p + 1) e) (hps : ps ≠ []) (hU : (gm_U T.1 (c - (p + 1)) (p + 1))[0]? = some z) (hL : g_depth = nI L) (hL12 : L ≤ 12) (hfa : g_fault = 0)
    (h12 : L = 12 → ∀ ld li wi, post (g_nodes, g_inner, g_rules, g_place, ld, g_depth, g_row, nI (30 * r + (z + 1)), g_node, g_position, g_size, 2, g_put, g_steps, b_name, b_parent, b_value, b_kind, b_with, b_count, b_bodyAt, b_priority, b_given, b_there, b_wanted, b_waiting, wi, li, b_left, b_reached, b_sizes, b_each, b_backRow, b_backPc, b_backNode, b_backPosition, b_backSize, b_output))
    (h : L < 12 → ∀ ld li wi, post (g_nodes, g_inner, g_rules, g_place, ld, nI (L + 1), -1, nI (30 * r + (z + 1)), g_node, g_position, g_size, g_fault, g_put, g_steps, b_name, b_parent, b_value, b_kind, b_with, b_count, b_bodyAt, b_priority, b_given, b_there, b_wanted, b_waiting, wi, li, (upd b_left L (td_pv (nn, b_parent, b_name, b_value) T ps (td_1 nd))), (upd b_reached L 0), (upd b_sizes L (nI (tm_mem nn (td_pv (nn, b_parent, b_name, b_value) T ps (td_1 nd))).length)), (upd b_each L (nI (30 * r + e))), (upd b_backRow L (nI r)), (upd b_backPc L (nI (30 * r + (z + 1)))), (upd b_backNode L g_node), (upd b_backPosition L g_position), (upd b_backSize L g_size), b_output)) : wpY_execute post (g_nodes, g_inner, g_rules, g_place, g_listed, g_depth, g_row, g_pc, g_node, g_position, g_size, g_fault, g_put, g_steps, b_name, b_parent, b_value, b_kind, b_with, b_count, b_bodyAt, b_priority, b_given, b_there, b_wanted, b_waiting, b_within, b_list, b_left, b_reached, b_sizes, b_each, b_backRow, b_backPc, b_backNode, b_backPosition, b_backSize, b_output) := by
  have hle := gm_Sle _ _ _ hS
  refine yE_pre hr hp hc30 hrow hpc hc hkd (br_f (by decide) (br_f (by decide) (br_f (by decide) (br_f (by decide) (br_f (by decide) ?_)))))
  subst hrow hfa
  rw [hpc, show nI (30 * r + p) + 1 = nI (30 * r + (p + 1)) from (nI_1 _).trans (congrArg nI (show 30 * r + p + 1 = 30 * r + (p + 1) by omega))]
  refine yp_end (E := c) hT (Nat.le_refl _) hle.2 hS hps ?_
  rw [hgn]
  rw [hgn] at h h12
  refine yp_path hg hP hT hle.2 (Nat.le_refl _) hS hps (fun ld li wi => br_t rfl ?_)
  refine yn_of (n := c) hT hp hU ?_
  rw [show nI (30 * r + z) + 1 = nI (30 * r + (z + 1)) from (nI_1 _).trans (congrArg nI (show 30 * r + z + 1 = 30 * r + (z + 1) by omega))]
  refine br_t rfl ?_
  refine yT_begin hL hL12 hg hP.1 (fun y => br_f (by decide) (h12 y ld li wi)) (fun y => br_t rfl (br_t rfl ?_))
  rw [nI_pred]
  refine ⟨vp_in_nI (by omega) (by omega), ?_⟩
  rw [nI_clamp (by omega), tr_uu]
  exact nm_e (h y ld li wi)
end
end
section
/-! transforming: both go on together -/
section
variable {f_nodes f_depth f_known f_dues f_place f_gifts f_matched f_lists f_steps f_outcome f_made g_nodes g_inner g_listed g_depth g_row g_pc g_node g_position g_size g_fault : Int32} {a_name a_parent a_lastOf a_way a_value a_axes a_named a_kind a_over a_ends a_count a_num a_placed a_asked a_holds a_due a_open a_there a_priority a_given a_matches a_stack a_rest a_position a_size a_at a_row a_pc a_first a_out a_large b_kind b_with b_bodyAt b_wanted b_waiting b_within b_list b_left b_reached b_sizes b_each b_backRow b_backPc b_backNode b_backPosition b_backSize : Nat → Int32}
theorem tr_exit {k nn dep L S oc mk : Nat} {cnt : Nat → Nat} {WY : (Int32 → SY → Prop) → Prop} {st as ho lg rs po sz at' rw' pc fi ou le re si ea br bp bn bo bz : Nat → Int32} {yr yp yn yo yz : Int32} (F : rl_F nn dep cnt (nI nn) f_depth 1 1 (nI nn) g_inner a_name a_parent a_lastOf a_way a_value a_axes a_named a_kind a_over a_ends a_count a_num a_placed a_asked a_holds a_there a_matches b_kind b_with b_bodyAt) (hA : xr_CA (nn, a_parent, a_name, a_value) a_kind a_num cnt as ho) (hL12 : L ≤ 12) (hoc : oc ≤ 2) (hx : L = 0 ∨ oc ≠ 0) (hY : (∀ postY : Int32 → SY → Prop, (∃ n, ∀ ld li wi wt, wY_transform_40 postY n (nI nn) g_inner f_gifts f_place ld (nI L) yr yp yn yo yz (nI oc) (nI mk) (nI S) a_name a_parent a_value b_kind b_with a_count b_bodyAt a_priority a_given a_there b_wanted wt wi li le re si ea br bp bn bo bz ou) → WY postY)) {n : Nat} : wX_transform_40 (fun r u' => WY (fun r' v' => r' = r ∧ i_Rel k u' v')) (n + 1) (nI nn) f_depth 1 f_dues f_place f_gifts 1 (nI L) (nI S) (nI oc) (nI mk) a_name a_parent a_lastOf a_way a_value a_axes a_named a_kind a_over a_ends a_count a_num a_placed as ho a_due a_open a_there a_priority a_given a_matches st rs po sz at' rw' pc fi ou lg := by
  have fin : WY (fun r' v' => r' = nI oc ∧ i_Rel k (nI nn, f_depth, 1, f_dues, f_place, f_gifts, 1, nI L, nI S, nI oc, nI mk, a_name, a_parent, a_lastOf, a_way, a_value, a_axes, a_named, a_kind, a_over, a_ends, a_count, a_num, a_placed, as, ho, a_due, a_open, a_there, a_priority, a_given, a_matches, st, rs, po, sz, at', rw', pc, fi, ou, lg) v') := by
    refine hY _ ⟨1, fun ld li wi wt => ?_⟩
    have rel : i_Rel k (nI nn, f_depth, 1, f_dues, f_place, f_gifts, 1, nI L, nI S, nI oc, nI mk, a_name, a_parent, a_lastOf, a_way, a_value, a_axes, a_named, a_kind, a_over, a_ends, a_count, a_num, a_placed, as, ho, a_due, a_open, a_there, a_priority, a_given, a_matches, st, rs, po, sz, at', rw', pc, fi, ou, lg) (nI nn, g_inner, f_gifts, f_place, ld, nI L, yr, yp, yn, yo, yz, nI oc, nI mk, nI S, a_name, a_parent, a_value, b_kind, b_with, a_count, b_bodyAt, a_priority, a_given, a_there, b_wanted, wt, wi, li, le, re, si, ea, br, bp, bn, bo, bz, ou) := zz_in (nn := nn) (dep := dep) (cnt := cnt) ⟨F.1, F.2.1, F.2.2.1, F.2.2.2.1, hA⟩
    refine pk_le L 0 (fun _ => ⟨rfl, rel⟩) (fun z => br_f (fun y => ?_) ⟨rfl, rel⟩)
    have := (nI_eq (b := 0) (by omega) (by omega)).mp y
    omega
  refine pk_le L 0 (fun _ => fin) (fun z => br_f (fun y => ?_) fin)
  have := (nI_eq (b := 0) (by omega) (by omega)).mp y
  omega
theorem tr_adv {k nn dep l S mk M n : Nat} {cnt : Nat → Nat} {WY : (Int32 → SY → Prop) → Prop} {st as ho lg rs po sz at' rw' pc fi ou le re si ea br bp bn bo bz : Nat → Int32} {yr yp yn yo yz : Int32} (F : rl_F nn dep cnt (nI nn) f_depth 1 1 (nI nn) g_inner a_name a_parent a_lastOf a_way a_value a_axes a_named a_kind a_over a_ends a_count a_num a_placed a_asked a_holds a_there a_matches b_kind b_with b_bodyAt) (ih : ∀ (L S oc mk : Nat) (st as ho lg rs po sz at' rw' pc fi ou le re si ea br bp bn bo bz : Nat → Int32) (yr yp yn yo yz : Int32), tr_I nn cnt a_kind a_num a_there L rs po sz at' rw' pc fi le re si ea br bp bn bo bz yr yp yn yo yz → xr_CA (nn, a_parent, a_name, a_value) a_kind a_num cnt as ho → L ≤ 12 → S ≤ 150 → oc ≤ 2 → (150 - S) * 64 + tr_sw pc L + (if oc = 0 then 1 else 0) ≤ M → mk + M ≤ 10000 → (∀ postY : Int32 → SY → Prop, (∃ n, ∀ ld li wi wt, wY_transform_40 postY n (nI nn) g_inner f_gifts f_place ld (nI L) yr yp yn yo yz (nI oc) (nI mk) (nI S) a_name a_parent a_value b_kind b_with a_count b_bodyAt a_priority a_given a_there b_wanted wt wi li le re si ea br bp bn bo bz ou) → WY postY) → ∀ n, M < n → wX_transform_40 (fun r u' => WY (fun r' v' => r' = r ∧ i_Rel k u' v')) n (nI nn) f_depth 1 f_dues f_place f_gifts 1 (nI L) (nI S) (nI oc) (nI mk) a_name a_parent a_lastOf a_way a_value a_axes a_named a_kind a_over a_ends a_count a_num a_placed as ho a_due a_open a_there a_priority a_given a_matches st rs po sz at' rw' pc fi ou lg)
    (hI : tr_I nn cnt a_kind a_num a_there (l + 1) rs po sz at' rw' pc fi le re si ea br bp bn bo bz yr yp yn yo yz) (hA : xr_CA (nn, a_parent, a_name, a_value) a_kind a_num cnt as ho) (hl : l < 12) (hS150 : S ≤ 150) (hM : (150 - S) * 64 + tr_sw pc (l + 1) + 1 ≤ M + 1) (hmk : mk + (M + 1) ≤ 10000) (hpc : pc l = -1) (hyr : yr = -1)
    (hY : ∀ postY : Int32 → SY → Prop, (∃ n, ∀ ld li wi wt, wY_transform_40 postY n (nI nn) g_inner f_gifts f_place ld (nI (l + 1)) yr yp yn yo yz (nI 0) (nI mk) (nI S) a_name a_parent a_value b_kind b_with a_count b_bodyAt a_priority a_given a_there b_wanted wt wi li le re si ea br bp bn bo bz ou) → WY postY) (hn : M < n) : wX_transform_40 (fun r u' => WY (fun r' v' => r' = r ∧ i_Rel k u' v')) (n + 1) (nI nn) f_depth 1 f_dues f_place f_gifts 1 (nI (l + 1)) (nI S) (nI 0) (nI mk) a_name a_parent a_lastOf a_way a_value a_axes a_named a_kind a_over a_ends a_count a_num a_placed as ho a_due a_open a_there a_priority a_given a_matches st rs po sz at' rw' pc fi ou lg := by
  obtain ⟨⟨_, _, f3, hP, hN, hLa, hW, f8, hkn⟩, ⟨hK, hKY, hcn⟩, hR, hMM, hC0⟩ := F
  have h24 := hP.1
  have hcn' : ∀ q, q < 7 → cnt q ≤ 30 := fun q hq => (hcn q hq).2
  have hAX : td_AX nn a_parent a_name a_axes a_named := by
    rcases hkn with z | z
    · exact absurd z (by decide)
    · exact z.2
  have hMT : ∀ r, r < 6 → rl_MT (nn, a_parent, a_name, a_value) cnt a_kind a_num a_there a_matches r := by
    rcases hMM with z | z
    · exact absurd z (by decide)
    · exact z.2
  obtain ⟨e1, hB, e2, e3, hfe⟩ := hI.1 l (by omega)
  rw [tr_sw, hpc, tr_w1] at hM
  by_cases hz : rs l = 0
  · refine xS_adv hl rfl rfl hpc (xA_pop hl rfl hz ?_)
    refine ih l S 0 mk _ _ _ _ _ _ _ _ _ _ _ _ le re si ea br bp bn bo bz (br l) (bp l) (bn l) (bo l) (bz l) (tr_pop hI) hA (by omega) hS150 (by omega) (by rw [if_pos rfl]; omega) (by omega) (fun postY ⟨m, hm⟩ => hY postY ⟨m + 1, fun ld li wi wt => yS_next hl rfl rfl hyr (yA_pop hl rfl (e1 ▸ hz) (hm ld li wi wt))⟩) n hn
  · by_cases hS : S = 150
    · refine xS_adv hl rfl rfl hpc (xA_long hl hz (by rw [hS]; rfl) ?_)
      refine ih (l + 1) S 1 mk _ _ _ _ _ _ _ _ _ _ _ _ le re si ea br bp bn bo bz yr yp yn yo yz hI hA (by omega) hS150 (by omega) (by rw [tr_sw, hpc, tr_w1, if_neg (by omega)]; omega) (by omega) (fun postY ⟨m, hm⟩ => hY postY ⟨m + 1, fun ld li wi wt => yS_next hl rfl rfl hyr (yA_long hl rfl (e1 ▸ hz) (by rw [hS]; rfl) (hm ld li wi wt))⟩) n hn
    · have hs := tm_Smem h24 hB
      have hmem : ∃ a t, tm_mem nn (rs l) = a :: t := by
        cases hm : tm_mem nn (rs l) with
        | nil => rw [hm] at hs; exact (hz (tm_nil hs)).elim
        | cons a t => exact ⟨a, t, rfl⟩
      obtain ⟨a, t, hat⟩ := hmem
      have han : a < nn := by
        have : a ∈ tm_mem nn (rs l) := by rw [hat]; simp
        exact List.mem_range.mp (List.mem_filter.mp this).1
      rw [hat] at hs
      have hsY : tm_S (le l) (a :: t) := e1 ▸ hs
      obtain ⟨c1, c2, c3, c4, c5⟩ := tm_cons hs
      have eR : rs l &&& (rs l - 1) = le l &&& (((1 : Int32) <<< (nI a &&& 31)) ^^^ (-1)) := by
        rw [tm_S_mk c4, ← e1, tm_S_mk c5]
      have hBR : tm_B nn (rs l &&& (rs l - 1)) := fun i hi hb => by
        rw [b_and] at hb
        exact hB i hi (Bool.and_eq_true_iff.mp hb).1
      have hA2 : ∀ (rw2 : Nat → Int32), (rw2 l = rw' l ∨ (fi l = -1 ∧ ea l = -1)) → tr_A nn cnt a_kind a_num a_there (upd rs l (rs l &&& (rs l - 1))) (upd po l (po l + 1)) sz rw2 fi (upd le l (le l &&& (((1 : Int32) <<< (nI a &&& 31)) ^^^ (-1)))) (upd re l (re l + 1)) si ea br l := by
        intro rw2 hrw
        unfold tr_A
        rw [pk_us, pk_us, pk_us, pk_us]
        refine ⟨eR, hBR, by rw [e2], e3, ?_⟩
        rcases hrw with h | h
        · rw [h]; exact hfe
        · exact Or.inl h
      have nel : ∀ f, f < l → f ≠ l := fun f hf => by omega
      by_cases hfe2 : fi l = -1 ∧ ea l = -1
      · obtain ⟨hfi, hea⟩ := hfe2
        have hax : a_axes (24 + a) = tm_ms (td_on a_parent 1 a) nn := by
          have := hAX.1 1 (by omega) a han
          exact this
        have hpick : ∀ r, r < 6 → (!decide (a_there r = 0) && bt (a_matches r) a) = true → a_there r = 1 := by
          intro r hr hp
          rcases (hR r hr).1 with z | z
          · rw [z] at hp; cases hp
          · exact z
        have hIt : ∀ (rw2 pc2 : Nat → Int32) (yr2 yp2 yn2 yo2 yz2 : Int32), (∀ f, f < l → rw2 f = rw' f) → (∀ f, f < l → pc2 f = pc f) → tr_S nn cnt a_kind a_num a_there (upd po l (po l + 1)) sz (upd at' l (nI a)) rw2 pc2 l yr2 yp2 yn2 yo2 yz2 → tr_I nn cnt a_kind a_num a_there (l + 1) (upd rs l (rs l &&& (rs l - 1))) (upd po l (po l + 1)) sz (upd at' l (nI a)) rw2 pc2 fi (upd le l (le l &&& (((1 : Int32) <<< (nI a &&& 31)) ^^^ (-1)))) (upd re l (re l + 1)) si ea br bp bn bo bz yr2 yp2 yn2 yo2 yz2 := by
          intro rw2 pc2 yr2 yp2 yn2 yo2 yz2 g1 g2 g3
          exact tr_top hI (fun f hf => pk_un (nel f hf)) (fun f hf => pk_un (nel f hf)) (fun f hf => pk_un (nel f hf)) g1 g2 (fun f hf => pk_un (nel f hf)) (fun f hf => pk_un (nel f hf)) (hA2 rw2 (Or.inr ⟨hfi, hea⟩)) g3
        have hswap : ∀ (v : Int32), tr_sw (upd pc l v) (l + 1) = tr_sw pc l + tr_w v := fun v => tr_sw_u
        refine xS_adv hl rfl rfl hpc (xA_best (nn := nn) (pick := fun r => !decide (a_there r = 0) && bt (a_matches r) a) hl hs rfl (by omega) hfi (fun r hr => rfl) (fun r hr hp hb => ?_) (fun hb h0 => ?_) (fun hb h0 => ?_))
        · have hth := hpick r hr hp
          obtain ⟨ok, hSV, hbo⟩ := (hR r hr).2 hth
          obtain ⟨ps, e, hSs, hps, he0, hen, hrd⟩ := rl_ps ok
          have h30 := hcn' r (by omega)
          have hov := hSV.2.1 ps 0 e (Nat.zero_le _) hSs hps
          refine ⟨e, by omega, hov, ?_⟩
          refine ih (l + 1) (S + 1) 0 mk _ _ _ _ _ _ _ _ _ _ _ _ (upd le l (le l &&& (((1 : Int32) <<< (nI a &&& 31)) ^^^ (-1)))) (upd re l (re l + 1)) si ea br bp bn bo bz (nI r) (nI (30 * r + e)) (nI a) (re l + 1) (si l) (hIt _ _ _ _ _ _ _ (fun f hf => pk_un (nel f hf)) (fun f hf => pk_un (nel f hf)) (Or.inr ⟨r, e, a, hr, hth, ⟨0, hen, hrd⟩, han, pk_us, pk_us, pk_us, rfl, rfl, rfl, (by show re l + 1 = upd po l (po l + 1) l; rw [pk_us, e2]), e3.symm⟩)) hA (by omega) (by omega) (by omega) (by rw [hswap, tr_wn (by omega), if_pos rfl]; omega) (by omega) (fun postY ⟨m, hm⟩ => hY postY ⟨m + 1, fun ld li wi wt => yS_next hl rfl rfl hyr (yA_handle (mk := mk) (pick := fun r => !decide (a_there r = 0) && bt (a_matches r) a) hl rfl hsY rfl (by omega) hea hyr rfl hP han rfl (by omega) (yb_pick (mt := a_matches) rfl hP han hK hKY hcn' hR hMT) (fun r2 hr2 hp2 hb2 => ?_) (fun hb2 => ?_) (fun hb2 => ?_) (fun hb2 => ?_))⟩) n hn
          · have er : r2 = r := by
              rw [hb2, nI_eq (by omega) (by omega)] at hb
              exact hb
            subst er
            exact ⟨e, by omega, hbo ps e hSs hps, fun ld li wi => hm ld li wi wt⟩
          · rw [hb2] at hb; exact (yl_ne (by omega) hb).elim
          · rw [hb2] at hb; exact (yl_ne (by omega) hb).elim
          · rw [hb2] at hb; exact (yl_ne (by omega) hb).elim
        · refine xT_put rfl (by omega) ?_
          refine ih (l + 1) (S + 1) 0 (mk + 1) _ _ _ _ _ _ _ _ _ _ _ _ (upd le l (le l &&& (((1 : Int32) <<< (nI a &&& 31)) ^^^ (-1)))) (upd re l (re l + 1)) si ea br bp bn bo bz yr yp yn yo yz (hIt _ _ _ _ _ _ _ (fun f hf => rfl) (fun f hf => rfl) (Or.inl ⟨hpc, hyr⟩)) hA (by omega) (by omega) (by omega) (by rw [tr_sw, hpc, tr_w1, if_pos rfl]; omega) (by omega) (fun postY ⟨m, hm⟩ => hY postY ⟨m + 1, fun ld li wi wt => yS_next hl rfl rfl hyr (yA_handle (mk := mk) (pick := fun r => !decide (a_there r = 0) && bt (a_matches r) a) hl rfl hsY rfl (by omega) hea hyr rfl hP han rfl (by omega) (yb_pick (mt := a_matches) rfl hP han hK hKY hcn' hR hMT) (fun r2 hr2 hp2 hb2 => ?_) (fun hb2 h02 ld li wi => hm ld li wi wt) (fun hb2 h02 => ?_) (fun hb2 h02 => ?_))⟩) n hn
          · rw [hb2] at hb; exact (yl_ne (by omega) hb.symm).elim
          · exact (h02 (hax ▸ h0)).elim
          · exact (h02 (hax ▸ h0)).elim
        · have hset : tm_B nn (a_axes (24 + a)) := by rw [hax]; exact tm_Bms _ (by omega)
          refine xT_list (r := 0) (nn := nn) rfl (by omega) h24 hset (by omega) xo_m2 (fun h12 => ?_) (fun h12 => ?_)
          · refine ih (l + 1) (S + 1) 2 mk _ _ _ _ _ _ _ _ _ _ _ _ (upd le l (le l &&& (((1 : Int32) <<< (nI a &&& 31)) ^^^ (-1)))) (upd re l (re l + 1)) si ea br bp bn bo bz yr yp yn yo yz (hIt _ _ _ _ _ _ _ (fun f hf => rfl) (fun f hf => rfl) (Or.inl ⟨hpc, hyr⟩)) hA (by omega) (by omega) (by omega) (by rw [tr_sw, hpc, tr_w1, if_neg (by omega)]; omega) (by omega) (fun postY ⟨m, hm⟩ => hY postY ⟨m + 1, fun ld li wi wt => yS_next hl rfl rfl hyr (yA_handle (mk := mk) (pick := fun r => !decide (a_there r = 0) && bt (a_matches r) a) hl rfl hsY rfl (by omega) hea hyr rfl hP han rfl (by omega) (yb_pick (mt := a_matches) rfl hP han hK hKY hcn' hR hMT) (fun r2 hr2 hp2 hb2 => ?_) (fun hb2 h02 => ?_) (fun hb2 h02 h13 ld li wi => hm ld li wi wt) (fun hb2 h02 h13 => ?_))⟩) n hn
            · rw [hb2] at hb; exact (yl_ne (by omega) hb.symm).elim
            · exact (h0 (hax.trans h02)).elim
            · omega
          · rw [hax]
            rw [hax] at hset
            refine ih (l + 1 + 1) (S + 1) 0 mk _ _ _ _ _ _ _ _ _ _ _ _ (upd (upd le l (le l &&& (((1 : Int32) <<< (nI a &&& 31)) ^^^ (-1)))) (l + 1) (tm_ms (td_on a_parent 1 a) nn)) (upd (upd re l (re l + 1)) (l + 1) 0) (upd si (l + 1) (nI (tm_mem nn (tm_ms (td_on a_parent 1 a) nn)).length)) (upd ea (l + 1) (-1)) (upd br (l + 1) yr) (upd bp (l + 1) yp) (upd bn (l + 1) yn) (upd bo (l + 1) yo) (upd bz (l + 1) yz) (-1) yp yn yo yz (tr_push (hIt _ _ _ _ _ _ _ (fun f hf => rfl) (fun f hf => rfl) (Or.inl ⟨hpc, hyr⟩)) hset (Or.inl ⟨rfl, rfl⟩)) hA (by omega) (by omega) (by omega) (by rw [tr_sw_u, tr_w1, tr_sw, hpc, tr_w1, if_pos rfl]; omega) (by omega) (fun postY ⟨m, hm⟩ => hY postY ⟨m + 1, fun ld li wi wt => yS_next hl rfl rfl hyr (yA_handle (mk := mk) (pick := fun r => !decide (a_there r = 0) && bt (a_matches r) a) hl rfl hsY rfl (by omega) hea hyr rfl hP han rfl (by omega) (yb_pick (mt := a_matches) rfl hP han hK hKY hcn' hR hMT) (fun r2 hr2 hp2 hb2 => ?_) (fun hb2 h02 => ?_) (fun hb2 h02 h13 => ?_) (fun hb2 h02 h13 ld li wi => ?_))⟩) n hn
            · rw [hb2] at hb; exact (yl_ne (by omega) hb.symm).elim
            · exact (h0 (hax.trans h02)).elim
            · omega
            · have := hm ld li wi wt
              rw [hyr] at this
              exact this
      · have hfe3 := hfe
        rcases hfe3 with z | ⟨r, b, hr, hth, hbp, hfi, hrw, hea, hbr⟩
        · exact (hfe2 z).elim
        · have hb30 : b ≤ cnt r := by
            obtain ⟨m, hm⟩ := hbp
            exact hm.1
          have h30 := hcn' r (by omega)
          refine xS_adv hl rfl rfl hpc (xA_each (b := b) hl hs rfl (by omega) hfi (by omega) ?_)
          refine ih (l + 1) (S + 1) 0 mk _ _ _ _ _ _ _ _ _ _ _ _ (upd le l (le l &&& (((1 : Int32) <<< (nI a &&& 31)) ^^^ (-1)))) (upd re l (re l + 1)) si ea br bp bn bo bz (br l) (nI (30 * r + b)) (nI a) (re l + 1) (si l) (tr_top hI (fun f hf => pk_un (nel f hf)) (fun f hf => pk_un (nel f hf)) (fun f hf => pk_un (nel f hf)) (fun f hf => rfl) (fun f hf => pk_un (nel f hf)) (fun f hf => pk_un (nel f hf)) (fun f hf => pk_un (nel f hf)) (hA2 rw' (Or.inl rfl)) (Or.inr ⟨r, b, a, hr, hth, hbp, han, hrw, pk_us, pk_us, hbr, rfl, rfl, (by show re l + 1 = upd po l (po l + 1) l; rw [pk_us, e2]), e3.symm⟩)) hA (by omega) (by omega) (by omega) (by rw [tr_sw_u, tr_wn (by omega), if_pos rfl]; omega) (by omega) (fun postY ⟨m, hm⟩ => hY postY ⟨m + 1, fun ld li wi wt => yS_next hl rfl rfl hyr (yA_each (x := 30 * r + b) hl rfl hsY rfl (by omega) hea (by omega) (hm ld li wi wt))⟩) n hn
end
end
section
/-! transforming: a token is executed on both sides -/
section
variable {f_nodes f_depth f_known f_dues f_place f_gifts f_matched f_lists f_steps f_outcome f_made g_nodes g_inner g_listed g_depth g_row g_pc g_node g_position g_size g_fault : Int32} {a_name a_parent a_lastOf a_way a_value a_axes a_named a_kind a_over a_ends a_count a_num a_placed a_asked a_holds a_due a_open a_there a_priority a_given a_matches a_stack a_rest a_position a_size a_at a_row a_pc a_first a_out a_large b_kind b_with b_bodyAt b_wanted b_waiting b_within b_list b_left b_reached b_sizes b_each b_backRow b_backPc b_backNode b_backPosition b_backSize : Nat → Int32}
theorem tr_exe {k nn dep l S mk M n r p nd : Nat} {cnt : Nat → Nat} {WY : (Int32 → SY → Prop) → Prop} {st as ho lg rs po sz at' rw' pc fi ou le re si ea br bp bn bo bz : Nat → Int32} {yr yp yn yo yz : Int32} (F : rl_F nn dep cnt (nI nn) f_depth 1 1 (nI nn) g_inner a_name a_parent a_lastOf a_way a_value a_axes a_named a_kind a_over a_ends a_count a_num a_placed a_asked a_holds a_there a_matches b_kind b_with b_bodyAt) (ih : ∀ (L S oc mk : Nat) (st as ho lg rs po sz at' rw' pc fi ou le re si ea br bp bn bo bz : Nat → Int32) (yr yp yn yo yz : Int32), tr_I nn cnt a_kind a_num a_there L rs po sz at' rw' pc fi le re si ea br bp bn bo bz yr yp yn yo yz → xr_CA (nn, a_parent, a_name, a_value) a_kind a_num cnt as ho → L ≤ 12 → S ≤ 150 → oc ≤ 2 → (150 - S) * 64 + tr_sw pc L + (if oc = 0 then 1 else 0) ≤ M → mk + M ≤ 10000 → (∀ postY : Int32 → SY → Prop, (∃ n, ∀ ld li wi wt, wY_transform_40 postY n (nI nn) g_inner f_gifts f_place ld (nI L) yr yp yn yo yz (nI oc) (nI mk) (nI S) a_name a_parent a_value b_kind b_with a_count b_bodyAt a_priority a_given a_there b_wanted wt wi li le re si ea br bp bn bo bz ou) → WY postY) → ∀ n, M < n → wX_transform_40 (fun r u' => WY (fun r' v' => r' = r ∧ i_Rel k u' v')) n (nI nn) f_depth 1 f_dues f_place f_gifts 1 (nI L) (nI S) (nI oc) (nI mk) a_name a_parent a_lastOf a_way a_value a_axes a_named a_kind a_over a_ends a_count a_num a_placed as ho a_due a_open a_there a_priority a_given a_matches st rs po sz at' rw' pc fi ou lg)
    (hI : tr_I nn cnt a_kind a_num a_there (l + 1) rs po sz at' rw' pc fi le re si ea br bp bn bo bz yr yp yn yo yz) (hA : xr_CA (nn, a_parent, a_name, a_value) a_kind a_num cnt as ho) (hl : l < 12) (hS150 : S ≤ 150) (hM : (150 - S) * 64 + tr_sw pc (l + 1) + 1 ≤ M + 1) (hmk : mk + (M + 1) ≤ 10000)
    (hr : r < 6) (hth : a_there r = 1) (hbp : tr_BP cnt a_kind a_num r p) (hnd : nd < nn) (hrw : rw' l = nI r) (hpc : pc l = nI p) (hat : at' l = nI nd) (hyr : yr = nI r) (hyp : yp = nI (30 * r + p)) (hyn : yn = nI nd) (hyo : yo = po l) (hyz : yz = sz l)
    (hY : ∀ postY : Int32 → SY → Prop, (∃ n, ∀ ld li wi wt, wY_transform_40 postY n (nI nn) g_inner f_gifts f_place ld (nI (l + 1)) yr yp yn yo yz (nI 0) (nI mk) (nI S) a_name a_parent a_value b_kind b_with a_count b_bodyAt a_priority a_given a_there b_wanted wt wi li le re si ea br bp bn bo bz ou) → WY postY) (hn : M < n) : wX_transform_40 (fun r u' => WY (fun r' v' => r' = r ∧ i_Rel k u' v')) (n + 1) (nI nn) f_depth 1 f_dues f_place f_gifts 1 (nI (l + 1)) (nI S) (nI 0) (nI mk) a_name a_parent a_lastOf a_way a_value a_axes a_named a_kind a_over a_ends a_count a_num a_placed as ho a_due a_open a_there a_priority a_given a_matches st rs po sz at' rw' pc fi ou lg := by
  obtain ⟨⟨_, _, f3, hP, hN, hLa, hW, f8, hkn⟩, ⟨hK, hKY, hcn⟩, hR, hMM, hC0⟩ := F
  have h24 := hP.1
  have hcn' : ∀ q, q < 7 → cnt q ≤ 30 := fun q hq => (hcn q hq).2
  have hD : xe_D nn a_parent a_name a_axes a_named := by
    rcases hkn with z | z
    · exact absurd z (by decide)
    · exact ⟨hP, hN, z.2⟩
  obtain ⟨ok, hSV, hbo⟩ := (hR r hr).2 hth
  obtain ⟨hc, h30⟩ := hcn r (by omega)
  obtain ⟨m, hBP⟩ := hbp
  have hpn := hBP.1
  have hTX := xr_KT hK (show r < 7 by omega) h30
  have hTY := rl_yT hK hKY (show r < 7 by omega) h30
  have nel : ∀ f, f < l → f ≠ l := fun f hf => by omega
  rw [tr_sw, hpc, tr_wn (by omega)] at hM
  have hIt : ∀ (pc2 : Nat → Int32) (yr2 yp2 yn2 yo2 yz2 : Int32), (∀ f, f < l → pc2 f = pc f) → tr_S nn cnt a_kind a_num a_there po sz at' rw' pc2 l yr2 yp2 yn2 yo2 yz2 → tr_I nn cnt a_kind a_num a_there (l + 1) rs po sz at' rw' pc2 fi le re si ea br bp bn bo bz yr2 yp2 yn2 yo2 yz2 := by
    intro pc2 yr2 yp2 yn2 yo2 yz2 g1 g2
    exact tr_top hI (fun f hf => rfl) (fun f hf => rfl) (fun f hf => rfl) (fun f hf => rfl) g1 (fun f hf => rfl) (fun f hf => rfl) (hI.1 l (by omega)) g2
  have hIn : ∀ q m', gm_BP (xr_T a_kind a_num r).1 (cnt r) q m' → tr_I nn cnt a_kind a_num a_there (l + 1) rs po sz at' rw' (upd pc l (nI q)) fi le re si ea br bp bn bo bz yr (nI (30 * r + q)) yn yo yz := by
    intro q m' hq
    exact hIt _ _ _ _ _ _ (fun f hf => pk_un (nel f hf)) (Or.inr ⟨r, q, nd, hr, hth, ⟨m', hq⟩, hnd, hrw, pk_us, hat, hyr, rfl, hyn, hyo, hyz⟩)
  by_cases hpe : p = cnt r
  · subst hpe
    refine xS_end hl rfl rfl hpc hrw (by omega) hc h30 ?_
    refine ih (l + 1) S 0 mk _ _ _ _ _ _ _ _ _ _ _ _ le re si ea br bp bn bo bz (-1) yp yn yo yz (hIt _ _ _ _ _ _ (fun f hf => pk_un (nel f hf)) (Or.inl ⟨pk_us, rfl⟩)) hA (by omega) hS150 (by omega) (by rw [tr_sw_u, tr_w1, if_pos rfl]; omega) (by omega) (fun postY ⟨m, hm⟩ => hY postY ⟨m + 1, fun ld li wi wt => yS_exec hl rfl rfl hyr hr (yE_stop hr hyr hyp hc (hm ld li wi wt))⟩) n hn
  · have hp : p < cnt r := by omega
    have hp30 : p < 30 := by omega
    obtain ⟨t1, t2, t3, -⟩ := hTX.2.2 p hp
    obtain ⟨u1, u2, u3, -⟩ := hTY.2.2 p hp
    have hnum : a_num (31 * r + p) = b_with (30 * r + p) := t3.trans u3.symm
    rcases gm_BPs hBP hp with ⟨kk, b1⟩ | ⟨kk, b1⟩ | ⟨kk, its, e, b1, b2, b3⟩ | ⟨kk, ps, e, b1, b2, b3⟩ | ⟨kk, its, e, z, b1, b2, b3, b4, b5, b6⟩ | ⟨kk, ps, e, z, b1, b2, b3, b4, b5, b6⟩ | ⟨kk, b1, b2⟩
    · rw [kk] at t1 u1
      have := b1.1
      refine xS_exec hl rfl rfl hpc hrw (by omega) hc h30 hp (xE_text hl hr hp30 hat hpc t1 rfl (by omega) ?_)
      refine ih (l + 1) S 0 (mk + 1) _ _ _ _ _ _ _ _ _ _ _ _ le re si ea br bp bn bo bz yr (nI (30 * r + (p + 1))) yn yo yz (hIn _ _ b1) hA (by omega) hS150 (by omega) (by rw [tr_sw_u, tr_wn (by omega), if_pos rfl]; omega) (by omega) (fun postY ⟨m, hm⟩ => hY postY ⟨m + 1, fun ld li wi wt => yS_exec hl rfl rfl hyr hr (yE_text hr hp h30 hyr hyp hc u1 rfl (by omega) ?_)⟩) n hn
      have := hm ld li wi wt
      rw [hnum] at this
      exact this
    · rw [kk] at t1 u1
      have := b1.1
      refine xS_exec hl rfl rfl hpc hrw (by omega) hc h30 hp (xE_elem hl hr hp30 hat hpc t1 rfl (by omega) ?_)
      refine ih (l + 1) S 0 (mk + 1) _ _ _ _ _ _ _ _ _ _ _ _ le re si ea br bp bn bo bz yr (nI (30 * r + (p + 1))) yn yo yz (hIn _ _ b1) hA (by omega) hS150 (by omega) (by rw [tr_sw_u, tr_wn (by omega), if_pos rfl]; omega) (by omega) (fun postY ⟨m, hm⟩ => hY postY ⟨m + 1, fun ld li wi wt => yS_exec hl rfl rfl hyr hr (yE_elem hr hp h30 hyr hyp hc u1 rfl (by omega) ?_)⟩) n hn
      have := hm ld li wi wt
      rw [hnum] at this
      exact this
    · rw [kk] at t1 u1
      have hle := gm_Nle _ _ _ _ b1 b2
      refine xS_exec hl rfl rfl hpc hrw (by omega) hc h30 hp (xE_val (cnt := cnt) hl hr hp30 hat hpc t1 rfl (by omega) hD hK hcn' hSV hnd b1 b2 hA (fun lg' st' as' ho' hA' => ?_))
      refine ih (l + 1) S 0 (mk + 1) _ _ _ _ _ _ _ _ _ _ _ _ le re si ea br bp bn bo bz yr (nI (30 * r + e)) yn yo yz (hIn _ _ b3) hA' (by omega) hS150 (by omega) (by rw [tr_sw_u, tr_wn (by omega), if_pos rfl]; omega) (by omega) (fun postY ⟨m, hm⟩ => hY postY ⟨m + 1, fun ld li wi wt => yS_exec hl rfl rfl hyr hr (yE_val hr hp h30 hyr hyp hc u1 rfl (by omega) rfl hP hnd hyn hTY b1 b2 (fun wt' ld' li' wi' => ?_))⟩) n hn
      have := hm ld' li' wi' wt'
      rw [← hyo, ← hyz] at this
      exact this
    · rw [kk] at t1 u1
      have hle := gm_Sle _ _ _ b2
      have hset := td_pvB (D := (nn, a_parent, a_name, a_value)) (T := xr_T a_kind a_num r) h24 ps (td_1 nd) (xl_1B hnd h24)
      refine xS_exec hl rfl rfl hpc hrw (by omega) hc h30 hp (xE_app (cnt := cnt) hl hr hp30 hat hpc t1 hD hK hcn' hSV hnd b2 b1 hA (fun st' as' ho' hA' => ?_))
      refine xT_list (r := 0) (nn := nn) rfl (by omega) h24 hset (by omega) xo_m2 (fun h12 => ?_) (fun h12 => ?_)
      · refine ih (l + 1) S 2 mk _ _ _ _ _ _ _ _ _ _ _ _ le re si ea br bp bn bo bz yr (nI (30 * r + e)) yn yo yz (hIn _ _ b3) hA' (by omega) hS150 (by omega) (by rw [tr_sw_u, tr_wn (by omega), if_neg (by omega)]; omega) (by omega) (fun postY ⟨m, hm⟩ => hY postY ⟨m + 1, fun ld li wi wt => yS_exec hl rfl rfl hyr hr (yE_app hr hp h30 hyr hyp hc u1 rfl hP hnd hyn hTY b2 b1 rfl (by omega) rfl (fun _ ld' li' wi' => hm ld' li' wi' wt) (fun y => by omega))⟩) n hn
      · refine ih (l + 1 + 1) S 0 mk _ _ _ _ _ _ _ _ _ _ _ _ (upd le (l + 1) (td_pv (nn, a_parent, a_name, a_value) (xr_T a_kind a_num r) ps (td_1 nd))) (upd re (l + 1) 0) (upd si (l + 1) (nI (tm_mem nn (td_pv (nn, a_parent, a_name, a_value) (xr_T a_kind a_num r) ps (td_1 nd))).length)) (upd ea (l + 1) (-1)) (upd br (l + 1) yr) (upd bp (l + 1) (nI (30 * r + e))) (upd bn (l + 1) yn) (upd bo (l + 1) yo) (upd bz (l + 1) yz) (-1) (nI (30 * r + e)) yn yo yz (tr_push (hIn _ _ b3) hset (Or.inl ⟨rfl, rfl⟩)) hA' (by omega) hS150 (by omega) (by rw [tr_sw_u, tr_sw_u, tr_w1, tr_wn (by omega), if_pos rfl]; omega) (by omega) (fun postY ⟨m, hm⟩ => hY postY ⟨m + 1, fun ld li wi wt => yS_exec hl rfl rfl hyr hr (yE_app hr hp h30 hyr hyp hc u1 rfl hP hnd hyn hTY b2 b1 rfl (by omega) rfl (fun y => by omega) (fun _ ld' li' wi' => ?_))⟩) n hn
        have := hm ld' li' wi' wt
        rw [hyr] at this
        exact this
    · rw [kk] at t1 u1
      have hle := gm_Nle _ _ _ _ b1 b2
      have hz := (gm_UL (n := cnt r) (cnt r - (p + 1)) (p + 1) 0 z (by omega) b4).2.2.2
      have hov2 := (hSV.2.2.2 p z (Nat.zero_le _) hp (Or.inr (Or.inl kk)) b4).1
      refine xS_exec hl rfl rfl hpc hrw (by omega) hc h30 hp (xE_if (cnt := cnt) hl hr hp30 hat hpc t1 hD hK hcn' hSV hnd b1 b2 hov2 (by omega) hA (fun lg' st' as' ho' hA' => ?_))
      have hq : ∃ q, q = (if (td_nv (nn, a_parent, a_name, a_value) (xr_T a_kind a_num r) nd (po l) (sz l) its).headD 0 = 0 then z + 1 else e) ∧ p < q ∧ q ≤ 30 ∧ ∃ m', gm_BP (xr_T a_kind a_num r).1 (cnt r) q m' := by
        by_cases c : (td_nv (nn, a_parent, a_name, a_value) (xr_T a_kind a_num r) nd (po l) (sz l) its).headD 0 = 0
        · exact ⟨z + 1, by rw [if_pos c], by omega, by omega, _, b6⟩
        · exact ⟨e, by rw [if_neg c], by omega, by omega, _, b3⟩
      obtain ⟨q, eq, q1, q2, m', q3⟩ := hq
      rw [← eq]
      refine ih (l + 1) S 0 mk _ _ _ _ _ _ _ _ _ _ _ _ le re si ea br bp bn bo bz yr (nI (30 * r + q)) yn yo yz (hIn _ _ q3) hA' (by omega) hS150 (by omega) (by rw [tr_sw_u, tr_wn q2, if_pos rfl]; omega) (by omega) (fun postY ⟨m, hm⟩ => hY postY ⟨m + 1, fun ld li wi wt => yS_exec hl rfl rfl hyr hr (yE_if hr hp h30 hyr hyp hc u1 rfl hP hnd hyn hTY b1 b2 b4 (fun wt' ld' li' wi' => ?_))⟩) n hn
      have := hm ld' li' wi' wt'
      rw [eq, ← hyo, ← hyz] at this
      exact this
    · rw [kk] at t1 u1
      have hle := gm_Sle _ _ _ b2
      have hset := td_pvB (D := (nn, a_parent, a_name, a_value)) (T := xr_T a_kind a_num r) h24 ps (td_1 nd) (xl_1B hnd h24)
      have hz := (gm_UL (n := cnt r) (cnt r - (p + 1)) (p + 1) 0 z (by omega) b4).2.2.2
      have hov2 := (hSV.2.2.2 p z (Nat.zero_le _) hp (Or.inr (Or.inr kk)) b4).1
      refine xS_exec hl rfl rfl hpc hrw (by omega) hc h30 hp (xE_each (cnt := cnt) hl hr hp30 hat hpc hrw t1 hD hK hcn' hSV hnd b2 b1 hov2 (by omega) hA (fun st' as' ho' hA' => ?_))
      refine xT_list (r := r) (nn := nn) rfl (by omega) h24 hset (by omega) (nb_3 (by omega)) (fun h12 => ?_) (fun h12 => ?_)
      · refine ih (l + 1) S 2 mk _ _ _ _ _ _ _ _ _ _ _ _ le re si ea br bp bn bo bz yr (nI (30 * r + (z + 1))) yn yo yz (hIn _ _ b6) hA' (by omega) hS150 (by omega) (by rw [tr_sw_u, tr_wn (by omega), if_neg (by omega)]; omega) (by omega) (fun postY ⟨m, hm⟩ => hY postY ⟨m + 1, fun ld li wi wt => yS_exec hl rfl rfl hyr hr (yE_each hr hp h30 hyr hyp hc u1 rfl hP hnd hyn hTY b2 b1 b4 rfl (by omega) rfl (fun _ ld' li' wi' => hm ld' li' wi' wt) (fun y => by omega))⟩) n hn
      · refine ih (l + 1 + 1) S 0 mk _ _ _ _ _ _ _ _ _ _ _ _ (upd le (l + 1) (td_pv (nn, a_parent, a_name, a_value) (xr_T a_kind a_num r) ps (td_1 nd))) (upd re (l + 1) 0) (upd si (l + 1) (nI (tm_mem nn (td_pv (nn, a_parent, a_name, a_value) (xr_T a_kind a_num r) ps (td_1 nd))).length)) (upd ea (l + 1) (nI (30 * r + e))) (upd br (l + 1) yr) (upd bp (l + 1) (nI (30 * r + (z + 1)))) (upd bn (l + 1) yn) (upd bo (l + 1) yo) (upd bz (l + 1) yz) (-1) (nI (30 * r + (z + 1))) yn yo yz (tr_push (hIn _ _ b6) hset (Or.inr ⟨r, e, hr, hth, ⟨_, b3⟩, rfl, rfl, rfl, hyr⟩)) hA' (by omega) hS150 (by omega) (by rw [tr_sw_u, tr_sw_u, tr_w1, tr_wn (by omega), if_pos rfl]; omega) (by omega) (fun postY ⟨m, hm⟩ => hY postY ⟨m + 1, fun ld li wi wt => yS_exec hl rfl rfl hyr hr (yE_each hr hp h30 hyr hyp hc u1 rfl hP hnd hyn hTY b2 b1 b4 rfl (by omega) rfl (fun y => by omega) (fun _ ld' li' wi' => ?_))⟩) n hn
        have := hm ld' li' wi' wt
        rw [hyr] at this
        exact this
    · rw [kk] at t1 u1
      have := b2.1
      obtain ⟨pb, t, hL⟩ := gm_end ok hp kk
      obtain ⟨l1, l2, l3⟩ := gm_LU (n := cnt r) p 0 pb (by omega) (by rw [hL]; rfl)
      rw [show cnt r - p = (cnt r - (p + 1)) + 1 by omega, gm_U, if_pos kk] at l3
      have hen := (hSV.2.2.2 pb p (Nat.zero_le _) (by omega) l2 l3).2
      refine xS_exec hl rfl rfl hpc hrw (by omega) hc h30 hp (xE_end hl hr hp30 hat hpc t1 rfl (by omega) hen l2 (fun k21 => ?_) (fun k24 => ?_) (fun k25 => ?_))
      · refine ih (l + 1) S 0 (mk + 1) _ _ _ _ _ _ _ _ _ _ _ _ le re si ea br bp bn bo bz yr (nI (30 * r + (p + 1))) yn yo yz (hIn _ _ b2) hA (by omega) hS150 (by omega) (by rw [tr_sw_u, tr_wn (by omega), if_pos rfl]; omega) (by omega) (fun postY ⟨m, hm⟩ => hY postY ⟨m + 1, fun ld li wi wt => yS_exec hl rfl rfl hyr hr (yE_end hr hp h30 hyr hyp hc u1 rfl (by omega) hTY hL l2 (fun _ => hm ld li wi wt) (fun y => by omega) (fun y => by omega))⟩) n hn
      · refine ih (l + 1) S 0 mk _ _ _ _ _ _ _ _ _ _ _ _ le re si ea br bp bn bo bz yr (nI (30 * r + (p + 1))) yn yo yz (hIn _ _ b2) hA (by omega) hS150 (by omega) (by rw [tr_sw_u, tr_wn (by omega), if_pos rfl]; omega) (by omega) (fun postY ⟨m, hm⟩ => hY postY ⟨m + 1, fun ld li wi wt => yS_exec hl rfl rfl hyr hr (yE_end hr hp h30 hyr hyp hc u1 rfl (by omega) hTY hL l2 (fun y => by omega) (fun _ => hm ld li wi wt) (fun y => by omega))⟩) n hn
      · refine ih (l + 1) S 0 mk _ _ _ _ _ _ _ _ _ _ _ _ le re si ea br bp bn bo bz (-1) (nI (30 * r + (p + 1))) yn yo yz (hIt _ _ _ _ _ _ (fun f hf => pk_un (nel f hf)) (Or.inl ⟨pk_us, rfl⟩)) hA (by omega) hS150 (by omega) (by rw [tr_sw_u, tr_w1, if_pos rfl]; omega) (by omega) (fun postY ⟨m, hm⟩ => hY postY ⟨m + 1, fun ld li wi wt => yS_exec hl rfl rfl hyr hr (yE_end hr hp h30 hyr hyp hc u1 rfl (by omega) hTY hL l2 (fun y => by omega) (fun y => by omega) (fun _ => hm ld li wi wt))⟩) n hn
end
end
section
/-! transforming: the whole -/
section
variable {f_nodes f_depth f_known f_dues f_place f_gifts f_matched f_lists f_steps f_outcome f_made g_nodes g_inner g_listed g_depth g_row g_pc g_node g_position g_size g_fault : Int32} {a_name a_parent a_lastOf a_way a_value a_axes a_named a_kind a_over a_ends a_count a_num a_placed a_asked a_holds a_due a_open a_there a_priority a_given a_matches a_stack a_rest a_position a_size a_at a_row a_pc a_first a_out a_large b_kind b_with b_bodyAt b_wanted b_waiting b_within b_list b_left b_reached b_sizes b_each b_backRow b_backPc b_backNode b_backPosition b_backSize : Nat → Int32}
theorem tr_all {k nn dep : Nat} {cnt : Nat → Nat} {WY : (Int32 → SY → Prop) → Prop} (F : rl_F nn dep cnt (nI nn) f_depth 1 1 (nI nn) g_inner a_name a_parent a_lastOf a_way a_value a_axes a_named a_kind a_over a_ends a_count a_num a_placed a_asked a_holds a_there a_matches b_kind b_with b_bodyAt) : ∀ M, ∀ (L S oc mk : Nat) (st as ho lg rs po sz at' rw' pc fi ou le re si ea br bp bn bo bz : Nat → Int32) (yr yp yn yo yz : Int32), tr_I nn cnt a_kind a_num a_there L rs po sz at' rw' pc fi le re si ea br bp bn bo bz yr yp yn yo yz → xr_CA (nn, a_parent, a_name, a_value) a_kind a_num cnt as ho → L ≤ 12 → S ≤ 150 → oc ≤ 2 → (150 - S) * 64 + tr_sw pc L + (if oc = 0 then 1 else 0) ≤ M → mk + M ≤ 10000 → (∀ postY : Int32 → SY → Prop, (∃ n, ∀ ld li wi wt, wY_transform_40 postY n (nI nn) g_inner f_gifts f_place ld (nI L) yr yp yn yo yz (nI oc) (nI mk) (nI S) a_name a_parent a_value b_kind b_with a_count b_bodyAt a_priority a_given a_there b_wanted wt wi li le re si ea br bp bn bo bz ou) → WY postY) → ∀ n, M < n → wX_transform_40 (fun r u' => WY (fun r' v' => r' = r ∧ i_Rel k u' v')) n (nI nn) f_depth 1 f_dues f_place f_gifts 1 (nI L) (nI S) (nI oc) (nI mk) a_name a_parent a_lastOf a_way a_value a_axes a_named a_kind a_over a_ends a_count a_num a_placed as ho a_due a_open a_there a_priority a_given a_matches st rs po sz at' rw' pc fi ou lg := by
  intro M
  induction M with
  | zero =>
    intro L S oc mk st as ho lg rs po sz at' rw' pc fi ou le re si ea br bp bn bo bz yr yp yn yo yz hI hA hL12 hS150 hoc hM hmk hY n hn
    obtain ⟨n, rfl⟩ : ∃ j, n = j + 1 := ⟨n - 1, by omega⟩
    refine tr_exit (L := L) (S := S) (oc := oc) (mk := mk) F hA hL12 hoc (Or.inr (fun z => ?_)) hY
    rw [if_pos z] at hM
    omega
  | succ M ih =>
    intro L S oc mk st as ho lg rs po sz at' rw' pc fi ou le re si ea br bp bn bo bz yr yp yn yo yz hI hA hL12 hS150 hoc hM hmk hY n hn
    obtain ⟨n, rfl⟩ : ∃ j, n = j + 1 := ⟨n - 1, by omega⟩
    by_cases hx : L = 0 ∨ oc ≠ 0
    · exact tr_exit (L := L) (S := S) (oc := oc) (mk := mk) F hA hL12 hoc hx hY
    · have ho0 : oc = 0 := by omega
      subst ho0
      obtain ⟨l, rfl⟩ : ∃ j, L = j + 1 := ⟨L - 1, by omega⟩
      rw [if_pos rfl] at hM
      rcases hI.2.2 l rfl with ⟨hpc, hyr⟩ | ⟨r, p, nd, x1, x2, x3, x4, x5, x6, x7, x8, x9, x10, x11, x12⟩
      · exact tr_adv F ih hI hA (by omega) hS150 hM hmk hpc hyr hY (by omega)
      · exact tr_exe F ih hI hA (by omega) hS150 hM hmk x1 x2 x3 x4 x5 x6 x7 x8 x9 x10 x11 x12 hY (by omega)
end
theorem i_vc_transform {k : Nat} {u : SX} {v : SY} (I : i_Rel k u v) (hk : k + 4 ≤ 2048) : wpX_transform (fun r u' => wpY_transform (fun r' v' => r' = r ∧ i_Rel (k + 4) u' v') v) u := by
  refine zz_el (P := fun u v => wpX_transform (fun r u' => wpY_transform (fun r' v' => r' = r ∧ i_Rel (k + 4) u' v') v) u) ?_ I
  intro f_nodes f_depth f_known f_dues f_place f_gifts f_matched f_lists f_steps f_outcome f_made a_name a_parent a_lastOf a_way a_value a_axes a_named a_kind a_over a_ends a_count a_num a_placed a_asked a_holds a_due a_open a_there a_priority a_given a_matches a_stack a_rest a_position a_size a_at a_row a_pc a_first a_out a_large g_nodes g_inner g_listed g_depth g_row g_pc g_node g_position g_size g_fault b_kind b_with b_bodyAt b_wanted b_waiting b_within b_list b_left b_reached b_sizes b_each b_backRow b_backPc b_backNode b_backPosition b_backSize nn dep cnt F
  have F2 := F
  obtain ⟨⟨f1, f2, f3, hP, hN, hL, hW, f8, hkn⟩, ⟨hK, hKY, hcn⟩, hR, hM, hC⟩ := F
  have h24 := hP.1
  subst f1 f2
  refine pk_eq nn 0 (fun z => ?_) (fun z => ?_)
  · exact br_t (by rw [z]; rfl) ⟨rfl, zz_in (nn := nn) (dep := dep) (cnt := cnt) F2⟩
  · refine xb_match rfl hP hN hL hkn hK (fun q hq => (hcn q hq).2) hR hC hM (fun ax nd st as ho mt hD hC' hMT => ?_)
    have h1B : tm_B nn 1 := fun i hi hb => by
      rw [ta_1 i hi] at hb
      have := of_decide_eq_true hb
      omega
    refine xT_list (L := 0) (r := 0) (nn := nn) rfl (by omega) h24 h1B (by omega) xo_m2 (fun h => by omega) (fun _ => ⟨9603, ?_⟩)
    have FF : rl_F nn dep cnt (nI nn) f_depth 1 1 (nI nn) g_inner a_name a_parent a_lastOf a_way a_value ax nd a_kind a_over a_ends a_count a_num a_placed as ho a_there mt b_kind b_with b_bodyAt := ⟨⟨rfl, rfl, f3, hP, hN, hL, hW, f8, Or.inr ⟨rfl, hD.2.2⟩⟩, ⟨hK, hKY, hcn⟩, hR, Or.inr ⟨rfl, hMT⟩, hC'⟩
    have I0 : tr_I nn cnt a_kind a_num a_there 0 a_rest a_position a_size a_at a_row a_pc a_first b_left b_reached b_sizes b_each b_backRow b_backPc b_backNode b_backPosition b_backSize (-1) g_pc g_node g_position g_size := ⟨fun f hf => by omega, fun f hf => by omega, fun l e => by omega⟩
    refine tr_all (k := k + 4) (b_wanted := b_wanted) (WY := fun postY => wpY_transform postY (nI nn, g_inner, f_gifts, f_place, g_listed, g_depth, g_row, g_pc, g_node, g_position, g_size, g_fault, f_made, f_steps, a_name, a_parent, a_value, b_kind, b_with, a_count, b_bodyAt, a_priority, a_given, a_there, b_wanted, b_waiting, b_within, b_list, b_left, b_reached, b_sizes, b_each, b_backRow, b_backPc, b_backNode, b_backPosition, b_backSize, a_out)) FF 9602 1 0 0 0 _ _ _ _ _ _ _ _ _ _ _ _ (upd b_left 0 1) (upd b_reached 0 0) (upd b_sizes 0 (nI (tm_mem nn 1).length)) (upd b_each 0 (-1)) (upd b_backRow 0 (-1)) (upd b_backPc 0 g_pc) (upd b_backNode 0 g_node) (upd b_backPosition 0 g_position) (upd b_backSize 0 g_size) (-1) g_pc g_node g_position g_size (tr_push I0 h1B (Or.inl ⟨rfl, rfl⟩)) hC' (by omega) (by omega) (by omega) ?_ (by omega) (fun postY ⟨m, hm⟩ => ?_) 9603 (by omega)
    · rw [tr_sw_u, tr_w1, if_pos rfl]
      show (150 - 0) * 64 + (0 + 1) + 1 ≤ 9602
      omega
    · refine br_f (fun y => z ((nI_eq (b := 0) (by omega) (by omega)).mp y)) ?_
      exact yT_begin (L := 0) rfl (by omega) rfl h24 (fun h => by omega) (fun _ => ⟨m, hm g_listed b_list b_within b_waiting⟩)
end
