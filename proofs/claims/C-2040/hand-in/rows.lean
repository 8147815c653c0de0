section
/-! rows of the kit, pasted: kit/rows/PURE-ROWS (a part) and BITS (two families) -/
theorem pk_us {f : Nat → Int32} {k : Nat} {x : Int32} : upd f k x k = x := if_pos rfl
theorem pk_un {f : Nat → Int32} {k j : Nat} {x : Int32} (h : j ≠ k) : upd f k x j = f j := if_neg h
theorem pk_sub {a b : Nat} (h : b ≤ a) : nI a - nI b = nI (a - b) := by
  obtain ⟨c, rfl⟩ : ∃ c, a = c + b := ⟨a - b, by omega⟩
  rw [← nI_add, Int32.add_sub_cancel, Nat.add_sub_cancel]
theorem pk_m1 (n : Nat) : nI (n + 1) + (-1) = nI n := by
  rw [← nI_1, Int32.add_assoc, show (1 : Int32) + (-1) = 0 from rfl, Int32.add_zero]
theorem pk_mul (a b : Nat) : nI a * nI b = nI (a * b) := (Int32.ofNat_mul a b).symm
theorem pk_div {a d : Nat} (ha : a < 2 ^ 31) (h0 : 0 < d) (hd : d < 2 ^ 31) : nI a / nI d = nI (a / d) := by
  apply Int32.toInt_inj.mp
  rw [lg_idiv_nonneg (by rw [nI_toInt ha]; omega) (by rw [nI_toInt hd]; omega), nI_toInt ha, nI_toInt hd, nI_toInt (Nat.lt_of_le_of_lt (Nat.div_le_self a d) ha)]
  first | rfl | exact (Int.natCast_ediv _ _).symm
theorem pk_rem {a d : Nat} (ha : a < 2 ^ 31) (h0 : 0 < d) (hd : d < 2 ^ 31) : nI a - nI a / nI d * nI d = nI (a % d) := by
  rw [pk_div ha h0 hd, pk_mul, pk_sub (Nat.div_mul_le_self a d)]
  exact congrArg nI (by have := Nat.div_add_mod' a d; omega)
theorem pk_sub_toInt {a b : Nat} (ha : a < 2 ^ 30) (hb : b < 2 ^ 30) : (nI a - nI b).toInt = (a : Int) - b := by
  rw [Int32.toInt_sub, nI_toInt (by omega), nI_toInt (by omega)]
  exact Int.bmod_eq_of_le (by omega) (by omega)
theorem pk_sneg {a b : Nat} (hb : b < 2 ^ 30) (h : a < b) : nI a - nI b < 0 := by
  rw [Int32.lt_iff_toInt_lt, pk_sub_toInt (by omega) hb, show (0 : Int32).toInt = 0 from by decide]
  omega
theorem pk_ix (x : Int32) {n : Nat} (hn : n < 2 ^ 31) : x < 0 ∨ nI n ≤ x ∨ ∃ j : Nat, j < n ∧ x = nI j := by
  by_cases h : x < 0
  · exact Or.inl h
  · obtain ⟨j, hj, rfl⟩ := nI_of h
    by_cases h2 : j < n
    · exact Or.inr (Or.inr ⟨j, h2, rfl⟩)
    · exact Or.inr (Or.inl (nI_le (by omega) hj))
theorem pk_le {x y : Int32} {A B : Prop} (a b : Nat) (f : a ≤ b → A) (g : b < a → B) (hx : x = nI a := by rfl) (hy : y = nI b := by rfl) (ha : a < 2 ^ 31 := by omega) (hb : b < 2 ^ 31 := by omega) : (x ≤ y → A) ∧ (¬ x ≤ y → B) := by
  subst hx hy
  rw [nI_leI ha hb]
  exact ⟨f, fun z => g (by omega)⟩
theorem pk_lt {x y : Int32} {A B : Prop} (a b : Nat) (f : a < b → A) (g : b ≤ a → B) (hx : x = nI a := by rfl) (hy : y = nI b := by rfl) (ha : a < 2 ^ 31 := by omega) (hb : b < 2 ^ 31 := by omega) : (x < y → A) ∧ (¬ x < y → B) := by
  subst hx hy
  rw [nI_ltI ha hb]
  exact ⟨f, fun z => g (by omega)⟩
theorem pk_eq {x y : Int32} {A B : Prop} (a b : Nat) (f : a = b → A) (g : a ≠ b → B) (hx : x = nI a := by rfl) (hy : y = nI b := by rfl) (ha : a < 2 ^ 31 := by omega) (hb : b < 2 ^ 31 := by omega) : (x = y → A) ∧ (¬ x = y → B) := by
  subst hx hy
  rw [nI_eq ha hb]
  exact ⟨f, g⟩
theorem pk_in {x : Int32} (n N : Nat) (h : n < N) (hx : x = nI n := by rfl) (hN : N < 2 ^ 31 := by omega) : vp_in x N := by
  subst hx
  exact vp_in_nI h hN
theorem pk_cl {x : Int32} (n : Nat) (hx : x = nI n := by rfl) (h : n < 2 ^ 31 := by omega) : x.toNatClampNeg = n := by
  subst hx
  exact nI_clamp h
theorem pk_tn {n : Nat} (h : n < 2 ^ 32) : (nI n).toBitVec.toNat = n := Nat.mod_eq_of_lt h
theorem pk_and (x : Int32) {m : Int32} (k : Nat) (hm : m.toBitVec.toNat = 2 ^ k - 1) : x &&& m = nI (x.toBitVec.toNat % 2 ^ k) := by
  apply Int32.toBitVec_inj.mp
  apply BitVec.eq_of_toNat_eq
  rw [Int32.toBitVec_and, BitVec.toNat_and, hm, Nat.and_two_pow_sub_one_eq_mod]
  show _ = (BitVec.ofNat 32 _).toNat
  rw [BitVec.toNat_ofNat]
  exact (Nat.mod_eq_of_lt (Nat.lt_of_le_of_lt (Nat.mod_le _ _) x.toBitVec.isLt)).symm
theorem pk_andN {n : Nat} (h : n < 2 ^ 32) {m : Int32} (k : Nat) (hm : m.toBitVec.toNat = 2 ^ k - 1) : nI n &&& m = nI (n % 2 ^ k) := by
  rw [pk_and _ k hm, pk_tn h]
theorem pk_andE (x : Int32) {m : Int32} (k : Nat) (hm : m.toBitVec.toNat = 2 ^ k - 1) : ∃ j : Nat, j < 2 ^ k ∧ x &&& m = nI j := ⟨_, Nat.mod_lt _ (Nat.two_pow_pos k), pk_and x k hm⟩
theorem pk_andIn (x : Int32) {m : Int32} (k : Nat) (hm : m.toBitVec.toNat = 2 ^ k - 1) (hk : k ≤ 30) : vp_in (x &&& m) (2 ^ k) := by
  obtain ⟨j, hj, e⟩ := pk_andE x k hm
  rw [e]
  exact vp_in_nI hj (Nat.lt_of_le_of_lt (Nat.pow_le_pow_right (by decide) hk) (by decide))
theorem pk_shl (a s : Int32) (k : Nat) (hs : (s.toBitVec.smod 32).toNat = k) : (a <<< s).toBitVec.toNat = a.toBitVec.toNat * 2 ^ k % 2 ^ 32 := by
  show (a.toBitVec <<< (s.toBitVec.smod 32).toNat).toNat = _
  rw [hs, BitVec.toNat_shiftLeft, Nat.shiftLeft_eq]
theorem pk_shlN {n : Nat} (s : Int32) (k : Nat) (hs : (s.toBitVec.smod 32).toNat = k) (h : n * 2 ^ k < 2 ^ 32) : nI n <<< s = nI (n * 2 ^ k) := by
  apply Int32.toBitVec_inj.mp
  apply BitVec.eq_of_toNat_eq
  have hn : n < 2 ^ 32 := Nat.lt_of_le_of_lt (Nat.le_mul_of_pos_right n (Nat.two_pow_pos k)) h
  rw [pk_shl _ _ k hs, pk_tn hn, pk_tn h, Nat.mod_eq_of_lt h]
theorem pk_shr (a s : Int32) (k : Nat) (hs : (s.toBitVec.smod 32).toNat = k) : (a >>> s).toInt = a.toInt >>> k := by
  show (a.toBitVec.sshiftRight (s.toBitVec.smod 32).toNat).toInt = _
  rw [hs, BitVec.toInt_sshiftRight]
  rfl
theorem pk_shrN {n : Nat} (h : n < 2 ^ 31) (s : Int32) (k : Nat) (hs : (s.toBitVec.smod 32).toNat = k) : nI n >>> s = nI (n / 2 ^ k) := by
  apply Int32.toInt_inj.mp
  have h2 : n / 2 ^ k ≤ n := Nat.div_le_self _ _
  rw [pk_shr _ _ k hs, nI_toInt h, nI_toInt (by omega), Int.shiftRight_eq_div_pow]
  rfl
theorem ek_if {c d A B : Prop} (e : c ↔ d) (f : d → A) (g : ¬ d → B) : (c → A) ∧ (¬ c → B) :=
  ⟨fun z => f (e.mp z), fun z => g (fun y => z (e.mpr y))⟩
theorem ek_v {α : Sort _} {P : α → Prop} {a b : α} (e : a = b) (h : P b) : P a := e ▸ h
theorem sb_m1 {p : Nat} (h : 0 < p) : nI p + (-1) = nI (p - 1) := by
  obtain ⟨q, rfl⟩ : ∃ q, p = q + 1 := ⟨p - 1, by omega⟩
  exact pk_m1 q
/-! ===== Int32 by its bits: bt x i ===== -/
def bt (x : Int32) (i : Nat) : Bool := x.toBitVec.getLsbD i
theorem b_ext {x y : Int32} (h : ∀ i, i < 32 → bt x i = bt y i) : x = y := Int32.toBitVec_inj.mp (BitVec.eq_of_getLsbD_eq (fun i hi => h i hi))
theorem b_or (x y : Int32) (i : Nat) : bt (x ||| y) i = (bt x i || bt y i) := by unfold bt; rw [Int32.toBitVec_or, BitVec.getLsbD_or]
theorem b_and (x y : Int32) (i : Nat) : bt (x &&& y) i = (bt x i && bt y i) := by unfold bt; rw [Int32.toBitVec_and, BitVec.getLsbD_and]
theorem b_xor (x y : Int32) (i : Nat) : bt (x ^^^ y) i = (bt x i ^^ bt y i) := by unfold bt; rw [Int32.toBitVec_xor, BitVec.getLsbD_xor]
theorem b_big {x : Int32} {i : Nat} (h : 32 ≤ i) : bt x i = false := BitVec.getLsbD_of_ge _ _ h
theorem b_255 (i : Nat) : bt 255 i = decide (i < 8) := by
  rcases Nat.lt_or_ge i 32 with h | h
  · exact (by decide +kernel : ∀ i, i < 32 → bt 255 i = decide (i < 8)) i h
  · rw [b_big h, decide_eq_false (by omega)]
theorem b_65535 (i : Nat) : bt 65535 i = decide (i < 16) := by
  rcases Nat.lt_or_ge i 32 with h | h
  · exact (by decide +kernel : ∀ i, i < 32 → bt 65535 i = decide (i < 16)) i h
  · rw [b_big h, decide_eq_false (by omega)]
theorem b_m1 : ∀ i, i < 32 → bt (-1) i = true := by decide +kernel
theorem b_0 (i : Nat) : bt 0 i = false := BitVec.getLsbD_zero
theorem s_l : ∀ n, n < 32 → ((nI n &&& 31).toBitVec.smod 32).toNat = n := by decide +kernel
theorem s_u : ∀ n, n < 32 → (((nI n).toUInt32 &&& Int32.toUInt32 31).toBitVec % 32).toNat = n := by decide +kernel
theorem b_shl (n : Nat) (hn : n < 32) (x : Int32) {i : Nat} (hi : i < 32) : bt (x <<< (nI n &&& 31)) i = (decide (n ≤ i) && bt x (i - n)) := by
  unfold bt
  rw [Int32.toBitVec_shiftLeft]
  show (x.toBitVec <<< ((nI n &&& 31).toBitVec.smod 32).toNat).getLsbD i = _
  rw [s_l n hn, BitVec.getLsbD_shiftLeft]
  rcases Nat.lt_or_ge i n with h | h
  · simp [h, Nat.not_le.mpr h]
  · simp [hi, h, Nat.not_lt.mpr h]
theorem b_ushr (n : Nat) (hn : n < 32) (x : Int32) (i : Nat) : bt ((x.toUInt32 >>> ((nI n).toUInt32 &&& Int32.toUInt32 31)).toInt32) i = bt x (n + i) := by
  show (x.toUInt32 >>> ((nI n).toUInt32 &&& Int32.toUInt32 31)).toBitVec.getLsbD i = x.toUInt32.toBitVec.getLsbD (n + i)
  rw [UInt32.toBitVec_shiftRight]
  show (x.toUInt32.toBitVec >>> (((nI n).toUInt32 &&& Int32.toUInt32 31).toBitVec % 32).toNat).getLsbD i = _
  rw [s_u n hn, BitVec.getLsbD_ushiftRight]
theorem b_sshr (n : Nat) (hn : n < 32) (x : Int32) {i : Nat} (hi : i < 32) : bt (x >>> (nI n &&& 31)) i = if n + i < 32 then bt x (n + i) else bt x 31 := by
  unfold bt
  rw [Int32.toBitVec_shiftRight]
  show (x.toBitVec.sshiftRight ((nI n &&& 31).toBitVec.smod 32).toNat).getLsbD i = _
  rw [s_l n hn, BitVec.getLsbD_sshiftRight, BitVec.msb_eq_getLsbD_last]
  simp [hi]
theorem b_shl8 (x : Int32) {i : Nat} (hi : i < 32) : bt (x <<< ((8 : Int32) &&& 31)) i = (decide (8 ≤ i) && bt x (i - 8)) := b_shl 8 (by omega) x hi
theorem b_shl16 (x : Int32) {i : Nat} (hi : i < 32) : bt (x <<< ((16 : Int32) &&& 31)) i = (decide (16 ≤ i) && bt x (i - 16)) := b_shl 16 (by omega) x hi
theorem b_shl24 (x : Int32) {i : Nat} (hi : i < 32) : bt (x <<< ((24 : Int32) &&& 31)) i = (decide (24 ≤ i) && bt x (i - 24)) := b_shl 24 (by omega) x hi
theorem b_sshr8 (x : Int32) {i : Nat} (hi : i < 32) : bt (x >>> ((8 : Int32) &&& 31)) i = if 8 + i < 32 then bt x (8 + i) else bt x 31 := b_sshr 8 (by omega) x hi
/-! ===== nI under and, xor, >>>, one bit, 65535 ===== -/
theorem nx_and (a b : Nat) : nI a &&& nI b = nI (a &&& b) := by
  apply Int32.toBitVec_inj.1
  show BitVec.ofNat 32 a &&& BitVec.ofNat 32 b = BitVec.ofNat 32 (a &&& b)
  apply BitVec.eq_of_getLsbD_eq
  intro i hi
  simp [hi]
theorem nx_xor (a b : Nat) : nI a ^^^ nI b = nI (a ^^^ b) := by
  apply Int32.toBitVec_inj.1
  show BitVec.ofNat 32 a ^^^ BitVec.ofNat 32 b = BitVec.ofNat 32 (a ^^^ b)
  apply BitVec.eq_of_getLsbD_eq
  intro i hi
  simp [hi]
theorem nx_cnt : ∀ j : Fin 32, (UInt32.ofNat j.val &&& Int32.toUInt32 31).toNat % 32 = j.val := by decide +kernel
theorem nx_ush {k j : Nat} (hk : k < 65536) (hj : j < 32) : ((nI k).toUInt32 >>> ((nI j).toUInt32 &&& Int32.toUInt32 31)).toInt32 = nI (k >>> j) := by
  have hs : k >>> j ≤ k := by
    rw [Nat.shiftRight_eq_div_pow]
    exact Nat.div_le_self _ _
  have e2 : UInt32.ofNat k >>> (UInt32.ofNat j &&& Int32.toUInt32 31) = UInt32.ofNat (k >>> j) := by
    apply UInt32.toNat_inj.1
    have h1 : (UInt32.ofNat k).toNat = k := Nat.mod_eq_of_lt (by omega)
    have h2 : (UInt32.ofNat (k >>> j)).toNat = k >>> j := Nat.mod_eq_of_lt (by omega)
    rw [UInt32.toNat_shiftRight, nx_cnt ⟨j, hj⟩, h1, h2]
  show (UInt32.ofNat k >>> (UInt32.ofNat j &&& Int32.toUInt32 31)).toInt32 = _
  rw [e2]
  rfl
theorem nx_bit {k j : Nat} (hk : k < 65536) (hj : j < 16) : (((nI k).toUInt32 >>> ((nI j).toUInt32 &&& Int32.toUInt32 31)).toInt32 &&& 1) = 0 ↔ k.testBit j = false := by
  rw [nx_ush hk (by omega)]
  show nI (k >>> j) &&& nI 1 = 0 ↔ _
  rw [nx_and, Nat.and_one_is_mod, ← nI_0, nI_eq (by omega) (by omega), Nat.testBit_eq_decide_div_mod_eq, Nat.shiftRight_eq_div_pow, decide_eq_false_iff_not]
  generalize k / 2 ^ j = z
  omega
theorem nx_mod (k : Nat) : nI k &&& 65535 = nI (k % 65536) := by
  show nI k &&& nI 65535 = _
  rw [nx_and, show (65535 : Nat) = 2 ^ 16 - 1 from rfl, Nat.and_two_pow_sub_one_eq_mod]
theorem nx_m16 {k : Nat} (h : k < 65536) : nI k &&& 65535 = nI k := by rw [nx_mod, Nat.mod_eq_of_lt h]
theorem nx_mask (x : Int32) : ∃ k, k < 65536 ∧ x &&& 65535 = nI k := by
  have e : x = nI x.toBitVec.toNat := by
    apply Int32.toBitVec_inj.1
    show x.toBitVec = BitVec.ofNat 32 x.toBitVec.toNat
    simp
  refine ⟨x.toBitVec.toNat % 65536, Nat.mod_lt _ (by omega), ?_⟩
  rw [← nx_mod, ← e]
theorem pk_least (P : Nat → Prop) (h : ∃ k, P k) : ∃ k, P k ∧ ∀ j, j < k → ¬ P j := by
  obtain ⟨k, hk⟩ := h
  induction k using Nat.strongRecOn with
  | ind k ih =>
    by_cases e : ∃ j, j < k ∧ P j
    · obtain ⟨j, hj, pj⟩ := e
      exact ih j hj pj
    · exact ⟨k, hk, fun j hj pj => e ⟨j, hj, pj⟩⟩
end
section
/-! bits of a chunk, fields, agreement -/
def zc_b (a : Nat → Int32) (c j : Nat) : Bool := bt (a (24 * c + j / 32)) (j % 32)
def zc_F (b : Nat → Bool) (p k v : Nat) : Prop := ∀ j, j < k → b (p + j) = v.testBit (k - 1 - j)
def zc_A (a a' : Nat → Int32) (c p q : Nat) : Prop := ∀ c' j, c' < 4 → j < 768 → (c' = c → j < p ∨ q ≤ j) → zc_b a' c' j = zc_b a c' j
theorem zc_A_rf {a : Nat → Int32} {c p q : Nat} : zc_A a a c p q := fun _ _ _ _ _ => rfl
theorem zc_A_tr {a a1 a2 : Nat → Int32} {c p q r : Nat} (h1 : zc_A a a1 c p q) (h2 : zc_A a1 a2 c q r) (hpq : p ≤ q) (hqr : q ≤ r) : zc_A a a2 c p r :=
  fun c' j h4 h7 h => (h2 c' j h4 h7 (fun e => by have := h e; omega)).trans (h1 c' j h4 h7 (fun e => by have := h e; omega))
theorem zc_F_loc {b b' : Nat → Bool} {p k v : Nat} (h : ∀ j, p ≤ j → j < p + k → b' j = b j) (H : zc_F b p k v) : zc_F b' p k v :=
  fun j hj => (h (p + j) (by omega) (by omega)).trans (H j hj)
theorem zc_F_keep {a a' : Nat → Int32} {c p k v q r : Nat} (H : zc_F (zc_b a c) p k v) (hA : zc_A a a' c q r) (hp : p + k ≤ q) (hq : p + k ≤ 768) (hc : c < 4) : zc_F (zc_b a' c) p k v :=
  zc_F_loc (fun j _ h2 => hA c j hc (by omega) (fun _ => Or.inl (by omega))) H
theorem zc_F_1 {b : Nat → Bool} {p v : Nat} (h : zc_F b p 1 v) : b p = v.testBit 0 := h 0 (by omega)
theorem zc_F_of1 {b : Nat → Bool} {p v : Nat} (h : b p = v.testBit 0) : zc_F b p 1 v := by
  intro j hj
  obtain rfl : j = 0 := by omega
  exact h
theorem zc_F_22 {b : Nat → Bool} {p : Nat} (h : zc_F b p 2 2) : zc_F b p 1 1 ∧ zc_F b (p + 1) 1 0 :=
  ⟨zc_F_of1 ((h 0 (by omega)).trans (by decide)), zc_F_of1 ((h 1 (by omega)).trans (by decide))⟩
theorem zc_F_23 {b : Nat → Bool} {p : Nat} (h : zc_F b p 2 3) : zc_F b p 1 1 ∧ zc_F b (p + 1) 1 1 :=
  ⟨zc_F_of1 ((h 0 (by omega)).trans (by decide)), zc_F_of1 ((h 1 (by omega)).trans (by decide))⟩
theorem zc_F_36 {b : Nat → Bool} {p : Nat} (h : zc_F b p 3 6) : zc_F b p 1 1 ∧ zc_F b (p + 1) 1 1 ∧ zc_F b (p + 2) 1 0 :=
  ⟨zc_F_of1 ((h 0 (by omega)).trans (by decide)), zc_F_of1 ((h 1 (by omega)).trans (by decide)), zc_F_of1 ((h 2 (by omega)).trans (by decide))⟩
theorem zc_F_37 {b : Nat → Bool} {p : Nat} (h : zc_F b p 3 7) : zc_F b p 1 1 ∧ zc_F b (p + 1) 1 1 ∧ zc_F b (p + 2) 1 1 :=
  ⟨zc_F_of1 ((h 0 (by omega)).trans (by decide)), zc_F_of1 ((h 1 (by omega)).trans (by decide)), zc_F_of1 ((h 2 (by omega)).trans (by decide))⟩
/-! one bit written -/
theorem zc_set {a : Nat → Int32} {c p : Nat} (hp : p < 768) (x : Int32) (v : Bool) (hx : ∀ i, i < 32 → bt x i = if i = p % 32 then v else bt (a (24 * c + p / 32)) i) :
    ∀ c' j, j < 768 → zc_b (upd a (24 * c + p / 32) x) c' j = if c' = c ∧ j = p then v else zc_b a c' j := by
  intro c' j hj
  unfold zc_b
  by_cases h : 24 * c' + j / 32 = 24 * c + p / 32
  · rw [h, pk_us, hx _ (Nat.mod_lt _ (by decide))]
    by_cases h2 : j % 32 = p % 32
    · rw [if_pos h2, if_pos (by omega)]
    · rw [if_neg h2, if_neg (by omega)]
  · rw [pk_un h, if_neg (by rintro ⟨rfl, rfl⟩; exact h rfl)]
theorem zc_bt1 : ∀ k, k < 32 → bt 1 k = decide (k = 0) := by decide +kernel
theorem zc_sh1 {s i : Nat} (hs : s < 32) (hi : i < 32) : bt ((1 : Int32) <<< (nI s &&& 31)) i = decide (i = s) := by
  rw [b_shl s hs 1 hi, zc_bt1 _ (by omega)]
  by_cases h : i = s
  · subst h; simp
  · by_cases h2 : s ≤ i
    · have : ¬ i - s = 0 := by omega
      simp [h, this]
    · simp [h, h2]
theorem zc_or {x : Int32} {s : Nat} (hs : s < 32) : ∀ i, i < 32 → bt (x ||| ((1 : Int32) <<< (nI s &&& 31))) i = if i = s then true else bt x i := by
  intro i hi
  rw [b_or, zc_sh1 hs hi]
  by_cases h : i = s
  · rw [if_pos h, decide_eq_true h, Bool.or_true]
  · rw [if_neg h, decide_eq_false h, Bool.or_false]
theorem zc_cl {x : Int32} {s : Nat} (hs : s < 32) : ∀ i, i < 32 → bt (x &&& (((1 : Int32) <<< (nI s &&& 31)) ^^^ (-1))) i = if i = s then false else bt x i := by
  intro i hi
  rw [b_and, b_xor, zc_sh1 hs hi, b_m1 i hi]
  by_cases h : i = s
  · rw [if_pos h, decide_eq_true h]; simp
  · rw [if_neg h, decide_eq_false h]; simp
theorem zc_bit {V i : Nat} (hV : V < 2 ^ 31) (hi : i < 32) : ((nI V >>> (nI i &&& 31)) &&& 1) = nI (V.testBit i).toNat := by
  rw [pk_shrN hV _ i (s_l i hi), pk_andN (Nat.lt_of_le_of_lt (Nat.div_le_self _ _) (by omega)) 1 (by decide), Nat.toNat_testBit]
theorem zc_one {x : Int32} {s : Nat} (hs : s < 32) : (x >>> (nI s &&& 31)) &&& 1 = nI (bt x s).toNat := by
  apply b_ext
  intro i hi
  rw [b_and, zc_bt1 i hi]
  by_cases h : i = 0
  · subst h
    rw [b_sshr s hs x hi, if_pos (by omega), Nat.add_zero]
    cases bt x s <;> decide
  · rw [decide_eq_false h, Bool.and_false]
    cases bt x s
    · exact (b_0 i).symm
    · exact ((zc_bt1 i hi).trans (decide_eq_false h)).symm
theorem zc_and31 {p : Nat} (hp : p < 2 ^ 32) : nI p &&& 31 = nI (p % 32) := pk_andN hp 5 (by decide)
theorem zc_shr5 {p : Nat} (hp : p < 2 ^ 31) : nI p >>> ((5 : Int32) &&& 31) = nI (p / 32) := pk_shrN hp _ 5 (by decide)
theorem zc_shr4 {p : Nat} (hp : p < 2 ^ 31) : nI p >>> ((4 : Int32) &&& 31) = nI (p / 16) := pk_shrN hp _ 4 (by decide)
theorem zc_and15 {p : Nat} (hp : p < 2 ^ 32) : nI p &&& 15 = nI (p % 16) := pk_andN hp 4 (by decide)
theorem zc_at {c p : Nat} (hp : p < 2 ^ 31) : (nI c * 24) + (nI p >>> ((5 : Int32) &&& 31)) = nI (24 * c + p / 32) := by
  rw [zc_shr5 hp, show (24 : Int32) = nI 24 from rfl, pk_mul, nI_add, Nat.mul_comm c 24]
/-! whole numbers of any sign -/
theorem zi_lt {x y : Int32} {A B : Prop} (a b : Int) (hx : x.toInt = a) (hy : y.toInt = b) (f : a < b → A) (g : b ≤ a → B) : (x < y → A) ∧ (¬ x < y → B) := by
  rw [Int32.lt_iff_toInt_lt, hx, hy]
  exact ⟨f, fun z => g (by omega)⟩
theorem zi_le {x y : Int32} {A B : Prop} (a b : Int) (hx : x.toInt = a) (hy : y.toInt = b) (f : a ≤ b → A) (g : b < a → B) : (x ≤ y → A) ∧ (¬ x ≤ y → B) := by
  rw [Int32.le_iff_toInt_le, hx, hy]
  exact ⟨f, fun z => g (by omega)⟩
theorem zi_eq {x y : Int32} {A B : Prop} (a b : Int) (hx : x.toInt = a) (hy : y.toInt = b) (f : a = b → A) (g : a ≠ b → B) : (x = y → A) ∧ (¬ x = y → B) := by
  rw [← Int32.toInt_inj, hx, hy]
  exact ⟨f, fun z => g (by omega)⟩
theorem zi_nat {x : Int32} {z : Int} (h : x.toInt = z) (h0 : 0 ≤ z) : x = nI z.toNat := by
  have hl := x.toInt_lt
  apply Int32.toInt_inj.mp
  rw [nI_toInt (by omega), h]
  omega
theorem zi_add {x y : Int32} {a b : Int} (hx : x.toInt = a) (hy : y.toInt = b) (h1 : -2147483648 ≤ a + b) (h2 : a + b < 2147483648) : (x + y).toInt = a + b := by
  rw [Int32.toInt_add, hx, hy]
  exact Int.bmod_eq_of_le (by omega) (by omega)
theorem zi_sub {x y : Int32} {a b : Int} (hx : x.toInt = a) (hy : y.toInt = b) (h1 : -2147483648 ≤ a - b) (h2 : a - b < 2147483648) : (x - y).toInt = a - b := by
  rw [Int32.toInt_sub, hx, hy]
  exact Int.bmod_eq_of_le (by omega) (by omega)
theorem zi_neg {x : Int32} {a : Int} (hx : x.toInt = a) (h1 : -2147483648 < a) (h2 : a < 2147483648) : (-x).toInt = -a := by
  rw [Int32.toInt_neg, hx]
  exact Int.bmod_eq_of_le (by omega) (by omega)
theorem zi_nI {n : Nat} (h : n < 2 ^ 31) : (nI n).toInt = (n : Int) := nI_toInt h
end
section
/-! zeros before and behind, in 16 bits -/
def zl_n (x : Nat) : Nat → Nat → Nat
  | 0, k => k
  | f + 1, k => if x.testBit (15 - k) = true then k else zl_n x f (k + 1)
def zr_n (x : Nat) : Nat → Nat → Nat
  | 0, k => k
  | f + 1, k => if x.testBit k = true then k else zr_n x f (k + 1)
def zl (x : Nat) : Nat := zl_n x 16 0
def zr (x : Nat) : Nat := zr_n x 16 0
theorem zl_sp {x : Nat} (h0 : 0 < x) : ∀ f k, f + k = 16 → x < 2 ^ (16 - k) → zl_n x f k ≤ 15 ∧ x < 2 ^ (16 - zl_n x f k) := by
  intro f
  induction f with
  | zero =>
    intro k hk hx
    obtain rfl : k = 16 := by omega
    have : x < 1 := hx
    omega
  | succ f ih =>
    intro k hk hx
    by_cases hb : x.testBit (15 - k) = true
    · rw [zl_n, if_pos hb]; exact ⟨by omega, hx⟩
    · rw [zl_n, if_neg hb]
      refine ih (k + 1) (by omega) ?_
      rcases Nat.lt_or_ge x (2 ^ (15 - k)) with h | h
      · have e : 16 - (k + 1) = 15 - k := by omega
        rw [e]; exact h
      · have e : 16 - k = (15 - k) + 1 := by omega
        rw [e] at hx
        exact absurd (Nat.testBit_of_two_pow_le_and_two_pow_add_one_gt h hx) hb
theorem zr_sp {x : Nat} (h0 : 0 < x) (hx : x < 65536) : ∀ f k, f + k = 16 → x % 2 ^ k = 0 → zr_n x f k ≤ 15 ∧ x % 2 ^ (zr_n x f k) = 0 ∧ x.testBit (zr_n x f k) = true := by
  intro f
  induction f with
  | zero =>
    intro k hk hm
    obtain rfl : k = 16 := by omega
    have : x % 65536 = 0 := hm
    omega
  | succ f ih =>
    intro k hk hm
    by_cases hb : x.testBit k = true
    · rw [zr_n, if_pos hb]; exact ⟨by omega, hm, hb⟩
    · rw [zr_n, if_neg hb]
      refine ih (k + 1) (by omega) ?_
      rw [Nat.testBit_eq_decide_div_mod_eq, decide_eq_true_eq] at hb
      rw [Nat.pow_succ, Nat.mod_mul, hm]
      have : x / 2 ^ k % 2 = 0 := by omega
      rw [this]
      omega
theorem zl_le {x : Nat} (h0 : 0 < x) (hx : x < 65536) : zl x ≤ 15 := (zl_sp h0 16 0 rfl hx).1
theorem zl_lt {x : Nat} (h0 : 0 < x) (hx : x < 65536) : x < 2 ^ (16 - zl x) := (zl_sp h0 16 0 rfl hx).2
theorem zr_mod {x : Nat} (h0 : 0 < x) (hx : x < 65536) : x % 2 ^ (zr x) = 0 := (zr_sp h0 hx 16 0 rfl (Nat.mod_one x)).2.1
theorem zr_bit {x : Nat} (h0 : 0 < x) (hx : x < 65536) : x.testBit (zr x) = true := (zr_sp h0 hx 16 0 rfl (Nat.mod_one x)).2.2
theorem zlr {x : Nat} (h0 : 0 < x) (hx : x < 65536) : zl x + zr x ≤ 15 := by
  have h1 := zl_lt h0 hx
  have h2 := Nat.ge_two_pow_of_testBit (zr_bit h0 hx)
  have h3 : 2 ^ (zr x) < 2 ^ (16 - zl x) := Nat.lt_of_le_of_lt h2 h1
  have h4 := (Nat.pow_lt_pow_iff_right (by decide : 1 < 2)).mp h3
  omega
theorem zx_fit {x L R : Nat} (h0 : 0 < x) (hx : x < 65536) (hL : L ≤ zl x) (hLR : L + R ≤ 15) : x / 2 ^ R < 2 ^ (16 - L - R) := by
  rw [Nat.div_lt_iff_lt_mul (Nat.two_pow_pos R), ← Nat.pow_add]
  refine Nat.lt_of_lt_of_le (zl_lt h0 hx) (Nat.pow_le_pow_right (by decide) (by omega))
theorem zx_back {x R : Nat} (h0 : 0 < x) (hx : x < 65536) (hR : R ≤ zr x) : x / 2 ^ R * 2 ^ R = x := by
  have h := zr_mod h0 hx
  have hd : 2 ^ R ∣ x := Nat.dvd_trans (Nat.pow_dvd_pow 2 hR) (Nat.dvd_of_mod_eq_zero h)
  exact Nat.div_mul_cancel hd
/-! sizes and encodings -/
def zc_gs (d : Int) : Nat := if d = 0 then 1 else if -7 ≤ d ∧ d ≤ 8 then 6 else if -63 ≤ d ∧ d ≤ 64 then 10 else 21
def zc_G (b : Nat → Bool) (p : Nat) (d : Int) : Prop :=
  if d = 0 then zc_F b p 1 0 else if -7 ≤ d ∧ d ≤ 8 then zc_F b p 2 2 ∧ zc_F b (p + 2) 4 (d + 7).toNat
  else if -63 ≤ d ∧ d ≤ 64 then zc_F b p 3 6 ∧ zc_F b (p + 3) 7 (d + 63).toNat
  else zc_F b p 3 7 ∧ zc_F b (p + 3) 1 (if d < 0 then 1 else 0) ∧ zc_F b (p + 4) 17 d.natAbs
def zc_w (s : Nat × Nat) (x : Nat) : Nat × Nat := if x = 0 then s else if s.1 ≤ zl x ∧ s.2 ≤ zr x then s else (zl x, zr x)
def zc_vs (s : Nat × Nat) (x : Nat) : Nat := if x = 0 then 1 else if s.1 ≤ zl x ∧ s.2 ≤ zr x then 18 - s.1 - s.2 else 26 - zl x - zr x
def zc_V (b : Nat → Bool) (p : Nat) (s : Nat × Nat) (x : Nat) : Prop :=
  if x = 0 then zc_F b p 1 0 else if s.1 ≤ zl x ∧ s.2 ≤ zr x then zc_F b p 2 2 ∧ zc_F b (p + 2) (16 - s.1 - s.2) (x / 2 ^ s.2)
  else zc_F b p 2 3 ∧ zc_F b (p + 2) 4 (zl x) ∧ zc_F b (p + 6) 4 (zr x) ∧ zc_F b (p + 10) (16 - zl x - zr x) (x / 2 ^ (zr x))
theorem zc_gs0 : zc_gs 0 = 1 := rfl
theorem zc_gs1 {d : Int} (h0 : d ≠ 0) (h : -7 ≤ d ∧ d ≤ 8) : zc_gs d = 6 := by unfold zc_gs; rw [if_neg h0, if_pos h]
theorem zc_gs2 {d : Int} (h1 : ¬ (-7 ≤ d ∧ d ≤ 8)) (h : -63 ≤ d ∧ d ≤ 64) : zc_gs d = 10 := by unfold zc_gs; rw [if_neg (by omega), if_neg h1, if_pos h]
theorem zc_gs3 {d : Int} (h : ¬ (-63 ≤ d ∧ d ≤ 64)) : zc_gs d = 21 := by unfold zc_gs; rw [if_neg (by omega), if_neg (by omega), if_neg h]
theorem zc_G0 {b : Nat → Bool} {p : Nat} : zc_G b p 0 = zc_F b p 1 0 := by unfold zc_G; rw [if_pos rfl]
theorem zc_G1 {b : Nat → Bool} {p : Nat} {d : Int} (h0 : d ≠ 0) (h : -7 ≤ d ∧ d ≤ 8) : zc_G b p d = (zc_F b p 2 2 ∧ zc_F b (p + 2) 4 (d + 7).toNat) := by unfold zc_G; rw [if_neg h0, if_pos h]
theorem zc_G2 {b : Nat → Bool} {p : Nat} {d : Int} (h1 : ¬ (-7 ≤ d ∧ d ≤ 8)) (h : -63 ≤ d ∧ d ≤ 64) : zc_G b p d = (zc_F b p 3 6 ∧ zc_F b (p + 3) 7 (d + 63).toNat) := by unfold zc_G; rw [if_neg (by omega), if_neg h1, if_pos h]
theorem zc_G3 {b : Nat → Bool} {p : Nat} {d : Int} (h : ¬ (-63 ≤ d ∧ d ≤ 64)) : zc_G b p d = (zc_F b p 3 7 ∧ zc_F b (p + 3) 1 (if d < 0 then 1 else 0) ∧ zc_F b (p + 4) 17 d.natAbs) := by unfold zc_G; rw [if_neg (by omega), if_neg (by omega), if_neg h]
theorem zc_gs_le (d : Int) : 1 ≤ zc_gs d ∧ zc_gs d ≤ 21 := by unfold zc_gs; split <;> (try split) <;> (try split) <;> omega
theorem zc_w0 {s : Nat × Nat} : zc_w s 0 = s := by unfold zc_w; rw [if_pos rfl]
theorem zc_w1 {s : Nat × Nat} {x : Nat} (h0 : x ≠ 0) (h : s.1 ≤ zl x ∧ s.2 ≤ zr x) : zc_w s x = s := by unfold zc_w; rw [if_neg h0, if_pos h]
theorem zc_w2 {s : Nat × Nat} {x : Nat} (h0 : x ≠ 0) (h : ¬ (s.1 ≤ zl x ∧ s.2 ≤ zr x)) : zc_w s x = (zl x, zr x) := by unfold zc_w; rw [if_neg h0, if_neg h]
theorem zc_vs0 {s : Nat × Nat} : zc_vs s 0 = 1 := by unfold zc_vs; rw [if_pos rfl]
theorem zc_vs1 {s : Nat × Nat} {x : Nat} (h0 : x ≠ 0) (h : s.1 ≤ zl x ∧ s.2 ≤ zr x) : zc_vs s x = 18 - s.1 - s.2 := by unfold zc_vs; rw [if_neg h0, if_pos h]
theorem zc_vs2 {s : Nat × Nat} {x : Nat} (h0 : x ≠ 0) (h : ¬ (s.1 ≤ zl x ∧ s.2 ≤ zr x)) : zc_vs s x = 26 - zl x - zr x := by unfold zc_vs; rw [if_neg h0, if_neg h]
theorem zc_V0 {b : Nat → Bool} {p : Nat} {s : Nat × Nat} : zc_V b p s 0 = zc_F b p 1 0 := by unfold zc_V; rw [if_pos rfl]
theorem zc_V1 {b : Nat → Bool} {p : Nat} {s : Nat × Nat} {x : Nat} (h0 : x ≠ 0) (h : s.1 ≤ zl x ∧ s.2 ≤ zr x) : zc_V b p s x = (zc_F b p 2 2 ∧ zc_F b (p + 2) (16 - s.1 - s.2) (x / 2 ^ s.2)) := by unfold zc_V; rw [if_neg h0, if_pos h]
theorem zc_V2 {b : Nat → Bool} {p : Nat} {s : Nat × Nat} {x : Nat} (h0 : x ≠ 0) (h : ¬ (s.1 ≤ zl x ∧ s.2 ≤ zr x)) : zc_V b p s x = (zc_F b p 2 3 ∧ zc_F b (p + 2) 4 (zl x) ∧ zc_F b (p + 6) 4 (zr x) ∧ zc_F b (p + 10) (16 - zl x - zr x) (x / 2 ^ (zr x))) := by unfold zc_V; rw [if_neg h0, if_neg h]
theorem zc_vs_le (s : Nat × Nat) (x : Nat) : zc_vs s x ≤ 26 := by unfold zc_vs; split <;> (try split) <;> omega
/-- the window as the fields hold it -/
def zc_N (s : Nat × Nat) (l r : Int32) : Prop := (s.1 + s.2 ≤ 15 ∧ l = nI s.1 ∧ r = nI s.2) ∨ (s.1 = 16 ∧ l = -1)
theorem zc_N_new {x : Nat} (h0 : x ≠ 0) (hx : x < 65536) : zc_N (zl x, zr x) (nI (zl x)) (nI (zr x)) := Or.inl ⟨zlr (by omega) hx, rfl, rfl⟩
theorem zc_N_use {s : Nat × Nat} {l r : Int32} {x : Nat} (h : zc_N s l r) (h0 : x ≠ 0) (hx : x < 65536) (hs : s.1 ≤ zl x ∧ s.2 ≤ zr x) : s.1 + s.2 ≤ 15 ∧ l = nI s.1 ∧ r = nI s.2 := by
  rcases h with h | h
  · exact h
  · have := zl_le (by omega) hx; omega
/-! localities -/
theorem zc_G_loc {b b' : Nat → Bool} {p : Nat} {d : Int} (h : ∀ j, p ≤ j → j < p + zc_gs d → b' j = b j) (H : zc_G b p d) : zc_G b' p d := by
  by_cases h0 : d = 0
  · subst h0
    rw [zc_G0] at H ⊢
    exact zc_F_loc h H
  · by_cases h1 : -7 ≤ d ∧ d ≤ 8
    · rw [zc_gs1 h0 h1] at h
      rw [zc_G1 h0 h1] at H ⊢
      exact ⟨zc_F_loc (fun j _ _ => h j (by omega) (by omega)) H.1, zc_F_loc (fun j _ _ => h j (by omega) (by omega)) H.2⟩
    · by_cases h2 : -63 ≤ d ∧ d ≤ 64
      · rw [zc_gs2 h1 h2] at h
        rw [zc_G2 h1 h2] at H ⊢
        exact ⟨zc_F_loc (fun j _ _ => h j (by omega) (by omega)) H.1, zc_F_loc (fun j _ _ => h j (by omega) (by omega)) H.2⟩
      · rw [zc_gs3 h2] at h
        rw [zc_G3 h2] at H ⊢
        exact ⟨zc_F_loc (fun j _ _ => h j (by omega) (by omega)) H.1, zc_F_loc (fun j _ _ => h j (by omega) (by omega)) H.2.1, zc_F_loc (fun j _ _ => h j (by omega) (by omega)) H.2.2⟩
def zc_ok (s : Nat × Nat) : Prop := s.1 = 16 ∨ s.1 + s.2 ≤ 15
theorem zc_ok_use {s : Nat × Nat} {x : Nat} (h : zc_ok s) (h0 : x ≠ 0) (hx : x < 65536) (hs : s.1 ≤ zl x ∧ s.2 ≤ zr x) : s.1 + s.2 ≤ 15 := by
  rcases h with h | h
  · have := zl_le (by omega) hx; omega
  · exact h
theorem zc_ok_w {s : Nat × Nat} {x : Nat} (h : zc_ok s) (hx : x < 65536) : zc_ok (zc_w s x) := by
  by_cases h0 : x = 0
  · subst h0; rw [zc_w0]; exact h
  · by_cases h1 : s.1 ≤ zl x ∧ s.2 ≤ zr x
    · rw [zc_w1 h0 h1]; exact h
    · rw [zc_w2 h0 h1]; exact Or.inr (zlr (by omega) hx)
theorem zc_V_loc {b b' : Nat → Bool} {p : Nat} {s : Nat × Nat} {x : Nat} (hs : zc_ok s) (hx : x < 65536) (h : ∀ j, p ≤ j → j < p + zc_vs s x → b' j = b j) (H : zc_V b p s x) : zc_V b' p s x := by
  by_cases h0 : x = 0
  · subst h0
    rw [zc_V0] at H ⊢
    rw [zc_vs0] at h
    exact zc_F_loc h H
  · by_cases h1 : s.1 ≤ zl x ∧ s.2 ≤ zr x
    · rw [zc_vs1 h0 h1] at h
      rw [zc_V1 h0 h1] at H ⊢
      have hz := zc_ok_use hs h0 hx h1
      exact ⟨zc_F_loc (fun j _ _ => h j (by omega) (by omega)) H.1, zc_F_loc (fun j _ _ => h j (by omega) (by omega)) H.2⟩
    · rw [zc_vs2 h0 h1] at h
      rw [zc_V2 h0 h1] at H ⊢
      have hz := zlr (x := x) (by omega) hx
      exact ⟨zc_F_loc (fun j _ _ => h j (by omega) (by omega)) H.1, zc_F_loc (fun j _ _ => h j (by omega) (by omega)) H.2.1, zc_F_loc (fun j _ _ => h j (by omega) (by omega)) H.2.2.1, zc_F_loc (fun j _ _ => h j (by omega) (by omega)) H.2.2.2⟩
/-! a chunk's points -/
def zc_g (T : Nat → Nat) : Nat → Nat
  | 0 => 0
  | i + 1 => T (i + 1) - T i
def zc_d (T : Nat → Nat) (i : Nat) : Int := (zc_g T (i + 1) : Int) - (zc_g T i : Int)
def zc_x (W : Nat → Nat) (i : Nat) : Nat := W (i + 1) ^^^ W i
def zc_wd (W : Nat → Nat) : Nat → Nat × Nat
  | 0 => (16, 0)
  | i + 1 => zc_w (zc_wd W i) (zc_x W i)
def zc_ps (T W : Nat → Nat) : Nat → Nat
  | 0 => 32
  | i + 1 => zc_ps T W i + zc_gs (zc_d T i) + zc_vs (zc_wd W i) (zc_x W i)
def zc_E (b : Nat → Bool) (T W : Nat → Nat) (m : Nat) : Prop := zc_F b 0 16 (T 0) ∧ zc_F b 16 16 (W 0) ∧
  ∀ i, i + 1 < m → zc_G b (zc_ps T W i) (zc_d T i) ∧ zc_V b (zc_ps T W i + zc_gs (zc_d T i)) (zc_wd W i) (zc_x W i)
theorem zc_ps_le (T W : Nat → Nat) : ∀ i, 32 ≤ zc_ps T W i ∧ zc_ps T W i ≤ 32 + 47 * i := by
  intro i
  induction i with
  | zero => exact ⟨Nat.le_refl _, Nat.le_refl _⟩
  | succ i ih =>
    have h1 := zc_gs_le (zc_d T i)
    have h2 := zc_vs_le (zc_wd W i) (zc_x W i)
    rw [zc_ps]
    omega
theorem zc_ps_mono (T W : Nat → Nat) (i : Nat) : ∀ k, zc_ps T W i ≤ zc_ps T W (i + k) := by
  intro k
  induction k with
  | zero => exact Nat.le_refl _
  | succ k ih => rw [← Nat.add_assoc, zc_ps]; omega
theorem zc_x_lt {W : Nat → Nat} {i : Nat} (h1 : W (i + 1) < 65536) (h0 : W i < 65536) : zc_x W i < 65536 := Nat.xor_lt_two_pow (n := 16) h1 h0
theorem zc_wd_ok {W : Nat → Nat} : ∀ i, (∀ j, j ≤ i → W j < 65536) → zc_ok (zc_wd W i) := by
  intro i
  induction i with
  | zero => intro _; exact Or.inl rfl
  | succ i ih => intro h; exact zc_ok_w (ih (fun j hj => h j (by omega))) (zc_x_lt (h _ (by omega)) (h _ (by omega)))
theorem zc_E_loc {b b' : Nat → Bool} {T W : Nat → Nat} {m : Nat} (hm : 1 ≤ m) (hW : ∀ j, j < m → W j < 65536) (h : ∀ j, j < zc_ps T W (m - 1) → b' j = b j) (H : zc_E b T W m) : zc_E b' T W m := by
  have h32 := (zc_ps_le T W (m - 1)).1
  refine ⟨zc_F_loc (fun j _ _ => h j (by omega)) H.1, zc_F_loc (fun j _ _ => h j (by omega)) H.2.1, fun i hi => ?_⟩
  have hmo := zc_ps_mono T W (i + 1) (m - 1 - (i + 1))
  rw [show i + 1 + (m - 1 - (i + 1)) = m - 1 from by omega, zc_ps] at hmo
  exact ⟨zc_G_loc (fun j _ _ => h j (by omega)) (H.2.2 i hi).1, zc_V_loc (zc_wd_ok i (fun j hj => hW j (by omega))) (zc_x_lt (hW _ (by omega)) (hW _ (by omega))) (fun j _ _ => h j (by omega)) (H.2.2 i hi).2⟩
/-! dependence on the points below m alone -/
theorem zc_g_cg {T T' : Nat → Nat} {i : Nat} (h : ∀ j, j ≤ i → T' j = T j) : zc_g T' i = zc_g T i := by
  cases i with
  | zero => rfl
  | succ i => rw [zc_g, zc_g, h _ (by omega), h _ (by omega)]
theorem zc_d_cg {T T' : Nat → Nat} {i : Nat} (h : ∀ j, j ≤ i + 1 → T' j = T j) : zc_d T' i = zc_d T i := by
  unfold zc_d
  rw [zc_g_cg (i := i + 1) h, zc_g_cg (i := i) (fun j hj => h j (by omega))]
theorem zc_x_cg {W W' : Nat → Nat} {i : Nat} (h : ∀ j, j ≤ i + 1 → W' j = W j) : zc_x W' i = zc_x W i := by
  unfold zc_x
  rw [h _ (by omega), h _ (by omega)]
theorem zc_wd_cg {W W' : Nat → Nat} : ∀ i, (∀ j, j ≤ i → W' j = W j) → zc_wd W' i = zc_wd W i := by
  intro i
  induction i with
  | zero => intro _; rfl
  | succ i ih => intro h; rw [zc_wd, zc_wd, ih (fun j hj => h j (by omega)), zc_x_cg h]
theorem zc_ps_cg {T T' W W' : Nat → Nat} : ∀ i, (∀ j, j ≤ i → T' j = T j) → (∀ j, j ≤ i → W' j = W j) → zc_ps T' W' i = zc_ps T W i := by
  intro i
  induction i with
  | zero => intro _ _; rfl
  | succ i ih => intro hT hW; rw [zc_ps, zc_ps, ih (fun j hj => hT j (by omega)) (fun j hj => hW j (by omega)), zc_d_cg hT, zc_x_cg hW, zc_wd_cg i (fun j hj => hW j (by omega))]
theorem zc_E_cg {b : Nat → Bool} {T T' W W' : Nat → Nat} {m : Nat} (hm : 1 ≤ m) (hT : ∀ j, j < m → T' j = T j) (hW : ∀ j, j < m → W' j = W j) (H : zc_E b T W m) : zc_E b T' W' m := by
  refine ⟨?_, ?_, fun i hi => ?_⟩
  · rw [hT 0 (by omega)]; exact H.1
  · rw [hW 0 (by omega)]; exact H.2.1
  · rw [zc_ps_cg i (fun j hj => hT j (by omega)) (fun j hj => hW j (by omega)), zc_d_cg (fun j hj => hT j (by omega)), zc_x_cg (fun j hj => hW j (by omega)), zc_wd_cg i (fun j hj => hW j (by omega))]
    exact H.2.2 i hi
/-! sums, least, greatest of a chunk -/
def zc_sm (W : Nat → Nat) : Nat → Nat
  | 0 => 0
  | m + 1 => zc_sm W m + W m
def zc_lo (W : Nat → Nat) : Nat → Nat
  | 0 => 65535
  | m + 1 => if zc_lo W m ≤ W m then zc_lo W m else W m
def zc_hi (W : Nat → Nat) : Nat → Nat
  | 0 => 0
  | m + 1 => if W m ≤ zc_hi W m then zc_hi W m else W m
theorem zc_sm_cg {W W' : Nat → Nat} : ∀ m, (∀ j, j < m → W' j = W j) → zc_sm W' m = zc_sm W m := by
  intro m
  induction m with
  | zero => intro _; rfl
  | succ m ih => intro h; rw [zc_sm, zc_sm, ih (fun j hj => h j (by omega)), h m (by omega)]
theorem zc_lo_cg {W W' : Nat → Nat} : ∀ m, (∀ j, j < m → W' j = W j) → zc_lo W' m = zc_lo W m := by
  intro m
  induction m with
  | zero => intro _; rfl
  | succ m ih => intro h; rw [zc_lo, zc_lo, ih (fun j hj => h j (by omega)), h m (by omega)]
theorem zc_hi_cg {W W' : Nat → Nat} : ∀ m, (∀ j, j < m → W' j = W j) → zc_hi W' m = zc_hi W m := by
  intro m
  induction m with
  | zero => intro _; rfl
  | succ m ih => intro h; rw [zc_hi, zc_hi, ih (fun j hj => h j (by omega)), h m (by omega)]
theorem zc_sm_le {W : Nat → Nat} : ∀ m, (∀ j, j < m → W j < 65536) → zc_sm W m ≤ 65535 * m := by
  intro m
  induction m with
  | zero => intro _; exact Nat.le_refl _
  | succ m ih => intro h; have h1 := ih (fun j hj => h j (by omega)); have h2 := h m (by omega); rw [zc_sm]; omega
theorem zc_lo_le {W : Nat → Nat} : ∀ m, zc_lo W m ≤ 65535 := by
  intro m
  induction m with
  | zero => exact Nat.le_refl _
  | succ m ih => rw [zc_lo]; split <;> omega
theorem zc_hi_le {W : Nat → Nat} : ∀ m, (∀ j, j < m → W j < 65536) → zc_hi W m ≤ 65535 := by
  intro m
  induction m with
  | zero => intro _; exact Nat.zero_le _
  | succ m ih => intro h; have h1 := ih (fun j hj => h j (by omega)); have h2 := h m (by omega); rw [zc_hi]; split <;> omega
/-! a chunk with its header; all chunks; the points -/
def zc_K (ba ua fa la ta wa ha : Nat → Int32) (c : Nat) (T W : Nat → Nat) (m : Nat) : Prop :=
  ua c = nI (zc_ps T W (m - 1)) ∧ fa c = nI (T 0) ∧ la c = nI (T (m - 1)) ∧ ta c = nI (zc_sm W m) ∧ wa c = nI (zc_lo W m) ∧ ha c = nI (zc_hi W m) ∧ zc_E (zc_b ba c) T W m
theorem zc_K_cg {ba ua fa la ta wa ha : Nat → Int32} {c : Nat} {T T' W W' : Nat → Nat} {m : Nat} (hm : 1 ≤ m) (hT : ∀ j, j < m → T' j = T j) (hW : ∀ j, j < m → W' j = W j) (H : zc_K ba ua fa la ta wa ha c T W m) : zc_K ba ua fa la ta wa ha c T' W' m := by
  obtain ⟨h1, h2, h3, h4, h5, h6, h7⟩ := H
  refine ⟨?_, ?_, ?_, ?_, ?_, ?_, zc_E_cg hm hT hW h7⟩
  · rw [zc_ps_cg (m - 1) (fun j hj => hT j (by omega)) (fun j hj => hW j (by omega))]; exact h1
  · rw [hT 0 (by omega)]; exact h2
  · rw [hT (m - 1) (by omega)]; exact h3
  · rw [zc_sm_cg m hW]; exact h4
  · rw [zc_lo_cg m hW]; exact h5
  · rw [zc_hi_cg m hW]; exact h6
theorem zc_K_keep {ba ua fa la ta wa ha ba' ua' fa' la' ta' wa' ha' : Nat → Int32} {c c' : Nat} {T W : Nat → Nat} {m : Nat} (hm : 1 ≤ m) (hm2 : m ≤ 16) (hW : ∀ j, j < m → W j < 65536)
    (e1 : ua' c' = ua c) (e2 : fa' c' = fa c) (e3 : la' c' = la c) (e4 : ta' c' = ta c) (e5 : wa' c' = wa c) (e6 : ha' c' = ha c) (e7 : ∀ j, j < 768 → zc_b ba' c' j = zc_b ba c j)
    (H : zc_K ba ua fa la ta wa ha c T W m) : zc_K ba' ua' fa' la' ta' wa' ha' c' T W m := by
  obtain ⟨h1, h2, h3, h4, h5, h6, h7⟩ := H
  have := (zc_ps_le T W (m - 1)).2
  exact ⟨e1.trans h1, e2.trans h2, e3.trans h3, e4.trans h4, e5.trans h5, e6.trans h6, zc_E_loc hm hW (fun j hj => e7 j (by omega)) h7⟩
def zc_s (f : Nat → Nat) (c : Nat) : Nat → Nat := fun i => f (16 * c + i)
def zc_m (n c : Nat) : Nat := if n - 16 * c < 16 then n - 16 * c else 16
theorem zc_m_sp (n c : Nat) : zc_m n c ≤ 16 ∧ zc_m n c ≤ n - 16 * c ∧ (zc_m n c = 16 ∨ zc_m n c = n - 16 * c) := by unfold zc_m; split <;> omega
def zc_X (n : Nat) (t w : Nat → Nat) (ba ua fa la ta wa ha : Nat → Int32) : Prop := ∀ c, 16 * c < n → zc_K ba ua fa la ta wa ha c (zc_s t c) (zc_s w c) (zc_m n c)
def zc_T (n : Nat) (t w : Nat → Nat) : Prop := n ≤ 64 ∧ (∀ i, i < n → t i ≤ 60000) ∧ (∀ i, i + 1 < n → t i ≤ t (i + 1)) ∧ (∀ i, i < n → w i < 65536)
def zc_Y (n : Nat) (t w : Nat → Nat) (yt yv : Nat → Int32) : Prop := ∀ i, i < n → yt i = nI (t i) ∧ yv i = nI (w i)
/-- the writer's state behind point m - 1 of a chunk -/
def zc_P (T W : Nat → Nat) (m : Nat) (gb vb le tr : Int32) : Prop := gb = nI (zc_g T (m - 1)) ∧ vb = nI (W (m - 1)) ∧ zc_N (zc_wd W (m - 1)) le tr
/-- the reader's arrays -/
def zc_Q (T W : Nat → Nat) (m : Nat) (ma va : Nat → Int32) : Prop := ∀ j, j < m → ma j = nI (T j) ∧ va j = nI (W j)
theorem zc_X_cg {n : Nat} {t w t' w' : Nat → Nat} {ba ua fa la ta wa ha : Nat → Int32} (ht : ∀ j, j < n → t' j = t j) (hw : ∀ j, j < n → w' j = w j) (H : zc_X n t w ba ua fa la ta wa ha) : zc_X n t' w' ba ua fa la ta wa ha := by
  intro c hc
  have hm := zc_m_sp n c
  exact zc_K_cg (by omega) (fun j hj => ht _ (by omega)) (fun j hj => hw _ (by omega)) (H c hc)
theorem zc_T_mono {n : Nat} {t w : Nat → Nat} (h : zc_T n t w) (i : Nat) : ∀ k, i + k < n → t i ≤ t (i + k) := by
  intro k
  induction k with
  | zero => intro _; exact Nat.le_refl _
  | succ k ih => intro hk; have h1 := ih (by omega); have h2 := h.2.2.1 (i + k) (by omega); rw [← Nat.add_assoc]; omega
theorem zc_T_mono' {n : Nat} {t w : Nat → Nat} (h : zc_T n t w) {i j : Nat} (hij : i ≤ j) (hj : j < n) : t i ≤ t j := by
  have := zc_T_mono h i (j - i) (by omega)
  rw [show i + (j - i) = j from by omega] at this
  exact this
end
section
/-! put, get, zerosBefore, zerosBehind -/
section
variable {cn gb vb le tr ck cu fc fs fl fh : Int32} {ba ua fa la ta wa ha ma va : Nat → Int32}
theorem zc_upd_upd {f : Nat → Int32} {k : Nat} {x y : Int32} : upd (upd f k x) k y = upd f k y := by
  funext j
  by_cases h : j = k
  · subst h; rw [pk_us, pk_us]
  · rw [pk_un h, pk_un h, pk_un h]
theorem zc_upd_id {f : Nat → Int32} {k : Nat} {x : Int32} (h : f k = x) : upd f k x = f := by
  funext j
  by_cases h2 : j = k
  · subst h2; rw [pk_us, h]
  · rw [pk_un h2]
theorem zx_put5 {c V : Nat} (hc : c < 4) (hV : V < 2 ^ 31) (post : SX → Prop) : ∀ (k p : Nat) (ba ua : Nat → Int32) (n : Nat), ua c = nI p → p + k ≤ 768 → k ≤ 17 → k < n →
    (∀ a', zc_A ba a' c p (p + k) → zc_F (zc_b a' c) p k V → post (cn, gb, vb, le, tr, ck, cu, fc, fs, fl, fh, a', upd ua c (nI (p + k)), fa, la, ta, wa, ha, ma, va)) →
    wX_put_5 post (nI c) (nI V) cn gb vb le tr ck cu fc fs fl fh n (nI k - 1) ba ua fa la ta wa ha ma va := by
  intro k
  induction k with
  | zero =>
    intro p ba ua n hu hp hk hn K
    obtain ⟨n, rfl⟩ : ∃ m, n = m + 1 := ⟨n - 1, by omega⟩
    have h := K ba zc_A_rf (fun j h => absurd h (Nat.not_lt_zero _))
    rw [zc_upd_id (x := nI (p + 0)) hu] at h
    exact br_t (by decide) h
  | succ k ih =>
    intro p ba ua n hu hp hk hn K
    obtain ⟨n, rfl⟩ : ∃ m, n = m + 1 := ⟨n - 1, by omega⟩
    rw [nI_pred]
    have hci : vp_in (nI c) 4 := vp_in_nI hc (by decide)
    have hcl : (nI c).toNatClampNeg = c := nI_clamp (by omega)
    have h5 : vp_in (nI (24 * c + p / 32)) 96 := vp_in_nI (by omega) (by decide)
    have hcl5 : (nI (24 * c + p / 32)).toNatClampNeg = 24 * c + p / 32 := nI_clamp (by omega)
    have e5 : (nI c * 24) + ((ua (nI c).toNatClampNeg) >>> ((5 : Int32) &&& 31)) = nI (24 * c + p / 32) := by
      rw [hcl, hu]; exact zc_at (by omega)
    have e6 : (1 : Int32) <<< (((ua (nI c).toNatClampNeg) &&& 31) &&& 31) = (1 : Int32) <<< (nI (p % 32) &&& 31) := by
      rw [hcl, hu, zc_and31 (by omega)]
    have step : ∀ a', (∀ c' j, j < 768 → zc_b a' c' j = if c' = c ∧ j = p then V.testBit k else zc_b ba c' j) →
        wX_put_87 post (wX_put_5 post (nI c) (nI V) cn gb vb le tr ck cu fc fs fl fh n) (nI c) (nI V) (nI k) cn gb vb le tr ck cu fc fs fl fh a' ua fa la ta wa ha ma va := by
      intro a' ha'
      refine And.intro hci (And.intro hci (nm_r (e' := upd ua c (nI (p + 1))) (by rw [hcl, hu, nI_1]) (nm_r (e' := nI k - 1) (by rw [Int32.sub_eq_add_neg]) ?_)))
      refine ih (p + 1) a' _ n pk_us (by omega) (by omega) (by omega) (fun a'' hA hF => ?_)
      rw [zc_upd_upd, show p + 1 + k = p + (k + 1) from by omega]
      refine K a'' ?_ ?_
      · intro c' j h4 h7 h
        rw [hA c' j h4 h7 (fun e => by have := h e; omega), ha' c' j h7, if_neg (by rintro ⟨e, e2⟩; have := h e; omega)]
      · intro j hj
        cases j with
        | zero =>
          rw [Nat.add_zero, hA c p hc (by omega) (fun _ => Or.inl (by omega)), ha' c p (by omega), if_pos ⟨rfl, rfl⟩]
          exact congrArg V.testBit (by omega)
        | succ j =>
          have := hF j (by omega)
          rw [show p + (j + 1) = p + 1 + j from by omega, this]
          exact congrArg V.testBit (by omega)
    refine br_f (nI_pos (by omega)) (And.intro hci (nm_r e5 (And.intro hci (nm_r e6 ?_))))
    rw [zc_bit hV (by omega), hcl5]
    cases hb : V.testBit k with
    | true =>
      refine br_t (by decide) (And.intro h5 (And.intro h5 (nm_e (step _ ?_))))
      rw [hb]
      exact zc_set (by omega) _ true (zc_or (Nat.mod_lt _ (by decide)))
    | false =>
      refine br_f (by decide) (And.intro h5 (And.intro h5 (nm_e (step _ ?_))))
      rw [hb]
      exact zc_set (by omega) _ false (zc_cl (Nat.mod_lt _ (by decide)))
theorem zx_put {c V p k : Nat} {post : SX → Prop} (hc : c < 4) (hV : V < 2 ^ 31) (hu : ua c = nI p) (hp : p + k ≤ 768) (hk : k ≤ 17)
    (K : ∀ a', zc_A ba a' c p (p + k) → zc_F (zc_b a' c) p k V → post (cn, gb, vb, le, tr, ck, cu, fc, fs, fl, fh, a', upd ua c (nI (p + k)), fa, la, ta, wa, ha, ma, va)) :
    wpX_put post (cn, gb, vb, le, tr, ck, cu, fc, fs, fl, fh, ba, ua, fa, la, ta, wa, ha, ma, va) (nI c) (nI k) (nI V) := by
  intro x e
  subst e
  exact ⟨k + 1, zx_put5 hc hV post k p ba ua (k + 1) hu hp hk (by omega) K⟩
theorem zx_get4 {c V p k : Nat} (hc : c < 4) (hk : k ≤ 17) (hV : V < 2 ^ k) (hp : p + k ≤ 768) (hF : zc_F (zc_b ba c) p k V) (post : Int32 → SX → Prop) (K : post (nI V) (cn, gb, vb, le, tr, nI c, nI (p + k), fc, fs, fl, fh, ba, ua, fa, la, ta, wa, ha, ma, va)) :
    ∀ (f i n : Nat), i + f = k → f < n → wX_get_4 post (nI k) cn gb vb le tr (nI c) fc fs fl fh ba ua fa la ta wa ha ma va n (nI (V / 2 ^ f)) (nI i) (nI (p + i)) := by
  have hV2 : V < 2 ^ 17 := Nat.lt_of_lt_of_le hV (Nat.pow_le_pow_right (by decide) hk)
  intro f
  induction f with
  | zero =>
    intro i n hi hn
    obtain ⟨n, rfl⟩ : ∃ m, n = m + 1 := ⟨n - 1, by omega⟩
    obtain rfl : i = k := by omega
    rw [Nat.pow_zero, Nat.div_one]
    exact br_t (nI_le (Nat.le_refl _) (by omega)) K
  | succ f ih =>
    intro i n hi hn
    obtain ⟨n, rfl⟩ : ∃ m, n = m + 1 := ⟨n - 1, by omega⟩
    have h5 : vp_in (nI (24 * c + (p + i) / 32)) 96 := vp_in_nI (by omega) (by decide)
    have hcl5 : (nI (24 * c + (p + i) / 32)).toNatClampNeg = 24 * c + (p + i) / 32 := nI_clamp (by omega)
    refine br_f (nI_ge (by omega) (by omega)) (nm_r (zc_at (by omega)) (And.intro h5 (nm_r (e' := nI (V / 2 ^ f)) ?_ (nm_r (e' := nI (p + (i + 1))) (by rw [nI_1]; rfl) (nm_r (nI_1 i) (ih (i + 1) n (by omega) (by omega)))))))
    have hb : ((ba (24 * c + (p + i) / 32)) >>> (((nI (p + i)) &&& 31) &&& 31)) &&& 1 = nI (V / 2 ^ f % 2) := by
      rw [zc_and31 (by omega)]
      have hbit := hF i (by omega)
      rw [show k - 1 - i = f from by omega] at hbit
      rw [← Nat.toNat_testBit, ← hbit]
      exact zc_one (Nat.mod_lt _ (by decide))
    rw [hcl5, hb, show (2 : Int32) = nI 2 from rfl, pk_mul, nI_add]
    have hd : V / 2 ^ (f + 1) = V / 2 ^ f / 2 := by rw [Nat.pow_succ, Nat.div_div_eq_div_mul]
    exact congrArg nI (by rw [hd]; omega)
theorem zx_get {c V p k : Nat} {post : Int32 → SX → Prop} (hc : c < 4) (hk : k ≤ 17) (hV : V < 2 ^ k) (hp : p + k ≤ 768) (hF : zc_F (zc_b ba c) p k V) (K : post (nI V) (cn, gb, vb, le, tr, nI c, nI (p + k), fc, fs, fl, fh, ba, ua, fa, la, ta, wa, ha, ma, va)) :
    wpX_get post (cn, gb, vb, le, tr, nI c, nI p, fc, fs, fl, fh, ba, ua, fa, la, ta, wa, ha, ma, va) (nI k) := by
  have h := zx_get4 (cn := cn) (gb := gb) (vb := vb) (le := le) (tr := tr) (fc := fc) (fs := fs) (fl := fl) (fh := fh) hc hk hV hp hF post K k 0 (k + 1) (by omega) (by omega)
  rw [Nat.div_eq_of_lt hV] at h
  exact ⟨k + 1, h⟩
theorem zx_zb5 {V : Nat} (hV : V < 2 ^ 31) (post : Int32 → Prop) : ∀ (f k n : Nat), f + k = 16 → f < n → post (nI (zl_n V f k)) → wX_zerosBefore_5 post (nI V) cn gb vb le tr ck cu fc fs fl fh ba ua fa la ta wa ha ma va n (nI k) (nI f - 1) := by
  intro f
  induction f with
  | zero =>
    intro k n hk hn K
    obtain ⟨n, rfl⟩ : ∃ m, n = m + 1 := ⟨n - 1, by omega⟩
    exact br_t (by decide) K
  | succ f ih =>
    intro k n hk hn K
    obtain ⟨n, rfl⟩ : ∃ m, n = m + 1 := ⟨n - 1, by omega⟩
    rw [nI_pred]
    rw [zl_n, show 15 - k = f from by omega] at K
    refine br_f (nI_pos (by omega)) ?_
    rw [zc_bit hV (by omega)]
    cases hb : V.testBit f with
    | true =>
      rw [hb, if_pos rfl] at K
      exact br_f (by decide) K
    | false =>
      rw [hb, if_neg (by decide)] at K
      exact br_t (by decide) (nm_r (nI_1 k) (nm_r (e' := nI f - 1) (by rw [Int32.sub_eq_add_neg]) (ih (k + 1) n (by omega) (by omega) K)))
theorem zx_zb {V : Nat} {post : Int32 → Prop} (hV : V < 2 ^ 31) (K : post (nI (zl V))) : wpX_zerosBefore post (cn, gb, vb, le, tr, ck, cu, fc, fs, fl, fh, ba, ua, fa, la, ta, wa, ha, ma, va) (nI V) :=
  ⟨17, zx_zb5 hV post 16 0 17 rfl (by omega) K⟩
theorem zx_zr4 {V : Nat} (hV : V < 2 ^ 31) (post : Int32 → Prop) : ∀ (f k n : Nat), f + k = 16 → f < n → post (nI (zr_n V f k)) → wX_zerosBehind_4 post (nI V) cn gb vb le tr ck cu fc fs fl fh ba ua fa la ta wa ha ma va n (nI k) (nI k) := by
  intro f
  induction f with
  | zero =>
    intro k n hk hn K
    obtain ⟨n, rfl⟩ : ∃ m, n = m + 1 := ⟨n - 1, by omega⟩
    exact br_t (nI_le (a := 16) (by omega) (by omega)) K
  | succ f ih =>
    intro k n hk hn K
    obtain ⟨n, rfl⟩ : ∃ m, n = m + 1 := ⟨n - 1, by omega⟩
    rw [zr_n] at K
    refine br_f (nI_ge (b := 16) (by omega) (by decide)) ?_
    rw [zc_bit hV (by omega)]
    cases hb : V.testBit k with
    | true =>
      rw [hb, if_pos rfl] at K
      exact br_f (by decide) K
    | false =>
      rw [hb, if_neg (by decide)] at K
      exact br_t (by decide) (nm_r (nI_1 k) (nm_r (nI_1 k) (ih (k + 1) n (by omega) (by omega) K)))
theorem zx_zr {V : Nat} {post : Int32 → Prop} (hV : V < 2 ^ 31) (K : post (nI (zr V))) : wpX_zerosBehind post (cn, gb, vb, le, tr, ck, cu, fc, fs, fl, fh, ba, ua, fa, la, ta, wa, ha, ma, va) (nI V) :=
  ⟨17, zx_zr4 hV post 16 0 17 rfl (by omega) K⟩
end
end
section
/-! writing and reading a gap change and a value change -/
section
variable {cn gb vb le tr ck cu fc fs fl fh : Int32} {ba ua fa la ta wa ha ma va : Nat → Int32}
theorem zx_wgc80 {c p : Nat} {d : Int32} {D : Int} {post : SX → Prop} (hc : c < 4) (hd : d.toInt = D) (hD : -60000 ≤ D ∧ D ≤ 60000) (hu : ua c = nI p) (hp : p + 21 ≤ 768) (h3 : ¬ (-63 ≤ D ∧ D ≤ 64))
    (K : ∀ a', zc_A ba a' c p (p + zc_gs D) → zc_G (zc_b a' c) p D → post (cn, gb, vb, le, tr, ck, cu, fc, fs, fl, fh, a', upd ua c (nI (p + zc_gs D)), fa, la, ta, wa, ha, ma, va)) :
    wX_writeGapChange_80 post (nI c) d cn gb vb le tr ck cu fc fs fl fh ba ua fa la ta wa ha ma va := by
  rw [zc_gs3 h3] at K
  unfold wX_writeGapChange_80
  refine zx_put (V := 7) (k := 3) (p := p) hc (by decide) hu (by omega) (by decide) (fun a1 hA1 hF1 => ?_)
  refine zi_le 0 D (by decide) hd (fun h0 => ?_) (fun h0 => ?_)
  · unfold wX_writeGapChange_100
    refine zx_put (V := 0) (k := 1) (p := p + 3) hc (by decide) pk_us (by omega) (by decide) (fun a2 hA2 hF2 => ?_)
    refine br_t (by rw [Int32.le_iff_toInt_le, hd]; exact h0) ?_
    unfold wX_writeGapChange_117
    rw [show d = nI D.natAbs from (zi_nat hd h0).trans (congrArg nI (by omega))]
    refine zx_put (V := D.natAbs) (k := 17) (p := p + 4) hc (by omega) pk_us (by omega) (by decide) (fun a3 hA3 hF3 => ?_)
    have e := K a3 (zc_A_tr (zc_A_tr hA1 hA2 (by omega) (by omega)) hA3 (by omega) (by omega)) (by
      rw [zc_G3 h3, if_neg (by omega)]
      exact ⟨zc_F_keep (zc_F_keep hF1 hA2 (by omega) (by omega) hc) hA3 (by omega) (by omega) hc, zc_F_keep hF2 hA3 (by omega) (by omega) hc, hF3⟩)
    rw [zc_upd_upd, zc_upd_upd]
    exact e
  · unfold wX_writeGapChange_100
    refine zx_put (V := 1) (k := 1) (p := p + 3) hc (by decide) pk_us (by omega) (by decide) (fun a2 hA2 hF2 => ?_)
    refine br_f (by rw [Int32.le_iff_toInt_le, hd]; exact Int.not_le.mpr h0) ?_
    unfold wX_writeGapChange_117
    rw [show -d = nI D.natAbs from (zi_nat (zi_neg hd (by omega) (by omega)) (by omega)).trans (congrArg nI (by omega))]
    refine zx_put (V := D.natAbs) (k := 17) (p := p + 4) hc (by omega) pk_us (by omega) (by decide) (fun a3 hA3 hF3 => ?_)
    have e := K a3 (zc_A_tr (zc_A_tr hA1 hA2 (by omega) (by omega)) hA3 (by omega) (by omega)) (by
      rw [zc_G3 h3, if_pos h0]
      exact ⟨zc_F_keep (zc_F_keep hF1 hA2 (by omega) (by omega) hc) hA3 (by omega) (by omega) hc, zc_F_keep hF2 hA3 (by omega) (by omega) hc, hF3⟩)
    rw [zc_upd_upd, zc_upd_upd]
    exact e
theorem zx_wgc46 {c p : Nat} {d : Int32} {D : Int} {post : SX → Prop} (hc : c < 4) (hd : d.toInt = D) (hD : -60000 ≤ D ∧ D ≤ 60000) (hu : ua c = nI p) (hp : p + 21 ≤ 768) (h1 : ¬ (-7 ≤ D ∧ D ≤ 8))
    (K : ∀ a', zc_A ba a' c p (p + zc_gs D) → zc_G (zc_b a' c) p D → post (cn, gb, vb, le, tr, ck, cu, fc, fs, fl, fh, a', upd ua c (nI (p + zc_gs D)), fa, la, ta, wa, ha, ma, va)) :
    wX_writeGapChange_46 post (nI c) d cn gb vb le tr ck cu fc fs fl fh ba ua fa la ta wa ha ma va := by
  unfold wX_writeGapChange_46
  refine zi_lt D (-63) hd (by decide) (fun h => zx_wgc80 hc hd hD hu hp (by omega) K) (fun h => ?_)
  refine zi_lt 64 D (by decide) hd (fun h => zx_wgc80 hc hd hD hu hp (by omega) K) (fun h2 => ?_)
  have h3 : -63 ≤ D ∧ D ≤ 64 := ⟨h, h2⟩
  rw [zc_gs2 h1 h3] at K
  have e63 : d + 63 = nI (D + 63).toNat := zi_nat (zi_add hd (by decide) (by omega) (by omega)) (by omega)
  rw [e63]
  refine zx_put (V := 6) (k := 3) (p := p) hc (by decide) hu (by omega) (by decide) (fun a1 hA1 hF1 => ?_)
  refine zx_put (V := (D + 63).toNat) (k := 7) (p := p + 3) hc (by omega) pk_us (by omega) (by decide) (fun a2 hA2 hF2 => ?_)
  have e := K a2 (zc_A_tr hA1 hA2 (by omega) (by omega)) (by
    rw [zc_G2 h1 h3]
    exact ⟨zc_F_keep hF1 hA2 (by omega) (by omega) hc, hF2⟩)
  rw [zc_upd_upd]
  exact e
theorem zx_wgc {c p : Nat} {d : Int32} {D : Int} {post : SX → Prop} (hc : c < 4) (hd : d.toInt = D) (hD : -60000 ≤ D ∧ D ≤ 60000) (hu : ua c = nI p) (hp : p + 21 ≤ 768)
    (K : ∀ a', zc_A ba a' c p (p + zc_gs D) → zc_G (zc_b a' c) p D → post (cn, gb, vb, le, tr, ck, cu, fc, fs, fl, fh, a', upd ua c (nI (p + zc_gs D)), fa, la, ta, wa, ha, ma, va)) :
    wpX_writeGapChange post (cn, gb, vb, le, tr, ck, cu, fc, fs, fl, fh, ba, ua, fa, la, ta, wa, ha, ma, va) (nI c) d := by
  unfold wpX_writeGapChange
  refine zi_eq D 0 hd (by decide) (fun h0 => ?_) (fun h0 => ?_)
  · subst h0
    refine zx_put (V := 0) (k := 1) (p := p) hc (by decide) hu (by omega) (by decide) (fun a1 hA1 hF1 => ?_)
    exact K a1 hA1 (by rw [zc_G0]; exact hF1)
  · refine zi_lt D (-7) hd (by decide) (fun h => zx_wgc46 hc hd hD hu hp (by omega) K) (fun h => ?_)
    refine zi_lt 8 D (by decide) hd (fun h => zx_wgc46 hc hd hD hu hp (by omega) K) (fun h2 => ?_)
    have h1 : -7 ≤ D ∧ D ≤ 8 := ⟨h, h2⟩
    rw [zc_gs1 h0 h1] at K
    have e7 : d + 7 = nI (D + 7).toNat := zi_nat (zi_add hd (by decide) (by omega) (by omega)) (by omega)
    rw [e7]
    refine zx_put (V := 2) (k := 2) (p := p) hc (by decide) hu (by omega) (by decide) (fun a1 hA1 hF1 => ?_)
    refine zx_put (V := (D + 7).toNat) (k := 4) (p := p + 2) hc (by omega) pk_us (by omega) (by decide) (fun a2 hA2 hF2 => ?_)
    have e := K a2 (zc_A_tr hA1 hA2 (by omega) (by omega)) (by
      rw [zc_G1 h0 h1]
      exact ⟨zc_F_keep hF1 hA2 (by omega) (by omega) hc, hF2⟩)
    rw [zc_upd_upd]
    exact e
theorem zx_wc82 {c p x : Nat} {s : Nat × Nat} {post : SX → Prop} (hc : c < 4) (h0 : x ≠ 0) (hx : x < 65536) (h1 : ¬ (s.1 ≤ zl x ∧ s.2 ≤ zr x)) (hu : ua c = nI p) (hp : p + 26 ≤ 768)
    (K : ∀ a' le' tr', zc_N (zc_w s x) le' tr' → zc_A ba a' c p (p + zc_vs s x) → zc_V (zc_b a' c) p s x → post (cn, gb, vb, le', tr', ck, cu, fc, fs, fl, fh, a', upd ua c (nI (p + zc_vs s x)), fa, la, ta, wa, ha, ma, va)) :
    wX_writeChange_82 post (nI c) (nI x) (nI (zl x)) (nI (zr x)) cn gb vb le tr ck cu fc fs fl fh ba ua fa la ta wa ha ma va := by
  have hz := zlr (x := x) (by omega) hx
  rw [zc_vs2 h0 h1, zc_w2 h0 h1] at K
  have e16 : (16 - nI (zl x)) - nI (zr x) = nI (16 - zl x - zr x) := by
    rw [show (16 : Int32) = nI 16 from rfl, pk_sub (by omega), pk_sub (by omega)]
  have es : nI x >>> (nI (zr x) &&& 31) = nI (x / 2 ^ (zr x)) := pk_shrN (by omega) _ _ (s_l _ (by omega))
  have hxd : x / 2 ^ (zr x) ≤ x := Nat.div_le_self _ _
  unfold wX_writeChange_82
  rw [e16, es]
  refine zx_put (V := 3) (k := 2) (p := p) hc (by decide) hu (by omega) (by decide) (fun a1 hA1 hF1 => ?_)
  refine zx_put (V := zl x) (k := 4) (p := p + 2) hc (by omega) pk_us (by omega) (by decide) (fun a2 hA2 hF2 => ?_)
  refine zx_put (V := zr x) (k := 4) (p := p + 6) hc (by omega) pk_us (by omega) (by decide) (fun a3 hA3 hF3 => ?_)
  refine zx_put (V := x / 2 ^ (zr x)) (k := 16 - zl x - zr x) (p := p + 10) hc (by omega) pk_us (by omega) (by omega) (fun a4 hA4 hF4 => ?_)
  have e := K a4 _ _ (zc_N_new h0 hx) (by
      rw [show p + (26 - zl x - zr x) = p + 10 + (16 - zl x - zr x) from by omega]
      exact zc_A_tr (zc_A_tr (zc_A_tr hA1 hA2 (by omega) (by omega)) hA3 (by omega) (by omega)) hA4 (by omega) (by omega)) (by
      rw [zc_V2 h0 h1]
      exact ⟨zc_F_keep (zc_F_keep (zc_F_keep hF1 hA2 (by omega) (by omega) hc) hA3 (by omega) (by omega) hc) hA4 (by omega) (by omega) hc, zc_F_keep (zc_F_keep hF2 hA3 (by omega) (by omega) hc) hA4 (by omega) (by omega) hc, zc_F_keep hF3 hA4 (by omega) (by omega) hc, hF4⟩)
  rw [show p + (26 - zl x - zr x) = p + 10 + (16 - zl x - zr x) from by omega] at e
  rw [zc_upd_upd, zc_upd_upd, zc_upd_upd]
  exact e
theorem zx_wc {c p x : Nat} {s : Nat × Nat} {post : SX → Prop} (hc : c < 4) (hx : x < 65536) (hN : zc_N s le tr) (hu : ua c = nI p) (hp : p + 26 ≤ 768)
    (K : ∀ a' le' tr', zc_N (zc_w s x) le' tr' → zc_A ba a' c p (p + zc_vs s x) → zc_V (zc_b a' c) p s x → post (cn, gb, vb, le', tr', ck, cu, fc, fs, fl, fh, a', upd ua c (nI (p + zc_vs s x)), fa, la, ta, wa, ha, ma, va)) :
    wpX_writeChange post (cn, gb, vb, le, tr, ck, cu, fc, fs, fl, fh, ba, ua, fa, la, ta, wa, ha, ma, va) (nI c) (nI x) := by
  unfold wpX_writeChange
  refine pk_eq x 0 (fun h0 => ?_) (fun h0 => ?_)
  · subst h0
    rw [zc_w0, zc_vs0] at K
    refine zx_put (V := 0) (k := 1) (p := p) hc (by decide) hu (by omega) (by decide) (fun a1 hA1 hF1 => ?_)
    exact K a1 le tr hN hA1 (by rw [zc_V0]; exact hF1)
  · have hl := zl_le (x := x) (by omega) hx
    have hz := zlr (x := x) (by omega) hx
    refine zx_zb (by omega) (zx_zr (by omega) ?_)
    rcases hN with ⟨hs, rfl, rfl⟩ | ⟨hs, rfl⟩
    · refine br_f (nI_pos (by omega)) ?_
      refine pk_lt (zl x) s.1 (fun h => zx_wc82 hc h0 hx (by omega) hu hp K) (fun h => ?_)
      refine pk_lt (zr x) s.2 (fun h => zx_wc82 hc h0 hx (by omega) hu hp K) (fun h2 => ?_)
      have h1 : s.1 ≤ zl x ∧ s.2 ≤ zr x := ⟨h, h2⟩
      rw [zc_vs1 h0 h1, zc_w1 h0 h1] at K
      have e16 : (16 - nI s.1) - nI s.2 = nI (16 - s.1 - s.2) := by
        rw [show (16 : Int32) = nI 16 from rfl, pk_sub (by omega), pk_sub (by omega)]
      have es : nI x >>> (nI s.2 &&& 31) = nI (x / 2 ^ s.2) := pk_shrN (by omega) _ _ (s_l _ (by omega))
      have hxd : x / 2 ^ s.2 ≤ x := Nat.div_le_self _ _
      refine zx_put (V := 2) (k := 2) (p := p) hc (by decide) hu (by omega) (by decide) (fun a1 hA1 hF1 => ?_)
      dsimp only
      rw [e16, es]
      refine zx_put (V := x / 2 ^ s.2) (k := 16 - s.1 - s.2) (p := p + 2) hc (by omega) pk_us (by omega) (by omega) (fun a2 hA2 hF2 => ?_)
      have e := K a2 _ _ (Or.inl ⟨hs, rfl, rfl⟩) (by
        rw [show p + (18 - s.1 - s.2) = p + 2 + (16 - s.1 - s.2) from by omega]
        exact zc_A_tr hA1 hA2 (by omega) (by omega)) (by
        rw [zc_V1 h0 h1]
        exact ⟨zc_F_keep hF1 hA2 (by omega) (by omega) hc, hF2⟩)
      rw [show p + (18 - s.1 - s.2) = p + 2 + (16 - s.1 - s.2) from by omega] at e
      rw [zc_upd_upd]
      exact e
    · exact br_t (by decide) (zx_wc82 hc h0 hx (by omega) hu hp K)
theorem zx_rgc {c p : Nat} {D : Int} {post : Int32 → SX → Prop} (hc : c < 4) (hD : -60000 ≤ D ∧ D ≤ 60000) (hp : p + zc_gs D ≤ 768) (hG : zc_G (zc_b ba c) p D)
    (K : ∀ r, r.toInt = D → post r (cn, gb, vb, le, tr, nI c, nI (p + zc_gs D), fc, fs, fl, fh, ba, ua, fa, la, ta, wa, ha, ma, va)) : wpX_readGapChange post (cn, gb, vb, le, tr, nI c, nI p, fc, fs, fl, fh, ba, ua, fa, la, ta, wa, ha, ma, va) := by
  unfold wpX_readGapChange
  by_cases h0 : D = 0
  · subst h0
    rw [zc_G0] at hG
    rw [zc_gs0] at hp
    refine zx_get (V := 0) (k := 1) (p := p) hc (by decide) (by decide) hp hG (br_t rfl (K 0 (by decide)))
  · by_cases h1 : -7 ≤ D ∧ D ≤ 8
    · rw [zc_G1 h0 h1] at hG
      rw [zc_gs1 h0 h1] at hp K
      obtain ⟨hG1, hG2⟩ := hG
      obtain ⟨hF1, hF2⟩ := zc_F_22 hG1
      refine zx_get (V := 1) (k := 1) (p := p) hc (by decide) (by decide) (by omega) hF1 (br_f (by decide) ?_)
      refine zx_get (V := 0) (k := 1) (p := p + 1) hc (by decide) (by decide) (by omega) hF2 (br_t rfl ?_)
      refine zx_get (V := (D + 7).toNat) (k := 4) (p := p + 2) hc (by decide) (by omega) (by omega) hG2 (K _ ?_)
      rw [zi_sub (zi_nI (by omega)) (show (7 : Int32).toInt = 7 by decide) (by omega) (by omega)]
      omega
    · by_cases h2 : -63 ≤ D ∧ D ≤ 64
      · rw [zc_G2 h1 h2] at hG
        rw [zc_gs2 h1 h2] at hp K
        obtain ⟨hG1, hG2⟩ := hG
        obtain ⟨hF1, hF2, hF3⟩ := zc_F_36 hG1
        refine zx_get (V := 1) (k := 1) (p := p) hc (by decide) (by decide) (by omega) hF1 (br_f (by decide) ?_)
        refine zx_get (V := 1) (k := 1) (p := p + 1) hc (by decide) (by decide) (by omega) hF2 (br_f (by decide) ?_)
        refine zx_get (V := 0) (k := 1) (p := p + 2) hc (by decide) (by decide) (by omega) hF3 (br_t rfl ?_)
        refine zx_get (V := (D + 63).toNat) (k := 7) (p := p + 3) hc (by decide) (by omega) (by omega) hG2 (K _ ?_)
        rw [zi_sub (zi_nI (by omega)) (show (63 : Int32).toInt = 63 by decide) (by omega) (by omega)]
        omega
      · rw [zc_G3 h2] at hG
        rw [zc_gs3 h2] at hp K
        obtain ⟨hG1, hG2, hG3⟩ := hG
        obtain ⟨hF1, hF2, hF3⟩ := zc_F_37 hG1
        refine zx_get (V := 1) (k := 1) (p := p) hc (by decide) (by decide) (by omega) hF1 (br_f (by decide) ?_)
        refine zx_get (V := 1) (k := 1) (p := p + 1) hc (by decide) (by decide) (by omega) hF2 (br_f (by decide) ?_)
        refine zx_get (V := 1) (k := 1) (p := p + 2) hc (by decide) (by decide) (by omega) hF3 (br_f (by decide) ?_)
        by_cases hn : D < 0
        · rw [if_pos hn] at hG2
          refine zx_get (V := 1) (k := 1) (p := p + 3) hc (by decide) (by decide) (by omega) hG2 ?_
          refine zx_get (V := D.natAbs) (k := 17) (p := p + 4) hc (by decide) (by omega) (by omega) hG3 (br_t rfl (K _ ?_))
          rw [zi_neg (zi_nI (by omega)) (by omega) (by omega)]
          omega
        · rw [if_neg hn] at hG2
          refine zx_get (V := 0) (k := 1) (p := p + 3) hc (by decide) (by decide) (by omega) hG2 ?_
          refine zx_get (V := D.natAbs) (k := 17) (p := p + 4) hc (by decide) (by omega) (by omega) hG3 (br_f (by decide) (K _ ?_))
          rw [zi_nI (by omega)]
          omega
theorem zx_rc37 {c p x : Nat} {s : Nat × Nat} {post : Int32 → SX → Prop} (hc : c < 4) (h0 : x ≠ 0) (hx : x < 65536) (hs : s.1 + s.2 ≤ 15) (hs1 : s.1 ≤ zl x) (hs2 : s.2 ≤ zr x) (hp : p + (16 - s.1 - s.2) ≤ 768) (hF : zc_F (zc_b ba c) p (16 - s.1 - s.2) (x / 2 ^ s.2))
    (K : post (nI x) (cn, gb, vb, nI s.1, nI s.2, nI c, nI (p + (16 - s.1 - s.2)), fc, fs, fl, fh, ba, ua, fa, la, ta, wa, ha, ma, va)) : wX_readChange_37 post cn gb vb (nI s.1) (nI s.2) (nI c) (nI p) fc fs fl fh ba ua fa la ta wa ha ma va := by
  unfold wX_readChange_37
  have e16 : (16 - nI s.1) - nI s.2 = nI (16 - s.1 - s.2) := by
    rw [show (16 : Int32) = nI 16 from rfl, pk_sub (by omega), pk_sub (by omega)]
  have es : nI (x / 2 ^ s.2) <<< (nI s.2 &&& 31) = nI x := by
    rw [pk_shlN _ s.2 (s_l _ (by omega)) (by rw [zx_back (by omega) hx hs2]; omega), zx_back (by omega) hx hs2]
  refine nm_r e16 (zx_get hc (by omega) (zx_fit (by omega) hx hs1 hs) hp hF ?_)
  dsimp only
  rw [es]
  exact K
theorem zx_rc {c p x : Nat} {s : Nat × Nat} {post : Int32 → SX → Prop} (hc : c < 4) (hx : x < 65536) (hN : zc_N s le tr) (hp : p + zc_vs s x ≤ 768) (hV : zc_V (zc_b ba c) p s x)
    (K : ∀ le' tr', zc_N (zc_w s x) le' tr' → post (nI x) (cn, gb, vb, le', tr', nI c, nI (p + zc_vs s x), fc, fs, fl, fh, ba, ua, fa, la, ta, wa, ha, ma, va)) : wpX_readChange post (cn, gb, vb, le, tr, nI c, nI p, fc, fs, fl, fh, ba, ua, fa, la, ta, wa, ha, ma, va) := by
  unfold wpX_readChange
  by_cases h0 : x = 0
  · subst h0
    rw [zc_V0] at hV
    rw [zc_vs0] at hp K
    rw [zc_w0] at K
    exact zx_get (V := 0) (k := 1) (p := p) hc (by decide) (by decide) hp hV (br_t rfl (K le tr hN))
  · by_cases h1 : s.1 ≤ zl x ∧ s.2 ≤ zr x
    · obtain ⟨hs, rfl, rfl⟩ := zc_N_use hN h0 hx h1
      rw [zc_V1 h0 h1] at hV
      rw [zc_vs1 h0 h1] at hp K
      rw [zc_w1 h0 h1] at K
      obtain ⟨hF1, hF2⟩ := zc_F_22 hV.1
      refine zx_get (V := 1) (k := 1) (p := p) hc (by decide) (by decide) (by omega) hF1 (br_f (by decide) ?_)
      refine zx_get (V := 0) (k := 1) (p := p + 1) hc (by decide) (by decide) (by omega) hF2 (br_f (by decide) ?_)
      have e := K _ _ (Or.inl ⟨hs, rfl, rfl⟩)
      rw [show p + (18 - s.1 - s.2) = p + 2 + (16 - s.1 - s.2) from by omega] at e
      exact zx_rc37 hc h0 hx hs h1.1 h1.2 (by omega) hV.2 e
    · have hz := zlr (x := x) (by omega) hx
      rw [zc_V2 h0 h1] at hV
      rw [zc_vs2 h0 h1] at hp K
      rw [zc_w2 h0 h1] at K
      obtain ⟨hV1, hV2, hV3, hV4⟩ := hV
      obtain ⟨hF1, hF2⟩ := zc_F_23 hV1
      refine zx_get (V := 1) (k := 1) (p := p) hc (by decide) (by decide) (by omega) hF1 (br_f (by decide) ?_)
      refine zx_get (V := 1) (k := 1) (p := p + 1) hc (by decide) (by decide) (by omega) hF2 (br_t rfl ?_)
      refine zx_get (V := zl x) (k := 4) (p := p + 2) hc (by decide) (by omega) (by omega) hV2 ?_
      refine zx_get (V := zr x) (k := 4) (p := p + 6) hc (by decide) (by omega) (by omega) hV3 ?_
      have e := K _ _ (zc_N_new h0 hx)
      rw [show p + (26 - zl x - zr x) = p + 10 + (16 - zl x - zr x) from by omega] at e
      exact zx_rc37 (s := (zl x, zr x)) hc h0 hx hz (Nat.le_refl _) (Nat.le_refl _) (by omega) hV4 e
end
end
section
/-! inChunk, unpack, timeNow -/
def zc_tn (t : Nat → Nat) : Nat → Nat
  | 0 => 0
  | n + 1 => t n
theorem zi_gap {a b : Nat} {r : Int32} (ha : a < 2 ^ 31) (hb : b < 2 ^ 31) (hr : r.toInt = (b : Int) - a) : nI a + r = nI b := by
  apply Int32.toInt_inj.mp
  rw [zi_add (zi_nI ha) hr (by omega) (by omega), zi_nI hb]
  omega
theorem zc_xx (a b : Nat) : a ^^^ (b ^^^ a) = b := by
  apply Nat.eq_of_testBit_eq
  intro i
  rw [Nat.testBit_xor, Nat.testBit_xor]
  cases a.testBit i <;> cases b.testBit i <;> rfl
theorem zc_Q_up {T W : Nat → Nat} {m : Nat} {ma va : Nat → Int32} (h : zc_Q T W m ma va) {a b : Int32} (ha : a = nI (T m)) (hb : b = nI (W m)) : zc_Q T W (m + 1) (upd ma m a) (upd va m b) := by
  intro j hj
  by_cases e : j = m
  · subst e; rw [pk_us, pk_us]; exact ⟨ha, hb⟩
  · rw [pk_un e, pk_un e]; exact h j (by omega)
theorem zc_g_le {T : Nat → Nat} {m i : Nat} (hT : ∀ j, j < m → T j ≤ 60000) (hi : i < m) : zc_g T i ≤ 60000 := by
  cases i with
  | zero => exact Nat.zero_le _
  | succ i => have := hT _ hi; rw [zc_g]; omega
theorem zc_d_le {T : Nat → Nat} {m i : Nat} (hT : ∀ j, j < m → T j ≤ 60000) (hi : i + 1 < m) : -60000 ≤ zc_d T i ∧ zc_d T i ≤ 60000 := by
  have h1 := zc_g_le hT hi
  have h2 := zc_g_le (i := i) hT (by omega)
  unfold zc_d
  omega
section
variable {cn gb vb le tr ck cu fc fs fl fh : Int32} {ba ua fa la ta wa ha ma va : Nat → Int32}
theorem zx_inChunk {n c : Nat} {post : Int32 → Prop} (hn : n ≤ 64) (hc : 16 * c ≤ n) (K : post (nI (zc_m n c))) : wpX_inChunk post (nI n, gb, vb, le, tr, ck, cu, fc, fs, fl, fh, ba, ua, fa, la, ta, wa, ha, ma, va) (nI c) := by
  unfold wpX_inChunk
  have e : nI n - nI c * 16 = nI (n - 16 * c) := by
    rw [show (16 : Int32) = nI 16 from rfl, pk_mul, pk_sub (by omega), Nat.mul_comm]
  refine nm_r e ?_
  unfold zc_m at K
  refine pk_le 16 (n - 16 * c) (fun h => ?_) (fun h => ?_)
  · rw [if_neg (by omega)] at K; exact K
  · rw [if_pos h] at K; exact K
theorem zx_un52 {c m : Nat} {T W : Nat → Nat} (hc : c < 4) (hm : m ≤ 16) (hT : ∀ i, i < m → T i ≤ 60000) (hmo : ∀ i, i + 1 < m → T i ≤ T (i + 1)) (hW : ∀ j, j < m → W j < 65536)
    (hE : zc_E (zc_b ba c) T W m) (post : SX → Prop)
    (K : ∀ gb vb le tr cu ma va, zc_P T W m gb vb le tr → zc_Q T W m ma va → post (cn, gb, vb, le, tr, nI c, cu, fc, fs, fl, fh, ba, ua, fa, la, ta, wa, ha, ma, va)) :
    ∀ (f j n : Nat) (gb vb le tr cu : Int32) (ma va : Nat → Int32), j + 1 + f = m → f < n → gb = nI (zc_g T j) → zc_N (zc_wd W j) le tr → zc_Q T W (j + 1) ma va → cu = nI (zc_ps T W j) →
    wX_unpack_52 post (nI m) n (nI (j + 1)) cn gb vb le tr (nI c) cu fc fs fl fh ba ua fa la ta wa ha ma va := by
  intro f
  induction f with
  | zero =>
    intro j n gb vb le tr cu ma va hj hn hg hN hQ hcu
    obtain ⟨n, rfl⟩ : ∃ m, n = m + 1 := ⟨n - 1, by omega⟩
    obtain rfl : m = j + 1 := by omega
    refine br_t (nI_le (Nat.le_refl _) (by omega)) ?_
    rw [nI_pred]
    refine And.intro (vp_in_nI (by omega) (by decide)) (nm_r (e' := nI (W j)) ?_ (K _ _ _ _ _ _ _ ⟨hg, rfl, hN⟩ hQ))
    rw [nI_clamp (by omega)]
    exact (hQ j (by omega)).2
  | succ f ih =>
    intro j n gb vb le tr cu ma va hj hn hg hN hQ hcu
    obtain ⟨n, rfl⟩ : ∃ m, n = m + 1 := ⟨n - 1, by omega⟩
    subst hg hcu
    have hEj := hE.2.2 j (by omega)
    have hps := (zc_ps_le T W (j + 1)).2
    rw [zc_ps] at hps
    have hdl := zc_d_le (i := j) hT (by omega)
    have hg1 := zc_g_le (i := j) hT (by omega)
    have hg2 := zc_g_le (i := j + 1) hT (by omega)
    have hx := zc_x_lt (hW (j + 1) (by omega)) (hW j (by omega))
    have h1 : vp_in (nI (j + 1) - 1) 16 := by rw [nI_pred]; exact vp_in_nI (by omega) (by decide)
    have h2 : vp_in (nI (j + 1)) 16 := vp_in_nI (by omega) (by decide)
    have c1 : (nI (j + 1) - 1).toNatClampNeg = j := by rw [nI_pred]; exact nI_clamp (by omega)
    have c2 : (nI (j + 1)).toNatClampNeg = j + 1 := nI_clamp (by omega)
    refine br_f (nI_ge (by omega) (by omega)) ?_
    refine zx_rgc (p := zc_ps T W j) (D := zc_d T j) hc hdl (by omega) hEj.1 (fun r hr => ?_)
    refine nm_r (e' := nI (zc_g T (j + 1))) (zi_gap (by omega) (by omega) hr) ?_
    refine And.intro h1 (And.intro h2 (nm_r (e' := upd ma (j + 1) (nI (T (j + 1)))) ?_ ?_))
    · rw [c1, c2, (hQ j (by omega)).1, nI_add, zc_g]
      have := hmo j (by omega)
      rw [show T j + (T (j + 1) - T j) = T (j + 1) from by omega]
    · refine zx_rc (p := zc_ps T W j + zc_gs (zc_d T j)) (s := zc_wd W j) (x := zc_x W j) hc hx hN (by omega) hEj.2 (fun le' tr' hN' => ?_)
      refine And.intro h1 (And.intro h2 (nm_r (e' := upd va (j + 1) (nI (W (j + 1)))) ?_ ?_))
      · rw [c1, c2, (hQ j (by omega)).2, nx_xor]
        unfold zc_x
        rw [zc_xx]
      · refine nm_r (nI_1 (j + 1)) ?_
        exact ih (j + 1) n _ _ _ _ _ _ _ (by omega) (by omega) rfl hN' (zc_Q_up hQ rfl rfl) rfl
theorem zx_unpackC {n c m : Nat} {T W : Nat → Nat} {post : SX → Prop} (hn : n ≤ 64) (hcn : 16 * c < n) (hm : zc_m n c = m) (hT : ∀ i, i < m → T i ≤ 60000) (hmo : ∀ i, i + 1 < m → T i ≤ T (i + 1)) (hW : ∀ j, j < m → W j < 65536)
    (hE : zc_E (zc_b ba c) T W m)
    (K : ∀ gb vb le tr cu ma va, zc_P T W m gb vb le tr → zc_Q T W m ma va → post (nI n, gb, vb, le, tr, nI c, cu, fc, fs, fl, fh, ba, ua, fa, la, ta, wa, ha, ma, va)) :
    wpX_unpack post (nI n, gb, vb, le, tr, ck, cu, fc, fs, fl, fh, ba, ua, fa, la, ta, wa, ha, ma, va) (nI c) := by
  have hms := zc_m_sp n c
  have hc : c < 4 := by omega
  unfold wpX_unpack
  refine zx_get (V := T 0) (k := 16) (p := 0) hc (by decide) (by have := hT 0 (by omega); omega) (by decide) hE.1 ?_
  refine nm_e ?_
  refine zx_get (V := W 0) (k := 16) (p := 16) hc (by decide) (hW 0 (by omega)) (by decide) hE.2.1 ?_
  refine nm_e ?_
  refine zx_inChunk (n := n) (c := c) hn (by omega) ?_
  rw [hm]
  refine ⟨m + 1, ?_⟩
  refine zx_un52 (T := T) (W := W) hc (by omega) hT hmo hW hE post K (m - 1) 0 (m + 1) _ _ _ _ _ _ _ (by omega) (by omega) rfl (Or.inr ⟨rfl, rfl⟩) ?_ rfl
  intro j hj
  obtain rfl : j = 0 := by omega
  exact ⟨pk_us, pk_us⟩
theorem zx_unpack {n c : Nat} {t w : Nat → Nat} {post : SX → Prop} (hT : zc_T n t w) (hX : zc_X n t w ba ua fa la ta wa ha) (hcn : 16 * c < n)
    (K : ∀ gb vb le tr cu ma va, zc_P (zc_s t c) (zc_s w c) (zc_m n c) gb vb le tr → zc_Q (zc_s t c) (zc_s w c) (zc_m n c) ma va → post (nI n, gb, vb, le, tr, nI c, cu, fc, fs, fl, fh, ba, ua, fa, la, ta, wa, ha, ma, va)) :
    wpX_unpack post (nI n, gb, vb, le, tr, ck, cu, fc, fs, fl, fh, ba, ua, fa, la, ta, wa, ha, ma, va) (nI c) := by
  have hms := zc_m_sp n c
  obtain ⟨h1, h2, h3, h4⟩ := hT
  refine zx_unpackC (T := zc_s t c) (W := zc_s w c) (m := zc_m n c) h1 hcn rfl (fun i hi => h2 _ (by omega)) (fun i hi => ?_) (fun i hi => h4 _ (by omega)) (hX c hcn).2.2.2.2.2.2 K
  have := h3 (16 * c + i) (by omega)
  exact this
theorem zx_timeNow {n : Nat} {t w : Nat → Nat} {post : Int32 → Prop} (hn : n ≤ 64) (hX : zc_X n t w ba ua fa la ta wa ha) (K : post (nI (zc_tn t n))) : wpX_timeNow post (nI n, gb, vb, le, tr, ck, cu, fc, fs, fl, fh, ba, ua, fa, la, ta, wa, ha, ma, va) := by
  unfold wpX_timeNow
  refine pk_eq n 0 (fun h => ?_) (fun h => ?_)
  · subst h; exact K
  · obtain ⟨k, rfl⟩ : ∃ k, n = k + 1 := ⟨n - 1, by omega⟩
    rw [nI_pred, zc_shr4 (by omega), nI_clamp (by omega)]
    refine And.intro (vp_in_nI (by omega) (by decide)) ?_
    have hK := (hX (k / 16) (by omega)).2.2.1
    have hm := zc_m_sp (k + 1) (k / 16)
    rw [hK]
    unfold zc_s
    rw [show 16 * (k / 16) + (zc_m (k + 1) (k / 16) - 1) = k from by omega]
    exact K
end
end
section
/-! enter, write, resume -/
theorem zc_X_next {n c : Nat} {t w : Nat → Nat} {ba ua fa la ta wa ha ba' ua' fa' la' ta' wa' ha' : Nat → Int32} (hn : n < 64) (hT : zc_T (n + 1) t w) (hc : c = n / 16) (hX : zc_X n t w ba ua fa la ta wa ha)
    (hu : ∀ i, i ≠ c → ua' i = ua i) (hf : ∀ i, i ≠ c → fa' i = fa i) (hl : ∀ i, i ≠ c → la' i = la i) (ht : ∀ i, i ≠ c → ta' i = ta i) (hw : ∀ i, i ≠ c → wa' i = wa i) (hh : ∀ i, i ≠ c → ha' i = ha i)
    (p q : Nat) (hb : zc_A ba ba' c p q) (hK : zc_K ba' ua' fa' la' ta' wa' ha' c (zc_s t c) (zc_s w c) (n % 16 + 1)) : zc_X (n + 1) t w ba' ua' fa' la' ta' wa' ha' := by
  intro d hd
  have hm := zc_m_sp (n + 1) d
  have hm' := zc_m_sp n d
  by_cases e : d = c
  · subst e
    rw [show zc_m (n + 1) d = n % 16 + 1 from by omega]
    exact hK
  · rw [show zc_m (n + 1) d = zc_m n d from by omega]
    exact zc_K_keep (by omega) (by omega) (fun j hj => hT.2.2.2 _ (by omega)) (hu d e) (hf d e) (hl d e) (ht d e) (hw d e) (hh d e) (fun j hj => hb d j (by omega) hj (fun z => absurd z e)) (hX d (by omega))
section
variable {cn gb vb le tr ck cu fc fs fl fh : Int32} {ba ua fa la ta wa ha ma va : Nat → Int32}
theorem zx_enter46 {c V H : Nat} {z : Int32} {post : SX → Prop} (hc : c < 4) (hV : V < 65536) (hh : ha c = nI H) (hH : H ≤ 65535)
    (K : post (cn, gb, vb, le, tr, ck, cu, fc, fs, fl, fh, ba, ua, fa, la, ta, upd wa c z, upd ha c (nI (if V ≤ H then H else V)), ma, va)) : wX_enter_46 post (nI c) (nI V) z (nI c) cn gb vb le tr ck cu fc fs fl fh ba ua fa la ta wa ha ma va := by
  have hci : vp_in (nI c) 4 := vp_in_nI hc (by decide)
  have hcl : (nI c).toNatClampNeg = c := nI_clamp (by omega)
  unfold wX_enter_46
  rw [hcl]
  refine And.intro hci (nm_e (And.intro hci ?_))
  rw [hh]
  refine pk_le V H (fun h => ?_) (fun h => ?_)
  · rw [if_pos h] at K
    exact And.intro hci (And.intro hci (nm_e K))
  · rw [if_neg (by omega)] at K
    exact And.intro hci (nm_e K)
theorem zx_enter {c V S L H : Nat} {tt : Int32} {post : SX → Prop} (hc : c < 4) (hV : V < 65536) (ht : ta c = nI S) (hl : wa c = nI L) (hh : ha c = nI H) (hL : L ≤ 65535) (hH : H ≤ 65535)
    (K : post (cn, gb, vb, le, tr, ck, cu, fc, fs, fl, fh, ba, ua, fa, upd la c tt, upd ta c (nI (S + V)), upd wa c (nI (if L ≤ V then L else V)), upd ha c (nI (if V ≤ H then H else V)), ma, va)) : wpX_enter post (cn, gb, vb, le, tr, ck, cu, fc, fs, fl, fh, ba, ua, fa, la, ta, wa, ha, ma, va) (nI c) tt (nI V) := by
  have hci : vp_in (nI c) 4 := vp_in_nI hc (by decide)
  have hcl : (nI c).toNatClampNeg = c := nI_clamp (by omega)
  unfold wpX_enter
  dsimp only
  rw [hcl]
  refine And.intro hci (nm_e (And.intro hci (And.intro hci (nm_r (e' := upd ta c (nI (S + V))) (by rw [ht, nI_add]) (And.intro hci ?_)))))
  rw [hl]
  refine pk_le L V (fun h => ?_) (fun h => ?_)
  · rw [if_pos h] at K
    exact And.intro hci (zx_enter46 hc hV hh hH K)
  · rw [if_neg (by omega)] at K
    exact zx_enter46 hc hV hh hH K
theorem zx_w126 {n c V S L H : Nat} {tt : Int32} {post : SX → Prop} (hc : c < 4) (hV : V < 65536) (ht : ta c = nI S) (hl : wa c = nI L) (hh : ha c = nI H) (hL : L ≤ 65535) (hH : H ≤ 65535)
    (K : post (nI (n + 1), gb, nI V, le, tr, ck, cu, fc, fs, fl, fh, ba, ua, fa, upd la c tt, upd ta c (nI (S + V)), upd wa c (nI (if L ≤ V then L else V)), upd ha c (nI (if V ≤ H then H else V)), ma, va)) : wX_write_126 post (nI V) tt (nI c) (nI n) gb vb le tr ck cu fc fs fl fh ba ua fa la ta wa ha ma va := by
  unfold wX_write_126
  exact zx_enter hc hV ht hl hh hL hH (nm_r (nI_1 n) K)
def zc_PW (n : Nat) (t w : Nat → Nat) (gb vb le tr : Int32) : Prop := n % 16 ≠ 0 → zc_P (zc_s t (n / 16)) (zc_s w (n / 16)) (n % 16) gb vb le tr
theorem zc_PW_cg {n : Nat} {t w t' w' : Nat → Nat} {gb vb le tr : Int32} (ht : ∀ j, j < n → t' j = t j) (hw : ∀ j, j < n → w' j = w j) (h : zc_PW n t w gb vb le tr) : zc_PW n t' w' gb vb le tr := by
  intro h0
  obtain ⟨h1, h2, h3⟩ := h h0
  refine ⟨?_, ?_, ?_⟩
  · rw [zc_g_cg (T := zc_s t (n / 16)) (T' := zc_s t' (n / 16)) (i := n % 16 - 1) (fun j hj => ht _ (by omega))]; exact h1
  · rw [show zc_s w' (n / 16) (n % 16 - 1) = zc_s w (n / 16) (n % 16 - 1) from hw _ (by omega)]; exact h2
  · rw [zc_wd_cg (W := zc_s w (n / 16)) (W' := zc_s w' (n / 16)) (n % 16 - 1) (fun j hj => hw _ (by omega))]; exact h3
theorem zc_PW_of {n c : Nat} {t w : Nat → Nat} {gb vb le tr : Int32} (hc : c = n / 16) (h : zc_P (zc_s t c) (zc_s w c) (n % 16 + 1) gb vb le tr) : zc_PW (n + 1) t w gb vb le tr := by
  intro h0
  rw [show (n + 1) / 16 = c from by omega, show (n + 1) % 16 = n % 16 + 1 from by omega]
  exact h
theorem zx_write {n G V : Nat} {t w : Nat → Nat} {post : SX → Prop} (hn : n < 64) (hT : zc_T (n + 1) t w) (hX : zc_X n t w ba ua fa la ta wa ha) (hP : zc_PW n t w gb vb le tr) (ht : t n = zc_tn t n + G) (hV : w n = V)
    (K : ∀ gb vb le tr ba ua fa la ta wa ha, zc_X (n + 1) t w ba ua fa la ta wa ha → zc_PW (n + 1) t w gb vb le tr → post (nI (n + 1), gb, vb, le, tr, ck, cu, fc, fs, fl, fh, ba, ua, fa, la, ta, wa, ha, ma, va)) :
    wpX_write post (nI n, gb, vb, le, tr, ck, cu, fc, fs, fl, fh, ba, ua, fa, la, ta, wa, ha, ma, va) (nI G) (nI V) := by
  subst hV
  have htn := hT.2.1 n (by omega)
  have hwn := hT.2.2.2 n (by omega)
  have hc : n / 16 < 4 := by omega
  have hci : vp_in (nI (n / 16)) 4 := vp_in_nI hc (by decide)
  have hcl : (nI (n / 16)).toNatClampNeg = n / 16 := nI_clamp (by omega)
  unfold wpX_write
  refine zx_timeNow (n := n) (t := t) (w := w) (by omega) hX ?_
  refine nm_r (e' := nI (t n)) (by rw [nI_add, ht]) (nm_r (zc_shr4 (by omega)) ?_)
  refine ek_if (d := n % 16 = 0) (by rw [zc_and15 (by omega), show (0 : Int32) = nI 0 from rfl, nI_eq (by omega) (by decide)]) (fun h0 => ?_) (fun h0 => ?_)
  · obtain ⟨c, rfl⟩ : ∃ c, n = 16 * c := ⟨n / 16, by omega⟩
    have hd : 16 * c / 16 = c := by omega
    rw [hd] at hc hci hcl ⊢
    rw [hcl]
    refine And.intro hci (nm_e ?_)
    refine zx_put (V := t (16 * c)) (k := 16) (p := 0) hc (by omega) pk_us (by decide) (by decide) (fun a1 hA1 hF1 => ?_)
    refine zx_put (V := w (16 * c)) (k := 16) (p := 16) hc (by omega) pk_us (by decide) (by decide) (fun a2 hA2 hF2 => ?_)
    refine And.intro hci (nm_e (And.intro hci (nm_e (And.intro hci (nm_e (And.intro hci (nm_e ?_)))))))
    refine zx_w126 (S := 0) (L := 65535) (H := 0) hc hwn pk_us pk_us pk_us (by decide) (by decide) ?_
    refine K _ _ _ _ _ _ _ _ _ _ _ ?_ ?_
    · refine zc_X_next (c := c) hn hT (by omega) hX (fun i hi => ?_) (fun i hi => ?_) (fun i hi => ?_) (fun i hi => ?_) (fun i hi => ?_) (fun i hi => ?_) 0 32 (zc_A_tr hA1 hA2 (by decide) (by decide)) ?_
      · rw [pk_un hi, pk_un hi, pk_un hi]
      · rw [pk_un hi]
      · rw [pk_un hi]
      · rw [pk_un hi, pk_un hi]
      · rw [pk_un hi, pk_un hi]
      · rw [pk_un hi, pk_un hi]
      · rw [h0]
        refine ⟨pk_us, pk_us, pk_us, pk_us, pk_us, pk_us, zc_F_keep hF1 hA2 (by decide) (by decide) hc, hF2, fun i hi => absurd hi (by omega)⟩
    · refine zc_PW_of (c := c) (by omega) ?_
      rw [h0]
      exact ⟨rfl, rfl, Or.inr ⟨rfl, rfl⟩⟩
  · obtain ⟨hg, hv, hN⟩ := hP h0
    have hm := zc_m_sp n (n / 16)
    have hKc := hX (n / 16) (by omega)
    rw [show zc_m n (n / 16) = n % 16 from by omega] at hKc
    obtain ⟨m, hm16⟩ : ∃ m, n % 16 = m + 1 := ⟨n % 16 - 1, by omega⟩
    rw [hm16] at hg hv hN hKc
    rw [show m + 1 - 1 = m from rfl] at hg hv hN
    obtain ⟨k1, k2, k3, k4, k5, k6, k7⟩ := hKc
    rw [show m + 1 - 1 = m from rfl] at k1 k3
    generalize hcc : n / 16 = c at *
    have hn16 : n = 16 * c + (m + 1) := by omega
    have hTW : ∀ j, j < m + 2 → zc_s t c j ≤ 60000 := fun j hj => hT.2.1 _ (by omega)
    have hWW : ∀ j, j < m + 2 → zc_s w c j < 65536 := fun j hj => hT.2.2.2 _ (by omega)
    have hg1 := zc_g_le (i := m) hTW (by omega)
    have hg2 := zc_g_le (i := m + 1) hTW (by omega)
    have hdl := zc_d_le (i := m) hTW (by omega)
    have hps := (zc_ps_le (zc_s t c) (zc_s w c) m).2
    have hgs := (zc_gs_le (zc_d (zc_s t c) m)).2
    have hG : G = zc_g (zc_s t c) (m + 1) := by
      rw [zc_g]
      unfold zc_s
      have e1 : zc_tn t n = t (16 * c + m) := by rw [hn16]; rfl
      rw [e1, hn16] at ht
      omega
    have hGT : zc_s t c (m + 1) = t n := congrArg t hn16.symm
    have hWT : zc_s w c (m + 1) = w n := congrArg w hn16.symm
    have hgap : (nI G - gb).toInt = zc_d (zc_s t c) m := by
      rw [hg, zi_sub (zi_nI (by omega)) (zi_nI (by omega)) (by omega) (by omega), hG]
      rfl
    have hxor : nI (w n) ^^^ vb = nI (zc_x (zc_s w c) m) := by
      rw [hv, nx_xor]
      unfold zc_x
      rw [hWT]
    have hxl := zc_x_lt (hWW (m + 1) (by omega)) (hWW m (by omega))
    refine zx_wgc (p := zc_ps (zc_s t c) (zc_s w c) m) (D := zc_d (zc_s t c) m) hc hgap hdl k1 (by omega) (fun a1 hA1 hG1 => ?_)
    dsimp only
    rw [hxor]
    refine zx_wc (p := zc_ps (zc_s t c) (zc_s w c) m + zc_gs (zc_d (zc_s t c) m)) (s := zc_wd (zc_s w c) m) hc hxl hN pk_us (by omega) (fun a2 le' tr' hN2 hA2 hV2 => ?_)
    dsimp only
    have hsl := zc_lo_le (W := zc_s w c) (m + 1)
    have hsh := zc_hi_le (W := zc_s w c) (m + 1) (fun j hj => hWW j (by omega))
    refine zx_w126 (S := zc_sm (zc_s w c) (m + 1)) (L := zc_lo (zc_s w c) (m + 1)) (H := zc_hi (zc_s w c) (m + 1)) hc hwn k4 k5 k6 hsl hsh ?_
    refine K _ _ _ _ _ _ _ _ _ _ _ ?_ ?_
    · refine zc_X_next (c := c) hn hT hcc.symm hX (fun i hi => ?_) (fun i hi => rfl) (fun i hi => ?_) (fun i hi => ?_) (fun i hi => ?_) (fun i hi => ?_) _ _ (zc_A_tr hA1 hA2 (by omega) (by omega)) ?_
      · rw [pk_un hi, pk_un hi]
      · rw [pk_un hi]
      · rw [pk_un hi]
      · rw [pk_un hi]
      · rw [pk_un hi]
      · rw [hm16]
        refine ⟨?_, k2, ?_, ?_, ?_, ?_, ?_⟩
        · rw [pk_us]; rfl
        · rw [pk_us]; exact congrArg nI hGT.symm
        · rw [pk_us, ← hWT]; rfl
        · rw [pk_us, ← hWT]; rfl
        · rw [pk_us, ← hWT]; rfl
        · have hE2 : zc_E (zc_b a2 c) (zc_s t c) (zc_s w c) (m + 1) := by
            refine zc_E_loc (by omega) (fun j hj => hWW j (by omega)) (fun j hj => ?_) k7
            rw [show m + 1 - 1 = m from rfl] at hj
            rw [hA2 c j hc (by omega) (fun _ => Or.inl (by omega)), hA1 c j hc (by omega) (fun _ => Or.inl (by omega))]
          refine ⟨hE2.1, hE2.2.1, fun i hi => ?_⟩
          by_cases e : i = m
          · subst e
            exact ⟨zc_G_loc (fun j _ _ => hA2 c j hc (by omega) (fun _ => Or.inl (by omega))) hG1, hV2⟩
          · exact hE2.2.2 i (by omega)
    · refine zc_PW_of (c := c) hcc.symm ?_
      rw [hm16]
      exact ⟨congrArg nI hG, congrArg nI hWT.symm, hN2⟩
theorem zx_resume {n : Nat} {t w : Nat → Nat} {post : SX → Prop} (hT : zc_T n t w) (hX : zc_X n t w ba ua fa la ta wa ha)
    (K : ∀ gb vb le tr ck cu ma va, zc_PW n t w gb vb le tr → post (nI n, gb, vb, le, tr, ck, cu, fc, fs, fl, fh, ba, ua, fa, la, ta, wa, ha, ma, va)) : wpX_resume post (nI n, gb, vb, le, tr, ck, cu, fc, fs, fl, fh, ba, ua, fa, la, ta, wa, ha, ma, va) := by
  have hn := hT.1
  unfold wpX_resume
  refine pk_le n 0 (fun h => ?_) (fun h => ?_)
  · obtain rfl : n = 0 := by omega
    exact K _ _ _ _ _ _ _ _ (fun h0 => absurd rfl h0)
  · obtain ⟨k, rfl⟩ : ∃ k, n = k + 1 := ⟨n - 1, by omega⟩
    have e : (nI (k + 1) - 1) >>> ((4 : Int32) &&& 31) = nI (k / 16) := by rw [nI_pred, zc_shr4 (by omega)]
    rw [e]
    refine zx_unpack hT hX (by omega) (fun gb vb le tr cu ma va hP hQ => ?_)
    refine K _ _ _ _ _ _ _ _ ?_
    have hm := zc_m_sp (k + 1) (k / 16)
    exact zc_PW_of (c := k / 16) rfl (by rw [show zc_m (k + 1) (k / 16) = k % 16 + 1 from by omega] at hP; exact hP)
end
end
section
/-! the relation; the reference's append; append -/
def zz_R (cn : Int32) (ba ua fa la ta wa ha : Nat → Int32) (yn : Int32) (yt yv : Nat → Int32) : Prop :=
  ∃ (n : Nat) (t w : Nat → Nat), cn = nI n ∧ yn = nI n ∧ zc_T n t w ∧ zc_X n t w ba ua fa la ta wa ha ∧ zc_Y n t w yt yv
def i_Rel (_ : Nat) (u : SX) (v : SY) : Prop := match u, v with
  | (cn, gb, vb, le, tr, ck, cu, fc, fs, fl, fh, ba, ua, fa, la, ta, wa, ha, ma, va), (yn, _, _, yt, yv) => zz_R cn ba ua fa la ta wa ha yn yt yv
theorem i_up {k : Nat} {u : SX} {v : SY} (h : i_Rel k u v) : i_Rel (k + 5) u v := h
theorem zz_el {k : Nat} {u : SX} {v : SY} {P : SX → SY → Prop}
    (h : ∀ (n : Nat) (t w : Nat → Nat) (gb vb le tr ck cu fc fs fl fh : Int32) (ba ua fa la ta wa ha ma va : Nat → Int32) (yl yr : Int32) (yt yv : Nat → Int32),
      zc_T n t w → zc_X n t w ba ua fa la ta wa ha → zc_Y n t w yt yv → P (nI n, gb, vb, le, tr, ck, cu, fc, fs, fl, fh, ba, ua, fa, la, ta, wa, ha, ma, va) (nI n, yl, yr, yt, yv))
    (I : i_Rel k u v) : P u v := by
  obtain ⟨cn, gb, vb, le, tr, ck, cu, fc, fs, fl, fh, ba, ua, fa, la, ta, wa, ha, ma, va⟩ := u
  obtain ⟨yn, yl, yr, yt, yv⟩ := v
  obtain ⟨n, t, w, e1, e2, h1, h2, h3⟩ := I
  subst e1 e2
  exact h n t w _ _ _ _ _ _ _ _ _ _ _ _ _ _ _ _ _ _ _ _ _ _ _ h1 h2 h3
theorem zz_in {k n : Nat} {t w : Nat → Nat} {gb vb le tr ck cu fc fs fl fh : Int32} {ba ua fa la ta wa ha ma va : Nat → Int32} {yl yr : Int32} {yt yv : Nat → Int32}
    (h1 : zc_T n t w) (h2 : zc_X n t w ba ua fa la ta wa ha) (h3 : zc_Y n t w yt yv) : i_Rel k (nI n, gb, vb, le, tr, ck, cu, fc, fs, fl, fh, ba, ua, fa, la, ta, wa, ha, ma, va) (nI n, yl, yr, yt, yv) :=
  Exists.intro n (Exists.intro t (Exists.intro w ⟨rfl, rfl, h1, h2, h3⟩))
theorem i_vc0 : wpX_init (fun u => wpY_init (fun v => i_Rel 0 u v)) :=
  Exists.intro 0 (Exists.intro (fun _ => 0) (Exists.intro (fun _ => 0) ⟨rfl, rfl, ⟨by decide, fun i h => absurd h (Nat.not_lt_zero _), fun i h => absurd h (Nat.not_lt_zero _), fun i h => absurd h (Nat.not_lt_zero _)⟩, fun c h => absurd h (Nat.not_lt_zero _), fun i h => absurd h (Nat.not_lt_zero _)⟩))
/-! points put behind -/
def zc_put (f : Nat → Nat) (n x : Nat) : Nat → Nat := fun i => if i = n then x else f i
theorem zc_put_s {f : Nat → Nat} {n x : Nat} : zc_put f n x n = x := if_pos rfl
theorem zc_put_n {f : Nat → Nat} {n x i : Nat} (h : i ≠ n) : zc_put f n x i = f i := if_neg h
theorem zc_tn_cg {t t' : Nat → Nat} {n : Nat} (h : ∀ i, i < n → t' i = t i) : zc_tn t' n = zc_tn t n := by
  cases n with
  | zero => rfl
  | succ n => exact h n (by omega)
theorem zc_T_le {n k : Nat} {t w : Nat → Nat} (h : zc_T n t w) (hk : k ≤ n) : zc_T k t w :=
  ⟨Nat.le_trans hk h.1, fun i hi => h.2.1 i (by omega), fun i hi => h.2.2.1 i (by omega), fun i hi => h.2.2.2 i (by omega)⟩
theorem zc_tn_le {n : Nat} {t w : Nat → Nat} (h : zc_T n t w) : zc_tn t n ≤ 60000 := by
  cases n with
  | zero => exact Nat.zero_le _
  | succ n => exact h.2.1 n (by omega)
theorem zc_T_put {n G V : Nat} {t w : Nat → Nat} (h : zc_T n t w) (hn : n < 64) (hG : zc_tn t n + G ≤ 60000) (hV : V < 65536) : zc_T (n + 1) (zc_put t n (zc_tn t n + G)) (zc_put w n V) := by
  refine ⟨by omega, fun i hi => ?_, fun i hi => ?_, fun i hi => ?_⟩
  · by_cases e : i = n
    · subst e; rw [zc_put_s]; exact hG
    · rw [zc_put_n e]; exact h.2.1 i (by omega)
  · by_cases e : i + 1 = n
    · subst e
      rw [zc_put_s, zc_put_n (by omega)]
      exact Nat.le_add_right _ _
    · rw [zc_put_n e, zc_put_n (by omega)]; exact h.2.2.1 i (by omega)
  · by_cases e : i = n
    · subst e; rw [zc_put_s]; exact hV
    · rw [zc_put_n e]; exact h.2.2.2 i (by omega)
theorem zc_Y_put {n x y : Nat} {t w : Nat → Nat} {yt yv : Nat → Int32} (h : zc_Y n t w yt yv) : zc_Y (n + 1) (zc_put t n x) (zc_put w n y) (upd yt n (nI x)) (upd yv n (nI y)) := by
  intro i hi
  by_cases e : i = n
  · subst e; rw [zc_put_s, zc_put_s, pk_us, pk_us]; exact ⟨rfl, rfl⟩
  · rw [zc_put_n e, zc_put_n e, pk_un e, pk_un e]; exact h i (by omega)
section
variable {yl yr : Int32} {yt yv : Nat → Int32}
theorem zy_lastTime {n : Nat} {t w : Nat → Nat} {post : Int32 → Prop} (hn : n ≤ 64) (hY : zc_Y n t w yt yv) (K : post (nI (zc_tn t n))) : wpY_lastTime post (nI n, yl, yr, yt, yv) := by
  unfold wpY_lastTime
  refine pk_eq n 0 (fun h => ?_) (fun h => ?_)
  · subst h; exact K
  · obtain ⟨k, rfl⟩ : ∃ k, n = k + 1 := ⟨n - 1, by omega⟩
    rw [nI_pred, nI_clamp (by omega), (hY k (by omega)).1]
    exact And.intro (vp_in_nI (by omega) (by decide)) K
theorem zy_isValue1 {V : Nat} {u : SY} {post : Int32 → Prop} (hV : V < 65536) (K : post 1) : wpY_isValue post u (nI V) := by
  obtain ⟨yn, yl, yr, yt, yv⟩ := u
  exact br_f (nI_pos (by omega)) (br_f (nI_nlt (b := V) (a := 65535) (by omega) (by decide)) K)
theorem zy_isValue0 {x : Int32} {u : SY} {post : Int32 → Prop} (h : x < 0 ∨ ¬ x ≤ 65535) (K : post 0) : wpY_isValue post u x := by
  obtain ⟨yn, yl, yr, yt, yv⟩ := u
  refine br_c (fun _ => K) (fun h0 => br_t ?_ K)
  rcases h with h | h
  · exact absurd h h0
  · exact Int32.not_le.mp h
theorem zy_append {n G V : Nat} {t w : Nat → Nat} {post : Int32 → SY → Prop} (hT : zc_T n t w) (hY : zc_Y n t w yt yv) (hn : n < 64) (hG : zc_tn t n + G ≤ 60000) (hV : V < 65536)
    (K : post (nI n) (nI (n + 1), yl, yr, upd yt n (nI (zc_tn t n + G)), upd yv n (nI V))) : wpY_append post (nI n, yl, yr, yt, yv) (nI G) (nI V) := by
  unfold wpY_append
  refine br_f (nI_pos (by omega)) (br_f (nI_nlt (a := 60000) (by omega) (by decide)) ?_)
  refine zy_lastTime (t := t) (w := w) (by omega) hY ?_
  rw [nI_add]
  refine br_f (nI_nlt (a := 60000) hG (by decide)) ?_
  refine zy_isValue1 hV ?_
  refine br_f (by decide) ?_
  refine br_f (by rw [show (64 : Int32) = nI 64 from rfl, nI_eq (by omega) (by decide)]; omega) ?_
  refine zy_lastTime (t := t) (w := w) (by omega) hY ?_
  have hi : vp_in (nI n) 64 := vp_in_nI hn (by decide)
  rw [nI_clamp (by omega), nI_add]
  refine And.intro hi (nm_e (And.intro hi (nm_e (nm_r (nI_1 n) ?_))))
  rw [nI_pred]
  exact K
end
section
variable {gb vb le tr ck cu fc fs fl fh : Int32} {ba ua fa la ta wa ha ma va : Nat → Int32}
theorem zx_append {n G V : Nat} {t w : Nat → Nat} {post : Int32 → SX → Prop} (hT : zc_T n t w) (hX : zc_X n t w ba ua fa la ta wa ha) (hn : n < 64) (hG : zc_tn t n + G ≤ 60000) (hV : V < 65536)
    (K : ∀ gb vb le tr ck cu ba ua fa la ta wa ha ma va, zc_X (n + 1) (zc_put t n (zc_tn t n + G)) (zc_put w n V) ba ua fa la ta wa ha → post (nI n) (nI (n + 1), gb, vb, le, tr, ck, cu, fc, fs, fl, fh, ba, ua, fa, la, ta, wa, ha, ma, va)) :
    wpX_append post (nI n, gb, vb, le, tr, ck, cu, fc, fs, fl, fh, ba, ua, fa, la, ta, wa, ha, ma, va) (nI G) (nI V) := by
  unfold wpX_append
  refine br_f (nI_pos (by omega)) (br_f (nI_nlt (a := 60000) (by omega) (by decide)) ?_)
  refine zx_timeNow (t := t) (w := w) (by omega) hX ?_
  rw [nI_add]
  refine br_f (nI_nlt (a := 60000) hG (by decide)) ?_
  refine br_f (nI_pos (by omega)) (br_t (nI_le (b := 65535) (by omega) (by decide)) ?_)
  refine br_f (by rw [show (64 : Int32) = nI 64 from rfl, nI_eq (by omega) (by decide)]; omega) ?_
  refine zx_resume hT hX (fun gb vb le tr ck cu ma va hP => ?_)
  have hT' := zc_T_put hT hn hG hV
  have ht : ∀ j, j < n → zc_put t n (zc_tn t n + G) j = t j := fun j hj => zc_put_n (by omega)
  have hw : ∀ j, j < n → zc_put w n V j = w j := fun j hj => zc_put_n (by omega)
  have hX' := zc_X_cg ht hw hX
  have hP' : zc_PW n (zc_put t n (zc_tn t n + G)) (zc_put w n V) gb vb le tr := zc_PW_cg ht hw hP
  refine zx_write (G := G) hn hT' hX' hP' (by rw [zc_put_s, zc_tn_cg ht]) zc_put_s (fun gb vb le tr ba ua fa la ta wa ha hX2 _ => ?_)
  dsimp only
  rw [nI_pred]
  exact K _ _ _ _ _ _ _ _ _ _ _ _ _ _ _ hX2
end
theorem zi_cases {x : Int32} {N : Nat} {M : Int32} (hM : M = nI N) (hN : N < 2 ^ 31) : x < 0 ∨ (¬ x < 0 ∧ M < x) ∨ (¬ x < 0 ∧ ¬ M < x ∧ ∃ j : Nat, j ≤ N ∧ x = nI j) := by
  subst hM
  by_cases h : x < 0
  · exact Or.inl h
  · obtain ⟨j, hj, rfl⟩ := nI_of h
    by_cases h2 : nI N < nI j
    · exact Or.inr (Or.inl ⟨h, h2⟩)
    · refine Or.inr (Or.inr ⟨h, h2, j, ?_, rfl⟩)
      rw [nI_ltI hN hj] at h2
      omega
theorem i_vc_append {k : Nat} {u : SX} {v : SY} (I : i_Rel k u v) (hk : k + 5 ≤ 2560) (v1 : Int32) (v2 : Int32) : wpX_append (fun r u' => wpY_append (fun r' v' => r' = r ∧ i_Rel (k + 5) u' v') v v1 v2) u v1 v2 := by
  refine zz_el (P := fun u v => wpX_append (fun r u' => wpY_append (fun r' v' => r' = r ∧ i_Rel (k + 5) u' v') v v1 v2) u v1 v2) ?_ I
  intro n t w gb vb le tr ck cu fc fs fl fh ba ua fa la ta wa ha ma va yl yr yt yv hT hX hY
  have hn := hT.1
  have htn := zc_tn_le hT
  rcases zi_cases (x := v1) (N := 60000) (M := 60000) rfl (by decide) with h | ⟨h, h2⟩ | ⟨h, h2, G, hG, rfl⟩
  · exact br_t h (br_t h ⟨rfl, zz_in hT hX hY⟩)
  · exact br_f h (br_t h2 (br_f h (br_t h2 ⟨rfl, zz_in hT hX hY⟩)))
  · by_cases h3 : 60000 < zc_tn t n + G
    · have h3' : (60000 : Int32) < nI (zc_tn t n) + nI G := by rw [nI_add]; exact nI_lt (a := 60000) h3 (by omega)
      exact br_f h (br_f h2 (zx_timeNow (t := t) (w := w) hn hX (br_t h3' (br_f h (br_f h2 (zy_lastTime (t := t) (w := w) hn hY (br_t h3' ⟨rfl, zz_in hT hX hY⟩)))))))
    · have h3' : ¬ (60000 : Int32) < nI (zc_tn t n) + nI G := by rw [nI_add]; exact nI_nlt (a := 60000) (by omega) (by decide)
      rcases zi_cases (x := v2) (N := 65535) (M := 65535) rfl (by decide) with h4 | ⟨h4, h5⟩ | ⟨h4, h5, V, hV, rfl⟩
      · exact br_f h (br_f h2 (zx_timeNow (t := t) (w := w) hn hX (br_f h3' (br_t h4 (br_f h (br_f h2 (zy_lastTime (t := t) (w := w) hn hY (br_f h3' (zy_isValue0 (Or.inl h4) (br_t rfl ⟨rfl, zz_in hT hX hY⟩))))))))))
      · exact br_f h (br_f h2 (zx_timeNow (t := t) (w := w) hn hX (br_f h3' (br_f h4 (br_f (Int32.not_le.mpr h5) (br_f h (br_f h2 (zy_lastTime (t := t) (w := w) hn hY (br_f h3' (zy_isValue0 (Or.inr (Int32.not_le.mpr h5)) (br_t rfl ⟨rfl, zz_in hT hX hY⟩)))))))))))
      · by_cases h6 : n = 64
        · subst h6
          exact br_f h (br_f h2 (zx_timeNow (t := t) (w := w) hn hX (br_f h3' (br_f h4 (br_t (Int32.not_lt.mp h5) (br_t rfl (br_f h (br_f h2 (zy_lastTime (t := t) (w := w) hn hY (br_f h3' (zy_isValue1 (by omega) (br_f (by decide) (br_t rfl ⟨rfl, zz_in hT hX hY⟩)))))))))))))
        · refine zx_append hT hX (by omega) (by omega) (by omega) (fun gb vb le tr ck cu ba ua fa la ta wa ha ma va hX2 => ?_)
          refine zy_append hT hY (by omega) (by omega) (by omega) ⟨rfl, ?_⟩
          exact zz_in (zc_T_put hT (by omega) (by omega) (by omega)) hX2 (zc_Y_put hY)
end
section
/-! steady -/
theorem zs_and (x : Int32) : x &&& 65535 = nI (x.toBitVec.toNat % 65536) := pk_and x 16 (by decide)
theorem zs_next (x s : Int32) : ((x &&& 65535) + s) &&& 65535 = (x + s) &&& 65535 := by
  rw [zs_and, zs_and (x + s), zs_and x]
  have h1 := x.toBitVec.isLt
  have h2 := s.toBitVec.isLt
  have e : (nI (x.toBitVec.toNat % 65536) + s).toBitVec.toNat = (x.toBitVec.toNat % 65536 + s.toBitVec.toNat) % 2 ^ 32 := by
    rw [Int32.toBitVec_add, BitVec.toNat_add, pk_tn (by omega)]
  have e2 : (x + s).toBitVec.toNat = (x.toBitVec.toNat + s.toBitVec.toNat) % 2 ^ 32 := by
    rw [Int32.toBitVec_add, BitVec.toNat_add]
  rw [e, e2]
  exact congrArg nI (by omega)
theorem zs_lin (v s : Int32) (i : Nat) : v + nI i * s + s = v + nI (i + 1) * s := by
  rw [nI_succ, Int32.add_mul, Int32.one_mul, Int32.add_assoc]
def zs_q (v s : Int32) (i : Nat) : Nat := (v + nI i * s).toBitVec.toNat % 65536
theorem zs_q_lt (v s : Int32) (i : Nat) : zs_q v s i < 65536 := Nat.mod_lt _ (by decide)
theorem zs_q_X (v s : Int32) (i : Nat) : (v + nI i * s) &&& 65535 = nI (zs_q v s i) := zs_and _
theorem zs_q_Y (v s : Int32) (i : Nat) : (nI (zs_q v s i) + s) &&& 65535 = nI (zs_q v s (i + 1)) := by
  rw [← zs_q_X, zs_next, zs_lin, zs_q_X]
theorem zs_q_0 {V : Nat} (hV : V < 65536) (s : Int32) : zs_q (nI V) s 0 = V := by
  unfold zs_q
  rw [show nI V + nI 0 * s = nI V from by rw [nI_0, Int32.zero_mul, Int32.add_zero], pk_tn (by omega)]
  omega
/-- the points behind n, gap by gap -/
def zs_t (t : Nat → Nat) (n G : Nat) : Nat → Nat := fun i => if i < n then t i else zc_tn t n + (i - n + 1) * G
def zs_w (w : Nat → Nat) (n : Nat) (v s : Int32) : Nat → Nat := fun i => if i < n then w i else zs_q v s (i - n)
theorem zs_t_lo {t : Nat → Nat} {n G i : Nat} (h : i < n) : zs_t t n G i = t i := if_pos h
theorem zs_t_hi {t : Nat → Nat} {n G i : Nat} : zs_t t n G (n + i) = zc_tn t n + (i + 1) * G := by
  unfold zs_t
  rw [if_neg (by omega), show n + i - n = i from by omega]
theorem zs_w_lo {w : Nat → Nat} {n i : Nat} {v s : Int32} (h : i < n) : zs_w w n v s i = w i := if_pos h
theorem zs_w_hi {w : Nat → Nat} {n i : Nat} {v s : Int32} : zs_w w n v s (n + i) = zs_q v s i := by
  unfold zs_w
  rw [if_neg (by omega), show n + i - n = i from by omega]
theorem zs_tn {t : Nat → Nat} {n G i : Nat} : zs_t t n G (n + i) = zc_tn (zs_t t n G) (n + i) + G := by
  rw [zs_t_hi]
  cases i with
  | zero =>
    show zc_tn t n + (0 + 1) * G = zc_tn (zs_t t n G) n + G
    rw [zc_tn_cg (t := t) (t' := zs_t t n G) (n := n) (fun i hi => zs_t_lo hi)]
    omega
  | succ i =>
    show _ = zs_t t n G (n + i) + G
    rw [zs_t_hi, Nat.add_mul (i + 1) 1 G]
    omega
theorem zs_T {n M G : Nat} {t w : Nat → Nat} {v s : Int32} (hT : zc_T n t w) (hn : n + M ≤ 64) (hG : zc_tn t n + M * G ≤ 60000) : zc_T (n + M) (zs_t t n G) (zs_w w n v s) := by
  refine ⟨hn, fun i hi => ?_, fun i hi => ?_, fun i hi => ?_⟩
  · by_cases e : i < n
    · rw [zs_t_lo e]; exact hT.2.1 i e
    · obtain ⟨j, rfl⟩ : ∃ j, i = n + j := ⟨i - n, by omega⟩
      rw [zs_t_hi]
      have := Nat.mul_le_mul_right G (show j + 1 ≤ M from by omega)
      omega
  · by_cases e : i + 1 < n
    · rw [zs_t_lo e, zs_t_lo (by omega)]; exact hT.2.2.1 i e
    · obtain ⟨j, hj⟩ : ∃ j, i + 1 = n + j := ⟨i + 1 - n, by omega⟩
      rw [hj, zs_tn, ← hj]
      exact Nat.le_add_right _ _
  · by_cases e : i < n
    · rw [zs_w_lo e]; exact hT.2.2.2 i e
    · obtain ⟨j, rfl⟩ : ∃ j, i = n + j := ⟨i - n, by omega⟩
      rw [zs_w_hi]; exact zs_q_lt _ _ _
section
variable {gb vb le tr ck cu fc fs fl fh : Int32} {ba ua fa la ta wa ha ma va : Nat → Int32}
theorem zx_st82 {n M G : Nat} {t w : Nat → Nat} {v3 v4 : Int32} (hT : zc_T (n + M) (zs_t t n G) (zs_w w n v3 v4)) (post : Int32 → SX → Prop)
    (K : ∀ gb vb le tr ba ua fa la ta wa ha, zc_X (n + M) (zs_t t n G) (zs_w w n v3 v4) ba ua fa la ta wa ha → post (nI (n + M)) (nI (n + M), gb, vb, le, tr, ck, cu, fc, fs, fl, fh, ba, ua, fa, la, ta, wa, ha, ma, va)) :
    ∀ (f i k : Nat) (gb vb le tr : Int32) (ba ua fa la ta wa ha : Nat → Int32), i + f = M → f < k → zc_X (n + i) (zs_t t n G) (zs_w w n v3 v4) ba ua fa la ta wa ha → zc_PW (n + i) (zs_t t n G) (zs_w w n v3 v4) gb vb le tr →
    wX_steady_82 post (nI M) (nI G) v3 v4 k (nI i) (nI (n + i)) gb vb le tr ck cu fc fs fl fh ba ua fa la ta wa ha ma va := by
  intro f
  induction f with
  | zero =>
    intro i k gb vb le tr ba ua fa la ta wa ha hi hk hX hP
    obtain ⟨k, rfl⟩ : ∃ m, k = m + 1 := ⟨k - 1, by omega⟩
    obtain rfl : i = M := by omega
    exact br_t (nI_le (Nat.le_refl _) (by have := hT.1; omega)) (K _ _ _ _ _ _ _ _ _ _ _ hX)
  | succ f ih =>
    intro i k gb vb le tr ba ua fa la ta wa ha hi hk hX hP
    obtain ⟨k, rfl⟩ : ∃ m, k = m + 1 := ⟨k - 1, by omega⟩
    have hn := hT.1
    refine br_f (nI_ge (by omega) (by omega)) ?_
    rw [zs_q_X]
    refine zx_write (G := G) (by omega) (zc_T_le hT (by omega)) hX hP zs_tn zs_w_hi (fun gb vb le tr ba ua fa la ta wa ha hX2 hP2 => ?_)
    refine nm_r (nI_1 i) ?_
    exact ih (i + 1) k _ _ _ _ _ _ _ _ _ _ _ (by omega) (by omega) hX2 hP2
end
section
variable {yl yr : Int32} {yt yv : Nat → Int32}
theorem zy_st79 {n M G : Nat} {t w : Nat → Nat} {v3 v4 : Int32} (hT : zc_T (n + M) (zs_t t n G) (zs_w w n v3 v4)) (post : Int32 → SY → Prop)
    (K : ∀ yt yv, zc_Y (n + M) (zs_t t n G) (zs_w w n v3 v4) yt yv → post (nI (n + M)) (nI (n + M), yl, yr, yt, yv)) :
    ∀ (f i k : Nat) (yt yv : Nat → Int32), i + f = M → f < k → zc_Y (n + i) (zs_t t n G) (zs_w w n v3 v4) yt yv →
    wY_steady_79 post (nI M) (nI G) v4 k (nI (zs_q v3 v4 i)) (nI i) (nI (n + i)) yl yr yt yv := by
  intro f
  induction f with
  | zero =>
    intro i k yt yv hi hk hY
    obtain ⟨k, rfl⟩ : ∃ m, k = m + 1 := ⟨k - 1, by omega⟩
    obtain rfl : i = M := by omega
    exact br_t (nI_le (Nat.le_refl _) (by have := hT.1; omega)) (K _ _ hY)
  | succ f ih =>
    intro i k yt yv hi hk hY
    obtain ⟨k, rfl⟩ : ∃ m, k = m + 1 := ⟨k - 1, by omega⟩
    have hn := hT.1
    have hq := zs_q_lt v3 v4 i
    have ht := hT.2.1 (n + i) (by omega)
    rw [zs_tn] at ht
    refine br_f (nI_ge (by omega) (by omega)) ?_
    refine zy_append (zc_T_le hT (by omega)) hY (by omega) ht hq ?_
    refine nm_r (zs_q_Y v3 v4 i) (nm_r (nI_1 i) ?_)
    refine ih (i + 1) k _ _ (by omega) (by omega) ?_
    intro j hj
    by_cases e : j = n + i
    · subst e
      rw [pk_us, pk_us, ← zs_tn, zs_w_hi]
      exact ⟨rfl, rfl⟩
    · rw [pk_un e, pk_un e]
      exact hY j (by omega)
end
theorem i_vc_steady {k : Nat} {u : SX} {v : SY} (I : i_Rel k u v) (hk : k + 5 ≤ 2560) (v1 : Int32) (v2 : Int32) (v3 : Int32) (v4 : Int32) : wpX_steady (fun r u' => wpY_steady (fun r' v' => r' = r ∧ i_Rel (k + 5) u' v') v v1 v2 v3 v4) u v1 v2 v3 v4 := by
  refine zz_el (P := fun u v => wpX_steady (fun r u' => wpY_steady (fun r' v' => r' = r ∧ i_Rel (k + 5) u' v') v v1 v2 v3 v4) u v1 v2 v3 v4) ?_ I
  intro n t w gb vb le tr ck cu fc fs fl fh ba ua fa la ta wa ha ma va yl yr yt yv hT hX hY
  have hn := hT.1
  have htn := zc_tn_le hT
  have R := zz_in (k := k + 5) (gb := gb) (vb := vb) (le := le) (tr := tr) (ck := ck) (cu := cu) (fc := fc) (fs := fs) (fl := fl) (fh := fh) (ma := ma) (va := va) (yl := yl) (yr := yr) hT hX hY
  rcases zi_cases (x := v1) (N := 64) (M := 64) rfl (by decide) with h | ⟨h, h2⟩ | ⟨h, h2, M, hM, rfl⟩
  · exact br_t h (br_t h ⟨rfl, R⟩)
  · exact br_f h (br_t h2 (br_f h (br_t h2 ⟨rfl, R⟩)))
  rcases zi_cases (x := v2) (N := 60000) (M := 60000) rfl (by decide) with h3 | ⟨h3, h4⟩ | ⟨h3, h4, G, hG, rfl⟩
  · exact br_f h (br_f h2 (br_t h3 (br_f h (br_f h2 (br_t h3 ⟨rfl, R⟩)))))
  · exact br_f h (br_f h2 (br_f h3 (br_t h4 (br_f h (br_f h2 (br_f h3 (br_t h4 ⟨rfl, R⟩)))))))
  have hMG : M * G ≤ 64 * 60000 := Nat.mul_le_mul hM hG
  have e5 : nI (zc_tn t n) + nI M * nI G = nI (zc_tn t n + M * G) := by rw [pk_mul, nI_add]
  -- the reference's answers
  have yA : ∀ P : Int32 → SY → Prop, (60000 < zc_tn t n + M * G → P (-1) (nI n, yl, yr, yt, yv)) →
      (zc_tn t n + M * G ≤ 60000 → wpY_isValue (fun r_12 => (r_12 = 0 → P (-1) (nI n, yl, yr, yt, yv)) ∧ (¬ r_12 = 0 → (v4 < (-65535) → P (-1) (nI n, yl, yr, yt, yv)) ∧ (¬ v4 < (-65535) → (v4 ≤ 65535 → ((nI n + nI M) ≤ 64 → ∃ n79 : Nat, wY_steady_79 P (nI M) (nI G) v4 n79 v3 0 (nI n) yl yr yt yv) ∧ (¬ (nI n + nI M) ≤ 64 → P (-2) (nI n, yl, yr, yt, yv))) ∧ (¬ v4 ≤ 65535 → P (-1) (nI n, yl, yr, yt, yv))))) (nI n, yl, yr, yt, yv) v3) →
      wpY_steady P (nI n, yl, yr, yt, yv) (nI M) (nI G) v3 v4 := by
    intro P h1 h5
    refine br_f h (br_f h2 (br_f h3 (br_f h4 (zy_lastTime (t := t) (w := w) hn hY ?_))))
    rw [e5]
    refine pk_le (zc_tn t n + M * G) 60000 h5 h1
  by_cases hb3 : v3 < 0
  · refine br_f h (br_f h2 (br_f h3 (br_f h4 (br_t hb3 (yA _ (fun _ => ⟨rfl, R⟩) (fun _ => ?_))))))
    exact zy_isValue0 (Or.inl hb3) (br_t rfl ⟨rfl, R⟩)
  by_cases hc3 : v3 ≤ 65535
  · refine br_f h (br_f h2 (br_f h3 (br_f h4 (br_f hb3 (br_t hc3 (zx_timeNow (t := t) (w := w) hn hX ?_))))))
    obtain ⟨V, hV, rfl⟩ := nI_of2 (n := 65535) (by decide) hb3 hc3
    rw [e5]
    refine pk_lt 60000 (zc_tn t n + M * G) (fun h5 => yA _ (fun _ => ⟨rfl, R⟩) (fun z => absurd z (by omega))) (fun h5 => ?_)
    refine br_c (fun h6 => yA _ (fun z => absurd z (by omega)) (fun _ => zy_isValue1 (by omega) (br_f (by decide) (br_t h6 ⟨rfl, R⟩)))) (fun h6 => ?_)
    refine br_c (fun h7 => ?_) (fun h7 => yA _ (fun z => absurd z (by omega)) (fun _ => zy_isValue1 (by omega) (br_f (by decide) (br_f h6 (br_f h7 ⟨rfl, R⟩)))))
    refine br_c (fun h8 => ?_) (fun h8 => yA _ (fun z => absurd z (by omega)) (fun _ => zy_isValue1 (by omega) (br_f (by decide) (br_f h6 (br_t h7 (br_f h8 ⟨rfl, R⟩))))))
    have hnM : n + M ≤ 64 := by
      rw [nI_add, show (64 : Int32) = nI 64 from rfl, nI_leI (by omega) (by decide)] at h8
      exact h8
    have hT2 := zs_T (v := nI V) (s := v4) hT hnM h5
    refine zx_resume hT hX (fun gb vb le tr ck cu ma va hP => ?_)
    refine ⟨M + 1, ?_⟩
    have ht : ∀ j, j < n → zs_t t n G j = t j := fun j hj => zs_t_lo hj
    have hw : ∀ j, j < n → zs_w w n (nI V) v4 j = w j := fun j hj => zs_w_lo hj
    refine zx_st82 (n := n) (M := M) (G := G) (t := t) (w := w) (v3 := nI V) (v4 := v4) hT2 _ (fun gb vb le tr ba ua fa la ta wa ha hX2 => ?_) M 0 (M + 1) _ _ _ _ _ _ _ _ _ _ _ (by omega) (by omega) (zc_X_cg ht hw hX) (zc_PW_cg ht hw hP)
    refine yA _ (fun z => absurd z (by omega)) (fun _ => zy_isValue1 (by omega) (br_f (by decide) (br_f h6 (br_t h7 (br_t h8 ⟨M + 1, ?_⟩)))))
    have hl := zy_st79 (yl := yl) (yr := yr) (n := n) (M := M) (G := G) (t := t) (w := w) (v3 := nI V) (v4 := v4) hT2 (fun r' v' => r' = nI (n + M) ∧ i_Rel (k + 5) (nI (n + M), gb, vb, le, tr, ck, cu, fc, fs, fl, fh, ba, ua, fa, la, ta, wa, ha, ma, va) v') (fun yt yv hY2 => ⟨rfl, zz_in hT2 hX2 hY2⟩) M 0 (M + 1) yt yv (by omega) (by omega) (fun j hj => by
      rw [ht j hj, hw j hj]; exact hY j hj)
    rw [zs_q_0 (by omega)] at hl
    exact hl
  · refine br_f h (br_f h2 (br_f h3 (br_f h4 (br_f hb3 (br_f hc3 (yA _ (fun _ => ⟨rfl, R⟩) (fun _ => ?_)))))))
    exact zy_isValue0 (Or.inr hc3) (br_t rfl ⟨rfl, R⟩)
end
section
/-! dropOldest -/
def zd_s (a : Nat → Int32) (d i : Nat) : Nat → Int32 := fun k => if k < i then a (k + d) else a k
theorem zd_0 {a : Nat → Int32} {d : Nat} : zd_s a d 0 = a := by
  funext k
  unfold zd_s
  rw [if_neg (by omega)]
theorem zd_up {a : Nat → Int32} {d i : Nat} (hd : 0 < d) : upd (zd_s a d i) i (zd_s a d i (i + d)) = zd_s a d (i + 1) := by
  funext k
  by_cases h : k = i
  · subst h
    rw [pk_us]
    unfold zd_s
    rw [if_neg (by omega), if_pos (by omega)]
  · rw [pk_un h]
    unfold zd_s
    by_cases h2 : k < i
    · rw [if_pos h2, if_pos (by omega)]
    · rw [if_neg h2, if_neg (by omega)]
theorem zd_lo {a : Nat → Int32} {d i k : Nat} (h : k < i) : zd_s a d i k = a (k + d) := if_pos h
theorem zd_X {n : Nat} {t w : Nat → Nat} {ba ua fa la ta wa ha : Nat → Int32} (hT : zc_T (n + 16) t w) (hX : zc_X (n + 16) t w ba ua fa la ta wa ha) :
    zc_X n (fun i => t (i + 16)) (fun i => w (i + 16)) (zd_s ba 24 72) (zd_s ua 1 3) (zd_s fa 1 3) (zd_s la 1 3) (zd_s ta 1 3) (zd_s wa 1 3) (zd_s ha 1 3) := by
  intro c hc
  have hn := hT.1
  have h := hX (c + 1) (by omega)
  have hm := zc_m_sp n c
  have hm' := zc_m_sp (n + 16) (c + 1)
  rw [show zc_m (n + 16) (c + 1) = zc_m n c from by omega] at h
  have et : zc_s (fun i => t (i + 16)) c = zc_s t (c + 1) := by
    funext i
    exact congrArg t (by omega)
  have ew : zc_s (fun i => w (i + 16)) c = zc_s w (c + 1) := by
    funext i
    exact congrArg w (by omega)
  rw [et, ew]
  refine zc_K_keep (c := c + 1) (by omega) (by omega) (fun j hj => hT.2.2.2 _ (by omega)) (zd_lo (by omega)) (zd_lo (by omega)) (zd_lo (by omega)) (zd_lo (by omega)) (zd_lo (by omega)) (zd_lo (by omega)) (fun j hj => ?_) h
  unfold zc_b
  rw [zd_lo (by omega), show 24 * c + j / 32 + 24 = 24 * (c + 1) + j / 32 from by omega]
section
variable {cn gb vb le tr ck cu fc fs fl fh : Int32} {ba ua fa la ta wa ha ma va : Nat → Int32}
theorem zx_do43 {n : Nat} (post : Int32 → SX → Prop) (K : post (nI n) (nI n, gb, vb, le, tr, ck, cu, fc, fs, fl, fh, ba, zd_s ua 1 3, zd_s fa 1 3, zd_s la 1 3, zd_s ta 1 3, zd_s wa 1 3, zd_s ha 1 3, ma, va)) :
    ∀ (f i k : Nat), i + f = 3 → f < k → wX_dropOldest_43 post (nI (n + 16)) gb vb le tr ck cu fc fs fl fh k (nI i) ba (zd_s ua 1 i) (zd_s fa 1 i) (zd_s la 1 i) (zd_s ta 1 i) (zd_s wa 1 i) (zd_s ha 1 i) ma va := by
  intro f
  induction f with
  | zero =>
    intro i k hi hk
    obtain ⟨k, rfl⟩ : ∃ m, k = m + 1 := ⟨k - 1, by omega⟩
    obtain rfl : i = 3 := by omega
    exact br_t (by decide) (nm_r (e' := nI n) (by rw [show (16 : Int32) = nI 16 from rfl, pk_sub (by omega), Nat.add_sub_cancel]) K)
  | succ f ih =>
    intro i k hi hk
    obtain ⟨k, rfl⟩ : ∃ m, k = m + 1 := ⟨k - 1, by omega⟩
    have h1 : vp_in (nI i + 1) 4 := by rw [nI_1]; exact vp_in_nI (by omega) (by decide)
    have h2 : vp_in (nI i) 4 := vp_in_nI (by omega) (by decide)
    have c1 : (nI i + 1).toNatClampNeg = i + 1 := by rw [nI_1]; exact nI_clamp (by omega)
    have c2 : (nI i).toNatClampNeg = i := nI_clamp (by omega)
    have e : ∀ a : Nat → Int32, upd (zd_s a 1 i) (nI i).toNatClampNeg (zd_s a 1 i (nI i + 1).toNatClampNeg) = zd_s a 1 (i + 1) := fun a => by
      rw [c1, c2]; exact zd_up (by decide)
    exact br_f (nI_ge (b := 3) (by omega) (by decide)) (And.intro h1 (And.intro h2 (nm_r (e ua) (And.intro h1 (And.intro h2 (nm_r (e fa) (And.intro h1 (And.intro h2 (nm_r (e la) (And.intro h1 (And.intro h2 (nm_r (e ta) (And.intro h1 (And.intro h2 (nm_r (e wa) (And.intro h1 (And.intro h2 (nm_r (e ha) (nm_r (nI_1 i) (ih (i + 1) k (by omega) (by omega)))))))))))))))))))))
theorem zx_do14 {n : Nat} (post : Int32 → SX → Prop) (K : post (nI n) (nI n, gb, vb, le, tr, ck, cu, fc, fs, fl, fh, zd_s ba 24 72, zd_s ua 1 3, zd_s fa 1 3, zd_s la 1 3, zd_s ta 1 3, zd_s wa 1 3, zd_s ha 1 3, ma, va)) :
    ∀ (f i k : Nat), i + f = 72 → f < k → wX_dropOldest_14 post (nI (n + 16)) gb vb le tr ck cu fc fs fl fh k (nI i) (zd_s ba 24 i) ua fa la ta wa ha ma va := by
  intro f
  induction f with
  | zero =>
    intro i k hi hk
    obtain ⟨k, rfl⟩ : ∃ m, k = m + 1 := ⟨k - 1, by omega⟩
    obtain rfl : i = 72 := by omega
    have h := zx_do43 (n := n) (ba := zd_s ba 24 72) post K 3 0 4 rfl (by decide)
    rw [zd_0, zd_0, zd_0, zd_0, zd_0, zd_0] at h
    exact br_t (by decide) ⟨4, h⟩
  | succ f ih =>
    intro i k hi hk
    obtain ⟨k, rfl⟩ : ∃ m, k = m + 1 := ⟨k - 1, by omega⟩
    have h1 : nI i + 24 = nI (i + 24) := by rw [show (24 : Int32) = nI 24 from rfl, nI_add]
    refine br_f (nI_ge (b := 72) (by omega) (by decide)) ?_
    rw [h1, nI_clamp (show i < 2 ^ 31 by omega), nI_clamp (show i + 24 < 2 ^ 31 by omega), zd_up (by decide)]
    exact And.intro (vp_in_nI (by omega) (by decide)) (And.intro (vp_in_nI (by omega) (by decide)) (nm_e (nm_r (nI_1 i) (ih (i + 1) k (by omega) (by omega)))))
theorem zy_do25 {n : Nat} {yl yr : Int32} {yt yv : Nat → Int32} (hn : n ≤ 48) (post : Int32 → SY → Prop) (K : post (nI n) (nI n, yl, yr, zd_s yt 16 n, zd_s yv 16 n)) :
    ∀ (f i k : Nat), i + f = n → f < k → wY_dropOldest_25 post (nI n) yl yr k (nI i) (zd_s yt 16 i) (zd_s yv 16 i) := by
  intro f
  induction f with
  | zero =>
    intro i k hi hk
    obtain ⟨k, rfl⟩ : ∃ m, k = m + 1 := ⟨k - 1, by omega⟩
    obtain rfl : i = n := by omega
    exact br_t (nI_le (Nat.le_refl _) (by omega)) K
  | succ f ih =>
    intro i k hi hk
    obtain ⟨k, rfl⟩ : ∃ m, k = m + 1 := ⟨k - 1, by omega⟩
    have h1 : nI i + 16 = nI (i + 16) := by rw [show (16 : Int32) = nI 16 from rfl, nI_add]
    have v1 : vp_in (nI (i + 16)) 64 := vp_in_nI (by omega) (by decide)
    have v2 : vp_in (nI i) 64 := vp_in_nI (by omega) (by decide)
    refine br_f (nI_ge (by omega) (by omega)) ?_
    rw [h1, nI_clamp (show i < 2 ^ 31 by omega), nI_clamp (show i + 16 < 2 ^ 31 by omega), zd_up (by decide), zd_up (by decide)]
    exact And.intro v1 (And.intro v2 (nm_e (And.intro v1 (And.intro v2 (nm_e (nm_r (nI_1 i) (ih (i + 1) k (by omega) (by omega))))))))
end
theorem i_vc_dropOldest {k : Nat} {u : SX} {v : SY} (I : i_Rel k u v) (hk : k + 5 ≤ 2560) : wpX_dropOldest (fun r u' => wpY_dropOldest (fun r' v' => r' = r ∧ i_Rel (k + 5) u' v') v) u := by
  refine zz_el (P := fun u v => wpX_dropOldest (fun r u' => wpY_dropOldest (fun r' v' => r' = r ∧ i_Rel (k + 5) u' v') v) u) ?_ I
  intro n t w gb vb le tr ck cu fc fs fl fh ba ua fa la ta wa ha ma va yl yr yt yv hT hX hY
  have hn := hT.1
  by_cases h : 16 ≤ n
  · obtain ⟨m, rfl⟩ : ∃ m, n = m + 16 := ⟨n - 16, by omega⟩
    have h16 : (16 : Int32) ≤ nI (m + 16) := nI_le (a := 16) h (by omega)
    refine br_t h16 ⟨73, ?_⟩
    have hl := zx_do14 (n := m) (gb := gb) (vb := vb) (le := le) (tr := tr) (ck := ck) (cu := cu) (fc := fc) (fs := fs) (fl := fl) (fh := fh) (ba := ba) (ua := ua) (fa := fa) (la := la) (ta := ta) (wa := wa) (ha := ha) (ma := ma) (va := va)
      (fun r u' => wpY_dropOldest (fun r' v' => r' = r ∧ i_Rel (k + 5) u' v') (nI (m + 16), yl, yr, yt, yv)) ?_ 72 0 73 rfl (by decide)
    · rw [zd_0] at hl
      exact hl
    · refine br_t h16 (nm_r (e' := nI m) (by rw [show (16 : Int32) = nI 16 from rfl, pk_sub (by omega), Nat.add_sub_cancel]) ⟨m + 1, ?_⟩)
      have hy := zy_do25 (n := m) (yl := yl) (yr := yr) (yt := yt) (yv := yv) (by omega) (fun r' v' => r' = nI m ∧ i_Rel (k + 5) (nI m, gb, vb, le, tr, ck, cu, fc, fs, fl, fh, zd_s ba 24 72, zd_s ua 1 3, zd_s fa 1 3, zd_s la 1 3, zd_s ta 1 3, zd_s wa 1 3, zd_s ha 1 3, ma, va) v') ?_ m 0 (m + 1) (by omega) (by omega)
      · rw [zd_0, zd_0] at hy
        exact hy
      · refine ⟨rfl, zz_in (t := fun i => t (i + 16)) (w := fun i => w (i + 16)) ?_ (zd_X hT hX) ?_⟩
        · exact ⟨by omega, fun i hi => hT.2.1 _ (by omega), fun i hi => by
            have := hT.2.2.1 (i + 16) (by omega)
            rw [show i + 16 + 1 = i + 1 + 16 from by omega] at this
            exact this, fun i hi => hT.2.2.2 _ (by omega)⟩
        · intro i hi
          rw [zd_lo hi, zd_lo hi]
          exact hY (i + 16) (by omega)
  · have h16 : ¬ (16 : Int32) ≤ nI n := nI_ge (b := 16) (by omega) (by decide)
    exact br_f h16 (br_f h16 ⟨rfl, zz_in hT hX hY⟩)
/-! unappend -/
theorem zc_X_16 {n c : Nat} {t w : Nat → Nat} {ba ua fa la ta wa ha : Nat → Int32} (hc : 16 * c ≤ n) (hX : zc_X n t w ba ua fa la ta wa ha) : zc_X (16 * c) t w ba ua fa la ta wa ha := by
  intro d hd
  have h := hX d (by omega)
  have h1 := zc_m_sp n d
  have h2 := zc_m_sp (16 * c) d
  rw [show zc_m n d = zc_m (16 * c) d from by omega] at h
  exact h
theorem zc_tn_mono {n i : Nat} {t w : Nat → Nat} (hT : zc_T n t w) (hi : i < n) : zc_tn t i ≤ t i := by
  cases i with
  | zero => exact Nat.zero_le _
  | succ i => exact hT.2.2.1 i hi
section
variable {gb vb le tr ck cu fc fs fl fh : Int32} {ba ua fa la ta wa ha ma va : Nat → Int32}
theorem zx_ua50 {n c m : Nat} {t w : Nat → Nat} {x3 : Int32} (hT : zc_T n t w) (hcm : 16 * c + (m + 1) = n) (hm : m + 1 ≤ 16) (hQ : zc_Q (zc_s t c) (zc_s w c) (m + 1) ma va) (post : Int32 → SX → Prop)
    (K : ∀ gb vb le tr ba ua fa la ta wa ha, zc_X (16 * c + m) t w ba ua fa la ta wa ha → post x3 (nI (16 * c + m), gb, vb, le, tr, ck, cu, fc, fs, fl, fh, ba, ua, fa, la, ta, wa, ha, ma, va)) :
    ∀ (f i k : Nat) (gb vb le tr : Int32) (ba ua fa la ta wa ha : Nat → Int32), i + f = m → f < k → zc_X (16 * c + i) t w ba ua fa la ta wa ha → zc_PW (16 * c + i) t w gb vb le tr →
    wX_unappend_50 post (nI (m + 1)) x3 k (nI i) (nI (16 * c + i)) gb vb le tr ck cu fc fs fl fh ba ua fa la ta wa ha ma va := by
  have hn := hT.1
  intro f
  induction f with
  | zero =>
    intro i k gb vb le tr ba ua fa la ta wa ha hi hk hX hP
    obtain ⟨k, rfl⟩ : ∃ m, k = m + 1 := ⟨k - 1, by omega⟩
    obtain rfl : i = m := by omega
    exact br_t (by rw [nI_pred]; exact nI_le (Nat.le_refl _) (by omega)) (K _ _ _ _ _ _ _ _ _ _ _ hX)
  | succ f ih =>
    intro i k gb vb le tr ba ua fa la ta wa ha hi hk hX hP
    obtain ⟨k, rfl⟩ : ∃ m, k = m + 1 := ⟨k - 1, by omega⟩
    have hi16 : vp_in (nI i) 16 := vp_in_nI (by omega) (by decide)
    have hq := hQ i (by omega)
    have hmo := zc_tn_mono (i := 16 * c + i) hT (by omega)
    refine br_f (by rw [nI_pred]; exact nI_ge (by omega) (by omega)) (And.intro hi16 ?_)
    refine zx_timeNow (t := t) (w := w) (by omega) hX ?_
    rw [nI_clamp (by omega), hq.1, hq.2]
    refine nm_r (e' := nI (t (16 * c + i) - zc_tn t (16 * c + i))) (pk_sub hmo) (And.intro hi16 ?_)
    refine zx_write (by omega) (zc_T_le hT (by omega)) hX hP (by omega) rfl (fun gb vb le tr ba ua fa la ta wa ha hX2 hP2 => ?_)
    refine nm_r (nI_1 i) ?_
    exact ih (i + 1) k _ _ _ _ _ _ _ _ _ _ _ (by omega) (by omega) hX2 hP2
end
theorem i_vc_unappend {k : Nat} {u : SX} {v : SY} (I : i_Rel k u v) (hk : k + 5 ≤ 2560) : wpX_unappend (fun r u' => wpY_unappend (fun r' v' => r' = r ∧ i_Rel (k + 5) u' v') v) u := by
  refine zz_el (P := fun u v => wpX_unappend (fun r u' => wpY_unappend (fun r' v' => r' = r ∧ i_Rel (k + 5) u' v') v) u) ?_ I
  intro n t w gb vb le tr ck cu fc fs fl fh ba ua fa la ta wa ha ma va yl yr yt yv hT hX hY
  have hn := hT.1
  by_cases h : n = 0
  · subst h
    exact br_t rfl (br_t rfl ⟨rfl, zz_in hT hX hY⟩)
  · have h0 : ¬ nI n = 0 := nI_ne0 (by omega) (by omega)
    obtain ⟨c, m, hcm, hm⟩ : ∃ c m, 16 * c + (m + 1) = n ∧ m + 1 ≤ 16 := ⟨(n - 1) / 16, (n - 1) % 16, by omega, by omega⟩
    have hzm := zc_m_sp n c
    have e1 : (nI n - 1) >>> ((4 : Int32) &&& 31) = nI c := by
      rw [show n = (n - 1) + 1 from by omega, nI_pred, zc_shr4 (by omega)]
      exact congrArg nI (by omega)
    refine br_f h0 (nm_r e1 ?_)
    refine zx_unpack hT hX (by omega) (fun gb vb le tr cu ma va hP hQ => ?_)
    refine zx_inChunk hn (by omega) ?_
    rw [show zc_m n c = m + 1 from by omega] at hQ ⊢
    refine And.intro (by rw [nI_pred]; exact vp_in_nI (by omega) (by decide)) ?_
    refine nm_r (e' := nI (w (16 * c + m))) (by rw [nI_pred, nI_clamp (by omega)]; exact (hQ m (by omega)).2) ?_
    refine nm_r (e' := nI (16 * c + 0)) (by rw [show (16 : Int32) = nI 16 from rfl, pk_mul, Nat.mul_comm, Nat.add_zero]) ⟨m + 1, ?_⟩
    refine zx_ua50 (n := n) (c := c) (m := m) (t := t) (w := w) hT hcm hm hQ _ (fun gb vb le tr ba ua fa la ta wa ha hX2 => ?_) m 0 (m + 1) _ _ _ _ _ _ _ _ _ _ _ (by omega) (by omega) (zc_X_16 (by omega) hX) (fun z => absurd (show (16 * c + 0) % 16 = 0 by omega) z)
    refine br_f h0 (nm_r (e' := nI (16 * c + m)) (by rw [← hcm, ← Nat.add_assoc, nI_pred]) ?_)
    rw [nI_clamp (by omega), (hY (16 * c + m) (by omega)).2]
    refine And.intro (vp_in_nI (by omega) (by decide)) ⟨rfl, ?_⟩
    exact zz_in (zc_T_le hT (by omega)) hX2 (fun i hi => hY i (by omega))
end
section
/-! points, time, value -/
theorem i_vc_points {k : Nat} {u : SX} {v : SY} (I : i_Rel k u v) (hk : k + 5 ≤ 2560) : wpX_points (fun r => wpY_points (fun r' => r' = r ∧ i_Rel (k + 5) u v) v) u := by
  refine zz_el (P := fun u v => wpX_points (fun r => wpY_points (fun r' => r' = r ∧ i_Rel (k + 5) u v) v) u) ?_ I
  intro n t w gb vb le tr ck cu fc fs fl fh ba ua fa la ta wa ha ma va yl yr yt yv hT hX hY
  exact ⟨rfl, zz_in hT hX hY⟩
theorem zi_ix (x : Int32) {n : Nat} (hn : n < 2 ^ 31) : x < 0 ∨ (¬ x < 0 ∧ ¬ x < nI n ∧ nI n ≤ x) ∨ ∃ j : Nat, j < n ∧ x = nI j ∧ ¬ x < 0 ∧ x < nI n ∧ ¬ nI n ≤ x := by
  by_cases h : x < 0
  · exact Or.inl h
  · obtain ⟨j, hj, rfl⟩ := nI_of h
    by_cases h2 : j < n
    · exact Or.inr (Or.inr ⟨j, h2, rfl, h, nI_lt h2 hn, nI_ge h2 hn⟩)
    · exact Or.inr (Or.inl ⟨h, nI_nlt (by omega) hj, nI_le (by omega) hj⟩)
theorem i_vc_time {k : Nat} {u : SX} {v : SY} (I : i_Rel k u v) (hk : k + 5 ≤ 2560) (v1 : Int32) : wpX_time (fun r u' => wpY_time (fun r' => r' = r ∧ i_Rel (k + 5) u' v) v v1) u v1 := by
  refine zz_el (P := fun u v => wpX_time (fun r u' => wpY_time (fun r' => r' = r ∧ i_Rel (k + 5) u' v) v v1) u v1) ?_ I
  intro n t w gb vb le tr ck cu fc fs fl fh ba ua fa la ta wa ha ma va yl yr yt yv hT hX hY
  have hn := hT.1
  unfold wpX_time wpY_time
  rcases zi_ix v1 (n := n) (by omega) with h | ⟨h, h1, h2⟩ | ⟨j, hj, rfl, h, h1, h2⟩
  · exact br_t h (br_f (by decide) (br_t h (br_t rfl ⟨rfl, zz_in hT hX hY⟩)))
  · exact br_f h (br_f h1 (br_f (by decide) (br_f h (br_t h2 (br_t rfl ⟨rfl, zz_in hT hX hY⟩)))))
  · refine br_f h (br_t h1 (br_t rfl ?_))
    rw [zc_shr4 (by omega), zc_and15 (by omega)]
    have hm := zc_m_sp n (j / 16)
    refine zx_unpack hT hX (by omega) (fun gb vb le tr cu ma va hP hQ => ?_)
    refine And.intro (vp_in_nI (by omega) (by decide)) ?_
    rw [nI_clamp (show j % 16 < 2 ^ 31 by omega), (hQ (j % 16) (by omega)).1]
    refine br_f h (br_f h2 (br_f (by decide) (And.intro (vp_in_nI (by omega) (by decide)) ⟨?_, zz_in hT hX hY⟩)))
    rw [nI_clamp (by omega), (hY j hj).1]
    exact congrArg (fun i => nI (t i)) (show j = 16 * (j / 16) + j % 16 by omega)
theorem i_vc_value {k : Nat} {u : SX} {v : SY} (I : i_Rel k u v) (hk : k + 5 ≤ 2560) (v1 : Int32) : wpX_value (fun r u' => wpY_value (fun r' => r' = r ∧ i_Rel (k + 5) u' v) v v1) u v1 := by
  refine zz_el (P := fun u v => wpX_value (fun r u' => wpY_value (fun r' => r' = r ∧ i_Rel (k + 5) u' v) v v1) u v1) ?_ I
  intro n t w gb vb le tr ck cu fc fs fl fh ba ua fa la ta wa ha ma va yl yr yt yv hT hX hY
  have hn := hT.1
  unfold wpX_value wpY_value
  rcases zi_ix v1 (n := n) (by omega) with h | ⟨h, h1, h2⟩ | ⟨j, hj, rfl, h, h1, h2⟩
  · exact br_t h (br_f (by decide) (br_t h (br_t rfl ⟨rfl, zz_in hT hX hY⟩)))
  · exact br_f h (br_f h1 (br_f (by decide) (br_f h (br_t h2 (br_t rfl ⟨rfl, zz_in hT hX hY⟩)))))
  · refine br_f h (br_t h1 (br_t rfl ?_))
    rw [zc_shr4 (by omega), zc_and15 (by omega)]
    have hm := zc_m_sp n (j / 16)
    refine zx_unpack hT hX (by omega) (fun gb vb le tr cu ma va hP hQ => ?_)
    refine And.intro (vp_in_nI (by omega) (by decide)) ?_
    rw [nI_clamp (show j % 16 < 2 ^ 31 by omega), (hQ (j % 16) (by omega)).2]
    refine br_f h (br_f h2 (br_f (by decide) (And.intro (vp_in_nI (by omega) (by decide)) ⟨?_, zz_in hT hX hY⟩)))
    rw [nI_clamp (by omega), (hY j hj).2]
    exact congrArg (fun i => nI (w i)) (show j = 16 * (j / 16) + j % 16 by omega)
/-! the reference's sizes -/
section
variable {yn yl yr : Int32} {yt yv : Nat → Int32}
theorem zy_ts71 {d : Int32} {D : Int} {post : Int32 → Prop} (hd : d.toInt = D) (h1 : ¬ (-7 ≤ D ∧ D ≤ 8)) (K : post (nI (zc_gs D))) : wY_timeSize_71 post d yn yl yr yt yv := by
  unfold wY_timeSize_71
  refine zi_lt D (-63) hd (by decide) (fun h => ?_) (fun h => ?_)
  · rw [zc_gs3 (by omega)] at K; exact K
  · refine zi_lt 64 D (by decide) hd (fun h2 => ?_) (fun h2 => ?_)
    · rw [zc_gs3 (by omega)] at K; exact K
    · rw [zc_gs2 h1 ⟨h, h2⟩] at K; exact K
theorem zy_ts29 {n c j m : Nat} {t w : Nat → Nat} {z0 : Int32} {post : Int32 → Prop} (hT : zc_T n t w) (hY : zc_Y n t w yt yv) (hm : zc_m n c = m) (hj : j + 1 < m) (hz : z0 = nI (zc_g (zc_s t c) j)) (K : post (nI (zc_gs (zc_d (zc_s t c) j)))) :
    wY_timeSize_29 post (nI (16 * c + (j + 1))) z0 yn yl yr yt yv := by
  have hms := zc_m_sp n c
  have hn := hT.1
  unfold wY_timeSize_29
  have hTW : ∀ i, i < m → zc_s t c i ≤ 60000 := fun i hi => hT.2.1 _ (by omega)
  have hg1 := zc_g_le (i := j) hTW (by omega)
  have hg2 := zc_g_le (i := j + 1) hTW (by omega)
  have hp : nI (16 * c + (j + 1)) - 1 = nI (16 * c + j) := by rw [← Nat.add_assoc, nI_pred]
  have hmo := hT.2.2.1 (16 * c + j) (by omega)
  rw [hp, nI_clamp (by omega), nI_clamp (by omega), (hY (16 * c + (j + 1)) (by omega)).1, (hY (16 * c + j) (by omega)).1]
  refine And.intro (vp_in_nI (by omega) (by decide)) (And.intro (vp_in_nI (by omega) (by decide)) ?_)
  rw [pk_sub (by rw [← Nat.add_assoc]; exact hmo), hz]
  intro x3 e3
  have hd : x3.toInt = zc_d (zc_s t c) j := by
    rw [e3]
    exact zi_sub (zi_nI (Nat.lt_of_le_of_lt hg2 (by decide))) (zi_nI (by omega)) (by omega) (by omega)
  refine zi_eq (zc_d (zc_s t c) j) 0 hd (by decide) (fun h0 => ?_) (fun h0 => ?_)
  · rw [h0, zc_gs0] at K; exact K
  · refine zi_lt _ (-7) hd (by decide) (fun h => zy_ts71 hd (by omega) K) (fun h => ?_)
    refine zi_lt 8 _ (by decide) hd (fun h => zy_ts71 hd (by omega) K) (fun h2 => ?_)
    rw [zc_gs1 h0 ⟨h, h2⟩] at K; exact K
theorem zy_ts {n c j m : Nat} {t w : Nat → Nat} {post : Int32 → Prop} (hT : zc_T n t w) (hY : zc_Y n t w yt yv) (hm : zc_m n c = m) (hj : j + 1 < m) (K : post (nI (zc_gs (zc_d (zc_s t c) j)))) :
    wpY_timeSize post (yn, yl, yr, yt, yv) (nI (16 * c + (j + 1))) := by
  have hms := zc_m_sp n c
  have hn := hT.1
  unfold wpY_timeSize
  refine And.intro (by decide) ?_
  rw [show (16 : Int32) = nI 16 from rfl, pk_rem (by omega) (by decide) (by decide), show (16 * c + (j + 1)) % 16 = j + 1 from by omega]
  refine pk_eq (j + 1) 1 (fun h => ?_) (fun h => ?_)
  · obtain rfl : j = 0 := by omega
    exact zy_ts29 hT hY hm hj rfl K
  · obtain ⟨i, rfl⟩ : ∃ i, j = i + 1 := ⟨j - 1, by omega⟩
    have hp : nI (16 * c + (i + 1 + 1)) - 1 = nI (16 * c + (i + 1)) := by rw [← Nat.add_assoc, nI_pred]
    have hp2 : nI (16 * c + (i + 1 + 1)) - 2 = nI (16 * c + i) := by
      rw [show (2 : Int32) = nI 2 from rfl, pk_sub (by omega)]
      exact congrArg nI (by omega)
    have hmo := hT.2.2.1 (16 * c + i) (by omega)
    rw [hp, hp2, nI_clamp (by omega), nI_clamp (by omega), (hY (16 * c + (i + 1)) (by omega)).1, (hY (16 * c + i) (by omega)).1]
    refine And.intro (vp_in_nI (by omega) (by decide)) (And.intro (vp_in_nI (by omega) (by decide)) ?_)
    exact zy_ts29 hT hY hm hj (pk_sub (by rw [← Nat.add_assoc]; exact hmo)) K
def zy_tail (post : Int32 → SY → Prop) (x3 x4 yn yl yr : Int32) (yt yv : Nat → Int32) : Prop :=
  ((yl < 0 → (wY_valueSize_96 post x3 x4 yn yl yr yt yv)) ∧ (¬ yl < 0 → (((x3 < yl → (wY_valueSize_96 post x3 x4 yn yl yr yt yv)) ∧ (¬ x3 < yl → (((x4 < yr → (wY_valueSize_96 post x3 x4 yn yl yr yt yv)) ∧ (¬ x4 < yr → (post ((18 - yl) - yr) (yn, yl, yr, yt, yv))))))))))
theorem zy_vs44 {V : Nat} {x3 : Int32} (hV : V < 65536) (post : Int32 → SY → Prop) : ∀ (f k n : Nat), f + k = 16 → f < n → zr_n V f k ≤ 15 → zy_tail post x3 (nI (zr_n V f k)) yn yl yr yt yv → wY_valueSize_44 post (nI V) x3 yn yl yr yt yv n (nI k) := by
  intro f
  induction f with
  | zero =>
    intro k n hk hn hz
    have : k ≤ 15 := hz
    omega
  | succ f ih =>
    intro k n hk hn hz K
    obtain ⟨n, rfl⟩ : ∃ m, n = m + 1 := ⟨n - 1, by omega⟩
    rw [zr_n] at hz K
    unfold wY_valueSize_44
    rw [zc_bit (by omega) (by omega)]
    cases hb : V.testBit k with
    | true =>
      rw [hb, if_pos rfl] at K
      exact br_f (by decide) K
    | false =>
      rw [hb, if_neg (by decide)] at K hz
      exact br_t (by decide) (nm_r (nI_1 k) (ih (k + 1) n (by omega) (by omega) hz K))
theorem zy_vs24 {V : Nat} (h0 : 0 < V) (hV : V < 65536) (post : Int32 → SY → Prop) : ∀ (f k n : Nat), f + k = 16 → f < n → zl_n V f k ≤ 15 → zy_tail post (nI (zl_n V f k)) (nI (zr V)) yn yl yr yt yv → wY_valueSize_24 post (nI V) yn yl yr yt yv n (nI k) := by
  intro f
  induction f with
  | zero =>
    intro k n hk hn hz
    have : k ≤ 15 := hz
    omega
  | succ f ih =>
    intro k n hk hn hz K
    obtain ⟨n, rfl⟩ : ∃ m, n = m + 1 := ⟨n - 1, by omega⟩
    rw [zl_n] at hz K
    unfold wY_valueSize_24
    rw [show (15 : Int32) - nI k = nI (15 - k) from by rw [show (15 : Int32) = nI 15 from rfl, pk_sub (by omega)], zc_bit (by omega) (by omega)]
    cases hb : V.testBit (15 - k) with
    | true =>
      rw [hb, if_pos rfl] at K
      exact br_f (by decide) ⟨17, zy_vs44 hV post 16 0 17 rfl (by decide) (zr_sp h0 hV 16 0 rfl (Nat.mod_one _)).1 K⟩
    | false =>
      rw [hb, if_neg (by decide)] at K hz
      exact br_t (by decide) (nm_r (nI_1 k) (ih (k + 1) n (by omega) (by omega) hz K))
theorem zy_vsT {x : Nat} {s : Nat × Nat} {post : Int32 → SY → Prop} (h0 : x ≠ 0) (hx : x < 65536) (hN : zc_N s yl yr) (K : ∀ yl yr, zc_N (zc_w s x) yl yr → post (nI (zc_vs s x)) (yn, yl, yr, yt, yv)) :
    zy_tail post (nI (zl x)) (nI (zr x)) yn yl yr yt yv := by
  have hl := zl_le (x := x) (by omega) hx
  have hz := zlr (x := x) (by omega) hx
  have h96 : ¬ (s.1 ≤ zl x ∧ s.2 ≤ zr x) → wY_valueSize_96 post (nI (zl x)) (nI (zr x)) yn yl yr yt yv := by
    intro h1
    rw [zc_vs2 h0 h1, zc_w2 h0 h1] at K
    unfold wY_valueSize_96
    rw [show (26 : Int32) = nI 26 from rfl, pk_sub (by omega), pk_sub (by omega)]
    exact K _ _ (zc_N_new h0 hx)
  unfold zy_tail
  rcases hN with ⟨hs, rfl, rfl⟩ | ⟨hs, rfl⟩
  · refine br_f (nI_pos (by omega)) ?_
    refine pk_lt (zl x) s.1 (fun h => h96 (by omega)) (fun h => ?_)
    refine pk_lt (zr x) s.2 (fun h => h96 (by omega)) (fun h2 => ?_)
    rw [zc_vs1 h0 ⟨h, h2⟩, zc_w1 h0 ⟨h, h2⟩] at K
    rw [show (18 : Int32) = nI 18 from rfl, pk_sub (by omega), pk_sub (by omega)]
    exact K _ _ (Or.inl ⟨hs, rfl, rfl⟩)
  · exact br_t (by decide) (h96 (by omega))
theorem zy_vs {n c j m : Nat} {t w : Nat → Nat} {s : Nat × Nat} {post : Int32 → SY → Prop} (hT : zc_T n t w) (hY : zc_Y n t w yt yv) (hm : zc_m n c = m) (hj : j + 1 < m) (hN : zc_N s yl yr)
    (K : ∀ yl yr, zc_N (zc_w s (zc_x (zc_s w c) j)) yl yr → post (nI (zc_vs s (zc_x (zc_s w c) j))) (yn, yl, yr, yt, yv)) : wpY_valueSize post (yn, yl, yr, yt, yv) (nI (16 * c + (j + 1))) := by
  have hms := zc_m_sp n c
  have hn := hT.1
  have hx : zc_x (zc_s w c) j < 65536 := zc_x_lt (hT.2.2.2 _ (by omega)) (hT.2.2.2 _ (by omega))
  unfold wpY_valueSize
  have hp : nI (16 * c + (j + 1)) - 1 = nI (16 * c + j) := by rw [← Nat.add_assoc, nI_pred]
  dsimp only
  rw [hp, nI_clamp (by omega), nI_clamp (by omega), (hY (16 * c + (j + 1)) (by omega)).2, (hY (16 * c + j) (by omega)).2, nx_xor]
  refine And.intro (vp_in_nI (by omega) (by decide)) (And.intro (vp_in_nI (by omega) (by decide)) ?_)
  refine nm_r (e' := nI (zc_x (zc_s w c) j)) rfl ?_
  refine pk_eq (zc_x (zc_s w c) j) 0 (fun h0 => ?_) (fun h0 => ?_)
  · rw [h0, zc_w0, zc_vs0] at K
    exact K _ _ hN
  · exact ⟨17, zy_vs24 (by omega) hx post 16 0 17 rfl (by decide) (zl_le (by omega) hx) (zy_vsT h0 hx hN K)⟩
theorem zy_sz38 {n c m : Nat} {t w : Nat → Nat} (hT : zc_T n t w) (hY : zc_Y n t w yt yv) (hc : 16 * c < n) (hm : zc_m n c = m) (post : Int32 → SY → Prop)
    (K : ∀ yl yr, post (nI (zc_ps (zc_s t c) (zc_s w c) (m - 1))) (nI n, yl, yr, yt, yv)) :
    ∀ (f j k : Nat) (yl yr : Int32), j + 1 + f = m → f < k → zc_N (zc_wd (zc_s w c) j) yl yr → wY_size_38 post (nI c) k (nI (zc_ps (zc_s t c) (zc_s w c) j)) (nI (16 * c + (j + 1))) (nI n) yl yr yt yv := by
  have hms := zc_m_sp n c
  have hn := hT.1
  have h16 : (16 * nI c) + 16 = nI (16 * c + 16) := by
    rw [show (16 : Int32) = nI 16 from rfl, pk_mul, nI_add]
  intro f
  induction f with
  | zero =>
    intro j k yl yr hj hk hN
    obtain ⟨k, rfl⟩ : ∃ m, k = m + 1 := ⟨k - 1, by omega⟩
    have K' := K yl yr
    rw [show m - 1 = j from by omega] at K'
    refine pk_le (16 * c + 16) (16 * c + (j + 1)) (fun h => K') (fun h => ?_) h16
    exact br_t (nI_le (by omega) (by omega)) K'
  | succ f ih =>
    intro j k yl yr hj hk hN
    obtain ⟨k, rfl⟩ : ∃ m, k = m + 1 := ⟨k - 1, by omega⟩
    refine br_f (by rw [h16]; exact nI_ge (by omega) (by omega)) (br_f (nI_ge (by omega) (by omega)) ?_)
    refine zy_ts hT hY hm (by omega) ?_
    refine zy_vs hT hY hm (by omega) hN (fun yl yr hN2 => ?_)
    refine nm_r (e' := nI (zc_ps (zc_s t c) (zc_s w c) (j + 1))) (by rw [nI_add, nI_add, zc_ps]) (nm_r (nI_1 (16 * c + (j + 1))) ?_)
    exact ih (j + 1) k yl yr (by omega) (by omega) hN2
theorem zy_size {n c : Nat} {t w : Nat → Nat} {post : Int32 → SY → Prop} (hT : zc_T n t w) (hY : zc_Y n t w yt yv) (hc : 16 * c < n)
    (K : ∀ yl yr, post (nI (zc_ps (zc_s t c) (zc_s w c) (zc_m n c - 1))) (nI n, yl, yr, yt, yv)) : wpY_size post (nI n, yl, yr, yt, yv) (nI c) := by
  have hms := zc_m_sp n c
  have hn := hT.1
  have h16 : 16 * nI c = nI (16 * c) := by rw [show (16 : Int32) = nI 16 from rfl, pk_mul]
  refine br_f (nI_pos (by omega)) (br_f (nI_nlt (a := 3) (by omega) (by decide)) (br_t (by rw [h16]; exact nI_lt hc (by omega)) ?_))
  refine nm_r (e' := nI (16 * c + (0 + 1))) (by rw [h16, nI_1]) ⟨17, ?_⟩
  exact zy_sz38 hT hY hc rfl post K (zc_m n c - 1) 0 17 _ _ (by omega) (by omega) (Or.inr ⟨rfl, rfl⟩)
end
theorem zx_ch {n : Nat} (hn : n ≤ 64) : (nI n + 15) >>> ((4 : Int32) &&& 31) = nI ((n + 15) / 16) := by
  rw [show (15 : Int32) = nI 15 from rfl, nI_add, zc_shr4 (by omega)]
theorem i_vc_size {k : Nat} {u : SX} {v : SY} (I : i_Rel k u v) (hk : k + 5 ≤ 2560) (v1 : Int32) : wpX_size (fun r => wpY_size (fun r' v' => r' = r ∧ i_Rel (k + 5) u v') v v1) u v1 := by
  refine zz_el (P := fun u v => wpX_size (fun r => wpY_size (fun r' v' => r' = r ∧ i_Rel (k + 5) u v') v v1) u v1) ?_ I
  intro n t w gb vb le tr ck cu fc fs fl fh ba ua fa la ta wa ha ma va yl yr yt yv hT hX hY
  have hn := hT.1
  unfold wpX_size
  rcases zi_ix v1 (n := (n + 15) / 16) (by omega) with h | ⟨h, h1, h2⟩ | ⟨c, hc, rfl, h, h1, h2⟩
  · exact br_t h (br_t h ⟨rfl, zz_in hT hX hY⟩)
  · refine br_f h ?_
    unfold wpX_chunks
    dsimp only
    rw [zx_ch hn]
    refine br_f h1 (br_f h ?_)
    obtain ⟨j, hj, rfl⟩ := nI_of h
    have h3 : (n + 15) / 16 ≤ j := by rw [nI_leI (by omega) hj] at h2; exact h2
    refine pk_lt 3 j (fun _ => ⟨rfl, zz_in hT hX hY⟩) (fun h4 => ?_)
    refine br_f ?_ ⟨rfl, zz_in hT hX hY⟩
    rw [show (16 : Int32) = nI 16 from rfl, pk_mul]
    exact nI_nlt (by omega) (by omega)
  · refine br_f h ?_
    unfold wpX_chunks
    dsimp only
    rw [zx_ch hn]
    refine br_t h1 (And.intro (vp_in_nI (by omega) (by decide)) ?_)
    rw [nI_clamp (by omega), (hX c (by omega)).1]
    exact zy_size hT hY (by omega) (fun yl yr => ⟨rfl, zz_in hT hX hY⟩)
/-! packed -/
def zp_s (n : Nat) (t w : Nat → Nat) : Nat → Nat
  | 0 => 0
  | c + 1 => zp_s n t w c + zc_ps (zc_s t c) (zc_s w c) (zc_m n c - 1)
section
variable {cn gb vb le tr ck cu fc fs fl fh : Int32} {ba ua fa la ta wa ha ma va : Nat → Int32}
theorem zx_pk4 {n : Nat} {t w : Nat → Nat} (hT : zc_T n t w) (hX : zc_X n t w ba ua fa la ta wa ha) (post : Int32 → Prop) (K : post (nI (zp_s n t w ((n + 15) / 16)))) :
    ∀ (f c k : Nat), c + f = (n + 15) / 16 → f < k → wX_packed_4 post (nI n) gb vb le tr ck cu fc fs fl fh ba ua fa la ta wa ha ma va k (nI (zp_s n t w c)) (nI c) := by
  have hn := hT.1
  intro f
  induction f with
  | zero =>
    intro c k hc hk
    obtain ⟨k, rfl⟩ : ∃ m, k = m + 1 := ⟨k - 1, by omega⟩
    unfold wX_packed_4 wpX_chunks
    dsimp only
    rw [zx_ch hn]
    rw [show (n + 15) / 16 = c from by omega] at K ⊢
    exact br_t (nI_le (Nat.le_refl _) (by omega)) K
  | succ f ih =>
    intro c k hc hk
    obtain ⟨k, rfl⟩ : ∃ m, k = m + 1 := ⟨k - 1, by omega⟩
    unfold wX_packed_4 wpX_chunks
    dsimp only
    rw [zx_ch hn]
    refine br_f (nI_ge (by omega) (by omega)) (And.intro (vp_in_nI (by omega) (by decide)) ?_)
    rw [nI_clamp (by omega), (hX c (by omega)).1, nI_add]
    exact nm_e (nm_r (nI_1 c) (ih (c + 1) k (by omega) (by omega)))
theorem zy_pk4 {n : Nat} {t w : Nat → Nat} {yt yv : Nat → Int32} (hT : zc_T n t w) (hY : zc_Y n t w yt yv) (post : Int32 → SY → Prop) (K : ∀ yl yr, post (nI (zp_s n t w ((n + 15) / 16))) (nI n, yl, yr, yt, yv)) :
    ∀ (f c k : Nat) (yl yr : Int32), c + f = (n + 15) / 16 → f < k → wY_packed_4 post k (nI (zp_s n t w c)) (nI c) (nI n) yl yr yt yv := by
  have hn := hT.1
  intro f
  induction f with
  | zero =>
    intro c k yl yr hc hk
    obtain ⟨k, rfl⟩ : ∃ m, k = m + 1 := ⟨k - 1, by omega⟩
    have h16 : 16 * nI c = nI (16 * c) := by rw [show (16 : Int32) = nI 16 from rfl, pk_mul]
    rw [show (n + 15) / 16 = c from by omega] at K
    exact br_t (by rw [h16]; exact nI_le (by omega) (by omega)) (K _ _)
  | succ f ih =>
    intro c k yl yr hc hk
    obtain ⟨k, rfl⟩ : ∃ m, k = m + 1 := ⟨k - 1, by omega⟩
    have h16 : 16 * nI c = nI (16 * c) := by rw [show (16 : Int32) = nI 16 from rfl, pk_mul]
    refine br_f (by rw [h16]; exact nI_ge (by omega) (by omega)) ?_
    refine zy_size hT hY (by omega) (fun yl yr => ?_)
    exact nm_r (nI_add _ _) (nm_r (nI_1 c) (ih (c + 1) k yl yr (by omega) (by omega)))
end
theorem i_vc_packed {k : Nat} {u : SX} {v : SY} (I : i_Rel k u v) (hk : k + 5 ≤ 2560) : wpX_packed (fun r => wpY_packed (fun r' v' => r' = r ∧ i_Rel (k + 5) u v') v) u := by
  refine zz_el (P := fun u v => wpX_packed (fun r => wpY_packed (fun r' v' => r' = r ∧ i_Rel (k + 5) u v') v) u) ?_ I
  intro n t w gb vb le tr ck cu fc fs fl fh ba ua fa la ta wa ha ma va yl yr yt yv hT hX hY
  refine ⟨(n + 15) / 16 + 1, zx_pk4 hT hX _ ?_ ((n + 15) / 16) 0 _ (by omega) (by omega)⟩
  refine ⟨(n + 15) / 16 + 1, zy_pk4 hT hY _ (fun yl yr => ⟨rfl, zz_in hT hX hY⟩) ((n + 15) / 16) 0 _ _ _ (by omega) (by omega)⟩
end
section
/-! firstFrom -/
theorem zf_last {n c : Nat} {t w : Nat → Nat} {ba ua fa la ta wa ha : Nat → Int32} (hX : zc_X n t w ba ua fa la ta wa ha) (hc : 16 * c < n) : la c = nI (t (16 * c + (zc_m n c - 1))) := (hX c hc).2.2.1
theorem zf_first {n c : Nat} {t w : Nat → Nat} {ba ua fa la ta wa ha : Nat → Int32} (hX : zc_X n t w ba ua fa la ta wa ha) (hc : 16 * c < n) : fa c = nI (t (16 * c)) := (hX c hc).2.1
theorem zf_nlt {n i j : Nat} {t w : Nat → Nat} {x : Int32} (hT : zc_T n t w) (hij : i ≤ j) (hj : j < n) (h : ¬ nI (t i) < x) : ¬ nI (t j) < x := by
  have h1 := zc_T_mono' hT hij hj
  have h2 := hT.2.1 j hj
  rw [Int32.lt_iff_toInt_lt, nI_toInt (by omega)] at h ⊢
  omega
theorem zf_gt {n i j : Nat} {t w : Nat → Nat} {x : Int32} (hT : zc_T n t w) (hij : i ≤ j) (hj : j < n) (h : x < nI (t i)) : x < nI (t j) := by
  have h1 := zc_T_mono' hT hij hj
  have h2 := hT.2.1 j hj
  rw [Int32.lt_iff_toInt_lt, nI_toInt (by omega)] at h ⊢
  omega
section
variable {cn gb vb le tr ck cu fc fs fl fh : Int32} {ba ua fa la ta wa ha ma va : Nat → Int32} {yn yl yr : Int32} {yt yv : Nat → Int32}
theorem zy_ff {n j : Nat} {t w : Nat → Nat} {x : Int32} (hT : zc_T n t w) (hY : zc_Y n t w yt yv) (hj : j < n) (hlo : ∀ i, i < j → nI (t i) < x) (hhi : ¬ nI (t j) < x) (post : Int32 → Prop) (K : post (nI j)) :
    ∀ (d i k : Nat), i + d = j → d < k → wY_firstFrom_2 post x (nI n) yl yr yt yv k (nI i) := by
  have hn := hT.1
  intro d
  induction d with
  | zero =>
    intro i k hi hk
    obtain ⟨k, rfl⟩ : ∃ m, k = m + 1 := ⟨k - 1, by omega⟩
    obtain rfl : i = j := by omega
    refine br_f (nI_ge hj (by omega)) (And.intro (vp_in_nI (by omega) (by decide)) ?_)
    rw [nI_clamp (by omega), (hY i hj).1]
    exact br_f hhi K
  | succ d ih =>
    intro i k hi hk
    obtain ⟨k, rfl⟩ : ∃ m, k = m + 1 := ⟨k - 1, by omega⟩
    refine br_f (nI_ge (by omega) (by omega)) (And.intro (vp_in_nI (by omega) (by decide)) ?_)
    rw [nI_clamp (by omega), (hY i (by omega)).1]
    exact br_t (hlo i (by omega)) (nm_r (nI_1 i) (ih (i + 1) k (by omega) (by omega)))
theorem zy_ffN {n : Nat} {t w : Nat → Nat} {x : Int32} (hT : zc_T n t w) (hY : zc_Y n t w yt yv) (hlo : ∀ i, i < n → nI (t i) < x) (post : Int32 → Prop) (K : post (-4)) :
    ∀ (d i k : Nat), i + d = n → d < k → wY_firstFrom_2 post x (nI n) yl yr yt yv k (nI i) := by
  have hn := hT.1
  intro d
  induction d with
  | zero =>
    intro i k hi hk
    obtain ⟨k, rfl⟩ : ∃ m, k = m + 1 := ⟨k - 1, by omega⟩
    exact br_t (nI_le (by omega) (by omega)) K
  | succ d ih =>
    intro i k hi hk
    obtain ⟨k, rfl⟩ : ∃ m, k = m + 1 := ⟨k - 1, by omega⟩
    refine br_f (nI_ge (by omega) (by omega)) (And.intro (vp_in_nI (by omega) (by decide)) ?_)
    rw [nI_clamp (by omega), (hY i (by omega)).1]
    exact br_t (hlo i (by omega)) (nm_r (nI_1 i) (ih (i + 1) k (by omega) (by omega)))
theorem zx_ff33 {c j : Nat} {T : Nat → Nat} {x : Int32} (hj : j < 16) (hQ : ∀ i, i ≤ j → ma i = nI (T i)) (hlo : ∀ i, i < j → nI (T i) < x) (hhi : ¬ nI (T j) < x) (post : Int32 → SX → Prop) (K : post (nI (16 * c + j)) (cn, gb, vb, le, tr, ck, cu, fc, fs, fl, fh, ba, ua, fa, la, ta, wa, ha, ma, va)) :
    ∀ (d i k : Nat), i + d = j → d < k → wX_firstFrom_33 post x (nI c) cn gb vb le tr ck cu fc fs fl fh ba ua fa la ta wa ha ma va k (nI i) (nI i) := by
  intro d
  induction d with
  | zero =>
    intro i k hi hk
    obtain ⟨k, rfl⟩ : ∃ m, k = m + 1 := ⟨k - 1, by omega⟩
    obtain rfl : i = j := by omega
    refine br_f (nI_ge (b := 16) (by omega) (by decide)) (And.intro (vp_in_nI (by omega) (by decide)) ?_)
    rw [nI_clamp (by omega), hQ i (Nat.le_refl _)]
    refine br_t (Int32.not_lt.mp hhi) ?_
    rw [show (16 : Int32) = nI 16 from rfl, pk_mul, nI_add, Nat.mul_comm]
    exact K
  | succ d ih =>
    intro i k hi hk
    obtain ⟨k, rfl⟩ : ∃ m, k = m + 1 := ⟨k - 1, by omega⟩
    refine br_f (nI_ge (b := 16) (by omega) (by decide)) (And.intro (vp_in_nI (by omega) (by decide)) ?_)
    rw [nI_clamp (by omega), hQ i (by omega)]
    exact br_f (Int32.not_le.mpr (hlo i (by omega))) (nm_r (nI_1 i) (nm_r (nI_1 i) (ih (i + 1) k (by omega) (by omega))))
theorem zx_ff7 {n j : Nat} {t w : Nat → Nat} {x : Int32} (hT : zc_T n t w) (hX : zc_X n t w ba ua fa la ta wa ha) (hj : j < n) (hlo : ∀ i, i < j → nI (t i) < x) (hhi : ¬ nI (t j) < x) (post : Int32 → SX → Prop)
    (K : ∀ gb vb le tr ck cu ma va, post (nI j) (nI n, gb, vb, le, tr, ck, cu, fc, fs, fl, fh, ba, ua, fa, la, ta, wa, ha, ma, va)) :
    ∀ (d c k : Nat), c + d = j / 16 → d < k → wX_firstFrom_7 post x (nI ((n + 15) / 16)) (nI n) gb vb le tr ck cu fc fs fl fh ba ua fa la ta wa ha ma va k (nI c) := by
  have hn := hT.1
  intro d
  induction d with
  | zero =>
    intro c k hc hk
    obtain ⟨k, rfl⟩ : ∃ m, k = m + 1 := ⟨k - 1, by omega⟩
    have hm := zc_m_sp n c
    refine br_f (nI_ge (by omega) (by omega)) (And.intro (vp_in_nI (by omega) (by decide)) ?_)
    rw [nI_clamp (by omega), zf_last hX (c := c) (by omega)]
    refine br_f (zf_nlt hT (i := j) (by omega) (by omega) hhi) ?_
    refine zx_unpack hT hX (by omega) (fun gb vb le tr cu ma va hP hQ => ?_)
    refine ⟨17, zx_ff33 (T := zc_s t c) (j := j % 16) (by omega) (fun i hi => (hQ i (by omega)).1) (fun i hi => hlo _ (by omega)) ?_ post ?_ (j % 16) 0 17 (by omega) (by omega)⟩
    · have e : zc_s t c (j % 16) = t j := congrArg t (by omega)
      rw [e]
      exact hhi
    · rw [show 16 * c + j % 16 = j from by omega]
      exact K _ _ _ _ _ _ _ _
  | succ d ih =>
    intro c k hc hk
    obtain ⟨k, rfl⟩ : ∃ m, k = m + 1 := ⟨k - 1, by omega⟩
    have hm := zc_m_sp n c
    refine br_f (nI_ge (by omega) (by omega)) (And.intro (vp_in_nI (by omega) (by decide)) ?_)
    rw [nI_clamp (by omega), zf_last hX (c := c) (by omega)]
    exact br_t (hlo _ (by omega)) (nm_r (nI_1 c) (ih (c + 1) k (by omega) (by omega)))
theorem zx_ff7N {n : Nat} {t w : Nat → Nat} {x : Int32} (hT : zc_T n t w) (hX : zc_X n t w ba ua fa la ta wa ha) (hlo : ∀ i, i < n → nI (t i) < x) (post : Int32 → SX → Prop)
    (K : post (-4) (nI n, gb, vb, le, tr, ck, cu, fc, fs, fl, fh, ba, ua, fa, la, ta, wa, ha, ma, va)) :
    ∀ (d c k : Nat), c + d = (n + 15) / 16 → d < k → wX_firstFrom_7 post x (nI ((n + 15) / 16)) (nI n) gb vb le tr ck cu fc fs fl fh ba ua fa la ta wa ha ma va k (nI c) := by
  have hn := hT.1
  intro d
  induction d with
  | zero =>
    intro c k hc hk
    obtain ⟨k, rfl⟩ : ∃ m, k = m + 1 := ⟨k - 1, by omega⟩
    exact br_t (nI_le (by omega) (by omega)) K
  | succ d ih =>
    intro c k hc hk
    obtain ⟨k, rfl⟩ : ∃ m, k = m + 1 := ⟨k - 1, by omega⟩
    have hm := zc_m_sp n c
    refine br_f (nI_ge (by omega) (by omega)) (And.intro (vp_in_nI (by omega) (by decide)) ?_)
    rw [nI_clamp (by omega), zf_last hX (c := c) (by omega)]
    exact br_t (hlo _ (by omega)) (nm_r (nI_1 c) (ih (c + 1) k (by omega) (by omega)))
end
theorem i_vc_firstFrom {k : Nat} {u : SX} {v : SY} (I : i_Rel k u v) (hk : k + 5 ≤ 2560) (v1 : Int32) : wpX_firstFrom (fun r u' => wpY_firstFrom (fun r' => r' = r ∧ i_Rel (k + 5) u' v) v v1) u v1 := by
  refine zz_el (P := fun u v => wpX_firstFrom (fun r u' => wpY_firstFrom (fun r' => r' = r ∧ i_Rel (k + 5) u' v) v v1) u v1) ?_ I
  intro n t w gb vb le tr ck cu fc fs fl fh ba ua fa la ta wa ha ma va yl yr yt yv hT hX hY
  have hn := hT.1
  unfold wpX_firstFrom wpX_chunks
  dsimp only
  rw [zx_ch hn]
  by_cases h : ∃ j, j < n ∧ ¬ nI (t j) < v1
  · obtain ⟨j, ⟨hj, hhi⟩, hlo⟩ := pk_least _ h
    have hlo' : ∀ i, i < j → nI (t i) < v1 := fun i hi => Classical.byContradiction (fun z => hlo i hi ⟨by omega, z⟩)
    refine ⟨j / 16 + 1, zx_ff7 hT hX hj hlo' hhi _ (fun gb vb le tr ck cu ma va => ?_) (j / 16) 0 _ (by omega) (by omega)⟩
    exact ⟨j + 1, zy_ff hT hY hj hlo' hhi _ ⟨rfl, zz_in hT hX hY⟩ j 0 _ (by omega) (by omega)⟩
  · have hlo' : ∀ i, i < n → nI (t i) < v1 := fun i hi => Classical.byContradiction (fun z => h ⟨i, hi, z⟩)
    refine ⟨(n + 15) / 16 + 1, zx_ff7N hT hX hlo' _ ?_ ((n + 15) / 16) 0 _ (by omega) (by omega)⟩
    exact ⟨n + 1, zy_ffN hT hY hlo' _ ⟨rfl, zz_in hT hX hY⟩ n 0 _ (by omega) (by omega)⟩
/-! valueAt -/
def zv_a (w : Nat → Nat) : Nat → Int32
  | 0 => -4
  | j + 1 => nI (w j)
section
variable {cn gb vb le tr ck cu fc fs fl fh : Int32} {ba ua fa la ta wa ha ma va : Nat → Int32} {yn yl yr : Int32} {yt yv : Nat → Int32}
theorem zy_va5 {n j : Nat} {t w : Nat → Nat} {x : Int32} (hT : zc_T n t w) (hY : zc_Y n t w yt yv) (hj : j ≤ n) (hlo : ∀ i, i < j → ¬ x < nI (t i)) (hhi : ∀ i, j ≤ i → i < n → x < nI (t i)) (post : Int32 → Prop) (K : post (zv_a w j)) :
    ∀ (d i k : Nat), i + d = n → d < k → wY_valueAt_5 post x (nI n) yl yr yt yv k (zv_a w (if i < j then i else j)) (nI i) := by
  have hn := hT.1
  intro d
  induction d with
  | zero =>
    intro i k hi hk
    obtain ⟨k, rfl⟩ : ∃ m, k = m + 1 := ⟨k - 1, by omega⟩
    rw [if_neg (by omega)]
    exact br_t (nI_le (by omega) (by omega)) K
  | succ d ih =>
    intro i k hi hk
    obtain ⟨k, rfl⟩ : ∃ m, k = m + 1 := ⟨k - 1, by omega⟩
    have h := ih (i + 1) k (by omega) (by omega)
    have hi64 : vp_in (nI i) 64 := vp_in_nI (by omega) (by decide)
    refine br_f (nI_ge (by omega) (by omega)) (And.intro hi64 ?_)
    rw [nI_clamp (by omega), (hY i (by omega)).1, (hY i (by omega)).2]
    by_cases hij : i < j
    · refine br_f (hlo i hij) (And.intro hi64 (nm_e (nm_r (nI_1 i) ?_)))
      by_cases h2 : i + 1 < j
      · rw [if_pos h2] at h; exact h
      · rw [if_neg h2, show j = i + 1 from by omega] at h
        exact h
    · rw [if_neg hij]
      rw [if_neg (by omega)] at h
      exact br_t (hhi i (by omega) (by omega)) (nm_r (nI_1 i) h)
theorem zx_va44 {j m : Nat} {T W : Nat → Nat} {x : Int32} (hm : m ≤ 16) (hj : j < m) (hQ : zc_Q T W m ma va) (hlo : ¬ x < nI (T j)) (hhi : ∀ i, j < i → i < m → x < nI (T i)) (post : Int32 → SX → Prop) (K : post (nI (W j)) (cn, gb, vb, le, tr, ck, cu, fc, fs, fl, fh, ba, ua, fa, la, ta, wa, ha, ma, va)) :
    ∀ (d i k : Nat), j + d = i → i < m → d < k → wX_valueAt_44 post x cn gb vb le tr ck cu fc fs fl fh ba ua fa la ta wa ha ma va k (nI i) (nI (m - 1 - i)) := by
  intro d
  induction d with
  | zero =>
    intro i k hi him hk
    obtain ⟨k, rfl⟩ : ∃ m, k = m + 1 := ⟨k - 1, by omega⟩
    obtain rfl : j = i := by omega
    have h16 : vp_in (nI j) 16 := vp_in_nI (by omega) (by decide)
    refine br_f (nI_ge (b := 16) (by omega) (by decide)) (And.intro h16 ?_)
    rw [nI_clamp (by omega), (hQ j hj).1, (hQ j hj).2]
    exact br_t (Int32.not_lt.mp hlo) (And.intro h16 K)
  | succ d ih =>
    intro i k hi him hk
    obtain ⟨k, rfl⟩ : ∃ m, k = m + 1 := ⟨k - 1, by omega⟩
    have h16 : vp_in (nI i) 16 := vp_in_nI (by omega) (by decide)
    refine br_f (nI_ge (b := 16) (by omega) (by decide)) (And.intro h16 ?_)
    rw [nI_clamp (by omega), (hQ i him).1]
    refine br_f (Int32.not_le.mpr (hhi i (by omega) him)) (nm_r (sb_m1 (by omega)) (nm_r (nI_1 (m - 1 - i)) ?_))
    have h := ih (i - 1) k (by omega) (by omega) (by omega)
    rw [show m - 1 - (i - 1) = m - 1 - i + 1 from by omega] at h
    exact h
theorem zx_va9 {n j : Nat} {t w : Nat → Nat} {x : Int32} (hT : zc_T n t w) (hX : zc_X n t w ba ua fa la ta wa ha) (hj : j < n) (hlo : ¬ x < nI (t j)) (hlo0 : ∀ i, i ≤ j → ¬ x < nI (t i)) (hhi : ∀ i, j < i → i < n → x < nI (t i)) (post : Int32 → SX → Prop)
    (K : ∀ gb vb le tr ck cu ma va, post (nI (w j)) (nI n, gb, vb, le, tr, ck, cu, fc, fs, fl, fh, ba, ua, fa, la, ta, wa, ha, ma, va)) :
    ∀ (d c k : Nat), j / 16 + d = c → 16 * c < n → d < k → wX_valueAt_9 post x (nI n) gb vb le tr ck cu fc fs fl fh ba ua fa la ta wa ha ma va k (nI c) := by
  have hn := hT.1
  intro d
  induction d with
  | zero =>
    intro c k hc hcn hk
    obtain ⟨k, rfl⟩ : ∃ m, k = m + 1 := ⟨k - 1, by omega⟩
    have hm := zc_m_sp n c
    refine br_f (nI_pos (by omega)) (And.intro (vp_in_nI (by omega) (by decide)) ?_)
    rw [nI_clamp (by omega), zf_first hX hcn]
    refine br_f (hlo0 _ (by omega)) ?_
    refine zx_unpack hT hX hcn (fun gb vb le tr cu ma va hP hQ => ?_)
    refine zx_inChunk hn (by omega) ?_
    refine nm_r (e' := nI (zc_m n c - 1)) (by rw [show (1 : Int32) = nI 1 from rfl, pk_sub (by omega)]) ⟨17, ?_⟩
    have e : zc_s t c (j % 16) = t j := congrArg t (by omega)
    have e2 : zc_s w c (j % 16) = w j := congrArg w (by omega)
    have h := zx_va44 (T := zc_s t c) (W := zc_s w c) (m := zc_m n c) (j := j % 16) (by omega) (by omega) hQ (by rw [e]; exact hlo) (fun i h1 h2 => hhi _ (by omega) (by omega)) post (by rw [e2]; exact K gb vb le tr (nI c) cu ma va) (zc_m n c - 1 - j % 16) (zc_m n c - 1) 17 (by omega) (by omega) (by omega)
    rw [Nat.sub_self] at h
    exact h
  | succ d ih =>
    intro c k hc hcn hk
    obtain ⟨k, rfl⟩ : ∃ m, k = m + 1 := ⟨k - 1, by omega⟩
    refine br_f (nI_pos (by omega)) (And.intro (vp_in_nI (by omega) (by decide)) ?_)
    rw [nI_clamp (by omega), zf_first hX hcn]
    exact br_t (hhi _ (by omega) hcn) (nm_r (sb_m1 (by omega)) (ih (c - 1) k (by omega) (by omega) (by omega)))
theorem zx_va9N {n : Nat} {t w : Nat → Nat} {x : Int32} (hT : zc_T n t w) (hX : zc_X n t w ba ua fa la ta wa ha) (hhi : ∀ i, i < n → x < nI (t i)) (post : Int32 → SX → Prop)
    (K : post (-4) (nI n, gb, vb, le, tr, ck, cu, fc, fs, fl, fh, ba, ua, fa, la, ta, wa, ha, ma, va)) :
    ∀ (d k : Nat), d ≤ (n + 15) / 16 → d < k → wX_valueAt_9 post x (nI n) gb vb le tr ck cu fc fs fl fh ba ua fa la ta wa ha ma va k (nI d - 1) := by
  have hn := hT.1
  intro d
  induction d with
  | zero =>
    intro k hc hk
    obtain ⟨k, rfl⟩ : ∃ m, k = m + 1 := ⟨k - 1, by omega⟩
    exact br_t (by decide) K
  | succ d ih =>
    intro k hc hk
    obtain ⟨k, rfl⟩ : ∃ m, k = m + 1 := ⟨k - 1, by omega⟩
    rw [nI_pred]
    refine br_f (nI_pos (by omega)) (And.intro (vp_in_nI (by omega) (by decide)) ?_)
    rw [nI_clamp (by omega), zf_first hX (c := d) (by omega)]
    exact br_t (hhi _ (by omega)) (nm_r (e' := nI d - 1) (by rw [Int32.sub_eq_add_neg]) (ih k (by omega) (by omega)))
end
theorem i_vc_valueAt {k : Nat} {u : SX} {v : SY} (I : i_Rel k u v) (hk : k + 5 ≤ 2560) (v1 : Int32) : wpX_valueAt (fun r u' => wpY_valueAt (fun r' => r' = r ∧ i_Rel (k + 5) u' v) v v1) u v1 := by
  refine zz_el (P := fun u v => wpX_valueAt (fun r u' => wpY_valueAt (fun r' => r' = r ∧ i_Rel (k + 5) u' v) v v1) u v1) ?_ I
  intro n t w gb vb le tr ck cu fc fs fl fh ba ua fa la ta wa ha ma va yl yr yt yv hT hX hY
  have hn := hT.1
  unfold wpX_valueAt wpX_chunks
  dsimp only
  rw [zx_ch hn]
  obtain ⟨j, hj0, hlo⟩ := pk_least (fun j => j = n ∨ (j < n ∧ v1 < nI (t j))) ⟨n, Or.inl rfl⟩
  have hj : j ≤ n := by rcases hj0 with h | h <;> omega
  have hlo' : ∀ i, i < j → ¬ v1 < nI (t i) := fun i hi z => hlo i hi (Or.inr ⟨by omega, z⟩)
  have hhi' : ∀ i, j ≤ i → i < n → v1 < nI (t i) := by
    intro i h1 h2
    rcases hj0 with h | h
    · omega
    · exact zf_gt hT h1 h2 h.2
  have yA : ∀ P : Int32 → Prop, P (zv_a w j) → wpY_valueAt P (nI n, yl, yr, yt, yv) v1 := by
    intro P hP
    have h := zy_va5 (yl := yl) (yr := yr) hT hY hj hlo' hhi' P hP n 0 (n + 1) (by omega) (by omega)
    have e : (if 0 < j then 0 else j) = 0 := by split <;> omega
    rw [e] at h
    exact ⟨n + 1, h⟩
  cases j with
  | zero =>
    refine nm_e ⟨(n + 15) / 16 + 1, zx_va9N hT hX (fun i hi => hhi' i (by omega) hi) _ ?_ ((n + 15) / 16) _ (Nat.le_refl _) (by omega)⟩
    exact yA _ ⟨rfl, zz_in hT hX hY⟩
  | succ j =>
    refine nm_r (e' := nI ((n + 15) / 16 - 1)) (by rw [show (1 : Int32) = nI 1 from rfl, pk_sub (by omega)]) ⟨(n + 15) / 16 + 1, ?_⟩
    refine zx_va9 (j := j) hT hX (by omega) (hlo' j (by omega)) (fun i hi => hlo' i (by omega)) (fun i h1 h2 => hhi' i (by omega) h2) _ (fun gb vb le tr ck cu ma va => ?_) ((n + 15) / 16 - 1 - j / 16) _ _ (by omega) (by omega) (by omega)
    exact yA _ ⟨rfl, zz_in hT hX hY⟩
end
section
/-! spans: the folds -/
def zq_c (t : Nat → Nat) (F H : Nat) : Nat → Nat
  | 0 => 0
  | k + 1 => if F ≤ t k ∧ t k ≤ H then zq_c t F H k + 1 else zq_c t F H k
def zq_s (t w : Nat → Nat) (F H : Nat) : Nat → Nat
  | 0 => 0
  | k + 1 => if F ≤ t k ∧ t k ≤ H then zq_s t w F H k + w k else zq_s t w F H k
def zq_l (t w : Nat → Nat) (F H : Nat) : Nat → Nat
  | 0 => 65536
  | k + 1 => if F ≤ t k ∧ t k ≤ H then (if zq_l t w F H k ≤ w k then zq_l t w F H k else w k) else zq_l t w F H k
def zq_h (t w : Nat → Nat) (F H : Nat) : Nat → Nat
  | 0 => 0
  | k + 1 => if F ≤ t k ∧ t k ≤ H then (if w k ≤ zq_h t w F H k then zq_h t w F H k else w k) else zq_h t w F H k
theorem zq_c_le (t : Nat → Nat) (F H : Nat) : ∀ k, zq_c t F H k ≤ k := by
  intro k
  induction k with
  | zero => exact Nat.le_refl _
  | succ k ih => rw [zq_c]; split <;> omega
theorem zq_l_le (t w : Nat → Nat) (F H : Nat) : ∀ k, zq_l t w F H k ≤ 65536 := by
  intro k
  induction k with
  | zero => exact Nat.le_refl _
  | succ k ih =>
    rw [zq_l]
    split
    · split <;> omega
    · exact ih
theorem zq_l_lt (t w : Nat → Nat) (F H : Nat) : ∀ k, (∀ i, i < k → w i < 65536) → 0 < zq_c t F H k → zq_l t w F H k < 65536 := by
  intro k
  induction k with
  | zero => intro _ h; exact absurd h (Nat.lt_irrefl _)
  | succ k ih =>
    intro hw h
    have := hw k (by omega)
    rw [zq_c] at h
    rw [zq_l]
    by_cases e : F ≤ t k ∧ t k ≤ H
    · rw [if_pos e]; split <;> omega
    · rw [if_neg e] at h ⊢; exact ih (fun i hi => hw i (by omega)) h
theorem zq_h_le (t w : Nat → Nat) (F H : Nat) : ∀ k, (∀ i, i < k → w i < 65536) → zq_h t w F H k ≤ 65535 := by
  intro k
  induction k with
  | zero => intro _; exact Nat.zero_le _
  | succ k ih =>
    intro hw
    have h1 := ih (fun i hi => hw i (by omega))
    have h2 := hw k (by omega)
    rw [zq_h]
    split
    · split <;> omega
    · exact h1
theorem zq_0 (t w : Nat → Nat) (F H : Nat) : ∀ k, zq_c t F H k = 0 → zq_l t w F H k = 65536 ∧ zq_h t w F H k = 0 := by
  intro k
  induction k with
  | zero => intro _; exact ⟨rfl, rfl⟩
  | succ k ih =>
    intro h
    rw [zq_c] at h
    by_cases e : F ≤ t k ∧ t k ≤ H
    · rw [if_pos e] at h; omega
    · rw [if_neg e] at h
      rw [zq_l, zq_h, if_neg e, if_neg e]
      exact ih h
/-- what the component has found among the first k points -/
def zq_F (t w : Nat → Nat) (F H k : Nat) (fc fs fl fh : Int32) : Prop := fc = nI (zq_c t F H k) ∧ fs = nI (zq_s t w F H k) ∧ fl = nI (zq_l t w F H k) ∧
  ((zq_c t F H k = 0 ∧ fh = -1) ∨ (0 < zq_c t F H k ∧ fh = nI (zq_h t w F H k)))
theorem zq_F_out {t w : Nat → Nat} {F H k : Nat} {fc fs fl fh : Int32} (h : ¬ (F ≤ t k ∧ t k ≤ H)) (hF : zq_F t w F H k fc fs fl fh) : zq_F t w F H (k + 1) fc fs fl fh := by
  unfold zq_F at hF ⊢
  rw [zq_c, zq_s, zq_l, zq_h, if_neg h, if_neg h, if_neg h, if_neg h]
  exact hF
theorem zq_F_outs {t w : Nat → Nat} {F H k : Nat} {fc fs fl fh : Int32} (hF : zq_F t w F H k fc fs fl fh) : ∀ m, (∀ i, i < m → ¬ (F ≤ t (k + i) ∧ t (k + i) ≤ H)) → zq_F t w F H (k + m) fc fs fl fh := by
  intro m
  induction m with
  | zero => intro _; exact hF
  | succ m ih => intro h; exact zq_F_out (h m (by omega)) (ih (fun i hi => h i (by omega)))
/-! a chunk wholly inside -/
theorem zq_in_c {t : Nat → Nat} {F H k : Nat} : ∀ m, (∀ i, i < m → F ≤ t (k + i) ∧ t (k + i) ≤ H) → zq_c t F H (k + m) = zq_c t F H k + m := by
  intro m
  induction m with
  | zero => intro _; rfl
  | succ m ih => intro h; rw [← Nat.add_assoc, zq_c, if_pos (h m (by omega)), ih (fun i hi => h i (by omega))]; rfl
theorem zq_in_s {t w : Nat → Nat} {F H c : Nat} : ∀ m, (∀ i, i < m → F ≤ t (16 * c + i) ∧ t (16 * c + i) ≤ H) → zq_s t w F H (16 * c + m) = zq_s t w F H (16 * c) + zc_sm (zc_s w c) m := by
  intro m
  induction m with
  | zero => intro _; rfl
  | succ m ih => intro h; rw [← Nat.add_assoc, zq_s, if_pos (h m (by omega)), ih (fun i hi => h i (by omega)), zc_sm, Nat.add_assoc]; rfl
theorem zq_in_l {t w : Nat → Nat} {F H c : Nat} : ∀ m, (∀ i, i < m + 1 → F ≤ t (16 * c + i) ∧ t (16 * c + i) ≤ H) → (∀ i, i < m + 1 → w (16 * c + i) < 65536) →
    zq_l t w F H (16 * c + (m + 1)) = if zq_l t w F H (16 * c) ≤ zc_lo (zc_s w c) (m + 1) then zq_l t w F H (16 * c) else zc_lo (zc_s w c) (m + 1) := by
  intro m
  induction m with
  | zero =>
    intro h hw
    have h0 := h 0 (by omega)
    have hw0 := hw 0 (by omega)
    rw [Nat.add_zero] at h0 hw0
    have e : zc_s w c 0 = w (16 * c) := rfl
    show zq_l t w F H (16 * c + 1) = _
    rw [zq_l, if_pos h0, zc_lo, zc_lo, e]
    rw [show (if 65535 ≤ w (16 * c) then 65535 else w (16 * c)) = w (16 * c) from by split <;> omega]
  | succ m ih =>
    intro h hw
    have h1 := ih (fun i hi => h i (by omega)) (fun i hi => hw i (by omega))
    have h2 := h (m + 1) (by omega)
    have e : zc_s w c (m + 1) = w (16 * c + (m + 1)) := rfl
    rw [show 16 * c + (m + 1 + 1) = 16 * c + (m + 1) + 1 from rfl, zq_l, if_pos h2, h1, show zc_lo (zc_s w c) (m + 1 + 1) = if zc_lo (zc_s w c) (m + 1) ≤ zc_s w c (m + 1) then zc_lo (zc_s w c) (m + 1) else zc_s w c (m + 1) from rfl, e]
    generalize zq_l t w F H (16 * c) = a
    generalize zc_lo (zc_s w c) (m + 1) = b
    generalize w (16 * c + (m + 1)) = d
    (repeat' split) <;> omega
theorem zq_in_h {t w : Nat → Nat} {F H c : Nat} : ∀ m, (∀ i, i < m → F ≤ t (16 * c + i) ∧ t (16 * c + i) ≤ H) →
    zq_h t w F H (16 * c + m) = if zc_hi (zc_s w c) m ≤ zq_h t w F H (16 * c) then zq_h t w F H (16 * c) else zc_hi (zc_s w c) m := by
  intro m
  induction m with
  | zero =>
    intro _
    rw [zc_hi, if_pos (Nat.zero_le _)]
    rfl
  | succ m ih =>
    intro h
    have h1 := ih (fun i hi => h i (by omega))
    have h2 := h m (by omega)
    have e : zc_s w c m = w (16 * c + m) := rfl
    rw [← Nat.add_assoc, zq_h, if_pos h2, h1, zc_hi, e]
    generalize zq_h t w F H (16 * c) = a
    generalize zc_hi (zc_s w c) m = b
    generalize w (16 * c + m) = d
    (repeat' split) <;> omega
/-! note, cut, search -/
section
variable {cn gb vb le tr ck cu fc fs fl fh : Int32} {ba ua fa la ta wa ha ma va : Nat → Int32}
theorem zx_note {L a b : Nat} {p0 p1 : Int32} {post : SX → Prop} (hL : L ≤ 65536) (hL2 : a ≤ 65536)
    (K : ∀ fh', ((nI b ≤ fh ∧ fh' = fh) ∨ (¬ nI b ≤ fh ∧ fh' = nI b)) → post (cn, gb, vb, le, tr, ck, cu, fc + p0, fs + p1, nI (if L ≤ a then L else a), fh', ba, ua, fa, la, ta, wa, ha, ma, va)) :
    wpX_note post (cn, gb, vb, le, tr, ck, cu, fc, fs, nI L, fh, ba, ua, fa, la, ta, wa, ha, ma, va) p0 p1 (nI a) (nI b) := by
  unfold wpX_note
  refine nm_e (nm_e (pk_le L a (fun h => ?_) (fun h => ?_)))
  · rw [if_pos h] at K
    exact br_c (fun h2 => K _ (Or.inl ⟨h2, rfl⟩)) (fun h2 => K _ (Or.inr ⟨h2, rfl⟩))
  · rw [if_neg (by omega)] at K
    exact br_c (fun h2 => K _ (Or.inl ⟨h2, rfl⟩)) (fun h2 => K _ (Or.inr ⟨h2, rfl⟩))
theorem zx_noteF {t w : Nat → Nat} {F H k k' M S L B : Nat} {post : SX → Prop} (hF : zq_F t w F H k fc fs fl fh) (hM : 0 < M)
    (hc : zq_c t F H k' = zq_c t F H k + M) (hs : zq_s t w F H k' = zq_s t w F H k + S) (hl : zq_l t w F H k' = if zq_l t w F H k ≤ L then zq_l t w F H k else L) (hh : zq_h t w F H k' = if B ≤ zq_h t w F H k then zq_h t w F H k else B)
    (hL : L ≤ 65536) (hB : B ≤ 65535) (hH : zq_h t w F H k ≤ 65535)
    (K : ∀ fc fs fl fh, zq_F t w F H k' fc fs fl fh → post (cn, gb, vb, le, tr, ck, cu, fc, fs, fl, fh, ba, ua, fa, la, ta, wa, ha, ma, va)) : wpX_note post (cn, gb, vb, le, tr, ck, cu, fc, fs, fl, fh, ba, ua, fa, la, ta, wa, ha, ma, va) (nI M) (nI S) (nI L) (nI B) := by
  obtain ⟨h1, h2, h3, h4⟩ := hF
  subst h1 h2 h3
  refine zx_note (L := zq_l t w F H k) (zq_l_le t w F H k) hL (fun fh' hfh => ?_)
  refine K _ _ _ _ ⟨by rw [nI_add, hc], by rw [nI_add, hs], by rw [hl], Or.inr ⟨by omega, ?_⟩⟩
  rw [hh]
  rcases h4 with ⟨h0, e⟩ | ⟨h0, e⟩
  · subst e
    rcases hfh with ⟨h5, h6⟩ | ⟨h5, h6⟩
    · exact absurd h5 (by rw [Int32.le_iff_toInt_le, nI_toInt (by omega)]; have : (-1 : Int32).toInt = -1 := by decide
                          omega)
    · rw [(zq_0 t w F H k h0).2, h6]
      exact congrArg nI (by split <;> omega)
  · subst e
    rcases hfh with ⟨h5, h6⟩ | ⟨h5, h6⟩
    · rw [nI_leI (by omega) (by omega)] at h5
      rw [if_pos h5, h6]
    · rw [nI_leI (by omega) (by omega)] at h5
      rw [if_neg h5, h6]
theorem zx_cut15 {n c m F H : Nat} {t w : Nat → Nat} (hT : zc_T n t w) (hc : 16 * c < n) (hm : zc_m n c = m) (hQ : zc_Q (zc_s t c) (zc_s w c) m ma va) (hF2 : F ≤ 60000) (hH2 : H ≤ 60000) (post : SX → Prop)
    (K : ∀ fc fs fl fh, zq_F t w F H (16 * c + m) fc fs fl fh → post (cn, gb, vb, le, tr, ck, cu, fc, fs, fl, fh, ba, ua, fa, la, ta, wa, ha, ma, va)) :
    ∀ (f i k : Nat) (fc fs fl fh : Int32), i + f = m → f < k → zq_F t w F H (16 * c + i) fc fs fl fh → wX_cut_15 post (nI F) (nI H) (nI m) k (nI i) cn gb vb le tr ck cu fc fs fl fh ba ua fa la ta wa ha ma va := by
  have hn := hT.1
  have hms := zc_m_sp n c
  intro f
  induction f with
  | zero =>
    intro i k fc fs fl fh hi hk hF
    obtain ⟨k, rfl⟩ : ∃ m, k = m + 1 := ⟨k - 1, by omega⟩
    obtain rfl : i = m := by omega
    exact br_t (nI_le (Nat.le_refl _) (by omega)) (K _ _ _ _ hF)
  | succ f ih =>
    intro i k fc fs fl fh hi hk hF
    obtain ⟨k, rfl⟩ : ∃ m, k = m + 1 := ⟨k - 1, by omega⟩
    have h16 : vp_in (nI i) 16 := vp_in_nI (by omega) (by decide)
    have hti := hT.2.1 (16 * c + i) (by omega)
    have hwi := hT.2.2.2 (16 * c + i) (by omega)
    refine br_f (nI_ge (by omega) (by omega)) (And.intro h16 ?_)
    rw [nI_clamp (by omega), (hQ i (by omega)).1, (hQ i (by omega)).2]
    unfold zc_s
    refine pk_lt (t (16 * c + i)) F (fun h => ?_) (fun h => ?_)
    · exact nm_r (nI_1 i) (ih (i + 1) k _ _ _ _ (by omega) (by omega) (zq_F_out (k := 16 * c + i) (by omega) hF))
    · refine And.intro h16 (pk_lt H (t (16 * c + i)) (fun h2 => ?_) (fun h2 => ?_))
      · exact nm_r (nI_1 i) (ih (i + 1) k _ _ _ _ (by omega) (by omega) (zq_F_out (k := 16 * c + i) (by omega) hF))
      · have hin : F ≤ t (16 * c + i) ∧ t (16 * c + i) ≤ H := ⟨h, h2⟩
        refine And.intro h16 (And.intro h16 (And.intro h16 ?_))
        refine zx_noteF (k := 16 * c + i) (k' := 16 * c + i + 1) (M := 1) (S := w (16 * c + i)) (L := w (16 * c + i)) (B := w (16 * c + i)) hF (by decide) (by rw [zq_c, if_pos hin]) (by rw [zq_s, if_pos hin]) (by rw [zq_l, if_pos hin]) (by rw [zq_h, if_pos hin]) (by omega) (by omega)
          (zq_h_le t w F H _ (fun j hj => hT.2.2.2 j (by omega))) (fun fc fs fl fh hF' => ?_)
        exact nm_r (nI_1 i) (ih (i + 1) k _ _ _ _ (by omega) (by omega) hF')
theorem zx_cut {n c F H : Nat} {t w : Nat → Nat} {post : SX → Prop} (hT : zc_T n t w) (hX : zc_X n t w ba ua fa la ta wa ha) (hc : 16 * c < n) (hF2 : F ≤ 60000) (hH2 : H ≤ 60000) (hF : zq_F t w F H (16 * c) fc fs fl fh)
    (K : ∀ gb vb le tr ck cu fc fs fl fh ma va, zq_F t w F H (16 * c + zc_m n c) fc fs fl fh → post (nI n, gb, vb, le, tr, ck, cu, fc, fs, fl, fh, ba, ua, fa, la, ta, wa, ha, ma, va)) : wpX_cut post (nI n, gb, vb, le, tr, ck, cu, fc, fs, fl, fh, ba, ua, fa, la, ta, wa, ha, ma, va) (nI c) (nI F) (nI H) := by
  have hms := zc_m_sp n c
  unfold wpX_cut
  refine zx_unpack hT hX hc (fun gb vb le tr cu ma va hP hQ => ?_)
  refine zx_inChunk hT.1 (by omega) ⟨17, ?_⟩
  exact zx_cut15 hT hc rfl hQ hF2 hH2 post (fun fc fs fl fh hF' => K _ _ _ _ _ _ _ _ _ _ _ _ hF') (zc_m n c) 0 17 _ _ _ _ (by omega) (by omega) hF
def zq_p (n c : Nat) : Nat := if 16 * c ≤ n then 16 * c else n
theorem zx_se29 {n F H : Nat} {t w : Nat → Nat} (hT : zc_T n t w) (hX : zc_X n t w ba ua fa la ta wa ha) (hF2 : F ≤ 60000) (hH2 : H ≤ 60000) (post : SX → Prop)
    (K : ∀ gb vb le tr ck cu fc fs fl fh ma va, zq_F t w F H n fc fs fl fh → post (nI n, gb, vb, le, tr, ck, cu, fc, fs, fl, fh, ba, ua, fa, la, ta, wa, ha, ma, va)) :
    ∀ (f c k : Nat) (gb vb le tr ck cu fc fs fl fh : Int32) (ma va : Nat → Int32), c + f = (n + 15) / 16 → f < k → zq_F t w F H (zq_p n c) fc fs fl fh → wX_search_29 post (nI F) (nI H) (nI ((n + 15) / 16)) k (nI c) (nI n) gb vb le tr ck cu fc fs fl fh ba ua fa la ta wa ha ma va := by
  have hn := hT.1
  intro f
  induction f with
  | zero =>
    intro c k gb vb le tr ck cu fc fs fl fh ma va hc hk hF
    obtain ⟨k, rfl⟩ : ∃ m, k = m + 1 := ⟨k - 1, by omega⟩
    have e : zq_p n c = n := by unfold zq_p; split <;> omega
    rw [e] at hF
    exact br_t (nI_le (by omega) (by omega)) (K _ _ _ _ _ _ _ _ _ _ _ _ hF)
  | succ f ih =>
    intro c k gb vb le tr ck cu fc fs fl fh ma va hc hk hF
    obtain ⟨k, rfl⟩ : ∃ m, k = m + 1 := ⟨k - 1, by omega⟩
    have hms := zc_m_sp n c
    have hcn : 16 * c < n := by omega
    have e : zq_p n c = 16 * c := by unfold zq_p; split <;> omega
    have e2 : zq_p n (c + 1) = 16 * c + zc_m n c := by unfold zq_p; split <;> omega
    rw [e] at hF
    have h4 : vp_in (nI c) 4 := vp_in_nI (by omega) (by decide)
    have hcl : (nI c).toNatClampNeg = c := nI_clamp (by omega)
    have hfa := zf_first hX hcn
    have hla := zf_last hX hcn
    have ht1 := hT.2.1 (16 * c) hcn
    have ht2 := hT.2.1 (16 * c + (zc_m n c - 1)) (by omega)
    have hlo : ∀ i, i < zc_m n c → t (16 * c) ≤ t (16 * c + i) := fun i hi => zc_T_mono' hT (by omega) (by omega)
    have hhi : ∀ i, i < zc_m n c → t (16 * c + i) ≤ t (16 * c + (zc_m n c - 1)) := fun i hi => zc_T_mono' hT (by omega) (by omega)
    have skip : ∀ (hout : ∀ i, i < zc_m n c → ¬ (F ≤ t (16 * c + i) ∧ t (16 * c + i) ≤ H)), wX_search_29 post (nI F) (nI H) (nI ((n + 15) / 16)) k (nI (c + 1)) (nI n) gb vb le tr ck cu fc fs fl fh ba ua fa la ta wa ha ma va :=
      fun hout => ih (c + 1) k _ _ _ _ _ _ _ _ _ _ _ _ (by omega) (by omega) (by rw [e2]; exact zq_F_outs hF _ hout)
    have h95 : wX_search_95 post (wX_search_29 post (nI F) (nI H) (nI ((n + 15) / 16)) k) (nI F) (nI H) (nI ((n + 15) / 16)) (nI c) (nI n) gb vb le tr ck cu fc fs fl fh ba ua fa la ta wa ha ma va := by
      unfold wX_search_95
      rw [hcl, hfa, hla]
      refine And.intro h4 (pk_lt H (t (16 * c)) (fun h => ?_) (fun h => ?_))
      · exact nm_r (nI_1 c) (skip (fun i hi => by have := hlo i hi; omega))
      · refine And.intro h4 (pk_lt (t (16 * c + (zc_m n c - 1))) F (fun h2 => ?_) (fun h2 => ?_))
        · exact nm_r (nI_1 c) (skip (fun i hi => by have := hhi i hi; omega))
        · refine zx_cut hT hX hcn hF2 hH2 hF (fun gb vb le tr ck cu fc fs fl fh ma va hF' => ?_)
          exact nm_r (nI_1 c) (ih (c + 1) k _ _ _ _ _ _ _ _ _ _ _ _ (by omega) (by omega) (by rw [e2]; exact hF'))
    refine br_f (nI_ge (by omega) (by omega)) (And.intro h4 ?_)
    rw [hcl, hfa, hla]
    refine pk_lt (t (16 * c)) F (fun _ => h95) (fun h => And.intro h4 (pk_lt H (t (16 * c + (zc_m n c - 1))) (fun _ => h95) (fun h2 => ?_)))
    refine zx_inChunk hn (by omega) (And.intro h4 (And.intro h4 (And.intro h4 ?_)))
    obtain ⟨k1, k2, k3, k4, k5, k6, k7⟩ := hX c hcn
    rw [k4, k5, k6]
    have hin : ∀ i, i < zc_m n c → F ≤ t (16 * c + i) ∧ t (16 * c + i) ≤ H := fun i hi => by
      have a1 := hlo i hi
      have a2 := hhi i hi
      omega
    have hw : ∀ i, i < zc_m n c → w (16 * c + i) < 65536 := fun i hi => hT.2.2.2 _ (by omega)
    have hlo2 := zc_lo_le (W := zc_s w c) (zc_m n c)
    have hhi2 := zc_hi_le (W := zc_s w c) (zc_m n c) hw
    have hl : zq_l t w F H (16 * c + zc_m n c) = if zq_l t w F H (16 * c) ≤ zc_lo (zc_s w c) (zc_m n c) then zq_l t w F H (16 * c) else zc_lo (zc_s w c) (zc_m n c) := by
      obtain ⟨m, hm⟩ : ∃ m, zc_m n c = m + 1 := ⟨zc_m n c - 1, by omega⟩
      rw [hm] at hin hw ⊢
      exact zq_in_l m hin hw
    refine zx_noteF (k := 16 * c) (k' := 16 * c + zc_m n c) (M := zc_m n c) hF (by omega) (zq_in_c _ hin) (zq_in_s _ hin) hl (zq_in_h _ hin) (by omega) hhi2
      (zq_h_le t w F H _ (fun j hj => hT.2.2.2 j (by omega))) (fun fc fs fl fh hF' => ?_)
    exact nm_r (nI_1 c) (ih (c + 1) k _ _ _ _ _ _ _ _ _ _ _ _ (by omega) (by omega) (by rw [e2]; exact hF'))
theorem zx_search {n F H : Nat} {t w : Nat → Nat} {post : SX → Prop} (hT : zc_T n t w) (hX : zc_X n t w ba ua fa la ta wa ha) (hF2 : F ≤ 60000) (hH2 : H ≤ 60000)
    (K : ∀ gb vb le tr ck cu fc fs fl fh ma va, zq_F t w F H n fc fs fl fh → post (nI n, gb, vb, le, tr, ck, cu, fc, fs, fl, fh, ba, ua, fa, la, ta, wa, ha, ma, va)) : wpX_search post (nI n, gb, vb, le, tr, ck, cu, fc, fs, fl, fh, ba, ua, fa, la, ta, wa, ha, ma, va) (nI F) (nI H) := by
  unfold wpX_search wpX_chunks
  dsimp only
  rw [zx_ch hT.1]
  refine ⟨(n + 15) / 16 + 1, zx_se29 hT hX hF2 hH2 post K ((n + 15) / 16) 0 _ _ _ _ _ _ _ _ _ _ _ _ _ (by omega) (by omega) ?_⟩
  exact ⟨rfl, rfl, rfl, Or.inl ⟨rfl, rfl⟩⟩
end
end
section
/-! the reference's loops over spans; count, sum, greatest, least -/
theorem zs_span (v1 v2 : Int32) : ((∀ (u : SX) (P : Int32 → Prop), P 1 → wpX_badSpan P u v1 v2) ∧ (∀ (v : SY) (P : Int32 → Prop), P 0 → wpY_isSpan P v v1 v2)) ∨
    (∃ F H : Nat, F ≤ 60000 ∧ H ≤ 60000 ∧ v1 = nI F ∧ v2 = nI H ∧ (∀ (u : SX) (P : Int32 → Prop), P 0 → wpX_badSpan P u v1 v2) ∧ (∀ (v : SY) (P : Int32 → Prop), P 1 → wpY_isSpan P v v1 v2)) := by
  by_cases h1 : v1 < 0
  · exact Or.inl ⟨fun u P K => br_t h1 K, fun v P K => br_t h1 K⟩
  by_cases h2 : v2 < v1
  · exact Or.inl ⟨fun u P K => br_f h1 (br_t h2 K), fun v P K => br_f h1 (br_t h2 K)⟩
  by_cases h3 : 60000 < v2
  · exact Or.inl ⟨fun u P K => br_f h1 (br_f h2 (br_f (Int32.not_le.mpr h3) K)), fun v P K => br_f h1 (br_f h2 (br_t h3 K))⟩
  refine Or.inr ?_
  obtain ⟨F, hF, rfl⟩ := nI_of h1
  have h4 : ¬ v2 < 0 := by
    rw [Int32.lt_iff_toInt_lt, nI_toInt hF] at h2
    rw [Int32.lt_iff_toInt_lt]
    have : (0 : Int32).toInt = 0 := by decide
    omega
  obtain ⟨H, hH, rfl⟩ := nI_of h4
  rw [nI_ltI hH hF] at h2
  have h3' := h3
  rw [show (60000 : Int32) = nI 60000 from rfl, nI_ltI (by decide) hH] at h3'
  refine ⟨F, H, by omega, by omega, rfl, rfl, fun u P K => br_f h1 (br_f (nI_nlt (by omega) hH) (br_t (Int32.not_lt.mp h3) K)), fun v P K => br_f h1 (br_f (nI_nlt (by omega) hH) (br_f h3 K))⟩
section
variable {yn yl yr : Int32} {yt yv : Nat → Int32}
theorem zy_isIn {n F H i : Nat} {t w : Nat → Nat} {post : Int32 → Prop} (hT : zc_T n t w) (hY : zc_Y n t w yt yv) (hi : i < n) (hF2 : F ≤ 60000) (hH2 : H ≤ 60000)
    (K1 : F ≤ t i ∧ t i ≤ H → post 1) (K0 : ¬ (F ≤ t i ∧ t i ≤ H) → post 0) : wpY_isIn post (yn, yl, yr, yt, yv) (nI i) (nI F) (nI H) := by
  have hn := hT.1
  have hti := hT.2.1 i hi
  have h64 : vp_in (nI i) 64 := vp_in_nI (by omega) (by decide)
  unfold wpY_isIn
  dsimp only
  rw [nI_clamp (by omega), (hY i hi).1]
  exact And.intro h64 (pk_lt (t i) F (fun h => K0 (by omega)) (fun h => And.intro h64 (pk_lt H (t i) (fun h2 => K0 (by omega)) (fun h2 => K1 ⟨h, h2⟩))))
theorem zy_cnt {n F H : Nat} {t w : Nat → Nat} (hT : zc_T n t w) (hY : zc_Y n t w yt yv) (hF2 : F ≤ 60000) (hH2 : H ≤ 60000) (post : Int32 → Prop) (K : post (nI (zq_c t F H n))) :
    ∀ (f i k : Nat), i + f = n → f < k → wY_count_16 post (nI F) (nI H) (nI n) yl yr yt yv k (nI (zq_c t F H i)) (nI i) := by
  have hn := hT.1
  intro f
  induction f with
  | zero =>
    intro i k hi hk
    obtain ⟨k, rfl⟩ : ∃ m, k = m + 1 := ⟨k - 1, by omega⟩
    obtain rfl : i = n := by omega
    exact br_t (nI_le (Nat.le_refl _) (by omega)) K
  | succ f ih =>
    intro i k hi hk
    obtain ⟨k, rfl⟩ : ∃ m, k = m + 1 := ⟨k - 1, by omega⟩
    have h := ih (i + 1) k (by omega) (by omega)
    rw [zq_c] at h
    refine br_f (nI_ge (by omega) (by omega)) (zy_isIn hT hY (by omega) hF2 hH2 (fun hin => ?_) (fun hin => ?_))
    · rw [if_pos hin] at h
      exact br_f (by decide) (nm_r (nI_1 _) (nm_r (nI_1 i) h))
    · rw [if_neg hin] at h
      exact br_t rfl (nm_r (nI_1 i) h)
theorem zy_sum {n F H : Nat} {t w : Nat → Nat} (hT : zc_T n t w) (hY : zc_Y n t w yt yv) (hF2 : F ≤ 60000) (hH2 : H ≤ 60000) (post : Int32 → Prop) (K : post (nI (zq_s t w F H n))) :
    ∀ (f i k : Nat), i + f = n → f < k → wY_sum_16 post (nI F) (nI H) (nI n) yl yr yt yv k (nI (zq_s t w F H i)) (nI i) := by
  have hn := hT.1
  intro f
  induction f with
  | zero =>
    intro i k hi hk
    obtain ⟨k, rfl⟩ : ∃ m, k = m + 1 := ⟨k - 1, by omega⟩
    obtain rfl : i = n := by omega
    exact br_t (nI_le (Nat.le_refl _) (by omega)) K
  | succ f ih =>
    intro i k hi hk
    obtain ⟨k, rfl⟩ : ∃ m, k = m + 1 := ⟨k - 1, by omega⟩
    have h := ih (i + 1) k (by omega) (by omega)
    rw [zq_s] at h
    refine br_f (nI_ge (by omega) (by omega)) (zy_isIn hT hY (by omega) hF2 hH2 (fun hin => ?_) (fun hin => ?_))
    · rw [if_pos hin] at h
      refine br_f (by decide) (And.intro (vp_in_nI (by omega) (by decide)) (nm_r (e' := nI (zq_s t w F H i + w i)) ?_ (nm_r (nI_1 i) h)))
      rw [nI_clamp (by omega), (hY i (by omega)).2, nI_add]
    · rw [if_neg hin] at h
      exact br_t rfl (nm_r (nI_1 i) h)
theorem zi_m4 {a : Nat} (ha : a < 2 ^ 31) : ¬ nI a ≤ (-4 : Int32) := by
  rw [Int32.le_iff_toInt_le, nI_toInt ha]
  have : (-4 : Int32).toInt = -4 := by decide
  omega
theorem zy_grt {n F H : Nat} {t w : Nat → Nat} (hT : zc_T n t w) (hY : zc_Y n t w yt yv) (hF2 : F ≤ 60000) (hH2 : H ≤ 60000) (post : Int32 → Prop) (K : ∀ x, ((zq_c t F H n = 0 ∧ x = -4) ∨ (0 < zq_c t F H n ∧ x = nI (zq_h t w F H n))) → post x) :
    ∀ (f i k : Nat) (x : Int32), i + f = n → f < k → ((zq_c t F H i = 0 ∧ x = -4) ∨ (0 < zq_c t F H i ∧ x = nI (zq_h t w F H i))) → wY_greatest_17 post (nI F) (nI H) (nI n) yl yr yt yv k x (nI i) := by
  have hn := hT.1
  intro f
  induction f with
  | zero =>
    intro i k x hi hk hx
    obtain ⟨k, rfl⟩ : ∃ m, k = m + 1 := ⟨k - 1, by omega⟩
    obtain rfl : i = n := by omega
    exact br_t (nI_le (Nat.le_refl _) (by omega)) (K x hx)
  | succ f ih =>
    intro i k x hi hk hx
    obtain ⟨k, rfl⟩ : ∃ m, k = m + 1 := ⟨k - 1, by omega⟩
    have hwi := hT.2.2.2 i (by omega)
    have hhl := zq_h_le t w F H i (fun j hj => hT.2.2.2 j (by omega))
    have h64 : vp_in (nI i) 64 := vp_in_nI (by omega) (by decide)
    have h := fun x => ih (i + 1) k x (by omega) (by omega)
    rw [zq_c, zq_h] at h
    refine br_f (nI_ge (by omega) (by omega)) (zy_isIn hT hY (by omega) hF2 hH2 (fun hin => ?_) (fun hin => ?_))
    · rw [if_pos hin, if_pos hin] at h
      refine br_f (by decide) (And.intro h64 ?_)
      rw [nI_clamp (by omega), (hY i (by omega)).2]
      rcases hx with ⟨h0, rfl⟩ | ⟨h0, rfl⟩
      · refine br_f (zi_m4 (by omega)) (And.intro h64 (nm_e (nm_r (nI_1 i) (h _ (Or.inr ⟨by omega, ?_⟩)))))
        rw [(zq_0 t w F H i h0).2]
        exact congrArg nI (by split <;> omega)
      · refine pk_le (w i) (zq_h t w F H i) (fun h2 => ?_) (fun h2 => ?_)
        · exact nm_r (nI_1 i) (h _ (Or.inr ⟨by omega, by rw [if_pos h2]⟩))
        · exact And.intro h64 (nm_e (nm_r (nI_1 i) (h _ (Or.inr ⟨by omega, by rw [if_neg (by omega)]⟩))))
    · rw [if_neg hin, if_neg hin] at h
      exact br_t rfl (nm_r (nI_1 i) (h _ hx))
theorem zy_lst {n F H : Nat} {t w : Nat → Nat} (hT : zc_T n t w) (hY : zc_Y n t w yt yv) (hF2 : F ≤ 60000) (hH2 : H ≤ 60000) (post : Int32 → Prop) (K : ∀ x, ((zq_c t F H n = 0 ∧ x = -4) ∨ (0 < zq_c t F H n ∧ x = nI (zq_l t w F H n))) → post x) :
    ∀ (f i k : Nat) (x : Int32), i + f = n → f < k → ((zq_c t F H i = 0 ∧ x = -4) ∨ (0 < zq_c t F H i ∧ x = nI (zq_l t w F H i))) → wY_least_17 post (nI F) (nI H) (nI n) yl yr yt yv k x (nI i) := by
  have hn := hT.1
  intro f
  induction f with
  | zero =>
    intro i k x hi hk hx
    obtain ⟨k, rfl⟩ : ∃ m, k = m + 1 := ⟨k - 1, by omega⟩
    obtain rfl : i = n := by omega
    exact br_t (nI_le (Nat.le_refl _) (by omega)) (K x hx)
  | succ f ih =>
    intro i k x hi hk hx
    obtain ⟨k, rfl⟩ : ∃ m, k = m + 1 := ⟨k - 1, by omega⟩
    have hwi := hT.2.2.2 i (by omega)
    have hll := zq_l_le t w F H i
    have h64 : vp_in (nI i) 64 := vp_in_nI (by omega) (by decide)
    have hcl : (nI i).toNatClampNeg = i := nI_clamp (by omega)
    have h := fun x => ih (i + 1) k x (by omega) (by omega)
    rw [zq_c, zq_l] at h
    refine br_f (nI_ge (by omega) (by omega)) (zy_isIn hT hY (by omega) hF2 hH2 (fun hin => ?_) (fun hin => ?_))
    · rw [if_pos hin, if_pos hin] at h
      have h52 : nI (w i) = nI (if zq_l t w F H i ≤ w i then zq_l t w F H i else w i) → wY_least_52 post (wY_least_17 post (nI F) (nI H) (nI n) yl yr yt yv k) (nI F) (nI H) (nI i) (nI n) yl yr yt yv := by
        intro e
        unfold wY_least_52
        rw [hcl, (hY i (by omega)).2]
        exact And.intro h64 (nm_e (nm_r (nI_1 i) (h _ (Or.inr ⟨by omega, e⟩))))
      refine br_f (by decide) ?_
      rcases hx with ⟨h0, rfl⟩ | ⟨h0, rfl⟩
      · refine br_t (by decide) (h52 ?_)
        rw [(zq_0 t w F H i h0).1, if_neg (by omega)]
      · refine br_f (nI_pos (by omega)) (And.intro h64 ?_)
        rw [hcl, (hY i (by omega)).2]
        refine pk_le (zq_l t w F H i) (w i) (fun h2 => ?_) (fun h2 => ?_)
        · exact nm_r (nI_1 i) (h _ (Or.inr ⟨by omega, by rw [if_pos h2]⟩))
        · exact h52 (by rw [if_neg (by omega)])
    · rw [if_neg hin, if_neg hin] at h
      exact br_t rfl (nm_r (nI_1 i) (h _ hx))
end
theorem i_vc_count {k : Nat} {u : SX} {v : SY} (I : i_Rel k u v) (hk : k + 5 ≤ 2560) (v1 : Int32) (v2 : Int32) : wpX_count (fun r u' => wpY_count (fun r' => r' = r ∧ i_Rel (k + 5) u' v) v v1 v2) u v1 v2 := by
  refine zz_el (P := fun u v => wpX_count (fun r u' => wpY_count (fun r' => r' = r ∧ i_Rel (k + 5) u' v) v v1 v2) u v1 v2) ?_ I
  intro n t w gb vb le tr ck cu fc fs fl fh ba ua fa la ta wa ha ma va yl yr yt yv hT hX hY
  unfold wpX_count wpY_count
  rcases zs_span v1 v2 with ⟨hb, hs⟩ | ⟨F, H, hF2, hH2, rfl, rfl, hb, hs⟩
  · exact hb _ _ (br_f (by decide) (hs _ _ (br_t rfl ⟨rfl, zz_in hT hX hY⟩)))
  · refine hb _ _ (br_t rfl (zx_search hT hX hF2 hH2 (fun gb vb le tr ck cu fc fs fl fh ma va hF => ?_)))
    obtain ⟨h1, h2, h3, h4⟩ := hF
    subst h1
    exact hs _ _ (br_f (by decide) ⟨n + 1, zy_cnt hT hY hF2 hH2 _ ⟨rfl, zz_in hT hX hY⟩ n 0 _ (by omega) (by omega)⟩)
theorem i_vc_sum {k : Nat} {u : SX} {v : SY} (I : i_Rel k u v) (hk : k + 5 ≤ 2560) (v1 : Int32) (v2 : Int32) : wpX_sum (fun r u' => wpY_sum (fun r' => r' = r ∧ i_Rel (k + 5) u' v) v v1 v2) u v1 v2 := by
  refine zz_el (P := fun u v => wpX_sum (fun r u' => wpY_sum (fun r' => r' = r ∧ i_Rel (k + 5) u' v) v v1 v2) u v1 v2) ?_ I
  intro n t w gb vb le tr ck cu fc fs fl fh ba ua fa la ta wa ha ma va yl yr yt yv hT hX hY
  unfold wpX_sum wpY_sum
  rcases zs_span v1 v2 with ⟨hb, hs⟩ | ⟨F, H, hF2, hH2, rfl, rfl, hb, hs⟩
  · exact hb _ _ (br_f (by decide) (hs _ _ (br_t rfl ⟨rfl, zz_in hT hX hY⟩)))
  · refine hb _ _ (br_t rfl (zx_search hT hX hF2 hH2 (fun gb vb le tr ck cu fc fs fl fh ma va hF => ?_)))
    obtain ⟨h1, h2, h3, h4⟩ := hF
    subst h2
    exact hs _ _ (br_f (by decide) ⟨n + 1, zy_sum hT hY hF2 hH2 _ ⟨rfl, zz_in hT hX hY⟩ n 0 _ (by omega) (by omega)⟩)
theorem i_vc_greatest {k : Nat} {u : SX} {v : SY} (I : i_Rel k u v) (hk : k + 5 ≤ 2560) (v1 : Int32) (v2 : Int32) : wpX_greatest (fun r u' => wpY_greatest (fun r' => r' = r ∧ i_Rel (k + 5) u' v) v v1 v2) u v1 v2 := by
  refine zz_el (P := fun u v => wpX_greatest (fun r u' => wpY_greatest (fun r' => r' = r ∧ i_Rel (k + 5) u' v) v v1 v2) u v1 v2) ?_ I
  intro n t w gb vb le tr ck cu fc fs fl fh ba ua fa la ta wa ha ma va yl yr yt yv hT hX hY
  have hn := hT.1
  have hcn := zq_c_le t
  unfold wpX_greatest wpY_greatest
  rcases zs_span v1 v2 with ⟨hb, hs⟩ | ⟨F, H, hF2, hH2, rfl, rfl, hb, hs⟩
  · exact hb _ _ (br_f (by decide) (hs _ _ (br_t rfl ⟨rfl, zz_in hT hX hY⟩)))
  · refine hb _ _ (br_t rfl (zx_search hT hX hF2 hH2 (fun gb vb le tr ck cu fc fs fl fh ma va hF => ?_)))
    obtain ⟨h1, h2, h3, h4⟩ := hF
    have hc := zq_c_le t F H n
    subst h1
    refine pk_eq (zq_c t F H n) 0 (fun h0 => ?_) (fun h0 => ?_)
    · refine hs _ _ (br_f (by decide) ⟨n + 1, zy_grt hT hY hF2 hH2 _ (fun x hx => ⟨?_, zz_in hT hX hY⟩) n 0 _ _ (by omega) (by omega) (Or.inl ⟨rfl, rfl⟩)⟩)
      rcases hx with hx | hx
      · exact hx.2
      · omega
    · refine hs _ _ (br_f (by decide) ⟨n + 1, zy_grt hT hY hF2 hH2 _ (fun x hx => ⟨?_, zz_in hT hX hY⟩) n 0 _ _ (by omega) (by omega) (Or.inl ⟨rfl, rfl⟩)⟩)
      rcases hx with hx | hx
      · omega
      · rcases h4 with h4 | h4
        · omega
        · rw [hx.2, h4.2]
theorem i_vc_least {k : Nat} {u : SX} {v : SY} (I : i_Rel k u v) (hk : k + 5 ≤ 2560) (v1 : Int32) (v2 : Int32) : wpX_least (fun r u' => wpY_least (fun r' => r' = r ∧ i_Rel (k + 5) u' v) v v1 v2) u v1 v2 := by
  refine zz_el (P := fun u v => wpX_least (fun r u' => wpY_least (fun r' => r' = r ∧ i_Rel (k + 5) u' v) v v1 v2) u v1 v2) ?_ I
  intro n t w gb vb le tr ck cu fc fs fl fh ba ua fa la ta wa ha ma va yl yr yt yv hT hX hY
  have hn := hT.1
  unfold wpX_least wpY_least
  rcases zs_span v1 v2 with ⟨hb, hs⟩ | ⟨F, H, hF2, hH2, rfl, rfl, hb, hs⟩
  · exact hb _ _ (br_f (by decide) (hs _ _ (br_t rfl ⟨rfl, zz_in hT hX hY⟩)))
  · refine hb _ _ (br_t rfl (zx_search hT hX hF2 hH2 (fun gb vb le tr ck cu fc fs fl fh ma va hF => ?_)))
    obtain ⟨h1, h2, h3, h4⟩ := hF
    have hc := zq_c_le t F H n
    subst h1
    refine pk_eq (zq_c t F H n) 0 (fun h0 => ?_) (fun h0 => ?_)
    · refine hs _ _ (br_f (by decide) ⟨n + 1, zy_lst hT hY hF2 hH2 _ (fun x hx => ⟨?_, zz_in hT hX hY⟩) n 0 _ _ (by omega) (by omega) (Or.inl ⟨rfl, rfl⟩)⟩)
      rcases hx with hx | hx
      · exact hx.2
      · omega
    · refine hs _ _ (br_f (by decide) ⟨n + 1, zy_lst hT hY hF2 hH2 _ (fun x hx => ⟨?_, zz_in hT hX hY⟩) n 0 _ _ (by omega) (by omega) (Or.inl ⟨rfl, rfl⟩)⟩)
      rcases hx with hx | hx
      · omega
      · rw [hx.2, h3]
end
section
/-! rises, widestGap -/
def zb_w (w : Nat → Nat) : Nat → Nat
  | 0 => 65536
  | k + 1 => w k
def zb_r (w : Nat → Nat) : Nat → Nat
  | 0 => 0
  | k + 1 => if w k ≤ zb_w w k then zb_r w k else zb_r w k + 1
def zb_g (t : Nat → Nat) : Nat → Int32
  | 0 => -4
  | k + 1 => if k = 0 then -4 else if nI (t k) - nI (zc_tn t k) ≤ zb_g t k then zb_g t k else nI (t k) - nI (zc_tn t k)
theorem zb_w_le {n k : Nat} {t w : Nat → Nat} (hT : zc_T n t w) (hk : k ≤ n) : zb_w w k ≤ 65536 := by
  cases k with
  | zero => exact Nat.le_refl _
  | succ k => have := hT.2.2.2 k (by omega); exact Nat.le_of_lt this
section
variable {cn gb vb le tr ck cu fc fs fl fh : Int32} {ba ua fa la ta wa ha ma va : Nat → Int32} {yl yr : Int32} {yt yv : Nat → Int32}
theorem zx_ri36 {n c m : Nat} {t w : Nat → Nat} {x3 : Int32} (hT : zc_T n t w) (hc : 16 * c < n) (hm : zc_m n c = m) (hQ : zc_Q (zc_s t c) (zc_s w c) m ma va) (post : Int32 → SX → Prop)
    (J13 : Int32 → Int32 → Int32 → Int32 → Int32 → Int32 → Int32 → Int32 → Int32 → Int32 → Int32 → Int32 → Int32 → Int32 → (Nat → Int32) → (Nat → Int32) → (Nat → Int32) → (Nat → Int32) → (Nat → Int32) → (Nat → Int32) → (Nat → Int32) → (Nat → Int32) → (Nat → Int32) → Prop)
    (K : J13 (nI (zb_r w (16 * c + m))) (nI (zb_w w (16 * c + m))) (nI (c + 1)) cn gb vb le tr ck cu fc fs fl fh ba ua fa la ta wa ha ma va) :
    ∀ (f i k : Nat), i + f = m → f < k → wX_rises_36 post J13 x3 (nI c) (nI m) cn gb vb le tr ck cu fc fs fl fh ba ua fa la ta wa ha ma va k (nI (zb_r w (16 * c + i))) (nI (zb_w w (16 * c + i))) (nI i) := by
  have hn := hT.1
  have hms := zc_m_sp n c
  intro f
  induction f with
  | zero =>
    intro i k hi hk
    obtain ⟨k, rfl⟩ : ∃ m, k = m + 1 := ⟨k - 1, by omega⟩
    obtain rfl : i = m := by omega
    exact br_t (nI_le (Nat.le_refl _) (by omega)) (nm_r (nI_1 c) K)
  | succ f ih =>
    intro i k hi hk
    obtain ⟨k, rfl⟩ : ∃ m, k = m + 1 := ⟨k - 1, by omega⟩
    have h16 : vp_in (nI i) 16 := vp_in_nI (by omega) (by decide)
    have hcl : (nI i).toNatClampNeg = i := nI_clamp (by omega)
    have hwl := zb_w_le (k := 16 * c + i) hT (by omega)
    have hwi := hT.2.2.2 (16 * c + i) (by omega)
    have hvi : va i = nI (w (16 * c + i)) := (hQ i (by omega)).2
    have h := ih (i + 1) k (by omega) (by omega)
    rw [show 16 * c + (i + 1) = 16 * c + i + 1 from rfl, zb_r, zb_w] at h
    refine br_f (nI_ge (by omega) (by omega)) (And.intro h16 ?_)
    rw [hcl, hvi]
    refine pk_le (w (16 * c + i)) (zb_w w (16 * c + i)) (fun h2 => ?_) (fun h2 => ?_)
    · rw [if_pos h2] at h
      unfold wX_rises_61
      rw [hcl, hvi]
      exact And.intro h16 (nm_e (nm_r (nI_1 i) h))
    · rw [if_neg (by omega)] at h
      unfold wX_rises_61
      rw [hcl, hvi, nI_1 (zb_r w (16 * c + i))]
      exact And.intro h16 (nm_e (nm_r (nI_1 i) h))
theorem zx_ri13 {n : Nat} {t w : Nat → Nat} (hT : zc_T n t w) (hX : zc_X n t w ba ua fa la ta wa ha) (post : Int32 → SX → Prop)
    (K : ∀ gb vb le tr ck cu ma va, post (nI (zb_r w n)) (nI n, gb, vb, le, tr, ck, cu, fc, fs, fl, fh, ba, ua, fa, la, ta, wa, ha, ma, va)) :
    ∀ (f c k : Nat) (gb vb le tr ck cu : Int32) (ma va : Nat → Int32), c + f = (n + 15) / 16 → f < k → wX_rises_13 post (nI ((n + 15) / 16)) k (nI (zb_r w (zq_p n c))) (nI (zb_w w (zq_p n c))) (nI c) (nI n) gb vb le tr ck cu fc fs fl fh ba ua fa la ta wa ha ma va := by
  have hn := hT.1
  intro f
  induction f with
  | zero =>
    intro c k gb vb le tr ck cu ma va hc hk
    obtain ⟨k, rfl⟩ : ∃ m, k = m + 1 := ⟨k - 1, by omega⟩
    have e : zq_p n c = n := by unfold zq_p; split <;> omega
    rw [e]
    exact br_t (nI_le (by omega) (by omega)) (K _ _ _ _ _ _ _ _)
  | succ f ih =>
    intro c k gb vb le tr ck cu ma va hc hk
    obtain ⟨k, rfl⟩ : ∃ m, k = m + 1 := ⟨k - 1, by omega⟩
    have hms := zc_m_sp n c
    have hcn : 16 * c < n := by omega
    have e : zq_p n c = 16 * c := by unfold zq_p; split <;> omega
    have e2 : zq_p n (c + 1) = 16 * c + zc_m n c := by unfold zq_p; split <;> omega
    rw [e]
    refine br_f (nI_ge (by omega) (by omega)) ?_
    refine zx_unpack hT hX hcn (fun gb vb le tr cu ma va hP hQ => ?_)
    refine zx_inChunk hn (by omega) ⟨17, ?_⟩
    have h := ih (c + 1) k gb vb le tr (nI c) cu ma va (by omega) (by omega)
    rw [e2] at h
    exact zx_ri36 hT hcn rfl hQ post _ h (zc_m n c) 0 17 (by omega) (by omega)
theorem zy_ri4 {n : Nat} {t w : Nat → Nat} (hT : zc_T n t w) (hY : zc_Y n t w yt yv) (post : Int32 → Prop) (K : post (nI (zb_r w n))) :
    ∀ (f i k : Nat), i + 1 + f = n → f < k → wY_rises_4 post (nI n) yl yr yt yv k (nI (zb_r w (i + 1))) (nI (i + 1)) := by
  have hn := hT.1
  intro f
  induction f with
  | zero =>
    intro i k hi hk
    obtain ⟨k, rfl⟩ : ∃ m, k = m + 1 := ⟨k - 1, by omega⟩
    rw [show i + 1 = n from by omega]
    exact br_t (nI_le (Nat.le_refl _) (by omega)) K
  | succ f ih =>
    intro i k hi hk
    obtain ⟨k, rfl⟩ : ∃ m, k = m + 1 := ⟨k - 1, by omega⟩
    have hw1 := hT.2.2.2 i (by omega)
    have hw2 := hT.2.2.2 (i + 1) (by omega)
    have h := ih (i + 1) k (by omega) (by omega)
    rw [show zb_r w (i + 1 + 1) = if w (i + 1) ≤ w i then zb_r w (i + 1) else zb_r w (i + 1) + 1 from rfl] at h
    refine br_f (nI_ge (by omega) (by omega)) ?_
    rw [nI_pred, nI_clamp (show i < 2 ^ 31 by omega), nI_clamp (show i + 1 < 2 ^ 31 by omega), (hY i (by omega)).2, (hY (i + 1) (by omega)).2]
    refine And.intro (vp_in_nI (by omega) (by decide)) (And.intro (vp_in_nI (by omega) (by decide)) (pk_le (w (i + 1)) (w i) (fun h2 => ?_) (fun h2 => ?_)))
    · rw [if_pos h2] at h
      exact nm_r (nI_1 (i + 1)) h
    · rw [if_neg (by omega)] at h
      exact nm_r (nI_1 _) (nm_r (nI_1 (i + 1)) h)
theorem zx_wg36 {n c m : Nat} {t w : Nat → Nat} {x3 : Int32} (hT : zc_T n t w) (hc : 16 * c < n) (hm : zc_m n c = m) (hQ : zc_Q (zc_s t c) (zc_s w c) m ma va) (post : Int32 → SX → Prop)
    (J13 : Int32 → Int32 → Int32 → Int32 → Int32 → Int32 → Int32 → Int32 → Int32 → Int32 → Int32 → Int32 → Int32 → Int32 → (Nat → Int32) → (Nat → Int32) → (Nat → Int32) → (Nat → Int32) → (Nat → Int32) → (Nat → Int32) → (Nat → Int32) → (Nat → Int32) → (Nat → Int32) → Prop)
    (K : J13 (zb_g t (16 * c + m)) (nI (zc_tn t (16 * c + m))) (nI (c + 1)) cn gb vb le tr ck cu fc fs fl fh ba ua fa la ta wa ha ma va) :
    ∀ (f i k : Nat), i + f = m → f < k → wX_widestGap_36 post J13 x3 (nI c) (nI m) cn gb vb le tr ck cu fc fs fl fh ba ua fa la ta wa ha ma va k (zb_g t (16 * c + i)) (nI (zc_tn t (16 * c + i))) (nI i) := by
  have hn := hT.1
  have hms := zc_m_sp n c
  intro f
  induction f with
  | zero =>
    intro i k hi hk
    obtain ⟨k, rfl⟩ : ∃ m, k = m + 1 := ⟨k - 1, by omega⟩
    obtain rfl : i = m := by omega
    exact br_t (nI_le (Nat.le_refl _) (by omega)) (nm_r (nI_1 c) K)
  | succ f ih =>
    intro i k hi hk
    obtain ⟨k, rfl⟩ : ∃ m, k = m + 1 := ⟨k - 1, by omega⟩
    have h16 : vp_in (nI i) 16 := vp_in_nI (by omega) (by decide)
    have hcl : (nI i).toNatClampNeg = i := nI_clamp (by omega)
    have hmi : ma i = nI (t (16 * c + i)) := (hQ i (by omega)).1
    have h := ih (i + 1) k (by omega) (by omega)
    rw [show 16 * c + (i + 1) = 16 * c + i + 1 from rfl, zb_g, zc_tn] at h
    refine br_f (nI_ge (by omega) (by omega)) ?_
    rw [hcl, hmi, nI_add]
    refine pk_le (c + i) 0 (fun h2 => ?_) (fun h2 => ?_)
    · rw [if_pos (by omega)] at h
      have e0 : zb_g t (16 * c + i) = -4 := by rw [show 16 * c + i = 0 from by omega]; rfl
      rw [e0]
      exact And.intro h16 (nm_e (nm_r (nI_1 i) h))
    · rw [if_neg (by omega)] at h
      refine And.intro h16 (br_c (fun h3 => ?_) (fun h3 => ?_))
      · rw [if_pos h3] at h
        exact And.intro h16 (nm_e (nm_r (nI_1 i) h))
      · rw [if_neg h3] at h
        exact And.intro h16 (nm_e (And.intro h16 (nm_e (nm_r (nI_1 i) h))))
theorem zx_wg13 {n : Nat} {t w : Nat → Nat} (hT : zc_T n t w) (hX : zc_X n t w ba ua fa la ta wa ha) (post : Int32 → SX → Prop)
    (K : ∀ gb vb le tr ck cu ma va, post (zb_g t n) (nI n, gb, vb, le, tr, ck, cu, fc, fs, fl, fh, ba, ua, fa, la, ta, wa, ha, ma, va)) :
    ∀ (f c k : Nat) (gb vb le tr ck cu : Int32) (ma va : Nat → Int32), c + f = (n + 15) / 16 → f < k → wX_widestGap_13 post (nI ((n + 15) / 16)) k (zb_g t (zq_p n c)) (nI (zc_tn t (zq_p n c))) (nI c) (nI n) gb vb le tr ck cu fc fs fl fh ba ua fa la ta wa ha ma va := by
  have hn := hT.1
  intro f
  induction f with
  | zero =>
    intro c k gb vb le tr ck cu ma va hc hk
    obtain ⟨k, rfl⟩ : ∃ m, k = m + 1 := ⟨k - 1, by omega⟩
    have e : zq_p n c = n := by unfold zq_p; split <;> omega
    rw [e]
    exact br_t (nI_le (by omega) (by omega)) (K _ _ _ _ _ _ _ _)
  | succ f ih =>
    intro c k gb vb le tr ck cu ma va hc hk
    obtain ⟨k, rfl⟩ : ∃ m, k = m + 1 := ⟨k - 1, by omega⟩
    have hms := zc_m_sp n c
    have hcn : 16 * c < n := by omega
    have e : zq_p n c = 16 * c := by unfold zq_p; split <;> omega
    have e2 : zq_p n (c + 1) = 16 * c + zc_m n c := by unfold zq_p; split <;> omega
    rw [e]
    refine br_f (nI_ge (by omega) (by omega)) ?_
    refine zx_unpack hT hX hcn (fun gb vb le tr cu ma va hP hQ => ?_)
    refine zx_inChunk hn (by omega) ⟨17, ?_⟩
    have h := ih (c + 1) k gb vb le tr (nI c) cu ma va (by omega) (by omega)
    rw [e2] at h
    exact zx_wg36 hT hcn rfl hQ post _ h (zc_m n c) 0 17 (by omega) (by omega)
theorem zy_wg5 {n : Nat} {t w : Nat → Nat} (hT : zc_T n t w) (hY : zc_Y n t w yt yv) (post : Int32 → Prop) (K : post (zb_g t n)) :
    ∀ (f i k : Nat), i + 1 + f = n → f < k → wY_widestGap_5 post (nI n) yl yr yt yv k (zb_g t (i + 1)) (nI (i + 1)) := by
  have hn := hT.1
  intro f
  induction f with
  | zero =>
    intro i k hi hk
    obtain ⟨k, rfl⟩ : ∃ m, k = m + 1 := ⟨k - 1, by omega⟩
    rw [show i + 1 = n from by omega]
    exact br_t (nI_le (Nat.le_refl _) (by omega)) K
  | succ f ih =>
    intro i k hi hk
    obtain ⟨k, rfl⟩ : ∃ m, k = m + 1 := ⟨k - 1, by omega⟩
    have h := ih (i + 1) k (by omega) (by omega)
    rw [show zb_g t (i + 1 + 1) = if nI (t (i + 1)) - nI (t i) ≤ zb_g t (i + 1) then zb_g t (i + 1) else nI (t (i + 1)) - nI (t i) from rfl] at h
    have v1 : vp_in (nI (i + 1)) 64 := vp_in_nI (by omega) (by decide)
    have v2 : vp_in (nI i) 64 := vp_in_nI (by omega) (by decide)
    refine br_f (nI_ge (by omega) (by omega)) ?_
    rw [nI_pred, nI_clamp (show i < 2 ^ 31 by omega), nI_clamp (show i + 1 < 2 ^ 31 by omega), (hY i (by omega)).1, (hY (i + 1) (by omega)).1]
    refine And.intro v1 (And.intro v2 (br_c (fun h2 => ?_) (fun h2 => ?_)))
    · rw [if_pos h2] at h
      exact nm_r (nI_1 (i + 1)) h
    · rw [if_neg h2] at h
      exact And.intro v1 (And.intro v2 (nm_e (nm_r (nI_1 (i + 1)) h)))
end
theorem i_vc_rises {k : Nat} {u : SX} {v : SY} (I : i_Rel k u v) (hk : k + 5 ≤ 2560) : wpX_rises (fun r u' => wpY_rises (fun r' => r' = r ∧ i_Rel (k + 5) u' v) v) u := by
  refine zz_el (P := fun u v => wpX_rises (fun r u' => wpY_rises (fun r' => r' = r ∧ i_Rel (k + 5) u' v) v) u) ?_ I
  intro n t w gb vb le tr ck cu fc fs fl fh ba ua fa la ta wa ha ma va yl yr yt yv hT hX hY
  have hn := hT.1
  unfold wpX_rises wpX_chunks
  dsimp only
  rw [zx_ch hn]
  refine ⟨(n + 15) / 16 + 1, zx_ri13 hT hX _ (fun gb vb le tr ck cu ma va => ?_) ((n + 15) / 16) 0 _ _ _ _ _ _ _ _ _ (by omega) (by omega)⟩
  cases n with
  | zero => exact ⟨1, br_t (by decide) ⟨rfl, zz_in hT hX hY⟩⟩
  | succ n =>
    have h := zy_ri4 (yl := yl) (yr := yr) hT hY (fun r' => r' = nI (zb_r w (n + 1)) ∧ i_Rel (k + 5) (nI (n + 1), gb, vb, le, tr, ck, cu, fc, fs, fl, fh, ba, ua, fa, la, ta, wa, ha, ma, va) (nI (n + 1), yl, yr, yt, yv)) ⟨rfl, zz_in hT hX hY⟩ n 0 (n + 1) (by omega) (by omega)
    rw [show zb_r w (0 + 1) = if w 0 ≤ 65536 then 0 else 0 + 1 from rfl, if_pos (by have := hT.2.2.2 0 (by omega); omega)] at h
    exact ⟨n + 1, h⟩
theorem i_vc_widestGap {k : Nat} {u : SX} {v : SY} (I : i_Rel k u v) (hk : k + 5 ≤ 2560) : wpX_widestGap (fun r u' => wpY_widestGap (fun r' => r' = r ∧ i_Rel (k + 5) u' v) v) u := by
  refine zz_el (P := fun u v => wpX_widestGap (fun r u' => wpY_widestGap (fun r' => r' = r ∧ i_Rel (k + 5) u' v) v) u) ?_ I
  intro n t w gb vb le tr ck cu fc fs fl fh ba ua fa la ta wa ha ma va yl yr yt yv hT hX hY
  have hn := hT.1
  unfold wpX_widestGap wpX_chunks
  dsimp only
  rw [zx_ch hn]
  refine ⟨(n + 15) / 16 + 1, zx_wg13 hT hX _ (fun gb vb le tr ck cu ma va => ?_) ((n + 15) / 16) 0 _ _ _ _ _ _ _ _ _ (by omega) (by omega)⟩
  cases n with
  | zero => exact ⟨1, br_t (by decide) ⟨rfl, zz_in hT hX hY⟩⟩
  | succ n => exact ⟨n + 1, zy_wg5 hT hY _ ⟨rfl, zz_in hT hX hY⟩ n 0 (n + 1) (by omega) (by omega)⟩
end
