section
/-! rows of the kit's rows to paste (PURE-ROWS, BITS): starting text -/
theorem pk_us {f : Nat → Int32} {k : Nat} {x : Int32} : upd f k x k = x := if_pos rfl
theorem pk_un {f : Nat → Int32} {k j : Nat} {x : Int32} (h : j ≠ k) : upd f k x j = f j := if_neg h
theorem pk_sub {a b : Nat} (h : b ≤ a) : nI a - nI b = nI (a - b) := by
  obtain ⟨c, rfl⟩ : ∃ c, a = c + b := ⟨a - b, by omega⟩
  rw [← nI_add, Int32.add_sub_cancel, Nat.add_sub_cancel]
theorem pk_m1 (n : Nat) : nI (n + 1) + (-1) = nI n := by
  rw [← nI_1, Int32.add_assoc, show (1 : Int32) + (-1) = 0 from rfl, Int32.add_zero]
theorem pk_mul (a b : Nat) : nI a * nI b = nI (a * b) := (Int32.ofNat_mul a b).symm
theorem pk_sub_toInt {a b : Nat} (ha : a < 2 ^ 30) (hb : b < 2 ^ 30) : (nI a - nI b).toInt = (a : Int) - b := by
  rw [Int32.toInt_sub, nI_toInt (by omega), nI_toInt (by omega)]
  exact Int.bmod_eq_of_le (by omega) (by omega)
theorem pk_sneg {a b : Nat} (hb : b < 2 ^ 30) (h : a < b) : nI a - nI b < 0 := by
  rw [Int32.lt_iff_toInt_lt, pk_sub_toInt (by omega) hb, show (0 : Int32).toInt = 0 from by decide]
  omega
theorem pk_ix (x : Int32) {n : Nat} (hn : n < 2 ^ 31) : x < 0 ∨ nI n ≤ x ∨ ∃ j : Nat, j < n ∧ x = nI j := by
  by_cases h : x < 0
  · exact Or.inl h
  · obtain ⟨j, hj, rfl⟩ := nI_of h
    by_cases h2 : j < n
    · exact Or.inr (Or.inr ⟨j, h2, rfl⟩)
    · exact Or.inr (Or.inl (nI_le (by omega) hj))
theorem pk_le {x y : Int32} {A B : Prop} (a b : Nat) (f : a ≤ b → A) (g : b < a → B) (hx : x = nI a := by rfl) (hy : y = nI b := by rfl) (ha : a < 2 ^ 31 := by omega) (hb : b < 2 ^ 31 := by omega) : (x ≤ y → A) ∧ (¬ x ≤ y → B) := by
  subst hx hy
  rw [nI_leI ha hb]
  exact ⟨f, fun z => g (by omega)⟩
theorem pk_lt {x y : Int32} {A B : Prop} (a b : Nat) (f : a < b → A) (g : b ≤ a → B) (hx : x = nI a := by rfl) (hy : y = nI b := by rfl) (ha : a < 2 ^ 31 := by omega) (hb : b < 2 ^ 31 := by omega) : (x < y → A) ∧ (¬ x < y → B) := by
  subst hx hy
  rw [nI_ltI ha hb]
  exact ⟨f, fun z => g (by omega)⟩
theorem pk_eq {x y : Int32} {A B : Prop} (a b : Nat) (f : a = b → A) (g : a ≠ b → B) (hx : x = nI a := by rfl) (hy : y = nI b := by rfl) (ha : a < 2 ^ 31 := by omega) (hb : b < 2 ^ 31 := by omega) : (x = y → A) ∧ (¬ x = y → B) := by
  subst hx hy
  rw [nI_eq ha hb]
  exact ⟨f, g⟩
theorem pk_in {x : Int32} (n N : Nat) (h : n < N) (hx : x = nI n := by rfl) (hN : N < 2 ^ 31 := by omega) : vp_in x N := by
  subst hx
  exact vp_in_nI h hN
theorem pk_cl {x : Int32} (n : Nat) (hx : x = nI n := by rfl) (h : n < 2 ^ 31 := by omega) : x.toNatClampNeg = n := by
  subst hx
  exact nI_clamp h
theorem pk_tn {n : Nat} (h : n < 2 ^ 32) : (nI n).toBitVec.toNat = n := Nat.mod_eq_of_lt h
theorem pk_and (x : Int32) {m : Int32} (k : Nat) (hm : m.toBitVec.toNat = 2 ^ k - 1) : x &&& m = nI (x.toBitVec.toNat % 2 ^ k) := by
  apply Int32.toBitVec_inj.mp
  apply BitVec.eq_of_toNat_eq
  rw [Int32.toBitVec_and, BitVec.toNat_and, hm, Nat.and_two_pow_sub_one_eq_mod]
  show _ = (BitVec.ofNat 32 _).toNat
  rw [BitVec.toNat_ofNat]
  exact (Nat.mod_eq_of_lt (Nat.lt_of_le_of_lt (Nat.mod_le _ _) x.toBitVec.isLt)).symm
theorem pk_andN {n : Nat} (h : n < 2 ^ 32) {m : Int32} (k : Nat) (hm : m.toBitVec.toNat = 2 ^ k - 1) : nI n &&& m = nI (n % 2 ^ k) := by
  rw [pk_and _ k hm, pk_tn h]
theorem pk_shl (a s : Int32) (k : Nat) (hs : (s.toBitVec.smod 32).toNat = k) : (a <<< s).toBitVec.toNat = a.toBitVec.toNat * 2 ^ k % 2 ^ 32 := by
  show (a.toBitVec <<< (s.toBitVec.smod 32).toNat).toNat = _
  rw [hs, BitVec.toNat_shiftLeft, Nat.shiftLeft_eq]
theorem pk_shlN {n : Nat} (s : Int32) (k : Nat) (hs : (s.toBitVec.smod 32).toNat = k) (h : n * 2 ^ k < 2 ^ 32) : nI n <<< s = nI (n * 2 ^ k) := by
  apply Int32.toBitVec_inj.mp
  apply BitVec.eq_of_toNat_eq
  have hn : n < 2 ^ 32 := Nat.lt_of_le_of_lt (Nat.le_mul_of_pos_right n (Nat.two_pow_pos k)) h
  rw [pk_shl _ _ k hs, pk_tn hn, pk_tn h, Nat.mod_eq_of_lt h]
theorem pk_shr (a s : Int32) (k : Nat) (hs : (s.toBitVec.smod 32).toNat = k) : (a >>> s).toInt = a.toInt >>> k := by
  show (a.toBitVec.sshiftRight (s.toBitVec.smod 32).toNat).toInt = _
  rw [hs, BitVec.toInt_sshiftRight]
  rfl
theorem pk_shrN {n : Nat} (h : n < 2 ^ 31) (s : Int32) (k : Nat) (hs : (s.toBitVec.smod 32).toNat = k) : nI n >>> s = nI (n / 2 ^ k) := by
  apply Int32.toInt_inj.mp
  have h2 : n / 2 ^ k ≤ n := Nat.div_le_self _ _
  rw [pk_shr _ _ k hs, nI_toInt h, nI_toInt (by omega), Int.shiftRight_eq_div_pow]
  rfl
theorem pk_least (P : Nat → Prop) (h : ∃ k, P k) : ∃ k, P k ∧ ∀ j, j < k → ¬ P j := by
  obtain ⟨k, hk⟩ := h
  induction k using Nat.strongRecOn with
  | ind k ih =>
    by_cases e : ∃ j, j < k ∧ P j
    · obtain ⟨j, hj, pj⟩ := e
      exact ih j hj pj
    · exact ⟨k, hk, fun j hj pj => e ⟨j, hj, pj⟩⟩
def bt (x : Int32) (i : Nat) : Bool := x.toBitVec.getLsbD i
theorem b_ext {x y : Int32} (h : ∀ i, i < 32 → bt x i = bt y i) : x = y := Int32.toBitVec_inj.mp (BitVec.eq_of_getLsbD_eq (fun i hi => h i hi))
theorem b_or (x y : Int32) (i : Nat) : bt (x ||| y) i = (bt x i || bt y i) := by unfold bt; rw [Int32.toBitVec_or, BitVec.getLsbD_or]
theorem b_and (x y : Int32) (i : Nat) : bt (x &&& y) i = (bt x i && bt y i) := by unfold bt; rw [Int32.toBitVec_and, BitVec.getLsbD_and]
theorem b_xor (x y : Int32) (i : Nat) : bt (x ^^^ y) i = (bt x i ^^ bt y i) := by unfold bt; rw [Int32.toBitVec_xor, BitVec.getLsbD_xor]
theorem b_big {x : Int32} {i : Nat} (h : 32 ≤ i) : bt x i = false := BitVec.getLsbD_of_ge _ _ h
theorem b_m1 : ∀ i, i < 32 → bt (-1) i = true := by decide +kernel
theorem b_0 (i : Nat) : bt 0 i = false := BitVec.getLsbD_zero
theorem s_l : ∀ n, n < 32 → ((nI n &&& 31).toBitVec.smod 32).toNat = n := by decide +kernel
theorem s_u : ∀ n, n < 32 → (((nI n).toUInt32 &&& Int32.toUInt32 31).toBitVec % 32).toNat = n := by decide +kernel
theorem b_shl (n : Nat) (hn : n < 32) (x : Int32) {i : Nat} (hi : i < 32) : bt (x <<< (nI n &&& 31)) i = (decide (n ≤ i) && bt x (i - n)) := by
  unfold bt
  rw [Int32.toBitVec_shiftLeft]
  show (x.toBitVec <<< ((nI n &&& 31).toBitVec.smod 32).toNat).getLsbD i = _
  rw [s_l n hn, BitVec.getLsbD_shiftLeft]
  rcases Nat.lt_or_ge i n with h | h
  · simp [h, Nat.not_le.mpr h]
  · simp [hi, h, Nat.not_lt.mpr h]
theorem b_ushr (n : Nat) (hn : n < 32) (x : Int32) (i : Nat) : bt ((x.toUInt32 >>> ((nI n).toUInt32 &&& Int32.toUInt32 31)).toInt32) i = bt x (n + i) := by
  show (x.toUInt32 >>> ((nI n).toUInt32 &&& Int32.toUInt32 31)).toBitVec.getLsbD i = x.toUInt32.toBitVec.getLsbD (n + i)
  rw [UInt32.toBitVec_shiftRight]
  show (x.toUInt32.toBitVec >>> (((nI n).toUInt32 &&& Int32.toUInt32 31).toBitVec % 32).toNat).getLsbD i = _
  rw [s_u n hn, BitVec.getLsbD_ushiftRight]
theorem b_sshr (n : Nat) (hn : n < 32) (x : Int32) {i : Nat} (hi : i < 32) : bt (x >>> (nI n &&& 31)) i = if n + i < 32 then bt x (n + i) else bt x 31 := by
  unfold bt
  rw [Int32.toBitVec_shiftRight]
  show (x.toBitVec.sshiftRight ((nI n &&& 31).toBitVec.smod 32).toNat).getLsbD i = _
  rw [s_l n hn, BitVec.getLsbD_sshiftRight, BitVec.msb_eq_getLsbD_last]
  simp [hi]
theorem nx_and (a b : Nat) : nI a &&& nI b = nI (a &&& b) := by
  apply Int32.toBitVec_inj.1
  show BitVec.ofNat 32 a &&& BitVec.ofNat 32 b = BitVec.ofNat 32 (a &&& b)
  apply BitVec.eq_of_getLsbD_eq
  intro i hi
  simp [hi]
theorem nx_xor (a b : Nat) : nI a ^^^ nI b = nI (a ^^^ b) := by
  apply Int32.toBitVec_inj.1
  show BitVec.ofNat 32 a ^^^ BitVec.ofNat 32 b = BitVec.ofNat 32 (a ^^^ b)
  apply BitVec.eq_of_getLsbD_eq
  intro i hi
  simp [hi]
end
section
/-! bits: a truth value as an int, one bit read or set, literals, numbers by their bits -/
def ic_b : Bool → Int32
  | true => 1
  | false => 0
theorem ic_b1 {b : Bool} : ic_b b = 1 ↔ b = true := by cases b <;> decide
theorem ic_b0 {b : Bool} : ic_b b = 0 ↔ b = false := by cases b <;> decide
theorem ic_bb (b : Bool) (j : Nat) : bt (ic_b b) j = (b && decide (j = 0)) := by
  cases b
  · exact b_0 j
  · rcases Nat.lt_or_ge j 32 with h | h
    · exact (by decide +kernel : ∀ j, j < 32 → bt (ic_b true) j = (true && decide (j = 0))) j h
    · rw [b_big h, decide_eq_false (by omega)]; rfl
theorem ic_not (x : Int32) {j : Nat} (hj : j < 32) : bt (x ^^^ (-1)) j = !bt x j := by rw [b_xor, b_m1 j hj, Bool.xor_true]
theorem ic_sr (x : Int32) {i : Nat} (hi : i < 32) : (x >>> (nI i &&& 31)) &&& 1 = ic_b (bt x i) := by
  apply b_ext
  intro j hj
  rw [b_and, b_sshr i hi x hj, ic_bb]
  show (_ && bt (ic_b true) j) = _
  rw [ic_bb]
  by_cases h : j = 0
  · subst h; simp [hi]
  · simp [h]
theorem ic_ur (x : Int32) {i : Nat} (hi : i < 32) : (x.toUInt32 >>> ((nI i).toUInt32 &&& Int32.toUInt32 31)).toInt32 &&& 1 = ic_b (bt x i) := by
  apply b_ext
  intro j hj
  rw [b_and, b_ushr i hi x j, ic_bb]
  show (_ && bt (ic_b true) j) = _
  rw [ic_bb]
  by_cases h : j = 0
  · subst h; simp
  · simp [h]
theorem ic_sl (b : Bool) {k j : Nat} (hk : k < 32) (hj : j < 32) : bt (ic_b b <<< (nI k &&& 31)) j = (b && decide (j = k)) := by
  rw [b_shl k hk _ hj, ic_bb]
  cases b
  · simp
  · rw [Bool.true_and, Bool.true_and, ← Bool.decide_and, decide_eq_decide]
    omega
theorem ic_1s {k j : Nat} (hk : k < 32) (hj : j < 32) : bt ((1 : Int32) <<< (nI k &&& 31)) j = decide (j = k) := (ic_sl true hk hj).trans (Bool.true_and _)
theorem ic_z {x : Int32} : x = 0 ↔ ∀ j, j < 32 → bt x j = false := ⟨fun h j _ => by rw [h]; exact b_0 j, fun h => b_ext fun j hj => (h j hj).trans (b_0 j).symm⟩
theorem ic_nz {x : Int32} : ¬ x = 0 ↔ ∃ j, j < 32 ∧ bt x j = true := by
  rw [ic_z]
  constructor
  · intro h
    exact Classical.byContradiction fun hn => h fun j hj => Bool.eq_false_iff.mpr fun e => hn ⟨j, hj, e⟩
  · rintro ⟨j, hj, e⟩ h
    rw [h j hj] at e
    exact absurd e (by decide)
theorem ic_nb {n i : Nat} (hi : i < 32) : bt (nI n) i = n.testBit i := by
  show (BitVec.ofNat 32 n).getLsbD i = _
  rw [BitVec.getLsbD_ofNat, decide_eq_true hi, Bool.true_and]
theorem ic_m1 {m : Nat} (h : m < 2 ^ 31) : nI m &&& 1 = nI (m % 2) := pk_andN (by omega) 1 (by decide)
theorem ic_m1b {m : Nat} (h : m < 2 ^ 31) : nI m &&& 1 = ic_b (decide (m % 2 = 1)) := by
  rw [ic_m1 h]
  rcases Nat.mod_two_eq_zero_or_one m with e | e <;> rw [e] <;> decide
theorem ic_half {m : Nat} (h : m < 2 ^ 31) : nI m >>> ((1 : Int32) &&& 31) = nI (m / 2) := pk_shrN h _ 1 (by decide)
theorem ic_band (a b : Bool) : ic_b a &&& ic_b b = ic_b (a && b) := by cases a <;> cases b <;> decide
theorem ic_bxor (a b : Bool) : ic_b a ^^^ ic_b b = ic_b (a ^^ b) := by cases a <;> cases b <;> decide
theorem ic_nar (b : Bool) : vp_nar .boolean (ic_b b) = ic_b b := by cases b <;> rfl
theorem ic_nar1 : vp_nar .boolean 1 = 1 := rfl
theorem ic_nar0 : vp_nar .boolean 0 = 0 := rfl
/-- the node x at state s under word w; the literal m there -/
def ic_V (tr : Nat → Int32) (x s w : Nat) : Bool := bt (tr (4 * x + w)) s
def ic_L (tr : Nat → Int32) (m s w : Nat) : Bool := ic_V tr (m / 2) s w ^^ decide (m % 2 = 1)
/-- the number whose bits below n are f -/
def ic_sx (f : Nat → Bool) : Nat → Nat
  | 0 => 0
  | n + 1 => ic_sx f n ||| (if f n then 2 ^ n else 0)
theorem ic_sx_lt (f : Nat → Bool) : ∀ n, ic_sx f n < 2 ^ n
  | 0 => Nat.zero_lt_one
  | n + 1 => by
    have h := ic_sx_lt f n
    have h2 : 2 ^ n < 2 ^ (n + 1) := Nat.pow_lt_pow_right (by decide) (by omega)
    unfold ic_sx
    apply Nat.or_lt_two_pow (by omega)
    split <;> omega
theorem ic_sx_bit (f : Nat → Bool) : ∀ n i, (ic_sx f n).testBit i = (decide (i < n) && f i)
  | 0, i => by simp [ic_sx]
  | n + 1, i => by
    unfold ic_sx
    rw [Nat.testBit_or, ic_sx_bit f n i]
    by_cases e : n = i
    · subst e
      by_cases h : f n = true
      · rw [if_pos h, Nat.testBit_two_pow]; simp [h]
      · rw [if_neg h, Nat.zero_testBit]; simp [h]
    · have h2 : decide (i < n + 1) = decide (i < n) := decide_eq_decide.mpr (by omega)
      rw [h2]
      by_cases h : f n = true
      · rw [if_pos h, Nat.testBit_two_pow, decide_eq_false e, Bool.or_false]
      · rw [if_neg h, Nat.zero_testBit, Bool.or_false]
theorem ic_sx_eq {f : Nat → Bool} {L t : Nat} (ht : t < 2 ^ L) : ic_sx f L = t ↔ ∀ i, i < L → f i = t.testBit i := by
  constructor
  · rintro rfl i hi
    rw [ic_sx_bit, decide_eq_true hi, Bool.true_and]
  · intro h
    apply Nat.eq_of_testBit_eq
    intro i
    rw [ic_sx_bit]
    by_cases hi : i < L
    · rw [decide_eq_true hi, Bool.true_and, h i hi]
    · rw [decide_eq_false hi, Bool.false_and]
      exact (Nat.testBit_lt_two_pow (Nat.lt_of_lt_of_le ht (Nat.pow_le_pow_right (by decide) (by omega)))).symm
theorem ic_sx_nI {f : Nat → Bool} {i : Nat} (hi : i < 31) : nI (ic_sx f i) ||| (ic_b (f i) <<< (nI i &&& 31)) = nI (ic_sx f (i + 1)) := by
  apply b_ext
  intro j hj
  rw [b_or, ic_nb hj, ic_sl _ (by omega) hj, ic_nb hj, ic_sx_bit, ic_sx_bit]
  by_cases e : j = i
  · subst e; simp
  · have h2 : decide (j < i + 1) = decide (j < i) := decide_eq_decide.mpr (by omega)
    rw [h2, decide_eq_false e, Bool.and_false, Bool.or_false]
theorem ic_bits_eq {L s p : Nat} (hs : s < 2 ^ L) (hp : p < 2 ^ L) (h : ∀ j, j < L → s.testBit j = p.testBit j) : s = p := by
  apply Nat.eq_of_testBit_eq
  intro i
  by_cases hi : i < L
  · exact h i hi
  · have hl : 2 ^ L ≤ 2 ^ i := Nat.pow_le_pow_right (by decide) (by omega)
    rw [Nat.testBit_lt_two_pow (Nat.lt_of_lt_of_le hs hl), Nat.testBit_lt_two_pow (Nat.lt_of_lt_of_le hp hl)]
end
section
/-! the plain law: runs, failures, reach, covers, least words -/
def ic_nx (L : Nat) (nb : Nat → Nat → Nat → Bool) (s w : Nat) : Nat := ic_sx (fun i => nb i s w) L
def ic_St (L W : Nat) (nb : Nat → Nat → Nat → Bool) (s t : Nat) : Prop := ∃ w, w < W ∧ ic_nx L nb s w = t
def ic_Bd (W : Nat) (bd : Nat → Nat → Bool) (s : Nat) : Prop := ∃ w, w < W ∧ bd s w = true
def ic_FA (St : Nat → Nat → Prop) (Bd : Nat → Prop) : Nat → Nat → Prop
  | 0 => Bd
  | n + 1 => fun s => ∃ t, St s t ∧ ic_FA St Bd n t
def ic_FW (St : Nat → Nat → Prop) (Bd : Nat → Prop) : Nat → Nat → Prop
  | 0 => Bd
  | k + 1 => fun s => Bd s ∨ ∃ t, St s t ∧ ic_FW St Bd k t
def ic_PN (S : Nat) (St : Nat → Nat → Prop) (F : Nat → Prop) : Nat → Nat → Prop
  | 0 => F
  | n + 1 => fun t => ∃ s, s < S ∧ ic_PN S St F n s ∧ St s t
def ic_RN (S : Nat) (St : Nat → Nat → Prop) (A : Nat → Prop) : Nat → Nat → Prop
  | 0 => A
  | n + 1 => fun t => ic_RN S St A n t ∨ ∃ s, s < S ∧ ic_RN S St A n s ∧ St s t
def ic_Re (S : Nat) (St : Nat → Nat → Prop) (A : Nat → Prop) (t : Nat) : Prop := ∃ n, ic_RN S St A n t
def ic_In (ik : Nat → Int32) (L s : Nat) : Prop := ∀ i, i < L → ik i = 2 ∨ ik i = ic_b (s.testBit i)
def ic_Cv (L S : Nat) (F : Nat → Prop) (m : Int32) (s : Nat) : Prop := ∃ p, p < S ∧ F p ∧ ∀ j, j < L → bt m j = true → s.testBit j = p.testBit j
def ic_Cp (L S : Nat) (F : Nat → Prop) (m : Int32) (i s : Nat) : Prop := ∃ p, p < S ∧ F p ∧ ∀ j, j < L → (bt m j = true ∨ i ≤ j) → s.testBit j = p.testBit j
def ic_wd (ms : Nat → Int32) (c : Int32) : Nat → Int32
  | 0 => c
  | i + 1 => if bt c i = true then ic_wd ms c i ||| ms i else ic_wd ms c i
def ic_SH (L : Nat) (ms : Nat → Int32) (mb : Int32) : Nat → Int32
  | 0 => mb
  | k + 1 => ic_wd ms (ic_SH L ms mb k) L
/-- a is, below S, the set P as flags -/
def ic_ar (a : Nat → Int32) (S : Nat) (P : Nat → Prop) : Prop := ∀ s, s < S → (P s ∧ a s = 1) ∨ (¬ P s ∧ a s = 0)
theorem ic_ar_congr {a : Nat → Int32} {S : Nat} {P Q : Nat → Prop} (h : ic_ar a S P) (e : ∀ s, s < S → (P s ↔ Q s)) : ic_ar a S Q := by
  intro s hs
  rw [← e s hs]
  exact h s hs
theorem ic_nx_lt {L : Nat} {nb : Nat → Nat → Nat → Bool} {s w : Nat} : ic_nx L nb s w < 2 ^ L := ic_sx_lt _ _
section
variable {S : Nat} {St : Nat → Nat → Prop} {Bd : Nat → Prop} {F A : Nat → Prop}
theorem ic_FW_iff : ∀ {k s : Nat}, ic_FW St Bd k s ↔ ∃ n, n ≤ k ∧ ic_FA St Bd n s := by
  intro k
  induction k with
  | zero =>
    intro s
    constructor
    · intro h; exact ⟨0, Nat.le_refl _, h⟩
    · rintro ⟨n, hn, h⟩
      obtain rfl : n = 0 := by omega
      exact h
  | succ k ih =>
    intro s
    constructor
    · rintro (h | ⟨t, ht, h⟩)
      · exact ⟨0, by omega, h⟩
      · obtain ⟨n, hn, h⟩ := ih.mp h
        exact ⟨n + 1, by omega, t, ht, h⟩
    · rintro ⟨n, hn, h⟩
      cases n with
      | zero => exact Or.inl h
      | succ n =>
        obtain ⟨t, ht, h⟩ := h
        exact Or.inr ⟨t, ht, ih.mpr ⟨n, by omega, h⟩⟩
theorem ic_PN_FA (hSt : ∀ s t, St s t → t < S) : ∀ n m : Nat, (∃ s, s < S ∧ ic_PN S St F n s ∧ ic_FA St Bd m s) ↔ ∃ s, s < S ∧ F s ∧ ic_FA St Bd (n + m) s := by
  intro n
  induction n with
  | zero => intro m; rw [Nat.zero_add]; exact Iff.rfl
  | succ n ih =>
    intro m
    have e : n + 1 + m = n + (m + 1) := by omega
    rw [e, ← ih (m + 1)]
    constructor
    · rintro ⟨t, ht, ⟨s, hs, h1, h2⟩, h3⟩
      exact ⟨s, hs, h1, t, h2, h3⟩
    · rintro ⟨s, hs, h1, t, h2, h3⟩
      exact ⟨t, hSt s t h2, ⟨s, hs, h1, h2⟩, h3⟩
noncomputable def ic_01 (P : Prop) : Nat := @ite Nat P (Classical.propDecidable P) 1 0
theorem ic_01t {P : Prop} (h : P) : ic_01 P = 1 := if_pos h
theorem ic_01f {P : Prop} (h : ¬ P) : ic_01 P = 0 := if_neg h
theorem ic_01_le (P : Prop) : ic_01 P ≤ 1 := by
  by_cases h : P
  · rw [ic_01t h]; exact Nat.le_refl _
  · rw [ic_01f h]; exact Nat.zero_le _
theorem ic_01_mono {P Q : Prop} (h : P → Q) : ic_01 P ≤ ic_01 Q := by
  by_cases p : P
  · rw [ic_01t p, ic_01t (h p)]; exact Nat.le_refl _
  · rw [ic_01f p]; exact Nat.zero_le _
noncomputable def ic_cn (P : Nat → Prop) : Nat → Nat
  | 0 => 0
  | n + 1 => ic_cn P n + ic_01 (P n)
theorem ic_cn_le (P : Nat → Prop) : ∀ n, ic_cn P n ≤ n
  | 0 => Nat.le_refl _
  | n + 1 => Nat.add_le_add (ic_cn_le P n) (ic_01_le _)
theorem ic_cn_mono {P Q : Nat → Prop} (h : ∀ i, P i → Q i) : ∀ n, ic_cn P n ≤ ic_cn Q n
  | 0 => Nat.le_refl _
  | n + 1 => Nat.add_le_add (ic_cn_mono h n) (ic_01_mono (h n))
theorem ic_cn_lt {P Q : Nat → Prop} (h : ∀ i, P i → Q i) {i : Nat} (hp : ¬ P i) (hq : Q i) : ∀ n, i < n → ic_cn P n < ic_cn Q n
  | 0, hi => absurd hi (Nat.not_lt_zero _)
  | n + 1, hi => by
    show ic_cn P n + ic_01 (P n) < ic_cn Q n + ic_01 (Q n)
    have h1 := ic_01_mono (h n)
    by_cases e : i = n
    · subst e
      have h2 := ic_cn_mono h i
      rw [ic_01f hp, ic_01t hq]
      omega
    · have h3 := ic_cn_lt h hp hq n (by omega)
      omega
theorem ic_RN_up {n m t : Nat} (h : ic_RN S St A n t) : ic_RN S St A (n + m) t := by
  induction m with
  | zero => exact h
  | succ m ih => exact Or.inl ih
theorem ic_RN_cl {r : Nat} (hc : ∀ s t, s < S → ic_RN S St A r s → St s t → ic_RN S St A r t) : ∀ m t, ic_RN S St A (r + m) t → ic_RN S St A r t := by
  intro m
  induction m with
  | zero => intro t h; exact h
  | succ m ih =>
    intro t h
    rcases h with h | ⟨s, hs, h, hst⟩
    · exact ih t h
    · exact hc s t hs (ih s h) hst
theorem ic_Re_cl {r t : Nat} (hc : ∀ s t, s < S → ic_RN S St A r s → St s t → ic_RN S St A r t) : ic_RN S St A r t ↔ ic_Re S St A t := by
  constructor
  · intro h; exact ⟨r, h⟩
  · rintro ⟨n, h⟩
    have h2 : ic_RN S St A (n + r) t := ic_RN_up h
    rw [Nat.add_comm] at h2
    exact ic_RN_cl hc n t h2
theorem ic_RN_cn (hSt : ∀ s t, St s t → t < S) : ∀ r, (∀ r', r' < r → ¬ ∀ s t, s < S → ic_RN S St A r' s → St s t → ic_RN S St A r' t) → r ≤ ic_cn (ic_RN S St A r) S := by
  intro r
  induction r with
  | zero => intro _; exact Nat.zero_le _
  | succ r ih =>
    intro h
    have h1 := ih (fun r' hr => h r' (by omega))
    have h2 := h r (by omega)
    refine Nat.lt_of_le_of_lt h1 (Classical.byContradiction fun hn => h2 fun s t hs hr hst => Classical.byContradiction fun ht => hn ?_)
    exact ic_cn_lt (fun i hi => Or.inl hi) ht (Or.inr ⟨s, hs, hr, hst⟩) S (hSt s t hst)
theorem ic_Re_S (hSt : ∀ s t, St s t → t < S) {t : Nat} : ic_RN S St A S t ↔ ic_Re S St A t := by
  have h : ∃ r, r < S + 1 ∧ ∀ s t, s < S → ic_RN S St A r s → St s t → ic_RN S St A r t := Classical.byContradiction fun hn => by
    have h1 := ic_RN_cn (A := A) hSt (S + 1) (fun r' hr hc => hn ⟨r', hr, hc⟩)
    have h2 := ic_cn_le (ic_RN S St A (S + 1)) S
    omega
  obtain ⟨r, hr, hc⟩ := h
  constructor
  · intro h; exact ⟨S, h⟩
  · intro h
    have h2 := ic_RN_up (m := S - r) ((ic_Re_cl hc).mpr h)
    rw [show r + (S - r) = S by omega] at h2
    exact h2
theorem ic_Re_cls {s t : Nat} (hs : s < S) (h : ic_Re S St A s) (hst : St s t) : ic_Re S St A t := by
  obtain ⟨n, h⟩ := h
  exact ⟨n + 1, Or.inr ⟨s, hs, h, hst⟩⟩
end
theorem ic_Cp0 {L S : Nat} {F : Nat → Prop} {m : Int32} {s : Nat} (hS : S = 2 ^ L) (hs : s < S) : ic_Cp L S F m 0 s ↔ F s := by
  constructor
  · rintro ⟨p, hp, hF, h⟩
    rw [ic_bits_eq (L := L) (by omega) (by omega) (fun j hj => h j hj (Or.inr (Nat.zero_le _)))]
    exact hF
  · intro h; exact ⟨s, hs, h, fun _ _ _ => rfl⟩
theorem ic_CpL {L S : Nat} {F : Nat → Prop} {m : Int32} {s : Nat} : ic_Cp L S F m L s ↔ ic_Cv L S F m s := by
  constructor
  · rintro ⟨p, hp, hF, h⟩
    exact ⟨p, hp, hF, fun j hj hm => h j hj (Or.inl hm)⟩
  · rintro ⟨p, hp, hF, h⟩
    exact ⟨p, hp, hF, fun j hj hm => h j hj (hm.resolve_right (by omega))⟩
theorem ic_Cp_in {L S : Nat} {F : Nat → Prop} {m : Int32} {i s : Nat} (hm : bt m i = true) : ic_Cp L S F m (i + 1) s ↔ ic_Cp L S F m i s := by
  constructor
  · rintro ⟨p, hp, hF, h⟩
    refine ⟨p, hp, hF, fun j hj hx => h j hj ?_⟩
    by_cases e : j = i
    · subst e; exact Or.inl hm
    · exact hx.imp id (by omega)
  · rintro ⟨p, hp, hF, h⟩
    exact ⟨p, hp, hF, fun j hj hx => h j hj (hx.imp id (by omega))⟩
theorem ic_flip (s i j : Nat) : (s ^^^ 2 ^ i).testBit j = (s.testBit j ^^ decide (i = j)) := by rw [Nat.testBit_xor, Nat.testBit_two_pow]
theorem ic_Cp_out {L S : Nat} {F : Nat → Prop} {m : Int32} {i s : Nat} (hm : bt m i = false) : ic_Cp L S F m (i + 1) s ↔ ic_Cp L S F m i s ∨ ic_Cp L S F m i (s ^^^ 2 ^ i) := by
  constructor
  · rintro ⟨p, hp, hF, h⟩
    by_cases e : s.testBit i = p.testBit i
    · refine Or.inl ⟨p, hp, hF, fun j hj hx => ?_⟩
      by_cases ej : j = i
      · subst ej; exact e
      · exact h j hj (hx.imp id (by omega))
    · refine Or.inr ⟨p, hp, hF, fun j hj hx => ?_⟩
      rw [ic_flip]
      by_cases ej : j = i
      · subst ej
        rw [decide_eq_true rfl, Bool.xor_true]
        revert e
        cases s.testBit j <;> cases p.testBit j <;> simp
      · rw [decide_eq_false (fun h => ej h.symm), Bool.xor_false]
        exact h j hj (hx.imp id (by omega))
  · have hk : ∀ j, (bt m j = true ∨ i + 1 ≤ j) → j ≠ i ∧ (bt m j = true ∨ i ≤ j) := by
      intro j hx
      refine ⟨?_, hx.imp id (by omega)⟩
      rintro rfl
      rcases hx with hx | hx
      · rw [hm] at hx; exact absurd hx (by decide)
      · omega
    rintro (⟨p, hp, hF, h⟩ | ⟨p, hp, hF, h⟩)
    · exact ⟨p, hp, hF, fun j hj hx => h j hj (hk j hx).2⟩
    · refine ⟨p, hp, hF, fun j hj hx => ?_⟩
      have h2 := h j hj (hk j hx).2
      rw [ic_flip, decide_eq_false (fun h => (hk j hx).1 h.symm), Bool.xor_false] at h2
      exact h2
theorem ic_Cv_congr {L S : Nat} {F G : Nat → Prop} {m : Int32} {s : Nat} (h : ∀ p, p < S → (F p ↔ G p)) : ic_Cv L S F m s ↔ ic_Cv L S G m s := by
  constructor
  · rintro ⟨p, hp, hF, hh⟩; exact ⟨p, hp, (h p hp).mp hF, hh⟩
  · rintro ⟨p, hp, hF, hh⟩; exact ⟨p, hp, (h p hp).mpr hF, hh⟩
/-- a state and its neighbour over latch i, as shifts -/
theorem ic_nbr1 : ∀ i, i < 5 → ∀ s, s < 32 → (2 ^ i ≤ s ∧ (s - 2 ^ i).testBit i = false → s.testBit i = true) := by decide +kernel
theorem ic_nbr2 : ∀ i, i < 5 → ∀ s, s < 32 → (s.testBit i = true → 2 ^ i ≤ s ∧ s - 2 ^ i = s ^^^ 2 ^ i ∧ (s - 2 ^ i).testBit i = false) := by decide +kernel
theorem ic_nbr3 : ∀ i, i < 5 → ∀ s, s < 32 → (s.testBit i = false → s + 2 ^ i = s ^^^ 2 ^ i ∧ (s + 2 ^ i).testBit i = true) := by decide +kernel
theorem ic_nbr4 : ∀ i, i < 5 → ∀ s, s < 32 → ((s + 2 ^ i).testBit i = true → s.testBit i = false) := by decide +kernel
theorem ic_nbr {i s : Nat} (hi : i < 5) (hs : s < 32) : (2 ^ i ≤ s ∧ (s - 2 ^ i).testBit i = false → s.testBit i = true) ∧ (s.testBit i = true → 2 ^ i ≤ s ∧ s - 2 ^ i = s ^^^ 2 ^ i ∧ (s - 2 ^ i).testBit i = false) ∧ (s.testBit i = false → s + 2 ^ i = s ^^^ 2 ^ i ∧ (s + 2 ^ i).testBit i = true) ∧ ((s + 2 ^ i).testBit i = true → s.testBit i = false) := ⟨ic_nbr1 i hi s hs, ic_nbr2 i hi s hs, ic_nbr3 i hi s hs, ic_nbr4 i hi s hs⟩
/-- the least number with P -/
noncomputable def ic_mn (P : Nat → Prop) : Nat := @Classical.epsilon Nat ⟨0⟩ (fun k => P k ∧ ∀ j, j < k → ¬ P j)
theorem ic_mn_spec {P : Nat → Prop} (h : ∃ k, P k) : P (ic_mn P) ∧ ∀ j, j < ic_mn P → ¬ P j := Classical.epsilon_spec (pk_least P h)
theorem ic_mn_eq {P : Nat → Prop} {k : Nat} (h : P k) (hl : ∀ j, j < k → ¬ P j) : k = ic_mn P := by
  obtain ⟨h1, h2⟩ := ic_mn_spec ⟨k, h⟩
  rcases Nat.lt_trichotomy k (ic_mn P) with z | z | z
  · exact absurd h (h2 k z)
  · exact z
  · exact absurd h1 (hl _ z)
/-- the least failing trace: its words' condition, its states -/
def ic_Q (L W : Nat) (nb : Nat → Nat → Nat → Bool) (bd : Nat → Nat → Bool) (n t s w : Nat) : Prop := w < W ∧ ((t < n ∧ ic_FA (ic_St L W nb) (ic_Bd W bd) (n - t - 1) (ic_nx L nb s w)) ∨ (t = n ∧ bd s w = true))
def ic_P0 (L S W : Nat) (nb : Nat → Nat → Nat → Bool) (bd : Nat → Nat → Bool) (ik : Nat → Int32) (n c : Nat) : Prop := c < S ∧ ic_In ik L c ∧ ic_FA (ic_St L W nb) (ic_Bd W bd) n c
noncomputable def ic_sg (P0 : Nat → Prop) (Q : Nat → Nat → Nat → Prop) (nx : Nat → Nat → Nat) : Nat → Nat
  | 0 => ic_mn P0
  | t + 1 => nx (ic_sg P0 Q nx t) (ic_mn (Q t (ic_sg P0 Q nx t)))
section
variable {L S W n : Nat} {nb : Nat → Nat → Nat → Bool} {bd : Nat → Nat → Bool} {ik : Nat → Int32}
noncomputable def ic_tS (L S W : Nat) (nb : Nat → Nat → Nat → Bool) (bd : Nat → Nat → Bool) (ik : Nat → Int32) (n t : Nat) : Nat := ic_sg (ic_P0 L S W nb bd ik n) (ic_Q L W nb bd n) (ic_nx L nb) t
noncomputable def ic_tW (L S W : Nat) (nb : Nat → Nat → Nat → Bool) (bd : Nat → Nat → Bool) (ik : Nat → Int32) (n t : Nat) : Nat := ic_mn (ic_Q L W nb bd n t (ic_tS L S W nb bd ik n t))
theorem ic_tS0 : ic_tS L S W nb bd ik n 0 = ic_mn (ic_P0 L S W nb bd ik n) := rfl
theorem ic_tS1 {t : Nat} : ic_tS L S W nb bd ik n (t + 1) = ic_nx L nb (ic_tS L S W nb bd ik n t) (ic_tW L S W nb bd ik n t) := rfl
theorem ic_Q_ex {t s : Nat} (ht : t ≤ n) (h : ic_FA (ic_St L W nb) (ic_Bd W bd) (n - t) s) : ∃ w, ic_Q L W nb bd n t s w := by
  by_cases e : t = n
  · subst e
    rw [Nat.sub_self] at h
    obtain ⟨w, hw, hb⟩ := h
    exact ⟨w, hw, Or.inr ⟨rfl, hb⟩⟩
  · obtain ⟨k, hk⟩ : ∃ k, n - t = k + 1 := ⟨n - t - 1, by omega⟩
    rw [hk] at h
    obtain ⟨u, ⟨w, hw, rfl⟩, hf⟩ := h
    refine ⟨w, hw, Or.inl ⟨by omega, ?_⟩⟩
    rw [show n - t - 1 = k by omega]
    exact hf
theorem ic_tr_ok (hS : S = 2 ^ L) (h0 : ∃ c, ic_P0 L S W nb bd ik n c) : ∀ t, t ≤ n → ic_tS L S W nb bd ik n t < S ∧ ic_FA (ic_St L W nb) (ic_Bd W bd) (n - t) (ic_tS L S W nb bd ik n t) := by
  intro t
  induction t with
  | zero =>
    intro _
    have h := (ic_mn_spec h0).1
    exact ⟨h.1, h.2.2⟩
  | succ t ih =>
    intro ht
    obtain ⟨h1, h2⟩ := ih (by omega)
    have h3 := (ic_mn_spec (ic_Q_ex (by omega) h2)).1
    rw [ic_tS1]
    refine ⟨by rw [hS]; exact ic_nx_lt, ?_⟩
    rcases h3.2 with h4 | h4
    · exact h4.2
    · omega
theorem ic_tr_min (hS : S = 2 ^ L) (h0 : ∃ c, ic_P0 L S W nb bd ik n c) (hm : ∀ m, m < n → ∀ s, s < S → ic_In ik L s → ¬ ic_FA (ic_St L W nb) (ic_Bd W bd) m s) : ∀ t, t ≤ n → ∀ m, m < n - t → ¬ ic_FA (ic_St L W nb) (ic_Bd W bd) m (ic_tS L S W nb bd ik n t) := by
  intro t
  induction t with
  | zero =>
    intro _ m hmn
    have h := (ic_mn_spec h0).1
    exact hm m (by omega) _ h.1 h.2.1
  | succ t ih =>
    intro ht m hmn hf
    obtain ⟨h1, h2⟩ := ic_tr_ok hS h0 t (by omega)
    have h3 := (ic_mn_spec (ic_Q_ex (by omega) h2)).1
    exact ih (by omega) (m + 1) (by omega) ⟨_, ⟨_, h3.1, rfl⟩, hf⟩
theorem ic_FW_min {k s : Nat} (hm : ∀ m, m < k → ¬ ic_FA (ic_St L W nb) (ic_Bd W bd) m s) : ic_FW (ic_St L W nb) (ic_Bd W bd) k s ↔ ic_FA (ic_St L W nb) (ic_Bd W bd) k s := by
  rw [ic_FW_iff]
  constructor
  · rintro ⟨m, hmk, h⟩
    by_cases e : m = k
    · subst e; exact h
    · exact absurd h (hm m (by omega))
  · intro h; exact ⟨k, Nat.le_refl _, h⟩
end
end
section
/-! the circuit, its literals, the derived facts -/
def ic_g (k : Int32) (a b : Bool) : Bool := if k = 0 then (a && b) else (a ^^ b)
/-- x is a literal with the function f and the support μ -/
def ic_li (S W N : Nat) (tr su : Nat → Int32) (x : Int32) (f : Nat → Nat → Bool) (μ : Int32) : Prop := ∃ m, m < 2 * N ∧ x = nI m ∧ su (m / 2) = μ ∧ ∀ s, s < S → ∀ w, w < W → ic_L tr m s w = f s w
def ic_D (L I S W N B G : Nat) : Prop := 1 ≤ L ∧ L ≤ 5 ∧ I ≤ 2 ∧ 2 ≤ S ∧ S ≤ 32 ∧ 1 ≤ W ∧ W ≤ 4 ∧ N = 1 + L + I + B ∧ B ≤ G ∧ G ≤ 16 ∧ S = 2 ^ L ∧ W = 2 ^ I
def ic_G (n0 S W g : Nat) (tr su kd oa ob : Nat → Int32) : Prop := ∃ a b, a < 2 * (n0 + g) ∧ b < 2 * (n0 + g) ∧ oa g = nI a ∧ ob g = nI b ∧ su (n0 + g) = su (a / 2) ||| su (b / 2) ∧ ∀ s, s < S → ∀ w, w < W → ic_V tr (n0 + g) s w = ic_g (kd g) (ic_L tr a s w) (ic_L tr b s w)
def ic_C (L I S W N B G : Nat) (xa : Int32) (tr su kd oa ob : Nat → Int32) : Prop :=
  ic_D L I S W N B G ∧ (∀ s, s < 32 → bt xa s = decide (s < S)) ∧ (∀ s, s < S → ∀ w, w < W → ic_V tr 0 s w = false) ∧ (∀ i, i < L → ∀ s, s < S → ∀ w, w < W → ic_V tr (1 + i) s w = s.testBit i) ∧ (∀ j, j < I → ∀ s, s < S → ∀ w, w < W → ic_V tr (1 + L + j) s w = w.testBit j) ∧ su 0 = 0 ∧ (∀ i, i < L → su (1 + i) = (1 : Int32) <<< (nI i &&& 31)) ∧ (∀ j, j < I → su (1 + L + j) = 0) ∧ ∀ g, g < B → ic_G (1 + L + I) S W g tr su kd oa ob
def ic_P (L S W N : Nat) (tr su nl : Nat → Int32) (xb : Int32) (nb : Nat → Nat → Nat → Bool) (ms : Nat → Int32) (bd : Nat → Nat → Bool) (mb : Int32) : Prop := (∀ i, i < L → ic_li S W N tr su (nl i) (nb i) (ms i)) ∧ ic_li S W N tr su xb bd mb
def ic_D1 (L S W : Nat) (nb : Nat → Nat → Nat → Bool) (ik : Nat → Int32) (xi : Int32) (bf : Nat → Int32) : Prop := (∀ i, i < L → ik i = 0 ∨ ik i = 1 ∨ ik i = 2) ∧ (∀ s, s < 32 → (bt xi s = true ↔ s < S ∧ ic_In ik L s)) ∧ ∀ t, t < S → ∀ s, s < 32 → (bt (bf t) s = true ↔ s < S ∧ ic_St L W nb s t)
def ic_D2 (L S W : Nat) (nb : Nat → Nat → Nat → Bool) (bd : Nat → Nat → Bool) (ms : Nat → Int32) (mb : Int32) (fl sm : Nat → Int32) : Prop := (∀ k, k < 32 → ∀ s, s < S → (bt (fl k) s = true ↔ ic_FW (ic_St L W nb) (ic_Bd W bd) k s)) ∧ ∀ k, k < 32 → sm k = ic_SH L ms mb k
theorem ic_all {P : Nat → Prop} {i : Nat} : (∀ j, j < i + 1 → P j) ↔ (∀ j, j < i → P j) ∧ P i := by
  constructor
  · intro h; exact ⟨fun j hj => h j (by omega), h i (by omega)⟩
  · rintro ⟨h, h2⟩ j hj
    by_cases e : j = i
    · subst e; exact h2
    · exact h j (by omega)
theorem ic_any {P : Nat → Prop} {i : Nat} : (∃ j, j < i + 1 ∧ P j) ↔ (∃ j, j < i ∧ P j) ∨ P i := by
  constructor
  · rintro ⟨j, hj, h⟩
    by_cases e : j = i
    · subst e; exact Or.inr h
    · exact Or.inl ⟨j, by omega, h⟩
  · rintro (⟨j, hj, h⟩ | h)
    · exact ⟨j, by omega, h⟩
    · exact ⟨i, by omega, h⟩
theorem ic_any0 {P : Nat → Prop} : ¬ ∃ j, j < 0 ∧ P j := fun ⟨_, h, _⟩ => absurd h (Nat.not_lt_zero _)
theorem ic_all0 {P : Nat → Prop} : ∀ j, j < 0 → P j := fun _ h => absurd h (Nat.not_lt_zero _)
theorem ic_StS {L S W : Nat} {nb : Nat → Nat → Nat → Bool} (hS : S = 2 ^ L) : ∀ s t, ic_St L W nb s t → t < S := by
  rintro s t ⟨w, hw, rfl⟩
  rw [hS]
  exact ic_nx_lt
section
variable {L I S W N B G : Nat} {nb : Nat → Nat → Nat → Bool} {ms : Nat → Int32} {bd : Nat → Nat → Bool} {mb : Int32} {xg xf xa xb xi xo xd xu xh xq xv xt xz : Int32} {tr su ik nl bf fl sm ts ti : Nat → Int32} {kd oa ob : Nat → Int32}
theorem xa_truthOf {post : Int32 → Prop} {m w : Nat} {p0 p1 : Int32} (hp : p0 = nI m) (hq : p1 = nI w) (hm : m < 48) (hw : w < 4) (hxa : ∀ s, s < 32 → bt xa s = decide (s < S)) (hS : S ≤ 32) (K : ∀ r, (∀ s, s < S → bt r s = ic_L tr m s w) → post r) : wpX_truthOf post ((nI L), xg, xf, (nI S), (nI W), xa, (nI N), xb, xi, xo, xd, xu, xh, xq, xv, xt, xz, tr, su, ik, nl, bf, fl, sm, ts, ti) p0 p1 := by
  subst hp hq
  have e1 : (4 * (nI m >>> ((1 : Int32) &&& 31))) + nI w = nI (4 * (m / 2) + w) := by
    rw [ic_half (by omega)]
    show nI 4 * nI _ + nI w = _
    rw [pk_mul, nI_add]
  have e2 := ic_m1b (m := m) (by omega)
  refine And.intro (by rw [e1]; exact vp_in_nI (by omega) (by omega)) ?_
  refine nm_r (e' := tr (4 * (m / 2) + w)) (by rw [e1, nI_clamp (by omega)]) ?_
  refine br_c (fun h => K _ fun s hs => ?_) (fun h => K _ fun s hs => ?_)
  · rw [e2, ic_b0] at h
    unfold ic_L ic_V
    rw [h, Bool.xor_false]
  · rw [e2, ic_b0, Bool.not_eq_false] at h
    rw [b_and, hxa s (by omega), ic_not _ (by omega), decide_eq_true hs, Bool.true_and]
    unfold ic_L ic_V
    rw [h, Bool.xor_true]
theorem xa_truthLi {post : Int32 → Prop} {w : Nat} {p0 p1 : Int32} {f : Nat → Nat → Bool} {μ : Int32} (hC : ic_C L I S W N B G xa tr su kd oa ob) (hl : ic_li S W N tr su p0 f μ) (hq : p1 = nI w) (hw : w < W) (K : ∀ r, (∀ s, s < S → bt r s = f s w) → post r) : wpX_truthOf post ((nI L), xg, xf, (nI S), (nI W), xa, (nI N), xb, xi, xo, xd, xu, xh, xq, xv, xt, xz, tr, su, ik, nl, bf, fl, sm, ts, ti) p0 p1 := by
  have hd := hC.1
  unfold ic_D at hd
  obtain ⟨m, hm, hp, _, hf⟩ := hl
  refine xa_truthOf hp hq (by omega) (by omega) hC.2.1 (by omega) fun r hr => K r fun s hs => ?_
  rw [hr s hs, hf s hs w hw]
theorem xa_latchOnes {post : Int32 → Prop} {i : Nat} {p0 : Int32} (hC : ic_C L I S W N B G xa tr su kd oa ob) (hp : p0 = nI i) (hi : i < L) (K : ∀ r, (∀ s, s < S → bt r s = s.testBit i) → post r) : wpX_latchOnes post ((nI L), xg, xf, (nI S), (nI W), xa, (nI N), xb, xi, xo, xd, xu, xh, xq, xv, xt, xz, tr, su, ik, nl, bf, fl, sm, ts, ti) p0 := by
  subst hp
  have hd := hC.1
  unfold ic_D at hd
  have e1 : 4 * (1 + nI i) = nI (4 * (1 + i)) := by
    show nI 4 * (nI 1 + nI i) = _
    rw [nI_add, pk_mul]
  refine And.intro (by rw [e1]; exact vp_in_nI (by omega) (by omega)) ?_
  rw [e1, nI_clamp (by omega)]
  exact K _ fun s hs => hC.2.2.2.1 i hi s hs 0 (by omega)
theorem xa_steppingTo {post : Int32 → Prop} {t w : Nat} {p0 p1 : Int32} (hC : ic_C L I S W N B G xa tr su kd oa ob) (hP : ic_P L S W N tr su nl xb nb ms bd mb) (hp : p0 = nI t) (hq : p1 = nI w) (ht : t < S) (hw : w < W) (K : ∀ r, (∀ s, s < 32 → (bt r s = true ↔ s < S ∧ ic_nx L nb s w = t)) → post r) : wpX_steppingTo post ((nI L), xg, xf, (nI S), (nI W), xa, (nI N), xb, xi, xo, xd, xu, xh, xq, xv, xt, xz, tr, su, ik, nl, bf, fl, sm, ts, ti) p0 p1 := by
  subst hp hq
  have hd := hC.1
  unfold ic_D at hd
  refine loop_0 (fun n i (a : Int32) => wX_steppingTo_8 post (nI t) (nI w) (nI L) xg xf (nI S) (nI W) xa (nI N) xb xi xo xd xu xh xq xv xt xz tr su ik nl bf fl sm ts ti n a (nI i)) (fun i a => ∀ s, s < 32 → (bt a s = true ↔ s < S ∧ ∀ j, j < i → nb j s w = t.testBit j)) L xa ?_ ?_ ?_
  · intro s hs
    rw [hC.2.1 s hs, decide_eq_true_eq]
    exact ⟨fun h => ⟨h, ic_all0⟩, fun h => h.1⟩
  · intro n a ha
    refine br_t (nI_le (Nat.le_refl _) (by omega)) (K a fun s hs => ?_)
    rw [ha s hs]
    have e : ic_nx L nb s w = t ↔ ∀ j, j < L → nb j s w = t.testBit j := ic_sx_eq (by omega)
    rw [e]
  · intro n i a hi ha ih
    refine br_f (nI_ge hi (by omega)) ⟨vp_in_nI (by omega) (by omega), ?_⟩
    refine xa_truthLi hC (f := nb i) (μ := ms i) (by rw [nI_clamp (by omega)]; exact hP.1 i hi) rfl hw fun r hr => ?_
    have hb : ((nI t >>> (nI i &&& 31)) &&& 1) = ic_b (t.testBit i) := by rw [ic_sr _ (by omega), ic_nb (by omega)]
    refine br_c (fun h => nm_e (nm_r (nI_1 i) (ih _ fun s hs => ?_))) (fun h => nm_e (nm_r (nI_1 i) (ih _ fun s hs => ?_)))
    · rw [hb, ic_b1] at h
      rw [b_and, Bool.and_eq_true, ha s hs, ic_all, h]
      exact ⟨fun ⟨⟨p, q⟩, z⟩ => ⟨p, q, by rw [← hr s p]; exact z⟩, fun ⟨p, q, z⟩ => ⟨⟨p, q⟩, by rw [hr s p]; exact z⟩⟩
    · rw [hb, ic_b1, Bool.not_eq_true] at h
      rw [b_and, Bool.and_eq_true, ha s hs, ic_all, h, ic_not _ hs, Bool.not_eq_true']
      exact ⟨fun ⟨⟨p, q⟩, z⟩ => ⟨p, q, by rw [← hr s p]; exact z⟩, fun ⟨p, q, z⟩ => ⟨⟨p, q⟩, by rw [hr s p]; exact z⟩⟩
end
end
section
/-! the component: renewTransitions, renewProperty -/
section
variable {L I S W N B G : Nat} {nb : Nat → Nat → Nat → Bool} {ms : Nat → Int32} {bd : Nat → Nat → Bool} {mb : Int32} {xg xf xa xb xi xo xd xu xh xq xv xt xz : Int32} {tr su ik nl bf fl sm ts ti : Nat → Int32} {kd oa ob : Nat → Int32}
theorem xa_rT90 {post : SX → Prop} {J : Int32 → (Nat → Int32) → (Nat → Int32) → (Nat → Int32) → (Nat → Int32) → (Nat → Int32) → (Nat → Int32) → (Nat → Int32) → (Nat → Int32) → (Nat → Int32) → Prop} {t : Nat} (hC : ic_C L I S W N B G xa tr su kd oa ob) (hP : ic_P L S W N tr su nl xb nb ms bd mb) (ht : t < S) (K : ∀ r, (∀ s, s < 32 → (bt r s = true ↔ s < S ∧ ic_St L W nb s t)) → J (nI (t + 1)) tr su ik nl (upd bf t r) fl sm ts ti) : ∃ n, wX_renewTransitions_90 post J (nI t) (nI L) xg xf (nI S) (nI W) xa (nI N) xb xi xo xd xu xh xq xv xt xz tr su ik nl bf fl sm ts ti n 0 0 := by
  have hd := hC.1
  unfold ic_D at hd
  refine loop_0 (fun n i (a : Int32) => wX_renewTransitions_90 post J (nI t) (nI L) xg xf (nI S) (nI W) xa (nI N) xb xi xo xd xu xh xq xv xt xz tr su ik nl bf fl sm ts ti n a (nI i)) (fun i a => ∀ s, s < 32 → (bt a s = true ↔ s < S ∧ ∃ w, w < i ∧ ic_nx L nb s w = t)) W 0 ?_ ?_ ?_
  · intro s hs
    rw [b_0]
    exact ⟨fun h => absurd h (by decide), fun h => absurd h.2 ic_any0⟩
  · intro n a ha
    exact br_t (nI_le (Nat.le_refl _) (by omega)) ⟨vp_in_nI (by omega) (by omega), nm_r (e' := upd bf t a) (by rw [nI_clamp (by omega)]) (nm_r (nI_1 t) (K a ha))⟩
  · intro n i a hi ha ih
    refine br_f (nI_ge hi (by omega)) ?_
    refine xa_steppingTo hC hP rfl rfl ht hi fun r hr => nm_e (nm_r (nI_1 i) (ih _ fun s hs => ?_))
    rw [b_or, Bool.or_eq_true, ha s hs, hr s hs, ic_any]
    exact ⟨fun h => h.elim (fun h => ⟨h.1, Or.inl h.2⟩) (fun h => ⟨h.1, Or.inr h.2⟩), fun ⟨p, h⟩ => h.imp (fun h => ⟨p, h⟩) (fun h => ⟨p, h⟩)⟩
theorem xa_rT78 {post : SX → Prop} (hC : ic_C L I S W N B G xa tr su kd oa ob) (hP : ic_P L S W N tr su nl xb nb ms bd mb) (K : ∀ bf', (∀ t, t < S → ∀ s, s < 32 → (bt (bf' t) s = true ↔ s < S ∧ ic_St L W nb s t)) → post ((nI L), xg, xf, (nI S), (nI W), xa, (nI N), xb, xi, xo, xd, xu, xh, xq, xv, xt, xz, tr, su, ik, nl, bf', fl, sm, ts, ti)) : ∃ n, wX_renewTransitions_78 post (nI L) xg xf (nI S) (nI W) xa (nI N) xb xi xo xd xu xh xq xv xt xz n 0 tr su ik nl bf fl sm ts ti := by
  have hd := hC.1
  unfold ic_D at hd
  refine loop_0 (fun n i (b : Nat → Int32) => wX_renewTransitions_78 post (nI L) xg xf (nI S) (nI W) xa (nI N) xb xi xo xd xu xh xq xv xt xz n (nI i) tr su ik nl b fl sm ts ti) (fun i b => ∀ t, t < i → ∀ s, s < 32 → (bt (b t) s = true ↔ s < S ∧ ic_St L W nb s t)) S bf ?_ ?_ ?_
  · exact ic_all0
  · intro n b hb
    exact br_t (nI_le (Nat.le_refl _) (by omega)) (K b hb)
  · intro n i b hi hb ih
    refine br_f (nI_ge hi (by omega)) (xa_rT90 hC hP hi fun r hr => ih _ ?_)
    refine ic_all.mpr ⟨fun t ht => ?_, ?_⟩
    · rw [pk_un (by omega)]; exact hb t ht
    · rw [pk_us]; exact hr
theorem xa_renewTransitions {post : SX → Prop} (hC : ic_C L I S W N B G xa tr su kd oa ob) (hP : ic_P L S W N tr su nl xb nb ms bd mb) (hk : ∀ i, i < L → ik i = 0 ∨ ik i = 1 ∨ ik i = 2) (K : ∀ xi' bf', ic_D1 L S W nb ik xi' bf' → post ((nI L), xg, xf, (nI S), (nI W), xa, (nI N), xb, xi', xo, xd, xu, xh, xq, xv, xt, xz, tr, su, ik, nl, bf', fl, sm, ts, ti)) : wpX_renewTransitions post ((nI L), xg, xf, (nI S), (nI W), xa, (nI N), xb, xi, xo, xd, xu, xh, xq, xv, xt, xz, tr, su, ik, nl, bf, fl, sm, ts, ti) := by
  have hd := hC.1
  unfold ic_D at hd
  refine loop_0 (fun n i (a : Int32) => wX_renewTransitions_10 post (nI L) xg xf (nI S) (nI W) xa (nI N) xb xo xd xu xh xq xv xt xz tr su ik nl bf fl sm ts ti n (nI i) a) (fun i a => ∀ s, s < 32 → (bt a s = true ↔ s < S ∧ ∀ j, j < i → ik j = 2 ∨ ik j = ic_b (s.testBit j))) L xa ?_ ?_ ?_
  · intro s hs
    rw [hC.2.1 s hs, decide_eq_true_eq]
    exact ⟨fun h => ⟨h, ic_all0⟩, fun h => h.1⟩
  · intro n a ha
    exact br_t (nI_le (Nat.le_refl _) (by omega)) (xa_rT78 hC hP fun b hb => K a b ⟨hk, ha, hb⟩)
  · intro n i a hi ha ih
    have e : (nI i).toNatClampNeg = i := nI_clamp (by omega)
    have n02 : ¬ (0 : Int32) = 2 := by decide
    have n12 : ¬ (1 : Int32) = 2 := by decide
    refine br_f (nI_ge hi (by omega)) ⟨vp_in_nI (by omega) (by omega), ?_⟩
    refine br_c (fun h => ?_) (fun h => ⟨vp_in_nI (by omega) (by omega), br_c (fun h2 => ?_) (fun h2 => ?_)⟩)
    · rw [e] at h
      refine xa_latchOnes hC rfl hi fun r hr => nm_e (nm_r (nI_1 i) (ih _ fun s hs => ?_))
      rw [b_and, Bool.and_eq_true, ha s hs, ic_all, h, ic_not _ hs, Bool.not_eq_true']
      have z : s < S → ((0 : Int32) = 2 ∨ 0 = ic_b (s.testBit i) ↔ bt r s = false) := fun p => by
        rw [hr s p, eq_comm (a := (0 : Int32)) (b := ic_b _), ic_b0]
        exact ⟨fun h => h.resolve_left n02, Or.inr⟩
      exact ⟨fun ⟨⟨p, q⟩, y⟩ => ⟨p, q, (z p).mpr y⟩, fun ⟨p, q, y⟩ => ⟨⟨p, q⟩, (z p).mp y⟩⟩
    · rw [e] at h h2
      refine xa_latchOnes hC rfl hi fun r hr => nm_e (nm_r (nI_1 i) (ih _ fun s hs => ?_))
      rw [b_and, Bool.and_eq_true, ha s hs, ic_all, h2]
      have z : s < S → ((1 : Int32) = 2 ∨ 1 = ic_b (s.testBit i) ↔ bt r s = true) := fun p => by
        rw [hr s p, eq_comm (a := (1 : Int32)) (b := ic_b _), ic_b1]
        exact ⟨fun h => h.resolve_left n12, Or.inr⟩
      exact ⟨fun ⟨⟨p, q⟩, y⟩ => ⟨p, q, (z p).mpr y⟩, fun ⟨p, q, y⟩ => ⟨⟨p, q⟩, (z p).mp y⟩⟩
    · rw [e] at h h2
      refine nm_r (nI_1 i) (ih _ fun s hs => ?_)
      have h3 : ik i = 2 := ((hk i hi).resolve_left h).resolve_left h2
      rw [ha s hs, ic_all]
      exact ⟨fun ⟨p, q⟩ => ⟨p, q, Or.inl h3⟩, fun ⟨p, q, _⟩ => ⟨p, q⟩⟩
theorem xa_predecessors {post : Int32 → Prop} {x : Int32} (hC : ic_C L I S W N B G xa tr su kd oa ob) (h1 : ic_D1 L S W nb ik xi bf) (K : ∀ r, (∀ s, s < 32 → (bt r s = true ↔ s < S ∧ ∃ t, t < S ∧ bt x t = true ∧ ic_St L W nb s t)) → post r) : wpX_predecessors post ((nI L), xg, xf, (nI S), (nI W), xa, (nI N), xb, xi, xo, xd, xu, xh, xq, xv, xt, xz, tr, su, ik, nl, bf, fl, sm, ts, ti) x := by
  have hd := hC.1
  unfold ic_D at hd
  refine loop_0 (fun n i (a : Int32) => wX_predecessors_4 post x (nI L) xg xf (nI S) (nI W) xa (nI N) xb xi xo xd xu xh xq xv xt xz tr su ik nl bf fl sm ts ti n a (nI i)) (fun i a => ∀ s, s < 32 → (bt a s = true ↔ s < S ∧ ∃ t, t < i ∧ bt x t = true ∧ ic_St L W nb s t)) S 0 ?_ ?_ ?_
  · intro s hs
    rw [b_0]
    exact ⟨fun h => absurd h (by decide), fun h => absurd h.2 ic_any0⟩
  · intro n a ha
    exact br_t (nI_le (Nat.le_refl _) (by omega)) (K a ha)
  · intro n i a hi ha ih
    refine br_f (nI_ge hi (by omega)) ?_
    refine br_c (fun h => ⟨vp_in_nI (by omega) (by omega), nm_e (nm_r (nI_1 i) (ih _ fun s hs => ?_))⟩) (fun h => nm_r (nI_1 i) (ih _ fun s hs => ?_))
    · rw [ic_ur _ (by omega), ic_b1] at h
      rw [nI_clamp (by omega), b_or, Bool.or_eq_true, ha s hs, h1.2.2 i hi s hs, ic_any]
      exact ⟨fun y => y.elim (fun y => ⟨y.1, Or.inl y.2⟩) (fun y => ⟨y.1, Or.inr ⟨h, y.2⟩⟩), fun ⟨p, y⟩ => y.imp (fun y => ⟨p, y⟩) (fun y => ⟨p, y.2⟩)⟩
    · rw [ic_ur _ (by omega), ic_b1] at h
      rw [ha s hs, ic_any]
      exact ⟨fun ⟨p, y⟩ => ⟨p, Or.inl y⟩, fun ⟨p, y⟩ => ⟨p, y.resolve_right fun y => h y.1⟩⟩
theorem xa_widenMask {post : Int32 → Prop} {x : Int32} (hC : ic_C L I S W N B G xa tr su kd oa ob) (hP : ic_P L S W N tr su nl xb nb ms bd mb) (K : post (ic_wd ms x L)) : wpX_widenMask post ((nI L), xg, xf, (nI S), (nI W), xa, (nI N), xb, xi, xo, xd, xu, xh, xq, xv, xt, xz, tr, su, ik, nl, bf, fl, sm, ts, ti) x := by
  have hd := hC.1
  unfold ic_D at hd
  refine loop_0 (fun n i (a : Int32) => wX_widenMask_4 post x (nI L) xg xf (nI S) (nI W) xa (nI N) xb xi xo xd xu xh xq xv xt xz tr su ik nl bf fl sm ts ti n a (nI i)) (fun i a => a = ic_wd ms x i) L x rfl ?_ ?_
  · intro n a ha
    subst ha
    exact br_t (nI_le (Nat.le_refl _) (by omega)) K
  · intro n i a hi ha ih
    subst ha
    obtain ⟨m, hm, e, hsu, _⟩ := hP.1 i hi
    have e2 : nl (nI i).toNatClampNeg >>> ((1 : Int32) &&& 31) = nI (m / 2) := by rw [nI_clamp (by omega), e, ic_half (by omega)]
    refine br_f (nI_ge hi (by omega)) ?_
    refine br_c (fun h => ⟨vp_in_nI (by omega) (by omega), by rw [e2]; exact vp_in_nI (by omega) (by omega), nm_e (nm_r (nI_1 i) (ih _ ?_))⟩) (fun h => nm_r (nI_1 i) (ih _ ?_))
    · rw [ic_sr _ (by omega), ic_b1] at h
      rw [e2, nI_clamp (by omega), hsu]
      exact (if_pos h).symm
    · rw [ic_sr _ (by omega), ic_b1] at h
      exact (if_neg h).symm
theorem xa_rP56 {post : SX → Prop} {x : Int32} (hC : ic_C L I S W N B G xa tr su kd oa ob) (hP : ic_P L S W N tr su nl xb nb ms bd mb) (h1 : ic_D1 L S W nb ik xi bf) (hx : ∀ s, s < S → (bt x s = true ↔ ic_Bd W bd s)) (hf0 : fl 0 = x) (hs0 : sm 0 = mb) (K : ∀ fl' sm', ic_D2 L S W nb bd ms mb fl' sm' → post ((nI L), xg, xf, (nI S), (nI W), xa, (nI N), xb, xi, xo, xd, xu, xh, xq, xv, xt, xz, tr, su, ik, nl, bf, fl', sm', ts, ti)) : ∃ n, wX_renewProperty_56 post x (nI L) xg xf (nI S) (nI W) xa (nI N) xb xi xo xd xu xh xq xv xt xz n 1 tr su ik nl bf fl sm ts ti := by
  have hd := hC.1
  unfold ic_D at hd
  refine loop_0 (fun n i (p : (Nat → Int32) × (Nat → Int32)) => wX_renewProperty_56 post x (nI L) xg xf (nI S) (nI W) xa (nI N) xb xi xo xd xu xh xq xv xt xz n (nI (i + 1)) tr su ik nl bf (p.1) (p.2) ts ti) (fun i p => (∀ k, k < i + 1 → ∀ s, s < S → (bt (p.1 k) s = true ↔ ic_FW (ic_St L W nb) (ic_Bd W bd) k s)) ∧ ∀ k, k < i + 1 → p.2 k = ic_SH L ms mb k) 31 (fl, sm) ?_ ?_ ?_
  · refine ⟨ic_all.mpr ⟨ic_all0, fun s hs => ?_⟩, ic_all.mpr ⟨ic_all0, hs0⟩⟩
    show bt (fl 0) s = true ↔ ic_Bd W bd s
    rw [hf0]
    exact hx s hs
  · intro n p hp
    exact br_t (nI_lt (a := 31) (by omega) (by omega)) (K p.1 p.2 hp)
  · rintro n i ⟨f, g⟩ hi ⟨hf, hg⟩ ih
    have e1 : nI (i + 1) - 1 = nI i := nI_pred i
    have ec : (nI (i + 1)).toNatClampNeg = i + 1 := nI_clamp (by omega)
    refine br_f (nI_nlt (a := 31) (by omega) (by omega)) ⟨by rw [e1]; exact vp_in_nI (by omega) (by omega), ?_⟩
    refine xa_predecessors hC h1 fun r hr => ⟨vp_in_nI (by omega) (by omega), nm_r (e' := upd f (i + 1) (x ||| r)) (by rw [ec]) ⟨by rw [e1]; exact vp_in_nI (by omega) (by omega), ?_⟩⟩
    refine xa_widenMask hC hP ⟨vp_in_nI (by omega) (by omega), nm_r (e' := upd g (i + 1) (ic_SH L ms mb (i + 1))) ?_ (nm_r (nI_1 (i + 1)) (ih (upd f (i + 1) (x ||| r), upd g (i + 1) (ic_SH L ms mb (i + 1))) ⟨?_, ?_⟩))⟩
    · rw [ec, e1, nI_clamp (by omega)]
      show upd g (i + 1) (ic_wd ms (g i) L) = _
      rw [show g i = ic_SH L ms mb i from hg i (by omega)]
      rfl
    · refine ic_all.mpr ⟨fun k hk s hs => ?_, fun s hs => ?_⟩
      · dsimp only
        rw [show upd f (i + 1) (x ||| r) k = f k from pk_un (by omega)]
        exact hf k hk s hs
      · dsimp only at hr ⊢
        rw [show upd f (i + 1) (x ||| r) (i + 1) = x ||| r from pk_us, b_or, Bool.or_eq_true, hx s hs, hr s (by omega)]
        rw [e1, nI_clamp (by omega)]
        constructor
        · rintro (h | ⟨_, t, ht, h3, h4⟩)
          · exact Or.inl h
          · exact Or.inr ⟨t, h4, (hf i (by omega) t ht).mp h3⟩
        · rintro (h | ⟨t, h4, h3⟩)
          · exact Or.inl h
          · have ht := ic_StS (S := S) (by omega) _ _ h4
            exact Or.inr ⟨hs, t, ht, (hf i (by omega) t ht).mpr h3, h4⟩
    · refine ic_all.mpr ⟨fun k hk => ?_, ?_⟩
      · dsimp only
        rw [show upd g (i + 1) (ic_SH L ms mb (i + 1)) k = g k from pk_un (by omega)]
        exact hg k hk
      · exact pk_us
theorem xa_renewProperty {post : SX → Prop} (hC : ic_C L I S W N B G xa tr su kd oa ob) (hP : ic_P L S W N tr su nl xb nb ms bd mb) (h1 : ic_D1 L S W nb ik xi bf) (K : ∀ fl' sm', ic_D2 L S W nb bd ms mb fl' sm' → post ((nI L), xg, xf, (nI S), (nI W), xa, (nI N), xb, xi, xo, xd, xu, xh, xq, xv, xt, xz, tr, su, ik, nl, bf, fl', sm', ts, ti)) : wpX_renewProperty post ((nI L), xg, xf, (nI S), (nI W), xa, (nI N), xb, xi, xo, xd, xu, xh, xq, xv, xt, xz, tr, su, ik, nl, bf, fl, sm, ts, ti) := by
  have hd := hC.1
  unfold ic_D at hd
  refine loop_0 (fun n i (a : Int32) => wX_renewProperty_4 post (nI L) xg xf (nI S) (nI W) xa (nI N) xb xi xo xd xu xh xq xv xt xz tr su ik nl bf fl sm ts ti n a (nI i)) (fun i a => ∀ s, s < S → (bt a s = true ↔ ∃ w, w < i ∧ bd s w = true)) W 0 ?_ ?_ ?_
  · intro s hs
    rw [b_0]
    exact ⟨fun h => absurd h (by decide), fun h => absurd h ic_any0⟩
  · intro n a ha
    obtain ⟨m, hm, e, hsu, _⟩ := hP.2
    have e2 : xb >>> ((1 : Int32) &&& 31) = nI (m / 2) := by rw [e, ic_half (by omega)]
    refine br_t (nI_le (Nat.le_refl _) (by omega)) (nm_e ⟨by rw [e2]; exact vp_in_nI (by omega) (by omega), nm_r (e' := upd sm 0 mb) (by rw [e2, nI_clamp (by omega), hsu]) ?_⟩)
    exact xa_rP56 hC hP h1 ha pk_us pk_us K
  · intro n i a hi ha ih
    refine br_f (nI_ge hi (by omega)) ?_
    refine xa_truthLi hC hP.2 rfl hi fun r hr => nm_e (nm_r (nI_1 i) (ih _ fun s hs => ?_))
    rw [b_or, Bool.or_eq_true, ha s hs, hr s hs, ic_any]
end
end
section
/-! the component: successor, successors, cover, reachableStates -/
section
variable {L I S W N B G : Nat} {nb : Nat → Nat → Nat → Bool} {ms : Nat → Int32} {bd : Nat → Nat → Bool} {mb : Int32} {xg xf xa xb xi xo xd xu xh xq xv xt xz : Int32} {tr su ik nl bf fl sm ts ti : Nat → Int32} {kd oa ob : Nat → Int32}
theorem xa_successor {post : Int32 → Prop} {s w : Nat} {p0 p1 : Int32} (hC : ic_C L I S W N B G xa tr su kd oa ob) (hP : ic_P L S W N tr su nl xb nb ms bd mb) (hp : p0 = nI s) (hq : p1 = nI w) (hs : s < S) (hw : w < W) (K : post (nI (ic_nx L nb s w))) : wpX_successor post ((nI L), xg, xf, (nI S), (nI W), xa, (nI N), xb, xi, xo, xd, xu, xh, xq, xv, xt, xz, tr, su, ik, nl, bf, fl, sm, ts, ti) p0 p1 := by
  subst hp hq
  have hd := hC.1
  unfold ic_D at hd
  refine loop_0 (fun n i (a : Int32) => wX_successor_5 post (nI s) (nI w) (nI L) xg xf (nI S) (nI W) xa (nI N) xb xi xo xd xu xh xq xv xt xz tr su ik nl bf fl sm ts ti n a (nI i)) (fun i a => a = nI (ic_sx (fun i => nb i s w) i)) L 0 rfl ?_ ?_
  · intro n a ha
    subst ha
    exact br_t (nI_le (Nat.le_refl _) (by omega)) K
  · intro n i a hi ha ih
    subst ha
    refine br_f (nI_ge hi (by omega)) ⟨vp_in_nI (by omega) (by omega), ?_⟩
    refine xa_truthLi hC (f := nb i) (μ := ms i) (by rw [nI_clamp (by omega)]; exact hP.1 i hi) rfl hw fun r hr => nm_e (nm_r (nI_1 i) (ih _ ?_))
    rw [ic_ur _ (by omega), hr s hs]
    exact ic_sx_nI (f := fun i => nb i s w) (by omega)
theorem xa_successors {post : Int32 → Prop} {x : Int32} (hC : ic_C L I S W N B G xa tr su kd oa ob) (h1 : ic_D1 L S W nb ik xi bf) (K : ∀ r, (∀ t, t < 32 → (bt r t = true ↔ t < S ∧ ∃ s, s < S ∧ bt x s = true ∧ ic_St L W nb s t)) → post r) : wpX_successors post ((nI L), xg, xf, (nI S), (nI W), xa, (nI N), xb, xi, xo, xd, xu, xh, xq, xv, xt, xz, tr, su, ik, nl, bf, fl, sm, ts, ti) x := by
  have hd := hC.1
  unfold ic_D at hd
  refine loop_0 (fun n i (a : Int32) => wX_successors_4 post x (nI L) xg xf (nI S) (nI W) xa (nI N) xb xi xo xd xu xh xq xv xt xz tr su ik nl bf fl sm ts ti n a (nI i)) (fun i a => ∀ t, t < 32 → (bt a t = true ↔ t < i ∧ ∃ s, s < S ∧ bt x s = true ∧ ic_St L W nb s t)) S 0 ?_ ?_ ?_
  · intro t ht
    rw [b_0]
    exact ⟨fun h => absurd h (by decide), fun h => absurd h.1 (Nat.not_lt_zero _)⟩
  · intro n a ha
    exact br_t (nI_le (Nat.le_refl _) (by omega)) (K a ha)
  · intro n i a hi ha ih
    have ec : (nI i).toNatClampNeg = i := nI_clamp (by omega)
    refine br_f (nI_ge hi (by omega)) ⟨vp_in_nI (by omega) (by omega), ?_⟩
    refine br_c (fun h => nm_r (nI_1 i) (ih _ fun t ht => ?_)) (fun h => nm_e (nm_r (nI_1 i) (ih _ fun t ht => ?_)))
    · rw [ec, ic_z] at h
      rw [ha t ht]
      constructor
      · rintro ⟨p, q⟩; exact ⟨by omega, q⟩
      · rintro ⟨p, s, hs, hx, hst⟩
        refine ⟨?_, s, hs, hx, hst⟩
        by_cases e : t = i
        · subst e
          have z := h s (by omega)
          rw [b_and, hx, (h1.2.2 t hi s (by omega)).mpr ⟨hs, hst⟩] at z
          exact absurd z (by decide)
        · omega
    · rw [ec, ic_nz] at h
      obtain ⟨s, hs, z⟩ := h
      rw [b_and, Bool.and_eq_true, h1.2.2 i hi s hs] at z
      rw [b_or, Bool.or_eq_true, ha t ht, ic_1s (by omega) ht, decide_eq_true_eq]
      constructor
      · rintro (⟨p, q⟩ | rfl)
        · exact ⟨by omega, q⟩
        · exact ⟨by omega, s, z.1.1, z.2, z.1.2⟩
      · rintro ⟨p, q⟩
        by_cases e : t = i
        · exact Or.inr e
        · exact Or.inl ⟨by omega, q⟩
/-- one turn of cover: the set over latch i spread to both sides -/
theorem ic_spread {a h l : Int32} {i s : Nat} (hS : S = 2 ^ L) (hL : L ≤ 5) (hi : i < L) (hs : s < 32) (hS5 : S ≤ 32) (ha : ∀ s, s < 32 → bt a s = true → s < S) (hh : ∀ s, s < S → bt h s = s.testBit i) (hl : ∀ s, s < S → bt l s = s.testBit i) :
    bt (a ||| ((a &&& (l ^^^ (-1))) <<< (((1 : Int32) <<< (nI i &&& 31)) &&& 31) ||| ((a &&& h).toUInt32 >>> (((1 : Int32) <<< (nI i &&& 31)).toUInt32 &&& Int32.toUInt32 31)).toInt32)) s = true ↔ s < S ∧ (bt a s = true ∨ bt a (s ^^^ 2 ^ i) = true) := by
  have e : ∀ i, i < 5 → (1 : Int32) <<< (nI i &&& 31) = nI (2 ^ i) := by decide +kernel
  have hp : ∀ i, i < 5 → 2 ^ i < 32 := by decide
  have hp := hp i (by omega)
  obtain ⟨n1, n2, n3, n4⟩ := ic_nbr (i := i) (s := s) (by omega) hs
  rw [e i (by omega), b_or, b_or, b_shl _ hp _ hs, b_ushr _ hp, Bool.or_eq_true, Bool.or_eq_true, Bool.and_eq_true, decide_eq_true_eq]
  have hlt : s < S → s ^^^ 2 ^ i < S := fun z => by
    rw [hS] at z ⊢
    exact Nat.xor_lt_two_pow z (Nat.pow_lt_pow_right (by decide) hi)
  have hge : bt a (s ^^^ 2 ^ i) = true → s ^^^ 2 ^ i < 32 → s < S := fun z z3 => by
    have z2 := ha (s ^^^ 2 ^ i) z3 z
    have z4 : (s ^^^ 2 ^ i) ^^^ 2 ^ i = s := by rw [Nat.xor_assoc, Nat.xor_self, Nat.xor_zero]
    rw [← z4]
    rw [hS] at z2 ⊢
    exact Nat.xor_lt_two_pow z2 (Nat.pow_lt_pow_right (by decide) hi)
  have hx32 : s ^^^ 2 ^ i < 32 := Nat.xor_lt_two_pow (n := 5) hs (Nat.pow_lt_pow_right (by decide) (by omega))
  have hsub : s - 2 ^ i < 32 := Nat.lt_of_le_of_lt (Nat.sub_le _ _) hs
  constructor
  · rintro (z | ⟨z1, z2⟩ | z)
    · exact ⟨ha s hs z, Or.inl z⟩
    · rw [b_and, Bool.and_eq_true, ic_not _ hsub, Bool.not_eq_true'] at z2
      have z3 := ha _ hsub z2.1
      rw [hl _ z3] at z2
      have z4 := (n2 (n1 ⟨z1, z2.2⟩)).2.1
      rw [z4] at z2
      exact ⟨hge z2.1 hx32, Or.inr z2.1⟩
    · have z0 : 2 ^ i + s < 32 := by
        rcases Nat.lt_or_ge (2 ^ i + s) 32 with y | y
        · exact y
        · rw [b_big y] at z; exact absurd z (by decide)
      rw [b_and, Bool.and_eq_true] at z
      have z3 := ha _ z0 z.1
      rw [hh _ z3, Nat.add_comm] at z
      have z4 := (n3 (n4 z.2)).1
      rw [z4] at z
      exact ⟨hge z.1 hx32, Or.inr z.1⟩
  · rintro ⟨z0, z | z⟩
    · exact Or.inl z
    · have z1 := ha _ hx32 z
      cases hb : s.testBit i with
      | true =>
        obtain ⟨y1, y2, y3⟩ := n2 hb
        refine Or.inr (Or.inl ⟨y1, ?_⟩)
        rw [b_and, Bool.and_eq_true, ic_not _ (by omega), Bool.not_eq_true', hl _ (by omega), y3, y2]
        exact ⟨z, rfl⟩
      | false =>
        obtain ⟨y2, y3⟩ := n3 hb
        refine Or.inr (Or.inr ?_)
        rw [b_and, Bool.and_eq_true, hh _ (by omega), Nat.add_comm, y3, y2]
        exact ⟨z, rfl⟩
theorem xa_cover {post : Int32 → Prop} {x m : Int32} (hC : ic_C L I S W N B G xa tr su kd oa ob) (hx : ∀ s, s < 32 → bt x s = true → s < S) (K : ∀ r, (∀ s, s < 32 → (bt r s = true ↔ s < S ∧ ic_Cv L S (fun p => bt x p = true) m s)) → post r) : wpX_cover post ((nI L), xg, xf, (nI S), (nI W), xa, (nI N), xb, xi, xo, xd, xu, xh, xq, xv, xt, xz, tr, su, ik, nl, bf, fl, sm, ts, ti) x m := by
  have hd := hC.1
  unfold ic_D at hd
  refine loop_0 (fun n i (a : Int32) => wX_cover_5 post m (nI L) xg xf (nI S) (nI W) xa (nI N) xb xi xo xd xu xh xq xv xt xz tr su ik nl bf fl sm ts ti n a (nI i)) (fun i a => ∀ s, s < 32 → (bt a s = true ↔ s < S ∧ ic_Cp L S (fun p => bt x p = true) m i s)) L x ?_ ?_ ?_
  · intro s hs
    constructor
    · intro h; exact ⟨hx s hs h, (ic_Cp0 (by omega) (hx s hs h)).mpr h⟩
    · rintro ⟨p, h⟩; exact (ic_Cp0 (F := fun p => bt x p = true) (by omega) p).mp h
  · intro n a ha
    refine br_t (nI_le (Nat.le_refl _) (by omega)) (K a fun s hs => ?_)
    rw [ha s hs, ic_CpL]
  · intro n i a hi ha ih
    refine br_f (nI_ge hi (by omega)) ?_
    refine br_c (fun h => ?_) (fun h => nm_r (nI_1 i) (ih _ fun s hs => ?_))
    · rw [ic_sr _ (by omega), ic_b0] at h
      refine xa_latchOnes hC rfl hi fun h' hh => nm_e ?_
      refine xa_latchOnes hC rfl hi fun l' hl => nm_e (nm_e (nm_r (nI_1 i) (ih _ fun s hs => ?_)))
      rw [ic_spread (L := L) (by omega) (by omega) hi hs (by omega) (fun s hs z => ((ha s hs).mp z).1) hh hl, ic_Cp_out h]
      have hx32 : s ^^^ 2 ^ i < 32 := Nat.xor_lt_two_pow (n := 5) hs (Nat.pow_lt_pow_right (by decide) (by omega))
      rw [ha s hs, ha _ hx32]
      constructor
      · rintro ⟨p, q | q⟩
        · exact ⟨p, Or.inl q.2⟩
        · exact ⟨p, Or.inr q.2⟩
      · rintro ⟨p, q | q⟩
        · exact ⟨p, Or.inl ⟨p, q⟩⟩
        · have z : s ^^^ 2 ^ i < S := by
            have hSL : S = 2 ^ L := by omega
            rw [hSL] at p ⊢
            exact Nat.xor_lt_two_pow p (Nat.pow_lt_pow_right (by decide) hi)
          exact ⟨p, Or.inr ⟨z, q⟩⟩
    · rw [ic_sr _ (by omega), ic_b0, Bool.not_eq_false] at h
      rw [ha s hs, ic_Cp_in h]
theorem xa_reachableStates {post : Int32 → Prop} (hC : ic_C L I S W N B G xa tr su kd oa ob) (h1 : ic_D1 L S W nb ik xi bf) (K : ∀ r, (∀ s, s < 32 → (bt r s = true ↔ s < S ∧ ic_Re S (ic_St L W nb) (ic_In ik L) s)) → post r) : wpX_reachableStates post ((nI L), xg, xf, (nI S), (nI W), xa, (nI N), xb, xi, xo, xd, xu, xh, xq, xv, xt, xz, tr, su, ik, nl, bf, fl, sm, ts, ti) := by
  have hd := hC.1
  unfold ic_D at hd
  have hSt := ic_StS (L := L) (S := S) (W := W) (nb := nb) (by omega)
  refine loop_0 (fun n i (p : Int32 × Int32) => wX_reachableStates_12 post (nI L) xg xf (nI S) (nI W) xa (nI N) xb xi xo xd xu xh xq xv xt xz tr su ik nl bf fl sm ts ti n p.1 p.2 (nI i)) (fun i p => (∀ s, s < 32 → (bt p.1 s = true ↔ s < S ∧ ic_RN S (ic_St L W nb) (ic_In ik L) i s)) ∧ (∀ s, s < 32 → bt p.2 s = true → bt p.1 s = true) ∧ ∀ s t, s < S → ic_RN S (ic_St L W nb) (ic_In ik L) i s → ic_St L W nb s t → ic_RN S (ic_St L W nb) (ic_In ik L) i t ∨ bt p.2 s = true) S (xi, xi) ?_ ?_ ?_
  · exact ⟨h1.2.1, fun s _ h => h, fun s t hs h _ => Or.inr ((h1.2.1 s (by omega)).mpr ⟨hs, h⟩)⟩
  · rintro n ⟨a, f⟩ ⟨ha, _, _⟩
    refine br_t (nI_le (Nat.le_refl _) (by omega)) (K a fun s hs => ?_)
    rw [ha s hs, ic_Re_S hSt]
  · rintro n i ⟨a, f⟩ hi ⟨ha, hf, hc⟩ ih
    refine br_f (nI_ge hi (by omega)) (br_c (fun h => K a fun s hs => ?_) (fun h => ?_))
    · rw [ha s hs]
      have hz : ∀ s, s < S → ¬ bt f s = true := fun s hs => by
        rw [ic_z.mp h s (by omega)]; decide
      rw [ic_Re_cl fun s t hs hr hst => (hc s t hs hr hst).resolve_right (hz s hs)]
    · refine xa_successors hC h1 fun r hr => nm_e (nm_e (nm_r (nI_1 i) (ih (a ||| (r &&& (a ^^^ (-1))), r &&& (a ^^^ (-1))) ⟨fun s hs => ?_, fun s hs => ?_, fun s t hs hrn hst => ?_⟩)))
      · show bt (a ||| (r &&& (a ^^^ (-1)))) s = true ↔ _
        have e : bt (a ||| (r &&& (a ^^^ (-1)))) s = (bt a s || bt r s) := by
          rw [b_or, b_and, ic_not _ hs]
          cases bt a s <;> cases bt r s <;> rfl
        rw [e, Bool.or_eq_true, ha s hs, hr s hs]
        constructor
        · rintro (⟨p, q⟩ | ⟨p, u, hu, hfu, hst⟩)
          · exact ⟨p, Or.inl q⟩
          · have hu2 := hf u (by omega) hfu
            exact ⟨p, Or.inr ⟨u, hu, ((ha u (by omega)).mp hu2).2, hst⟩⟩
        · rintro ⟨p, q | ⟨u, hu, hru, hst⟩⟩
          · exact Or.inl ⟨p, q⟩
          · rcases hc u s hu hru hst with z | z
            · exact Or.inl ⟨p, z⟩
            · exact Or.inr ⟨p, u, hu, z, hst⟩
      · intro z
        show bt (a ||| (r &&& (a ^^^ (-1)))) s = true
        rw [b_or, Bool.or_eq_true]
        exact Or.inr z
      · show _ ∨ bt (r &&& (a ^^^ (-1))) s = true
        rcases hrn with z | ⟨u, hu, hru, hus⟩
        · exact Or.inl (Or.inr ⟨s, hs, z, hst⟩)
        · by_cases y : ic_RN S (ic_St L W nb) (ic_In ik L) i s
          · exact Or.inl (Or.inr ⟨s, hs, y, hst⟩)
          · refine Or.inr ?_
            have z : bt f u = true := (hc u s hu hru hus).resolve_left y
            rw [b_and, Bool.and_eq_true, ic_not _ (by omega), Bool.not_eq_true', hr s (by omega)]
            refine ⟨⟨hs, u, hu, z, hus⟩, Bool.eq_false_iff.mpr fun v => y ?_⟩
            exact ((ha s (by omega)).mp v).2
end
end
section
/-! the component: shortestFailure, least members, recordTrace -/
section
variable {L I S W N B G : Nat} {nb : Nat → Nat → Nat → Bool} {ms : Nat → Int32} {bd : Nat → Nat → Bool} {mb : Int32} {xg xf xa xb xi xo xd xu xh xq xv xt xz : Int32} {tr su ik nl bf fl sm ts ti : Nat → Int32} {kd oa ob : Nat → Int32}
theorem ic_cut {x : Int32} {P : Nat → Prop} {k : Nat} (h2 : ic_D2 L S W nb bd ms mb fl sm) (hS : S ≤ 32) (hk : k < 32) (hx : ∀ s, s < 32 → (bt x s = true ↔ s < S ∧ P s)) : x &&& fl k = 0 ↔ ¬ ∃ s, s < S ∧ P s ∧ ic_FW (ic_St L W nb) (ic_Bd W bd) k s := by
  rw [ic_z]
  constructor
  · rintro h ⟨s, hs, hp, hf⟩
    have z := h s (by omega)
    rw [b_and, (hx s (by omega)).mpr ⟨hs, hp⟩, (h2.1 k hk s hs).mpr hf] at z
    exact absurd z (by decide)
  · intro h j hj
    refine Bool.eq_false_iff.mpr fun z => ?_
    rw [b_and, Bool.and_eq_true, hx j hj] at z
    exact h ⟨j, z.1.1, z.1.2, (h2.1 k hk j z.1.1).mp z.2⟩
theorem xa_sfHit {post : Int32 → Prop} {n : Nat} (hC : ic_C L I S W N B G xa tr su kd oa ob) (h1 : ic_D1 L S W nb ik xi bf) (h2 : ic_D2 L S W nb bd ms mb fl sm) (hn : n < 32) (hx : ∃ s, s < S ∧ ic_In ik L s ∧ ic_FW (ic_St L W nb) (ic_Bd W bd) n s) (hl : ∀ k, k < n → ¬ ∃ s, s < S ∧ ic_In ik L s ∧ ic_FW (ic_St L W nb) (ic_Bd W bd) k s) (K : post (nI n)) : wpX_shortestFailure post ((nI L), xg, xf, (nI S), (nI W), xa, (nI N), xb, xi, xo, xd, xu, xh, xq, xv, xt, xz, tr, su, ik, nl, bf, fl, sm, ts, ti) := by
  have hd := hC.1
  unfold ic_D at hd
  refine loop_0 (fun m i (_ : Unit) => wX_shortestFailure_2 post (nI L) xg xf (nI S) (nI W) xa (nI N) xb xi xo xd xu xh xq xv xt xz tr su ik nl bf fl sm ts ti m (nI i)) (fun _ _ => True) n () trivial ?_ ?_
  · intro m _ _
    refine br_f (nI_nlt (a := 31) (by omega) (by omega)) ⟨vp_in_nI hn (by omega), br_f ?_ K⟩
    rw [nI_clamp (by omega), ic_cut h2 (by omega) hn h1.2.1]
    exact fun z => z hx
  · intro m i _ hi _ ih
    refine br_f (nI_nlt (a := 31) (by omega) (by omega)) ⟨vp_in_nI (by omega) (by omega), br_t ?_ (nm_r (nI_1 i) (ih () trivial))⟩
    rw [nI_clamp (by omega), ic_cut h2 (by omega) (by omega) h1.2.1]
    exact hl i hi
theorem xa_sfMiss {post : Int32 → Prop} (hC : ic_C L I S W N B G xa tr su kd oa ob) (h1 : ic_D1 L S W nb ik xi bf) (h2 : ic_D2 L S W nb bd ms mb fl sm) (hl : ∀ k, k < 32 → ¬ ∃ s, s < S ∧ ic_In ik L s ∧ ic_FW (ic_St L W nb) (ic_Bd W bd) k s) (K : post (-1)) : wpX_shortestFailure post ((nI L), xg, xf, (nI S), (nI W), xa, (nI N), xb, xi, xo, xd, xu, xh, xq, xv, xt, xz, tr, su, ik, nl, bf, fl, sm, ts, ti) := by
  have hd := hC.1
  unfold ic_D at hd
  refine loop_0 (fun m i (_ : Unit) => wX_shortestFailure_2 post (nI L) xg xf (nI S) (nI W) xa (nI N) xb xi xo xd xu xh xq xv xt xz tr su ik nl bf fl sm ts ti m (nI i)) (fun _ _ => True) 32 () trivial ?_ ?_
  · intro m _ _
    exact br_t (nI_lt (a := 31) (by omega) (by omega)) K
  · intro m i _ hi _ ih
    refine br_f (nI_nlt (a := 31) (by omega) (by omega)) ⟨vp_in_nI (by omega) (by omega), br_t ?_ (nm_r (nI_1 i) (ih () trivial))⟩
    rw [nI_clamp (by omega), ic_cut h2 (by omega) (by omega) h1.2.1]
    exact hl i hi
theorem xa_leastMember {post : Int32 → Prop} {x : Int32} {Q : Nat → Prop} (hC : ic_C L I S W N B G xa tr su kd oa ob) (hQ : ∀ s, Q s ↔ s < S ∧ bt x s = true) (he : ∃ s, Q s) (K : post (nI (ic_mn Q))) : wpX_leastMember post ((nI L), xg, xf, (nI S), (nI W), xa, (nI N), xb, xi, xo, xd, xu, xh, xq, xv, xt, xz, tr, su, ik, nl, bf, fl, sm, ts, ti) x := by
  have hd := hC.1
  unfold ic_D at hd
  obtain ⟨k1, k2⟩ := ic_mn_spec he
  rw [hQ] at k1
  refine loop_0 (fun m i (_ : Unit) => wX_leastMember_2 post x (nI L) xg xf (nI S) (nI W) xa (nI N) xb xi xo xd xu xh xq xv xt xz tr su ik nl bf fl sm ts ti m (nI i)) (fun _ _ => True) (ic_mn Q) () trivial ?_ ?_
  · intro m _ _
    refine br_f (nI_ge k1.1 (by omega)) (br_t ?_ K)
    rw [ic_ur _ (by omega), ic_b1]
    exact k1.2
  · intro m i _ hi _ ih
    refine br_f (nI_ge (by omega) (by omega)) (br_f ?_ (nm_r (nI_1 i) (ih () trivial)))
    rw [ic_ur _ (by omega), ic_b1]
    exact fun z => k2 i hi ((hQ i).mpr ⟨by omega, z⟩)
theorem xa_leastWordInto {post : Int32 → Prop} {s : Nat} {p0 x : Int32} {Q : Nat → Prop} (hC : ic_C L I S W N B G xa tr su kd oa ob) (hP : ic_P L S W N tr su nl xb nb ms bd mb) (hp : p0 = nI s) (hs : s < S) (hQ : ∀ w, Q w ↔ w < W ∧ bt x (ic_nx L nb s w) = true) (he : ∃ w, Q w) (K : post (nI (ic_mn Q))) : wpX_leastWordInto post ((nI L), xg, xf, (nI S), (nI W), xa, (nI N), xb, xi, xo, xd, xu, xh, xq, xv, xt, xz, tr, su, ik, nl, bf, fl, sm, ts, ti) p0 x := by
  subst hp
  have hd := hC.1
  unfold ic_D at hd
  have hlt : ∀ w, ic_nx L nb s w < 32 := fun w => by
    have z : ic_nx L nb s w < 2 ^ L := ic_nx_lt
    omega
  obtain ⟨k1, k2⟩ := ic_mn_spec he
  rw [hQ] at k1
  refine loop_0 (fun m i (_ : Unit) => wX_leastWordInto_2 post (nI s) x (nI L) xg xf (nI S) (nI W) xa (nI N) xb xi xo xd xu xh xq xv xt xz tr su ik nl bf fl sm ts ti m (nI i)) (fun _ _ => True) (ic_mn Q) () trivial ?_ ?_
  · intro m _ _
    refine br_f (nI_ge k1.1 (by omega)) (xa_successor hC hP rfl rfl hs k1.1 (br_t ?_ K))
    rw [ic_ur _ (hlt _), ic_b1]
    exact k1.2
  · intro m i _ hi _ ih
    refine br_f (nI_ge (by omega) (by omega)) (xa_successor hC hP rfl rfl hs (by omega) (br_f ?_ (nm_r (nI_1 i) (ih () trivial))))
    rw [ic_ur _ (hlt _), ic_b1]
    exact fun z => k2 i hi ((hQ i).mpr ⟨by omega, z⟩)
theorem xa_leastBadWord {post : Int32 → Prop} {s : Nat} {p0 : Int32} {Q : Nat → Prop} (hC : ic_C L I S W N B G xa tr su kd oa ob) (hP : ic_P L S W N tr su nl xb nb ms bd mb) (hp : p0 = nI s) (hs : s < S) (hQ : ∀ w, Q w ↔ w < W ∧ bd s w = true) (he : ∃ w, Q w) (K : post (nI (ic_mn Q))) : wpX_leastBadWord post ((nI L), xg, xf, (nI S), (nI W), xa, (nI N), xb, xi, xo, xd, xu, xh, xq, xv, xt, xz, tr, su, ik, nl, bf, fl, sm, ts, ti) p0 := by
  subst hp
  have hd := hC.1
  unfold ic_D at hd
  obtain ⟨k1, k2⟩ := ic_mn_spec he
  rw [hQ] at k1
  refine loop_0 (fun m i (_ : Unit) => wX_leastBadWord_2 post (nI s) (nI L) xg xf (nI S) (nI W) xa (nI N) xb xi xo xd xu xh xq xv xt xz tr su ik nl bf fl sm ts ti m (nI i)) (fun _ _ => True) (ic_mn Q) () trivial ?_ ?_
  · intro m _ _
    refine br_f (nI_ge k1.1 (by omega)) (xa_truthLi hC hP.2 rfl k1.1 fun r hr => br_t ?_ K)
    rw [ic_ur _ (by omega), ic_b1, hr s hs]
    exact k1.2
  · intro m i _ hi _ ih
    refine br_f (nI_ge (by omega) (by omega)) (xa_truthLi hC hP.2 rfl (by omega) fun r hr => br_f ?_ (nm_r (nI_1 i) (ih () trivial)))
    rw [ic_ur _ (by omega), ic_b1, hr s hs]
    exact fun z => k2 i hi ((hQ i).mpr ⟨by omega, z⟩)
theorem xa_recordTrace {post : SX → Prop} {n : Nat} {p0 : Int32} (hC : ic_C L I S W N B G xa tr su kd oa ob) (hP : ic_P L S W N tr su nl xb nb ms bd mb) (h1 : ic_D1 L S W nb ik xi bf) (h2 : ic_D2 L S W nb bd ms mb fl sm) (hp : p0 = nI n) (hn : n < 32) (h0 : ∃ c, ic_P0 L S W nb bd ik n c) (hm : ∀ m, m < n → ∀ s, s < S → ic_In ik L s → ¬ ic_FA (ic_St L W nb) (ic_Bd W bd) m s) (K : ∀ ts' ti', (∀ t, t < n + 1 → ts' t = nI (ic_tS L S W nb bd ik n t) ∧ ti' t = nI (ic_tW L S W nb bd ik n t)) → post ((nI L), xg, xf, (nI S), (nI W), xa, (nI N), xb, xi, xo, xd, xu, xh, xq, xv, nI n, xz, tr, su, ik, nl, bf, fl, sm, ts', ti')) : wpX_recordTrace post ((nI L), xg, xf, (nI S), (nI W), xa, (nI N), xb, xi, xo, xd, xu, xh, xq, xv, xt, xz, tr, su, ik, nl, bf, fl, sm, ts, ti) p0 := by
  subst hp
  have hd := hC.1
  unfold ic_D at hd
  have hSL : S = 2 ^ L := by omega
  have ok := ic_tr_ok hSL h0
  have mi := ic_tr_min hSL h0 hm
  have ecn : (nI n).toNatClampNeg = n := nI_clamp (by omega)
  refine And.intro (vp_in_nI hn (by omega)) ?_
  refine xa_leastMember hC (Q := ic_P0 L S W nb bd ik n) (fun s => ?_) h0 ?_
  · unfold ic_P0
    refine and_congr_right fun hs => ?_
    rw [ecn, b_and, Bool.and_eq_true, h1.2.1 s (by omega), h2.1 n hn s hs]
    constructor
    · rintro ⟨p, q⟩
      exact ⟨⟨hs, p⟩, ic_FW_iff.mpr ⟨n, Nat.le_refl _, q⟩⟩
    · rintro ⟨p, q⟩
      exact ⟨p.2, (ic_FW_min fun m hmn => hm m hmn s hs p.2).mp q⟩
  · refine loop_0 (fun m t (p : (Nat → Int32) × (Nat → Int32)) => wX_recordTrace_18 post (nI n) (nI L) xg xf (nI S) (nI W) xa (nI N) xb xi xo xd xu xh xq xv xt xz m (nI (ic_tS L S W nb bd ik n t)) (nI t) tr su ik nl bf fl sm (p.1) (p.2)) (fun t p => ∀ j, j < t → p.1 j = nI (ic_tS L S W nb bd ik n j) ∧ p.2 j = nI (ic_tW L S W nb bd ik n j)) n (ts, ti) ic_all0 ?_ ?_
    · rintro m ⟨a, b⟩ hab
      obtain ⟨o1, o2⟩ := ok n (Nat.le_refl _)
      refine br_t (nI_le (Nat.le_refl _) (by omega)) ⟨vp_in_nI hn (by omega), nm_r (e' := upd a n (nI (ic_tS L S W nb bd ik n n))) (by rw [ecn]) ?_⟩
      refine xa_leastBadWord hC hP rfl o1 (Q := ic_Q L W nb bd n n (ic_tS L S W nb bd ik n n)) (fun w => ?_) (ic_Q_ex (Nat.le_refl _) o2) ⟨vp_in_nI hn (by omega), nm_r (e' := upd b n (nI (ic_tW L S W nb bd ik n n))) (by rw [ecn]; rfl) (K (upd a n (nI (ic_tS L S W nb bd ik n n))) (upd b n (nI (ic_tW L S W nb bd ik n n))) ?_)⟩
      · unfold ic_Q
        refine and_congr_right fun hw => ?_
        exact ⟨fun z => z.elim (fun z => absurd z.1 (Nat.lt_irrefl _)) (fun z => z.2), fun z => Or.inr ⟨rfl, z⟩⟩
      · refine ic_all.mpr ⟨fun j hj => ?_, ?_⟩
        · rw [pk_un (by omega), pk_un (by omega)]
          exact hab j hj
        · exact ⟨pk_us, pk_us⟩
    · rintro m t ⟨a, b⟩ ht hab ih
      obtain ⟨o1, o2⟩ := ok t (by omega)
      have et : (nI t).toNatClampNeg = t := nI_clamp (by omega)
      have ei : nI n - nI t - 1 = nI (n - t - 1) := by
        rw [pk_sub (by omega)]
        obtain ⟨k, hk⟩ : ∃ k, n - t = k + 1 := ⟨n - t - 1, by omega⟩
        rw [hk]
        exact nI_pred k
      have tw : ic_mn (ic_Q L W nb bd n t (ic_tS L S W nb bd ik n t)) < W := (ic_mn_spec (ic_Q_ex (by omega) o2)).1.1
      refine br_f (nI_ge ht (by omega)) ⟨by rw [ei]; exact vp_in_nI (by omega) (by omega), ?_⟩
      refine xa_leastWordInto hC hP rfl o1 (Q := ic_Q L W nb bd n t (ic_tS L S W nb bd ik n t)) (fun w => ?_) (ic_Q_ex (by omega) o2) ⟨vp_in_nI (by omega) (by omega), nm_r (e' := upd a t (nI (ic_tS L S W nb bd ik n t))) (by rw [et]) ⟨vp_in_nI (by omega) (by omega), nm_r (e' := upd b t (nI (ic_tW L S W nb bd ik n t))) (by rw [et]; rfl) ?_⟩⟩
      · unfold ic_Q
        refine and_congr_right fun hw => ?_
        have hx : ic_nx L nb (ic_tS L S W nb bd ik n t) w < S := by rw [hSL]; exact ic_nx_lt
        rw [ei, nI_clamp (by omega), h2.1 (n - t - 1) (by omega) _ hx, ic_FW_min fun k hk hf => mi t (by omega) (k + 1) (by omega) ⟨_, ⟨w, hw, rfl⟩, hf⟩]
        exact ⟨fun z => z.elim (fun z => z.2) (fun z => absurd z.1 (by omega)), fun z => Or.inl ⟨ht, z⟩⟩
      · refine xa_successor hC hP rfl rfl o1 tw (nm_r (nI_1 t) (ih (upd a t (nI (ic_tS L S W nb bd ik n t)), upd b t (nI (ic_tW L S W nb bd ik n t))) ?_))
        refine ic_all.mpr ⟨fun j hj => ?_, ?_⟩
        · dsimp only
          rw [pk_un (by omega), pk_un (by omega)]
          exact hab j hj
        · exact ⟨pk_us, pk_us⟩
end
end
section
/-! the component: gate, and the constructor's fills -/
theorem ic_V_ext {N x s w : Nat} {tr tr' : Nat → Int32} (h : ∀ j, j < 4 * N → tr' j = tr j) (hx : x < N) (hw : w < 4) : ic_V tr' x s w = ic_V tr x s w := by
  unfold ic_V
  rw [h _ (by omega)]
theorem ic_L_ext {N m s w : Nat} {tr tr' : Nat → Int32} (h : ∀ j, j < 4 * N → tr' j = tr j) (hm : m < 2 * N) (hw : w < 4) : ic_L tr' m s w = ic_L tr m s w := by
  unfold ic_L
  rw [ic_V_ext h (by omega) hw]
theorem ic_li_ext {S W N : Nat} {tr su tr' su' : Nat → Int32} {x μ : Int32} {f : Nat → Nat → Bool} (hW : W ≤ 4) (h : ∀ j, j < 4 * N → tr' j = tr j) (h2 : ∀ j, j < N → su' j = su j) (hl : ic_li S W N tr su x f μ) : ic_li S W (N + 1) tr' su' x f μ := by
  obtain ⟨m, hm, e, hs, hf⟩ := hl
  refine ⟨m, by omega, e, by rw [h2 _ (by omega)]; exact hs, fun s hss w hw => ?_⟩
  rw [ic_L_ext h hm (by omega)]
  exact hf s hss w hw
theorem ic_P_ext {L S W N : Nat} {tr su nl tr' su' ms : Nat → Int32} {xb mb : Int32} {nb : Nat → Nat → Nat → Bool} {bd : Nat → Nat → Bool} (hW : W ≤ 4) (h : ∀ j, j < 4 * N → tr' j = tr j) (h2 : ∀ j, j < N → su' j = su j) (hP : ic_P L S W N tr su nl xb nb ms bd mb) : ic_P L S W (N + 1) tr' su' nl xb nb ms bd mb := ⟨fun i hi => ic_li_ext hW h h2 (hP.1 i hi), ic_li_ext hW h h2 hP.2⟩
theorem ic_C_gate {L I S W N B G a b : Nat} {xa k : Int32} {tr su kd oa ob tr' : Nat → Int32} (hC : ic_C L I S W N B G xa tr su kd oa ob) (hB : B < G) (ha : a < 2 * N) (hb : b < 2 * N) (h : ∀ j, j < 4 * N → tr' j = tr j) (hn : ∀ w, w < W → ∀ s, s < S → bt (tr' (4 * N + w)) s = ic_g k (ic_L tr a s w) (ic_L tr b s w)) : ic_C L I S W (N + 1) (B + 1) G xa tr' (upd su N (su (a / 2) ||| su (b / 2))) (upd kd B k) (upd oa B (nI a)) (upd ob B (nI b)) := by
  obtain ⟨hd, c1, c2, c3, c4, c5, c6, c7, c8⟩ := hC
  unfold ic_D at hd
  have hN : N = 1 + L + I + B := by omega
  refine ⟨by unfold ic_D; omega, c1, ?_, ?_, ?_, ?_, ?_, ?_, ?_⟩
  · intro s hs w hw
    rw [ic_V_ext h (by omega) (by omega)]; exact c2 s hs w hw
  · intro i hi s hs w hw
    rw [ic_V_ext h (by omega) (by omega)]; exact c3 i hi s hs w hw
  · intro i hi s hs w hw
    rw [ic_V_ext h (by omega) (by omega)]; exact c4 i hi s hs w hw
  · rw [pk_un (by omega)]; exact c5
  · intro i hi
    rw [pk_un (by omega)]; exact c6 i hi
  · intro i hi
    rw [pk_un (by omega)]; exact c7 i hi
  · refine ic_all.mpr ⟨fun g hg => ?_, ?_⟩
    · obtain ⟨x, y, hx, hy, e1, e2, e3, e4⟩ := c8 g hg
      refine ⟨x, y, hx, hy, by rw [pk_un (by omega)]; exact e1, by rw [pk_un (by omega)]; exact e2, ?_, fun s hs w hw => ?_⟩
      · rw [pk_un (by omega), pk_un (by omega), pk_un (by omega)]; exact e3
      · rw [ic_V_ext h (by omega) (by omega), ic_L_ext h (by omega) (by omega), ic_L_ext h (by omega) (by omega), pk_un (by omega)]
        exact e4 s hs w hw
    · refine ⟨a, b, by omega, by omega, pk_us, pk_us, ?_, fun s hs w hw => ?_⟩
      · rw [← hN, pk_us, pk_un (by omega), pk_un (by omega)]
      · rw [← hN, pk_us, ic_L_ext h (by omega) (by omega), ic_L_ext h (by omega) (by omega)]
        exact hn w hw s hs
section
variable {L I S W N B G : Nat} {nb : Nat → Nat → Nat → Bool} {ms : Nat → Int32} {bd : Nat → Nat → Bool} {mb : Int32} {xg xf xa xb xi xo xd xu xh xq xv xt xz : Int32} {tr su ik nl bf fl sm ts ti : Nat → Int32} {kd oa ob : Nat → Int32}
theorem xa_gate56 {post : Int32 → SX → Prop} {a b : Nat} {k p1 p2 p3 : Int32} (hC : ic_C L I S W N B G xa tr su kd oa ob) (hN : N < 24) (hp1 : p1 = nI a) (hp2 : p2 = nI b) (hp3 : p3 = nI N) (ha : a < 2 * N) (hb : b < 2 * N) (K : ∀ tr', (∀ j, j < 4 * N → tr' j = tr j) → (∀ w, w < W → ∀ s, s < S → bt (tr' (4 * N + w)) s = ic_g k (ic_L tr a s w) (ic_L tr b s w)) → post (nI (2 * N)) ((nI L), xg, xf, (nI S), (nI W), xa, nI (N + 1), xb, xi, xo, xd, xu, xh, xq, xv, xt, xz, tr', upd su N (su (a / 2) ||| su (b / 2)), ik, nl, bf, fl, sm, ts, ti)) : ∃ n, wX_gate_56 post k p1 p2 p3 (nI L) xg xf (nI S) (nI W) xa (nI N) xb xi xo xd xu xh xq xv xt xz n 0 tr su ik nl bf fl sm ts ti := by
  subst hp1 hp2 hp3
  have hd := hC.1
  unfold ic_D at hd
  refine loop_0 (fun n i (t : Nat → Int32) => wX_gate_56 post k (nI a) (nI b) (nI N) (nI L) xg xf (nI S) (nI W) xa (nI N) xb xi xo xd xu xh xq xv xt xz n (nI i) t su ik nl bf fl sm ts ti) (fun i t => (∀ j, j < 4 * N → t j = tr j) ∧ ∀ w, w < i → ∀ s, s < S → bt (t (4 * N + w)) s = ic_g k (ic_L tr a s w) (ic_L tr b s w)) W tr ⟨fun _ _ => rfl, ic_all0⟩ ?_ ?_
  · rintro n t ⟨h, hn⟩
    have ea : nI a >>> ((1 : Int32) &&& 31) = nI (a / 2) := ic_half (by omega)
    have eb : nI b >>> ((1 : Int32) &&& 31) = nI (b / 2) := ic_half (by omega)
    refine br_t (nI_le (Nat.le_refl _) (by omega)) ⟨by rw [ea]; exact vp_in_nI (by omega) (by omega), by rw [eb]; exact vp_in_nI (by omega) (by omega), vp_in_nI hN (by omega), nm_r (e' := upd su N (su (a / 2) ||| su (b / 2))) (by rw [ea, eb, nI_clamp (by omega), nI_clamp (by omega), nI_clamp (by omega)]) (nm_r (nI_1 N) ?_)⟩
    have e2 : 2 * nI N = nI (2 * N) := by
      show nI 2 * nI N = _
      rw [pk_mul]
    rw [e2]
    exact K t h hn
  · rintro n i t hi ⟨h, hn⟩ ih
    have ei : 4 * nI N + nI i = nI (4 * N + i) := by
      show nI 4 * nI N + nI i = _
      rw [pk_mul, nI_add]
    refine br_f (nI_ge hi (by omega)) ?_
    refine xa_truthOf (S := S) (m := a) (w := i) rfl rfl (by omega) (by omega) hC.2.1 (by omega) fun r hr => ?_
    refine xa_truthOf (S := S) (m := b) (w := i) rfl rfl (by omega) (by omega) hC.2.1 (by omega) fun q hq => ?_
    have step : ∀ v, (∀ s, s < S → bt v s = ic_g k (ic_L tr a s i) (ic_L tr b s i)) → (∀ j, j < 4 * N → upd t (4 * N + i) v j = tr j) ∧ ∀ w, w < i + 1 → ∀ s, s < S → bt (upd t (4 * N + i) v (4 * N + w)) s = ic_g k (ic_L tr a s w) (ic_L tr b s w) := by
      intro v hv
      refine ⟨fun j hj => ?_, ic_all.mpr ⟨fun w hw s hs => ?_, fun s hs => ?_⟩⟩
      · rw [pk_un (by omega)]; exact h j hj
      · rw [pk_un (by omega)]; exact hn w hw s hs
      · rw [pk_us]; exact hv s hs
    refine br_c (fun hk => ⟨by rw [ei]; exact vp_in_nI (by omega) (by omega), nm_r (e' := upd t (4 * N + i) (r &&& q)) (by rw [ei, nI_clamp (by omega)]) (nm_r (nI_1 i) (ih _ (step _ fun s hs => ?_)))⟩) (fun hk => ⟨by rw [ei]; exact vp_in_nI (by omega) (by omega), nm_r (e' := upd t (4 * N + i) (r ^^^ q)) (by rw [ei, nI_clamp (by omega)]) (nm_r (nI_1 i) (ih _ (step _ fun s hs => ?_)))⟩)
    · rw [b_and, hr s hs, hq s hs, ic_L_ext h ha (by omega), ic_L_ext h hb (by omega)]
      exact (if_pos hk).symm
    · rw [b_xor, hr s hs, hq s hs, ic_L_ext h ha (by omega), ic_L_ext h hb (by omega)]
      exact (if_neg hk).symm
theorem xa_fillLatch {post : SX → Prop} {i : Nat} {p0 : Int32} (hp : p0 = nI i) (hi : i < 5) (hS : S ≤ 32) (hW : W ≤ 4) (K : ∀ tr', (∀ j, j < 4 * (1 + i) → tr' j = tr j) → (∀ w, w < W → ∀ s, s < S → bt (tr' (4 * (1 + i) + w)) s = s.testBit i) → post ((nI L), xg, xf, (nI S), (nI W), xa, (nI N), xb, xi, xo, xd, xu, xh, xq, xv, xt, xz, tr', upd su (1 + i) ((1 : Int32) <<< (nI i &&& 31)), ik, upd nl i (nI (2 * (1 + i))), bf, fl, sm, ts, ti)) : wpX_fillLatch post ((nI L), xg, xf, (nI S), (nI W), xa, (nI N), xb, xi, xo, xd, xu, xh, xq, xv, xt, xz, tr, su, ik, nl, bf, fl, sm, ts, ti) p0 := by
  subst hp
  have e1 : 1 + nI i = nI (1 + i) := by
    show nI 1 + nI i = _
    rw [nI_add]
  refine nm_r e1 ?_
  refine loop_0 (fun n j (a : Int32) => wX_fillLatch_9 post (nI i) (nI (1 + i)) (nI L) xg xf (nI S) (nI W) xa (nI N) xb xi xo xd xu xh xq xv xt xz tr su ik nl bf fl sm ts ti n a (nI j)) (fun j a => ∀ s, s < 32 → bt a s = (decide (s < j) && s.testBit i)) S 0 ?_ ?_ ?_
  · intro s hs
    rw [b_0, decide_eq_false (Nat.not_lt_zero _), Bool.false_and]
  · intro n a ha
    refine br_t (nI_le (Nat.le_refl _) (by omega)) ?_
    refine loop_0 (fun n w (t : Nat → Int32) => wX_fillLatch_39 post (nI i) (nI (1 + i)) a (nI L) xg xf (nI S) (nI W) xa (nI N) xb xi xo xd xu xh xq xv xt xz n (nI w) t su ik nl bf fl sm ts ti) (fun w t => (∀ j, j < 4 * (1 + i) → t j = tr j) ∧ ∀ v, v < w → t (4 * (1 + i) + v) = a) W tr ⟨fun _ _ => rfl, ic_all0⟩ ?_ ?_
    · rintro n t ⟨h, hn⟩
      have e2 : 2 * nI (1 + i) = nI (2 * (1 + i)) := by
        show nI 2 * nI _ = _
        rw [pk_mul]
      refine br_t (nI_le (Nat.le_refl _) (by omega)) ⟨vp_in_nI (by omega) (by omega), nm_r (e' := upd su (1 + i) ((1 : Int32) <<< (nI i &&& 31))) (by rw [nI_clamp (by omega)]) ⟨vp_in_nI hi (by omega), nm_r (e' := upd nl i (nI (2 * (1 + i)))) (by rw [nI_clamp (by omega), e2]) (K t h fun w hw s hs => ?_)⟩⟩
      rw [hn w hw, ha s (by omega), decide_eq_true hs, Bool.true_and]
    · rintro n w t hw ⟨h, hn⟩ ih
      have ei : 4 * nI (1 + i) + nI w = nI (4 * (1 + i) + w) := by
        show nI 4 * nI _ + nI w = _
        rw [pk_mul, nI_add]
      refine br_f (nI_ge hw (by omega)) ⟨by rw [ei]; exact vp_in_nI (by omega) (by omega), nm_r (e' := upd t (4 * (1 + i) + w) a) (by rw [ei, nI_clamp (by omega)]) (nm_r (nI_1 w) (ih _ ⟨fun j hj => ?_, ic_all.mpr ⟨fun v hv => ?_, ?_⟩⟩))⟩
      · rw [pk_un (by omega)]; exact h j hj
      · rw [pk_un (by omega)]; exact hn v hv
      · exact pk_us
  · intro n j a hj ha ih
    refine br_f (nI_ge hj (by omega)) (nm_e (nm_r (nI_1 j) (ih _ fun s hs => ?_)))
    rw [b_or, ha s hs, ic_sr _ (by omega), ic_nb (by omega), ic_sl _ (by omega) hs]
    by_cases e : s = j
    · subst e
      rw [decide_eq_false (Nat.lt_irrefl _), decide_eq_true rfl, decide_eq_true (by omega)]
      simp
    · have h2 : decide (s < j + 1) = decide (s < j) := decide_eq_decide.mpr (by omega)
      rw [h2, decide_eq_false e, Bool.and_false, Bool.or_false]
theorem xa_fillInput {post : SX → Prop} {j : Nat} {p0 : Int32} (hp : p0 = nI j) (hj : j < 2) (hL : L ≤ 5) (hS : S ≤ 32) (hW : W ≤ 4) (hxa : ∀ s, s < 32 → bt xa s = decide (s < S)) (K : ∀ tr', (∀ x, x < 4 * (1 + L + j) → tr' x = tr x) → (∀ w, w < W → ∀ s, s < S → bt (tr' (4 * (1 + L + j) + w)) s = w.testBit j) → post ((nI L), xg, xf, (nI S), (nI W), xa, (nI N), xb, xi, xo, xd, xu, xh, xq, xv, xt, xz, tr', su, ik, nl, bf, fl, sm, ts, ti)) : wpX_fillInput post ((nI L), xg, xf, (nI S), (nI W), xa, (nI N), xb, xi, xo, xd, xu, xh, xq, xv, xt, xz, tr, su, ik, nl, bf, fl, sm, ts, ti) p0 := by
  subst hp
  have e1 : (1 + nI L) + nI j = nI (1 + L + j) := by
    show (nI 1 + nI L) + nI j = _
    rw [nI_add, nI_add]
  refine nm_r e1 ?_
  refine loop_0 (fun n w (t : Nat → Int32) => wX_fillInput_11 post (nI j) (nI (1 + L + j)) (nI L) xg xf (nI S) (nI W) xa (nI N) xb xi xo xd xu xh xq xv xt xz n (nI w) t su ik nl bf fl sm ts ti) (fun w t => (∀ x, x < 4 * (1 + L + j) → t x = tr x) ∧ ∀ v, v < w → ∀ s, s < S → bt (t (4 * (1 + L + j) + v)) s = v.testBit j) W tr ⟨fun _ _ => rfl, ic_all0⟩ ?_ ?_
  · rintro n t ⟨h, hn⟩
    exact br_t (nI_le (Nat.le_refl _) (by omega)) (K t h hn)
  · rintro n w t hw ⟨h, hn⟩ ih
    have ei : 4 * nI (1 + L + j) + nI w = nI (4 * (1 + L + j) + w) := by
      show nI 4 * nI _ + nI w = _
      rw [pk_mul, nI_add]
    have step : ∀ v, (∀ s, s < S → bt v s = w.testBit j) → (∀ x, x < 4 * (1 + L + j) → upd t (4 * (1 + L + j) + w) v x = tr x) ∧ ∀ u, u < w + 1 → ∀ s, s < S → bt (upd t (4 * (1 + L + j) + w) v (4 * (1 + L + j) + u)) s = u.testBit j := by
      intro v hv
      refine ⟨fun x hx => ?_, ic_all.mpr ⟨fun u hu s hs => ?_, fun s hs => ?_⟩⟩
      · rw [pk_un (by omega)]; exact h x hx
      · rw [pk_un (by omega)]; exact hn u hu s hs
      · rw [pk_us]; exact hv s hs
    have hb : ((nI w >>> (nI j &&& 31)) &&& 1) = ic_b (w.testBit j) := by rw [ic_sr _ (by omega), ic_nb (by omega)]
    refine br_f (nI_ge hw (by omega)) (br_c (fun z => ⟨by rw [ei]; exact vp_in_nI (by omega) (by omega), nm_r (e' := upd t (4 * (1 + L + j) + w) xa) (by rw [ei, nI_clamp (by omega)]) (nm_r (nI_1 w) (ih _ (step _ fun s hs => ?_)))⟩) (fun z => ⟨by rw [ei]; exact vp_in_nI (by omega) (by omega), nm_r (e' := upd t (4 * (1 + L + j) + w) 0) (by rw [ei, nI_clamp (by omega)]) (nm_r (nI_1 w) (ih _ (step _ fun s hs => ?_)))⟩))
    · rw [hb, ic_b1] at z
      rw [hxa s (by omega), decide_eq_true hs, z]
    · rw [hb, ic_b1, Bool.not_eq_true] at z
      rw [b_0, z]
end
end
section
/-! the reference: valid, place, read, evaluate, value, step, isBad -/
theorem ic_rng1 {A B : Prop} {x y : Int32} {m n : Nat} (hx : x = nI m) (hy : y = nI n) (h : m < n) (hn : n < 2 ^ 31) (b : B) : (x < 0 → A) ∧ (¬ x < 0 → ((y ≤ x → A) ∧ (¬ y ≤ x → B))) := by
  subst hx hy
  exact br_f (nI_pos (by omega)) (br_f (nI_ge h hn) b)
theorem ic_rng0 {A B : Prop} {x y : Int32} (h : x < 0 ∨ y ≤ x) (a : A) : (x < 0 → A) ∧ (¬ x < 0 → ((y ≤ x → A) ∧ (¬ y ≤ x → B))) := br_c (fun _ => a) (fun z => br_t (h.resolve_left z) a)
theorem ic_dn {σ : Type} (W : Nat → Nat → σ → Prop) (I : Nat → σ → Prop) (hx : ∀ n s, I 0 s → W (n + 1) 0 s) (hs : ∀ n i s, I (i + 1) s → (∀ s', I i s' → W n i s') → W (n + 1) (i + 1) s) : ∀ (e : Nat) (s : σ), I e s → W (e + 1) e s := by
  intro e
  induction e with
  | zero => intro s h; exact hx 0 s h
  | succ e ih => intro s h; exact hs (e + 1) e s h ih
section
variable {L I S W N B G : Nat} {nb : Nat → Nat → Nat → Bool} {ms : Nat → Int32} {bd : Nat → Nat → Bool} {mb : Int32} {yg xb yd yv yt yo yh : Int32} {kd oa ob ik nl us uw ra qa vl mk fr cu nt : Nat → Int32} {xa : Int32} {tr su : Nat → Int32}
theorem ya_2N (hC : ic_C L I S W N B G xa tr su kd oa ob) : 2 * (((1 + nI L) + nI I) + nI B) = nI (2 * N) := by
  have hd := hC.1
  unfold ic_D at hd
  have e : N = 1 + L + I + B := by omega
  subst e
  show nI 2 * (((nI 1 + nI L) + nI I) + nI B) = _
  rw [nI_add, nI_add, nI_add, pk_mul]
theorem ya_valid1 {post : Int32 → Prop} {m : Nat} {p0 : Int32} (hC : ic_C L I S W N B G xa tr su kd oa ob) (hp : p0 = nI m) (hm : m < 2 * N) (K : post 1) : wpY_valid post ((nI L), (nI I), yg, (nI S), (nI W), (nI B), xb, yd, yv, yt, yo, yh, kd, oa, ob, ik, nl, us, uw, ra, qa, vl, mk, fr, cu, nt) p0 := by
  have hd := hC.1
  unfold ic_D at hd
  exact ic_rng1 hp (ya_2N hC) hm (by omega) K
theorem ya_valid0 {post : Int32 → Prop} {p0 : Int32} (hC : ic_C L I S W N B G xa tr su kd oa ob) (h : p0 < 0 ∨ nI (2 * N) ≤ p0) (K : post 0) : wpY_valid post ((nI L), (nI I), yg, (nI S), (nI W), (nI B), xb, yd, yv, yt, yo, yh, kd, oa, ob, ik, nl, us, uw, ra, qa, vl, mk, fr, cu, nt) p0 := ic_rng0 (by rw [ya_2N hC]; exact h) K
theorem ya_place1 {post : Int32 → Prop} {s w : Nat} {p0 p1 : Int32} (hC : ic_C L I S W N B G xa tr su kd oa ob) (hp : p0 = nI s) (hq : p1 = nI w) (hs : s < S) (hw : w < W) (K : post 1) : wpY_place post ((nI L), (nI I), yg, (nI S), (nI W), (nI B), xb, yd, yv, yt, yo, yh, kd, oa, ob, ik, nl, us, uw, ra, qa, vl, mk, fr, cu, nt) p0 p1 := by
  have hd := hC.1
  unfold ic_D at hd
  exact ic_rng1 hp rfl hs (by omega) (ic_rng1 hq rfl hw (by omega) K)
theorem ya_place0 {post : Int32 → Prop} {p0 p1 : Int32} (h : (p0 < 0 ∨ nI S ≤ p0) ∨ (p1 < 0 ∨ nI W ≤ p1)) (K : post 0) : wpY_place post ((nI L), (nI I), yg, (nI S), (nI W), (nI B), xb, yd, yv, yt, yo, yh, kd, oa, ob, ik, nl, us, uw, ra, qa, vl, mk, fr, cu, nt) p0 p1 :=
  br_c (fun _ => K) (fun z => br_c (fun _ => K) (fun y => ic_rng0 (h.resolve_left fun x => x.elim z y) K))
theorem ya_read {post : Int32 → Prop} {m : Nat} {v : Bool} {p0 : Int32} (hp : p0 = nI m) (hm : m < 48) (hv : vl (m / 2) = ic_b v) (K : post (ic_b (v ^^ decide (m % 2 = 1)))) : wpY_read post ((nI L), (nI I), yg, (nI S), (nI W), (nI B), xb, yd, yv, yt, yo, yh, kd, oa, ob, ik, nl, us, uw, ra, qa, vl, mk, fr, cu, nt) p0 := by
  subst hp
  refine And.intro (by rw [ic_half (by omega)]; exact vp_in_nI (by omega) (by omega)) ?_
  rw [ic_half (by omega), nI_clamp (by omega), hv, ic_m1b (by omega), ic_bxor]
  exact K
theorem ya_eval72 {post : SY → Prop} {s w : Nat} (hC : ic_C L I S W N B G xa tr su kd oa ob) (hs : s < S) (hw : w < W) (hv : ∀ x, x < 1 + L + I → vl x = ic_b (ic_V tr x s w)) (K : ∀ vl', (∀ x, x < N → vl' x = ic_b (ic_V tr x s w)) → post ((nI L), (nI I), yg, (nI S), (nI W), (nI B), xb, yd, yv, yt, yo, yh, kd, oa, ob, ik, nl, us, uw, ra, qa, vl', mk, fr, cu, nt)) : ∃ n, wY_evaluate_72 post (nI L) (nI I) yg (nI S) (nI W) (nI B) xb yd yv yt yo yh n 0 kd oa ob ik nl us uw ra qa vl mk fr cu nt := by
  have hd := hC.1
  unfold ic_D at hd
  refine loop_0 (fun n g (a : Nat → Int32) => wY_evaluate_72 post (nI L) (nI I) yg (nI S) (nI W) (nI B) xb yd yv yt yo yh n (nI g) kd oa ob ik nl us uw ra qa a mk fr cu nt) (fun g a => ∀ x, x < 1 + L + I + g → a x = ic_b (ic_V tr x s w)) B vl hv ?_ ?_
  · intro n a ha
    exact br_t (nI_le (Nat.le_refl _) (by omega)) (K a fun x hx => ha x (by omega))
  · intro n g a hg ha ih
    obtain ⟨p, q, hp, hq, e1, e2, e3, e4⟩ := hC.2.2.2.2.2.2.2.2 g hg
    have ec : (nI g).toNatClampNeg = g := nI_clamp (by omega)
    have ei : ((1 + nI L) + nI I) + nI g = nI (1 + L + I + g) := by
      show ((nI 1 + nI L) + nI I) + nI g = _
      rw [nI_add, nI_add, nI_add]
    have step : ∀ v, v = ic_b (ic_V tr (1 + L + I + g) s w) → ∀ x, x < 1 + L + I + (g + 1) → upd a (1 + L + I + g) v x = ic_b (ic_V tr x s w) := by
      intro v hv x hx
      by_cases e : x = 1 + L + I + g
      · subst e; rw [pk_us]; exact hv
      · rw [pk_un e]; exact ha x (by omega)
    have e4 := e4 s hs w hw
    refine br_f (nI_ge hg (by omega)) ⟨vp_in_nI (by omega) (by omega), ya_read (by rw [ec]; exact e1) (by omega) (ha (p / 2) (by omega)) ⟨vp_in_nI (by omega) (by omega), ya_read (by rw [ec]; exact e2) (by omega) (ha (q / 2) (by omega)) ⟨vp_in_nI (by omega) (by omega), ?_⟩⟩⟩
    rw [ec]
    refine br_c (fun hk => ⟨by rw [ei]; exact vp_in_nI (by omega) (by omega), ?_⟩) (fun hk => ⟨by rw [ei]; exact vp_in_nI (by omega) (by omega), ?_⟩)
    · refine nm_r (e' := upd a (1 + L + I + g) (ic_b (ic_V tr (1 + L + I + g) s w))) ?_ (nm_r (nI_1 g) (ih _ (step _ rfl)))
      rw [ei, nI_clamp (by omega), ic_band, e4]
      unfold ic_g
      rw [if_pos hk]
      rfl
    · refine nm_r (e' := upd a (1 + L + I + g) (ic_b (ic_V tr (1 + L + I + g) s w))) ?_ (nm_r (nI_1 g) (ih _ (step _ rfl)))
      rw [ei, nI_clamp (by omega), ic_bxor, e4]
      unfold ic_g
      rw [if_neg hk]
      rfl
theorem ya_eval38 {post : SY → Prop} {s w : Nat} (hC : ic_C L I S W N B G xa tr su kd oa ob) (hs : s < S) (hw : w < W) (hv : ∀ x, x < 1 + L → vl x = ic_b (ic_V tr x s w)) (K : ∀ vl', (∀ x, x < N → vl' x = ic_b (ic_V tr x s w)) → post ((nI L), (nI I), yg, (nI S), (nI W), (nI B), xb, yd, yv, yt, yo, yh, kd, oa, ob, ik, nl, us, uw, ra, qa, vl', mk, fr, cu, nt)) : ∃ n, wY_evaluate_38 post (nI w) (nI L) (nI I) yg (nI S) (nI W) (nI B) xb yd yv yt yo yh n 0 kd oa ob ik nl us uw ra qa vl mk fr cu nt := by
  have hd := hC.1
  unfold ic_D at hd
  refine loop_0 (fun n g (a : Nat → Int32) => wY_evaluate_38 post (nI w) (nI L) (nI I) yg (nI S) (nI W) (nI B) xb yd yv yt yo yh n (nI g) kd oa ob ik nl us uw ra qa a mk fr cu nt) (fun g a => ∀ x, x < 1 + L + g → a x = ic_b (ic_V tr x s w)) I vl hv ?_ ?_
  · intro n a ha
    exact br_t (nI_le (Nat.le_refl _) (by omega)) (ya_eval72 hC hs hw ha K)
  · intro n g a hg ha ih
    have ei : (1 + nI L) + nI g = nI (1 + L + g) := by
      show (nI 1 + nI L) + nI g = _
      rw [nI_add, nI_add]
    refine br_f (nI_ge hg (by omega)) ⟨by rw [ei]; exact vp_in_nI (by omega) (by omega), nm_r (e' := upd a (1 + L + g) (ic_b (ic_V tr (1 + L + g) s w))) ?_ (nm_r (nI_1 g) (ih _ fun x hx => ?_))⟩
    · rw [ei, nI_clamp (by omega), ic_sr _ (by omega), ic_nb (by omega), hC.2.2.2.2.1 g hg s hs w hw]
    · by_cases e : x = 1 + L + g
      · subst e; exact pk_us
      · rw [pk_un e]; exact ha x (by omega)
theorem ya_evaluate {post : SY → Prop} {s w : Nat} {p0 p1 : Int32} (hC : ic_C L I S W N B G xa tr su kd oa ob) (hp : p0 = nI s) (hq : p1 = nI w) (hs : s < S) (hw : w < W) (K : ∀ vl', (∀ x, x < N → vl' x = ic_b (ic_V tr x s w)) → post ((nI L), (nI I), yg, (nI S), (nI W), (nI B), xb, yd, yv, yt, yo, yh, kd, oa, ob, ik, nl, us, uw, ra, qa, vl', mk, fr, cu, nt)) : wpY_evaluate post ((nI L), (nI I), yg, (nI S), (nI W), (nI B), xb, yd, yv, yt, yo, yh, kd, oa, ob, ik, nl, us, uw, ra, qa, vl, mk, fr, cu, nt) p0 p1 := by
  subst hp hq
  have hd := hC.1
  unfold ic_D at hd
  refine nm_e ?_
  refine loop_0 (fun n g (a : Nat → Int32) => wY_evaluate_9 post (nI s) (nI w) (nI L) (nI I) yg (nI S) (nI W) (nI B) xb yd yv yt yo yh n (nI g) kd oa ob ik nl us uw ra qa a mk fr cu nt) (fun g a => ∀ x, x < 1 + g → a x = ic_b (ic_V tr x s w)) L (upd vl 0 0) ?_ ?_ ?_
  · intro x hx
    obtain rfl : x = 0 := by omega
    rw [pk_us, hC.2.2.1 s hs w hw]
    rfl
  · intro n a ha
    exact br_t (nI_le (Nat.le_refl _) (by omega)) (ya_eval38 hC hs hw ha K)
  · intro n g a hg ha ih
    have ei : 1 + nI g = nI (1 + g) := by
      show nI 1 + nI g = _
      rw [nI_add]
    refine br_f (nI_ge hg (by omega)) ⟨by rw [ei]; exact vp_in_nI (by omega) (by omega), nm_r (e' := upd a (1 + g) (ic_b (ic_V tr (1 + g) s w))) ?_ (nm_r (nI_1 g) (ih _ fun x hx => ?_))⟩
    · rw [ei, nI_clamp (by omega), ic_sr _ (by omega), ic_nb (by omega), hC.2.2.2.1 g hg s hs w hw]
    · by_cases e : x = 1 + g
      · subst e; exact pk_us
      · rw [pk_un e]; exact ha x (by omega)
theorem ya_value {post : Int32 → SY → Prop} {m s w : Nat} {p0 p1 p2 : Int32} (hC : ic_C L I S W N B G xa tr su kd oa ob) (hr : p0 = nI m) (hp : p1 = nI s) (hq : p2 = nI w) (hm : m < 2 * N) (hs : s < S) (hw : w < W) (K : ∀ vl', post (ic_b (ic_L tr m s w)) ((nI L), (nI I), yg, (nI S), (nI W), (nI B), xb, yd, yv, yt, yo, yh, kd, oa, ob, ik, nl, us, uw, ra, qa, vl', mk, fr, cu, nt)) : wpY_value post ((nI L), (nI I), yg, (nI S), (nI W), (nI B), xb, yd, yv, yt, yo, yh, kd, oa, ob, ik, nl, us, uw, ra, qa, vl, mk, fr, cu, nt) p0 p1 p2 := by
  have hd := hC.1
  unfold ic_D at hd
  unfold wpY_value
  refine ya_valid1 hC hr hm (br_f (by decide) ?_)
  refine ya_place1 hC hp hq hs hw (br_f (by decide) ?_)
  refine ya_evaluate hC hp hq hs hw fun vl' hv => ?_
  exact ya_read hr (by omega) (hv (m / 2) (by omega)) (K vl')
theorem ya_isBad {post : Int32 → SY → Prop} {s w : Nat} {p0 p1 : Int32} (hC : ic_C L I S W N B G xa tr su kd oa ob) (hP : ic_P L S W N tr su nl xb nb ms bd mb) (hp : p0 = nI s) (hq : p1 = nI w) (hs : s < S) (hw : w < W) (K : ∀ vl', post (ic_b (bd s w)) ((nI L), (nI I), yg, (nI S), (nI W), (nI B), xb, yd, yv, yt, yo, yh, kd, oa, ob, ik, nl, us, uw, ra, qa, vl', mk, fr, cu, nt)) : wpY_isBad post ((nI L), (nI I), yg, (nI S), (nI W), (nI B), xb, yd, yv, yt, yo, yh, kd, oa, ob, ik, nl, us, uw, ra, qa, vl, mk, fr, cu, nt) p0 p1 := by
  obtain ⟨m, hm, e, _, hf⟩ := hP.2
  unfold wpY_isBad
  refine ya_value hC e hp hq hm hs hw fun vl' => ?_
  rw [hf s hs w hw]
  exact K vl'
theorem ya_step {post : Int32 → SY → Prop} {s w : Nat} {p0 p1 : Int32} (hC : ic_C L I S W N B G xa tr su kd oa ob) (hP : ic_P L S W N tr su nl xb nb ms bd mb) (hp : p0 = nI s) (hq : p1 = nI w) (hs : s < S) (hw : w < W) (K : ∀ vl', post (nI (ic_nx L nb s w)) ((nI L), (nI I), yg, (nI S), (nI W), (nI B), xb, yd, yv, yt, yo, yh, kd, oa, ob, ik, nl, us, uw, ra, qa, vl', mk, fr, cu, nt)) : wpY_step post ((nI L), (nI I), yg, (nI S), (nI W), (nI B), xb, yd, yv, yt, yo, yh, kd, oa, ob, ik, nl, us, uw, ra, qa, vl, mk, fr, cu, nt) p0 p1 := by
  have hd := hC.1
  unfold ic_D at hd
  unfold wpY_step
  refine ya_place1 hC hp hq hs hw (br_f (by decide) ?_)
  refine ya_evaluate hC hp hq hs hw fun vl' hv => ?_
  refine loop_0 (fun n i (a : Int32) => wY_step_22 post (nI L) (nI I) yg (nI S) (nI W) (nI B) xb yd yv yt yo yh kd oa ob ik nl us uw ra qa vl' mk fr cu nt n a (nI i)) (fun i a => a = nI (ic_sx (fun i => nb i s w) i)) L 0 rfl ?_ ?_
  · intro n a ha
    subst ha
    exact br_t (nI_le (Nat.le_refl _) (by omega)) (K vl')
  · intro n i a hi ha ih
    subst ha
    obtain ⟨m, hm, e, _, hf⟩ := hP.1 i hi
    refine br_f (nI_ge hi (by omega)) ⟨vp_in_nI (by omega) (by omega), ?_⟩
    refine ya_read (by rw [nI_clamp (by omega)]; exact e) (by omega) (hv (m / 2) (by omega)) (nm_e (nm_r (nI_1 i) (ih _ ?_)))
    show _ ||| (ic_b (ic_L tr m s w) <<< _) = _
    rw [hf s hs w hw]
    exact ic_sx_nI (f := fun i => nb i s w) (by omega)
end
end
section
/-! the reference: support, shared -/
section
variable {L I S W N B G : Nat} {nb : Nat → Nat → Nat → Bool} {ms : Nat → Int32} {bd : Nat → Nat → Bool} {mb : Int32} {yg xb yd yv yt yo yh : Int32} {kd oa ob ik nl us uw ra qa vl mk fr cu nt : Nat → Int32} {xa : Int32} {tr su : Nat → Int32}
theorem ic_su_low {x j : Nat} (hC : ic_C L I S W N B G xa tr su kd oa ob) (hx : x < 1 + L + I) (hj : j < 32) : bt (su x) j = true ↔ x = 1 + j ∧ j < L := by
  obtain ⟨hd, c1, c2, c3, c4, c5, c6, c7, c8⟩ := hC
  unfold ic_D at hd
  rcases Nat.eq_zero_or_pos x with e | e
  · subst e
    rw [c5, b_0]
    exact ⟨fun h => absurd h (by decide), fun h => by omega⟩
  · rcases Nat.lt_or_ge x (1 + L) with h | h
    · obtain ⟨i, rfl⟩ : ∃ i, x = 1 + i := ⟨x - 1, by omega⟩
      rw [c6 i (by omega), ic_1s (by omega) hj, decide_eq_true_eq]
      omega
    · obtain ⟨i, rfl⟩ : ∃ i, x = 1 + L + i := ⟨x - 1 - L, by omega⟩
      rw [c7 i (by omega), b_0]
      exact ⟨fun h => absurd h (by decide), fun h => by omega⟩
theorem ya_sup112 {post : Int32 → SY → Prop} {μ : Int32} (hC : ic_C L I S W N B G xa tr su kd oa ob) (hi : ∀ i, i < 32 → (bt μ i = true ↔ ∃ x, x < 1 + L + I ∧ mk x ≠ 0 ∧ bt (su x) i = true)) (K : post μ ((nI L), (nI I), yg, (nI S), (nI W), (nI B), xb, yd, yv, yt, yo, yh, kd, oa, ob, ik, nl, us, uw, ra, qa, vl, mk, fr, cu, nt)) : ∃ n, wY_support_112 post (nI L) (nI I) yg (nI S) (nI W) (nI B) xb yd yv yt yo yh kd oa ob ik nl us uw ra qa vl mk fr cu nt n 0 0 := by
  have hd := hC.1
  unfold ic_D at hd
  refine loop_0 (fun n i (a : Int32) => wY_support_112 post (nI L) (nI I) yg (nI S) (nI W) (nI B) xb yd yv yt yo yh kd oa ob ik nl us uw ra qa vl mk fr cu nt n a (nI i)) (fun i a => ∀ j, j < 32 → (bt a j = true ↔ j < i ∧ mk (1 + j) ≠ 0)) L 0 ?_ ?_ ?_
  · intro j hj
    rw [b_0]
    exact ⟨fun h => absurd h (by decide), fun h => absurd h.1 (Nat.not_lt_zero _)⟩
  · intro n a ha
    have e : a = μ := by
      apply b_ext
      intro j hj
      rw [Bool.eq_iff_iff, ha j hj, hi j hj]
      constructor
      · rintro ⟨p, q⟩
        exact ⟨1 + j, by omega, q, (ic_su_low hC (by omega) hj).mpr ⟨rfl, p⟩⟩
      · rintro ⟨x, hx, q, y⟩
        obtain ⟨rfl, p⟩ := (ic_su_low hC hx hj).mp y
        exact ⟨p, q⟩
    subst e
    exact br_t (nI_le (Nat.le_refl _) (by omega)) K
  · intro n i a hi' ha ih
    have ei : 1 + nI i = nI (1 + i) := by
      show nI 1 + nI i = _
      rw [nI_add]
    refine br_f (nI_ge hi' (by omega)) ⟨by rw [ei]; exact vp_in_nI (by omega) (by omega), ?_⟩
    rw [ei, nI_clamp (by omega)]
    refine br_c (fun h => nm_r (nI_1 i) (ih _ fun j hj => ?_)) (fun h => nm_e (nm_r (nI_1 i) (ih _ fun j hj => ?_)))
    · rw [ha j hj]
      constructor
      · rintro ⟨p, q⟩; exact ⟨by omega, q⟩
      · rintro ⟨p, q⟩
        refine ⟨?_, q⟩
        by_cases e : j = i
        · subst e; exact absurd h q
        · omega
    · rw [b_or, Bool.or_eq_true, ha j hj, ic_1s (by omega) hj, decide_eq_true_eq]
      constructor
      · rintro (⟨p, q⟩ | rfl)
        · exact ⟨by omega, q⟩
        · exact ⟨by omega, h⟩
      · rintro ⟨p, q⟩
        by_cases e : j = i
        · exact Or.inr e
        · exact Or.inl ⟨by omega, q⟩
theorem ya_sup49 {post : Int32 → SY → Prop} {μ : Int32} (hC : ic_C L I S W N B G xa tr su kd oa ob) (hi : ∀ i, i < 32 → (bt μ i = true ↔ ∃ x, x < N ∧ mk x ≠ 0 ∧ bt (su x) i = true)) (K : ∀ mk', post μ ((nI L), (nI I), yg, (nI S), (nI W), (nI B), xb, yd, yv, yt, yo, yh, kd, oa, ob, ik, nl, us, uw, ra, qa, vl, mk', fr, cu, nt)) : ∃ n, wY_support_49 post (nI L) (nI I) yg (nI S) (nI W) (nI B) xb yd yv yt yo yh n (nI B - 1) kd oa ob ik nl us uw ra qa vl mk fr cu nt := by
  have hd := hC.1
  unfold ic_D at hd
  have hm1 : ∀ g, nI g + (-1) = nI g - 1 := fun g => (Int32.sub_eq_add_neg _ _).symm
  refine ⟨B + 1, ic_dn (fun n g (a : Nat → Int32) => wY_support_49 post (nI L) (nI I) yg (nI S) (nI W) (nI B) xb yd yv yt yo yh n (nI g - 1) kd oa ob ik nl us uw ra qa vl a fr cu nt) (fun g a => g ≤ B ∧ ∀ i, i < 32 → (bt μ i = true ↔ ∃ x, x < 1 + L + I + g ∧ a x ≠ 0 ∧ bt (su x) i = true)) ?_ ?_ B mk ⟨Nat.le_refl _, ?_⟩⟩
  · rintro n a ⟨_, ha⟩
    refine br_t (by decide) ?_
    exact ya_sup112 hC ha (K a)
  · rintro n g a ⟨hg, ha⟩ ih
    obtain ⟨p, q, hp, hq, e1, e2, e3, e4⟩ := hC.2.2.2.2.2.2.2.2 g (by omega)
    have ec : (nI g).toNatClampNeg = g := nI_clamp (by omega)
    have ei : ((1 + nI L) + nI I) + nI g = nI (1 + L + I + g) := by
      show ((nI 1 + nI L) + nI I) + nI g = _
      rw [nI_add, nI_add, nI_add]
    have ep : nI p >>> ((1 : Int32) &&& 31) = nI (p / 2) := ic_half (by omega)
    have eq : nI q >>> ((1 : Int32) &&& 31) = nI (q / 2) := ic_half (by omega)
    show wY_support_49 post (nI L) (nI I) yg (nI S) (nI W) (nI B) xb yd yv yt yo yh (n + 1) (nI (g + 1) - 1) kd oa ob ik nl us uw ra qa vl a fr cu nt
    rw [nI_pred]
    refine br_f (nI_pos (by omega)) ⟨by rw [ei]; exact vp_in_nI (by omega) (by omega), ?_⟩
    rw [ei, nI_clamp (by omega), ec, e1, e2, ep, eq, nI_clamp (by omega), nI_clamp (by omega)]
    refine br_c (fun h => nm_r (hm1 g) (ih a ⟨by omega, fun i hi => ?_⟩)) (fun h => ⟨vp_in_nI (by omega) (by omega), vp_in_nI (by omega) (by omega), nm_e ⟨vp_in_nI (by omega) (by omega), vp_in_nI (by omega) (by omega), nm_e (nm_r (hm1 g) (ih _ ⟨by omega, fun i hi => ?_⟩))⟩⟩)
    · rw [ha i hi]
      constructor
      · rintro ⟨x, hx, y, z⟩
        refine ⟨x, ?_, y, z⟩
        by_cases e : x = 1 + L + I + g
        · subst e; exact absurd h y
        · omega
      · rintro ⟨x, hx, y, z⟩
        exact ⟨x, by omega, y, z⟩
    · rw [ic_nar1, ha i hi]
      have n10 : ¬ (1 : Int32) = 0 := by decide
      have upd_ne : ∀ x, a x ≠ 0 → upd (upd a (p / 2) 1) (q / 2) 1 x ≠ 0 := by
        intro x hx
        by_cases e : x = q / 2
        · subst e; rw [pk_us]; exact n10
        · rw [pk_un e]
          by_cases e : x = p / 2
          · subst e; rw [pk_us]; exact n10
          · rw [pk_un e]; exact hx
      constructor
      · rintro ⟨x, hx, y, z⟩
        by_cases e : x = 1 + L + I + g
        · subst e
          rw [e3, b_or, Bool.or_eq_true] at z
          rcases z with z | z
          · refine ⟨p / 2, by omega, ?_, z⟩
            by_cases e : p / 2 = q / 2
            · rw [e, pk_us]; exact n10
            · rw [pk_un e, pk_us]; exact n10
          · exact ⟨q / 2, by omega, by rw [pk_us]; exact n10, z⟩
        · exact ⟨x, by omega, upd_ne x y, z⟩
      · rintro ⟨x, hx, y, z⟩
        by_cases eq2 : x = q / 2
        · subst eq2
          exact ⟨1 + L + I + g, by omega, h, by rw [e3, b_or, z, Bool.or_true]⟩
        · by_cases ep2 : x = p / 2
          · subst ep2
            exact ⟨1 + L + I + g, by omega, h, by rw [e3, b_or, z, Bool.true_or]⟩
          · rw [pk_un eq2, pk_un ep2] at y
            exact ⟨x, by omega, y, z⟩
  · intro i h
    rw [hi i h]
    have e : N = 1 + L + I + B := by omega
    rw [← e]
theorem ya_support {post : Int32 → SY → Prop} {m : Nat} {p0 : Int32} (hC : ic_C L I S W N B G xa tr su kd oa ob) (hp : p0 = nI m) (hm : m < 2 * N) (K : ∀ mk', post (su (m / 2)) ((nI L), (nI I), yg, (nI S), (nI W), (nI B), xb, yd, yv, yt, yo, yh, kd, oa, ob, ik, nl, us, uw, ra, qa, vl, mk', fr, cu, nt)) : wpY_support post ((nI L), (nI I), yg, (nI S), (nI W), (nI B), xb, yd, yv, yt, yo, yh, kd, oa, ob, ik, nl, us, uw, ra, qa, vl, mk, fr, cu, nt) p0 := by
  subst hp
  have hd := hC.1
  unfold ic_D at hd
  unfold wpY_support
  refine ya_valid1 hC rfl hm (br_f (by decide) ?_)
  have n10 : ¬ (1 : Int32) = 0 := by decide
  have eh : nI m >>> ((1 : Int32) &&& 31) = nI (m / 2) := ic_half (by omega)
  refine loop_0 (fun n x (a : Nat → Int32) => wY_support_12 post (nI m) (nI L) (nI I) yg (nI S) (nI W) (nI B) xb yd yv yt yo yh n (nI x) kd oa ob ik nl us uw ra qa vl a fr cu nt) (fun x a => ∀ y, y < x → (a y ≠ 0 ↔ y = m / 2)) 24 mk ic_all0 ?_ ?_
  · intro n a ha
    refine br_t (nI_le (b := 24) (Nat.le_refl _) (by omega)) (nm_e ?_)
    refine ya_sup49 hC (fun i hi => ?_) K
    constructor
    · intro h
      exact ⟨m / 2, by omega, (ha _ (by omega)).mpr rfl, h⟩
    · rintro ⟨x, hx, y, z⟩
      rw [← (ha x (by omega)).mp y]
      exact z
  · intro n x a hx ha ih
    have ec : (nI x).toNatClampNeg = x := nI_clamp (by omega)
    refine br_f (nI_ge (b := 24) hx (by omega)) ?_
    rw [eh]
    refine br_c (fun h => ⟨vp_in_nI hx (by omega), nm_r (e' := upd a x 1) (by rw [ec, ic_nar1]) (nm_r (nI_1 x) (ih _ (ic_all.mpr ⟨fun y hy => ?_, ?_⟩)))⟩) (fun h => ⟨vp_in_nI hx (by omega), nm_r (e' := upd a x 0) (by rw [ec, ic_nar0]) (nm_r (nI_1 x) (ih _ (ic_all.mpr ⟨fun y hy => ?_, ?_⟩)))⟩)
    · rw [pk_un (by omega)]; exact ha y hy
    · rw [pk_us]
      exact ⟨fun _ => (nI_eq (by omega) (by omega)).mp h, fun _ => n10⟩
    · rw [pk_un (by omega)]; exact ha y hy
    · rw [pk_us]
      exact ⟨fun z => absurd rfl z, fun z => absurd (congrArg nI z) h⟩
theorem ya_supLi {post : Int32 → SY → Prop} {p0 μ : Int32} {f : Nat → Nat → Bool} (hC : ic_C L I S W N B G xa tr su kd oa ob) (hl : ic_li S W N tr su p0 f μ) (K : ∀ mk', post μ ((nI L), (nI I), yg, (nI S), (nI W), (nI B), xb, yd, yv, yt, yo, yh, kd, oa, ob, ik, nl, us, uw, ra, qa, vl, mk', fr, cu, nt)) : wpY_support post ((nI L), (nI I), yg, (nI S), (nI W), (nI B), xb, yd, yv, yt, yo, yh, kd, oa, ob, ik, nl, us, uw, ra, qa, vl, mk, fr, cu, nt) p0 := by
  obtain ⟨m, hm, e, hsu, _⟩ := hl
  refine ya_support hC e hm ?_
  rw [hsu]
  exact K
theorem ya_sh34 {post : Int32 → SY → Prop} {J : Int32 → Int32 → Int32 → Int32 → Int32 → Int32 → Int32 → Int32 → Int32 → Int32 → Int32 → Int32 → Int32 → Int32 → (Nat → Int32) → (Nat → Int32) → (Nat → Int32) → (Nat → Int32) → (Nat → Int32) → (Nat → Int32) → (Nat → Int32) → (Nat → Int32) → (Nat → Int32) → (Nat → Int32) → (Nat → Int32) → (Nat → Int32) → (Nat → Int32) → (Nat → Int32) → Prop} {x1 c : Int32} {i : Nat} (hC : ic_C L I S W N B G xa tr su kd oa ob) (hP : ic_P L S W N tr su nl xb nb ms bd mb) (K : ∀ mk', J (ic_wd ms c L) (nI (i + 1)) (nI L) (nI I) yg (nI S) (nI W) (nI B) xb yd yv yt yo yh kd oa ob ik nl us uw ra qa vl mk' fr cu nt) : ∃ n, wY_shared_34 post J x1 c (nI i) n c 0 (nI L) (nI I) yg (nI S) (nI W) (nI B) xb yd yv yt yo yh kd oa ob ik nl us uw ra qa vl mk fr cu nt := by
  have hd := hC.1
  unfold ic_D at hd
  refine loop_0 (fun n j (p : Int32 × (Nat → Int32)) => wY_shared_34 post J x1 c (nI i) n p.1 (nI j) (nI L) (nI I) yg (nI S) (nI W) (nI B) xb yd yv yt yo yh kd oa ob ik nl us uw ra qa vl (p.2) fr cu nt) (fun j p => p.1 = ic_wd ms c j) L (c, mk) rfl ?_ ?_
  · rintro n ⟨a, k⟩ ha
    dsimp only at ha
    subst ha
    exact br_t (nI_le (Nat.le_refl _) (by omega)) (nm_r (nI_1 i) (K k))
  · rintro n j ⟨a, k⟩ hj ha ih
    dsimp only at ha
    subst ha
    refine br_f (nI_ge hj (by omega)) (br_c (fun h => ⟨vp_in_nI (by omega) (by omega), ?_⟩) (fun h => nm_r (nI_1 j) (ih (ic_wd ms c j, k) ?_)))
    · refine ya_supLi hC (f := nb j) (μ := ms j) (by rw [nI_clamp (by omega)]; exact hP.1 j hj) fun mk' => nm_e (nm_r (nI_1 j) (ih (ic_wd ms c j ||| ms j, mk') ?_))
      rw [ic_sr _ (by omega), ic_b1] at h
      exact (if_pos h).symm
    · rw [ic_sr _ (by omega), ic_b1] at h
      exact (if_neg h).symm
theorem ya_shared {post : Int32 → SY → Prop} {k : Nat} {p0 : Int32} (hC : ic_C L I S W N B G xa tr su kd oa ob) (hP : ic_P L S W N tr su nl xb nb ms bd mb) (hp : p0 = nI k) (hk : k < 32) (K : ∀ mk', post (ic_SH L ms mb k) ((nI L), (nI I), yg, (nI S), (nI W), (nI B), xb, yd, yv, yt, yo, yh, kd, oa, ob, ik, nl, us, uw, ra, qa, vl, mk', fr, cu, nt)) : wpY_shared post ((nI L), (nI I), yg, (nI S), (nI W), (nI B), xb, yd, yv, yt, yo, yh, kd, oa, ob, ik, nl, us, uw, ra, qa, vl, mk, fr, cu, nt) p0 := by
  subst hp
  have hd := hC.1
  unfold ic_D at hd
  unfold wpY_shared
  refine br_f (nI_pos (by omega)) (br_t (nI_le (b := 31) (by omega) (by omega)) ?_)
  refine ya_supLi hC hP.2 fun mk' => ?_
  refine loop_0 (fun n i (p : Int32 × (Nat → Int32)) => wY_shared_23 post (nI k) n p.1 (nI i) (nI L) (nI I) yg (nI S) (nI W) (nI B) xb yd yv yt yo yh kd oa ob ik nl us uw ra qa vl (p.2) fr cu nt) (fun i p => p.1 = ic_SH L ms mb i) k (mb, mk') rfl ?_ ?_
  · rintro n ⟨a, q⟩ ha
    dsimp only at ha
    subst ha
    exact br_t (nI_le (Nat.le_refl _) (by omega)) (K q)
  · rintro n i ⟨a, q⟩ hi ha ih
    dsimp only at ha
    subst ha
    exact br_f (nI_ge hi (by omega)) (ya_sh34 hC hP fun mk2 => ih (ic_wd ms (ic_SH L ms mb i) L, mk2) rfl)
end
end
section
/-! the reference: isInitial, fromInitial, push, failsAfter, failsWithin, stateFailsAfter, covered -/
theorem ic_ar0 {a : Nat → Int32} {P : Nat → Prop} : ic_ar a 0 P := fun _ h => absurd h (Nat.not_lt_zero _)
theorem ic_ars {a : Nat → Int32} {P : Nat → Prop} {i : Nat} {v : Int32} (h : ic_ar a i P) (hv : (P i ∧ v = 1) ∨ (¬ P i ∧ v = 0)) : ic_ar (upd a i v) (i + 1) P := by
  intro s hs
  by_cases e : s = i
  · subst e; rw [pk_us]; exact hv
  · rw [pk_un e]; exact h s (by omega)
theorem ic_cp {P : Prop} {x : Int32} (h : (P ∧ x = 1) ∨ (¬ P ∧ x = 0)) : (P ∧ vp_nar .boolean x = 1) ∨ (¬ P ∧ vp_nar .boolean x = 0) := by
  rcases h with ⟨p, rfl⟩ | ⟨p, rfl⟩
  · exact Or.inl ⟨p, rfl⟩
  · exact Or.inr ⟨p, rfl⟩
theorem ic_put {a : Nat → Int32} {P Q : Nat → Prop} {S t : Nat} (h : ic_ar a S P) (e : ∀ u, u < S → (Q u ↔ P u ∨ u = t)) : ic_ar (upd a t 1) S Q := by
  intro s hs
  rw [e s hs]
  by_cases z : s = t
  · subst z; rw [pk_us]; exact Or.inl ⟨Or.inr rfl, rfl⟩
  · rw [pk_un z]
    exact (h s hs).imp (fun y => ⟨Or.inl y.1, y.2⟩) (fun y => ⟨fun x => x.elim y.1 z, y.2⟩)
section
variable {L I S W N B G : Nat} {nb : Nat → Nat → Nat → Bool} {ms : Nat → Int32} {bd : Nat → Nat → Bool} {mb : Int32} {yg xb yd yv yt yo yh : Int32} {kd oa ob ik nl us uw ra qa vl mk fr cu nt : Nat → Int32} {xa : Int32} {tr su : Nat → Int32} {F : Nat → Prop}
theorem ya_isInitial {post : Int32 → Prop} {s : Nat} {p0 : Int32} (hC : ic_C L I S W N B G xa tr su kd oa ob) (hp : p0 = nI s) (K1 : ic_In ik L s → post 1) (K0 : ¬ ic_In ik L s → post 0) : wpY_isInitial post ((nI L), (nI I), yg, (nI S), (nI W), (nI B), xb, yd, yv, yt, yo, yh, kd, oa, ob, ik, nl, us, uw, ra, qa, vl, mk, fr, cu, nt) p0 := by
  subst hp
  have hd := hC.1
  unfold ic_D at hd
  refine loop_0 (fun n i (_ : Unit) => wY_isInitial_2 post (nI s) (nI L) (nI I) yg (nI S) (nI W) (nI B) xb yd yv yt yo yh kd oa ob ik nl us uw ra qa vl mk fr cu nt n (nI i)) (fun i _ => ∀ j, j < i → ik j = 2 ∨ ik j = ic_b (s.testBit j)) L () ic_all0 ?_ ?_
  · intro n _ h
    exact br_t (nI_le (Nat.le_refl _) (by omega)) (K1 h)
  · intro n i _ hi h ih
    refine br_f (nI_ge hi (by omega)) ⟨vp_in_nI (by omega) (by omega), ?_⟩
    rw [nI_clamp (by omega), ic_sr _ (by omega), ic_nb (by omega)]
    exact br_c (fun z => nm_r (nI_1 i) (ih () (ic_all.mpr ⟨h, Or.inl z⟩))) (fun z => ⟨vp_in_nI (by omega) (by omega), br_c (fun y => nm_r (nI_1 i) (ih () (ic_all.mpr ⟨h, Or.inr y⟩))) (fun y => K0 fun x => (x i hi).elim z y)⟩)
theorem ya_fromInitial {post : SY → Prop} (hC : ic_C L I S W N B G xa tr su kd oa ob) (K : ∀ fr', ic_ar fr' S (ic_In ik L) → post ((nI L), (nI I), yg, (nI S), (nI W), (nI B), xb, yd, yv, yt, yo, yh, kd, oa, ob, ik, nl, us, uw, ra, qa, vl, mk, fr', cu, nt)) : wpY_fromInitial post ((nI L), (nI I), yg, (nI S), (nI W), (nI B), xb, yd, yv, yt, yo, yh, kd, oa, ob, ik, nl, us, uw, ra, qa, vl, mk, fr, cu, nt) := by
  have hd := hC.1
  unfold ic_D at hd
  refine loop_0 (fun n i (a : Nat → Int32) => wY_fromInitial_2 post (nI L) (nI I) yg (nI S) (nI W) (nI B) xb yd yv yt yo yh n (nI i) kd oa ob ik nl us uw ra qa vl mk a cu nt) (fun i a => ic_ar a i (ic_In ik L)) S fr ic_ar0 ?_ ?_
  · intro n a ha
    exact br_t (nI_le (Nat.le_refl _) (by omega)) (K a ha)
  · intro n i a hi ha ih
    refine br_f (nI_ge hi (by omega)) (ya_isInitial hC rfl (fun h => ⟨vp_in_nI (by omega) (by omega), nm_r (e' := upd a i 1) (by rw [nI_clamp (by omega), ic_nar1]) (nm_r (nI_1 i) (ih _ (ic_ars ha (Or.inl ⟨h, rfl⟩))))⟩) (fun h => ⟨vp_in_nI (by omega) (by omega), nm_r (e' := upd a i 0) (by rw [nI_clamp (by omega), ic_nar0]) (nm_r (nI_1 i) (ih _ (ic_ars ha (Or.inr ⟨h, rfl⟩))))⟩))
theorem ya_push80 {post : SY → Prop} (hC : ic_C L I S W N B G xa tr su kd oa ob) (hn : ic_ar nt S F) (K : ∀ cu', ic_ar cu' S F → post ((nI L), (nI I), yg, (nI S), (nI W), (nI B), xb, yd, yv, yt, yo, yh, kd, oa, ob, ik, nl, us, uw, ra, qa, vl, mk, fr, cu', nt)) : ∃ n, wY_push_80 post (nI L) (nI I) yg (nI S) (nI W) (nI B) xb yd yv yt yo yh n 0 kd oa ob ik nl us uw ra qa vl mk fr cu nt := by
  have hd := hC.1
  unfold ic_D at hd
  refine loop_0 (fun n i (a : Nat → Int32) => wY_push_80 post (nI L) (nI I) yg (nI S) (nI W) (nI B) xb yd yv yt yo yh n (nI i) kd oa ob ik nl us uw ra qa vl mk fr a nt) (fun i a => ic_ar a i F) S cu ic_ar0 ?_ ?_
  · intro n a ha
    exact br_t (nI_le (Nat.le_refl _) (by omega)) (K a ha)
  · intro n i a hi ha ih
    exact br_f (nI_ge hi (by omega)) ⟨vp_in_nI (by omega) (by omega), vp_in_nI (by omega) (by omega), nm_r (e' := upd a i (vp_nar .boolean (nt i))) (by rw [nI_clamp (by omega)]) (nm_r (nI_1 i) (ih _ (ic_ars ha (ic_cp (hn i hi)))))⟩
theorem ya_push35 {post : SY → Prop} {J : Int32 → Int32 → Int32 → Int32 → Int32 → Int32 → Int32 → Int32 → Int32 → Int32 → Int32 → Int32 → Int32 → (Nat → Int32) → (Nat → Int32) → (Nat → Int32) → (Nat → Int32) → (Nat → Int32) → (Nat → Int32) → (Nat → Int32) → (Nat → Int32) → (Nat → Int32) → (Nat → Int32) → (Nat → Int32) → (Nat → Int32) → (Nat → Int32) → (Nat → Int32) → Prop} {i : Nat} {H : Nat → Prop} (hC : ic_C L I S W N B G xa tr su kd oa ob) (hP : ic_P L S W N tr su nl xb nb ms bd mb) (hc : ic_ar cu S F) (hn : ic_ar nt S H) (hi : i < S) (K : ∀ vl' nt', ic_ar nt' S (fun t => H t ∨ (F i ∧ ic_St L W nb i t)) → J (nI (i + 1)) (nI L) (nI I) yg (nI S) (nI W) (nI B) xb yd yv yt yo yh kd oa ob ik nl us uw ra qa vl' mk fr cu nt') : ∃ n, wY_push_35 post J (nI i) n 0 (nI L) (nI I) yg (nI S) (nI W) (nI B) xb yd yv yt yo yh kd oa ob ik nl us uw ra qa vl mk fr cu nt := by
  have hd := hC.1
  unfold ic_D at hd
  have ec : (nI i).toNatClampNeg = i := nI_clamp (by omega)
  rcases hc i hi with ⟨hF, e⟩ | ⟨hF, e⟩
  · refine loop_0 (fun n w (p : (Nat → Int32) × (Nat → Int32)) => wY_push_35 post J (nI i) n (nI w) (nI L) (nI I) yg (nI S) (nI W) (nI B) xb yd yv yt yo yh kd oa ob ik nl us uw ra qa (p.1) mk fr cu (p.2)) (fun w p => ic_ar p.2 S (fun t => H t ∨ ∃ v, v < w ∧ ic_nx L nb i v = t)) W (vl, nt) ?_ ?_ ?_
    · exact ic_ar_congr hn fun t ht => ⟨Or.inl, fun h => h.resolve_right ic_any0⟩
    · rintro n ⟨v, a⟩ ha
      exact br_t (nI_le (Nat.le_refl _) (by omega)) (nm_r (nI_1 i) (K v a (ic_ar_congr ha fun t ht => or_congr_right ⟨fun z => ⟨hF, z⟩, fun z => z.2⟩)))
    · rintro n w ⟨v, a⟩ hw ha ih
      have hx : ic_nx L nb i w < 2 ^ L := ic_nx_lt
      refine br_f (nI_ge hw (by omega)) ⟨vp_in_nI (by omega) (by omega), br_f (by rw [ec, e]; decide) ?_⟩
      refine ya_step hC hP rfl rfl hi hw fun v' => ⟨vp_in_nI (by omega) (by omega), nm_r (e' := upd a (ic_nx L nb i w) 1) (by rw [nI_clamp (by omega), ic_nar1]) (nm_r (nI_1 w) (ih (v', upd a (ic_nx L nb i w) 1) (ic_put ha fun t ht => ?_)))⟩
      rw [ic_any, or_assoc, eq_comm (a := t)]
  · refine ⟨1, br_f (nI_ge (a := 0) (by omega) (by omega)) ⟨vp_in_nI (by omega) (by omega), br_t (by rw [ec, e]) (nm_r (nI_1 i) (K vl nt (ic_ar_congr hn fun t ht => ⟨Or.inl, fun h => h.resolve_right fun z => hF z.1⟩)))⟩⟩
theorem ya_push {post : SY → Prop} (hC : ic_C L I S W N B G xa tr su kd oa ob) (hP : ic_P L S W N tr su nl xb nb ms bd mb) (hc : ic_ar cu S F) (K : ∀ vl' cu' nt', ic_ar cu' S (fun t => ∃ s, s < S ∧ F s ∧ ic_St L W nb s t) → post ((nI L), (nI I), yg, (nI S), (nI W), (nI B), xb, yd, yv, yt, yo, yh, kd, oa, ob, ik, nl, us, uw, ra, qa, vl', mk, fr, cu', nt')) : wpY_push post ((nI L), (nI I), yg, (nI S), (nI W), (nI B), xb, yd, yv, yt, yo, yh, kd, oa, ob, ik, nl, us, uw, ra, qa, vl, mk, fr, cu, nt) := by
  have hd := hC.1
  unfold ic_D at hd
  refine loop_0 (fun n i (a : Nat → Int32) => wY_push_2 post (nI L) (nI I) yg (nI S) (nI W) (nI B) xb yd yv yt yo yh n (nI i) kd oa ob ik nl us uw ra qa vl mk fr cu a) (fun i a => ic_ar a i (fun _ => False)) S nt ic_ar0 ?_ ?_
  · intro n a ha
    refine br_t (nI_le (Nat.le_refl _) (by omega)) ?_
    refine loop_0 (fun n i (p : (Nat → Int32) × (Nat → Int32)) => wY_push_25 post n (nI i) (nI L) (nI I) yg (nI S) (nI W) (nI B) xb yd yv yt yo yh kd oa ob ik nl us uw ra qa (p.1) mk fr cu (p.2)) (fun i p => ic_ar p.2 S (fun t => ∃ s, s < i ∧ F s ∧ ic_St L W nb s t)) S (vl, a) ?_ ?_ ?_
    · exact ic_ar_congr ha fun t ht => ⟨False.elim, fun h => ic_any0 h⟩
    · rintro n ⟨v, b⟩ hb
      exact br_t (nI_le (Nat.le_refl _) (by omega)) (ya_push80 hC hb fun cu' hc' => K _ _ _ hc')
    · rintro n i ⟨v, b⟩ hi hb ih
      refine br_f (nI_ge hi (by omega)) (ya_push35 hC hP hc hb hi fun v' b' hb' => ih (_, _) (ic_ar_congr hb' fun t ht => ?_))
      rw [ic_any]
  · intro n i a hi ha ih
    exact br_f (nI_ge hi (by omega)) ⟨vp_in_nI (by omega) (by omega), nm_r (e' := upd a i 0) (by rw [nI_clamp (by omega), ic_nar0]) (nm_r (nI_1 i) (ih _ (ic_ars ha (Or.inr ⟨id, rfl⟩))))⟩
theorem ya_fA57 {post : Int32 → SY → Prop} {J : Int32 → Int32 → Int32 → Int32 → Int32 → Int32 → Int32 → Int32 → Int32 → Int32 → Int32 → Int32 → Int32 → (Nat → Int32) → (Nat → Int32) → (Nat → Int32) → (Nat → Int32) → (Nat → Int32) → (Nat → Int32) → (Nat → Int32) → (Nat → Int32) → (Nat → Int32) → (Nat → Int32) → (Nat → Int32) → (Nat → Int32) → (Nat → Int32) → (Nat → Int32) → Prop} {i : Nat} (hC : ic_C L I S W N B G xa tr su kd oa ob) (hP : ic_P L S W N tr su nl xb nb ms bd mb) (hc : ic_ar cu S F) (hi : i < S) (Kt : F i ∧ ic_Bd W bd i → ∀ vl', post 1 ((nI L), (nI I), yg, (nI S), (nI W), (nI B), xb, yd, yv, yt, yo, yh, kd, oa, ob, ik, nl, us, uw, ra, qa, vl', mk, fr, cu, nt)) (Kn : ¬ (F i ∧ ic_Bd W bd i) → ∀ vl', J (nI (i + 1)) (nI L) (nI I) yg (nI S) (nI W) (nI B) xb yd yv yt yo yh kd oa ob ik nl us uw ra qa vl' mk fr cu nt) : ∃ n, wY_failsAfter_57 post J (nI i) n 0 (nI L) (nI I) yg (nI S) (nI W) (nI B) xb yd yv yt yo yh kd oa ob ik nl us uw ra qa vl mk fr cu nt := by
  have hd := hC.1
  unfold ic_D at hd
  have ec : (nI i).toNatClampNeg = i := nI_clamp (by omega)
  refine loop_0 (fun n w (v : Nat → Int32) => wY_failsAfter_57 post J (nI i) n (nI w) (nI L) (nI I) yg (nI S) (nI W) (nI B) xb yd yv yt yo yh kd oa ob ik nl us uw ra qa v mk fr cu nt) (fun w _ => ¬ (F i ∧ ∃ u, u < w ∧ bd i u = true)) W vl (fun h => ic_any0 h.2) ?_ ?_
  · intro n v hv
    exact br_t (nI_le (Nat.le_refl _) (by omega)) (nm_r (nI_1 i) (Kn hv v))
  · intro n w v hw hv ih
    refine br_f (nI_ge hw (by omega)) ⟨vp_in_nI (by omega) (by omega), ?_⟩
    rw [ec]
    rcases hc i hi with ⟨hF, e⟩ | ⟨hF, e⟩
    · refine br_f (by rw [e]; decide) (ya_isBad hC hP rfl rfl hi hw fun v' => br_c (fun h => Kt ⟨hF, w, hw, ic_b1.mp h⟩ v') (fun h => nm_r (nI_1 w) (ih _ fun z => ?_)))
      rw [ic_b1] at h
      rw [ic_any] at z
      exact z.2.elim (fun y => hv ⟨hF, y⟩) h
    · exact br_t e (nm_r (nI_1 w) (ih _ fun z => hF z.1))
theorem ya_fA47 {post : Int32 → SY → Prop} (hC : ic_C L I S W N B G xa tr su kd oa ob) (hP : ic_P L S W N tr su nl xb nb ms bd mb) (hc : ic_ar cu S F) (K1 : (∃ s, s < S ∧ F s ∧ ic_Bd W bd s) → ∀ vl', post 1 ((nI L), (nI I), yg, (nI S), (nI W), (nI B), xb, yd, yv, yt, yo, yh, kd, oa, ob, ik, nl, us, uw, ra, qa, vl', mk, fr, cu, nt)) (K0 : ¬ (∃ s, s < S ∧ F s ∧ ic_Bd W bd s) → ∀ vl', post 0 ((nI L), (nI I), yg, (nI S), (nI W), (nI B), xb, yd, yv, yt, yo, yh, kd, oa, ob, ik, nl, us, uw, ra, qa, vl', mk, fr, cu, nt)) : ∃ n, wY_failsAfter_47 post n 0 (nI L) (nI I) yg (nI S) (nI W) (nI B) xb yd yv yt yo yh kd oa ob ik nl us uw ra qa vl mk fr cu nt := by
  have hd := hC.1
  unfold ic_D at hd
  refine loop_0 (fun n i (v : Nat → Int32) => wY_failsAfter_47 post n (nI i) (nI L) (nI I) yg (nI S) (nI W) (nI B) xb yd yv yt yo yh kd oa ob ik nl us uw ra qa v mk fr cu nt) (fun i _ => ¬ ∃ s, s < i ∧ F s ∧ ic_Bd W bd s) S vl ic_any0 ?_ ?_
  · intro n v hv
    exact br_t (nI_le (Nat.le_refl _) (by omega)) (K0 hv v)
  · intro n i v hi hv ih
    refine br_f (nI_ge hi (by omega)) (ya_fA57 hC hP hc hi (fun h v' => K1 ⟨i, hi, h⟩ v') (fun h v' => ih _ fun z => ?_))
    rw [ic_any] at z
    exact z.elim hv h
theorem ya_failsAfter {post : Int32 → SY → Prop} {k : Nat} {p0 : Int32} (hC : ic_C L I S W N B G xa tr su kd oa ob) (hP : ic_P L S W N tr su nl xb nb ms bd mb) (hp : p0 = nI k) (hk : k < 32) (hf : ic_ar fr S F) (K1 : (∃ s, s < S ∧ F s ∧ ic_FA (ic_St L W nb) (ic_Bd W bd) k s) → ∀ vl' cu' nt', post 1 ((nI L), (nI I), yg, (nI S), (nI W), (nI B), xb, yd, yv, yt, yo, yh, kd, oa, ob, ik, nl, us, uw, ra, qa, vl', mk, fr, cu', nt')) (K0 : ¬ (∃ s, s < S ∧ F s ∧ ic_FA (ic_St L W nb) (ic_Bd W bd) k s) → ∀ vl' cu' nt', post 0 ((nI L), (nI I), yg, (nI S), (nI W), (nI B), xb, yd, yv, yt, yo, yh, kd, oa, ob, ik, nl, us, uw, ra, qa, vl', mk, fr, cu', nt')) : wpY_failsAfter post ((nI L), (nI I), yg, (nI S), (nI W), (nI B), xb, yd, yv, yt, yo, yh, kd, oa, ob, ik, nl, us, uw, ra, qa, vl, mk, fr, cu, nt) p0 := by
  subst hp
  have hd := hC.1
  unfold ic_D at hd
  have hSt := ic_StS (L := L) (S := S) (W := W) (nb := nb) (by omega)
  refine loop_0 (fun n i (a : Nat → Int32) => wY_failsAfter_2 post (nI k) (nI L) (nI I) yg (nI S) (nI W) (nI B) xb yd yv yt yo yh n (nI i) kd oa ob ik nl us uw ra qa vl mk fr a nt) (fun i a => ic_ar a i F) S cu ic_ar0 ?_ ?_
  · intro n a ha
    refine br_t (nI_le (Nat.le_refl _) (by omega)) ?_
    refine loop_0 (fun n i (p : (Nat → Int32) × (Nat → Int32) × (Nat → Int32)) => wY_failsAfter_30 post (nI k) n (nI i) (nI L) (nI I) yg (nI S) (nI W) (nI B) xb yd yv yt yo yh kd oa ob ik nl us uw ra qa (p.1) mk fr (p.2.1) (p.2.2)) (fun i p => ic_ar p.2.1 S (ic_PN S (ic_St L W nb) F i)) k (vl, a, nt) ha ?_ ?_
    · rintro n ⟨v, b, c⟩ hb
      have e := ic_PN_FA (F := F) (Bd := ic_Bd W bd) hSt k 0
      exact br_t (nI_le (Nat.le_refl _) (by omega)) (ya_fA47 hC hP hb (fun h v' => K1 (e.mp h) _ _ _) (fun h v' => K0 (fun z => h (e.mpr z)) _ _ _))
    · rintro n i ⟨v, b, c⟩ hi hb ih
      exact br_f (nI_ge hi (by omega)) (ya_push hC hP hb fun v' b' c' hb' => nm_r (nI_1 i) (ih (_, _, _) hb'))
  · intro n i a hi ha ih
    exact br_f (nI_ge hi (by omega)) ⟨vp_in_nI (by omega) (by omega), vp_in_nI (by omega) (by omega), nm_r (e' := upd a i (vp_nar .boolean (fr i))) (by rw [nI_clamp (by omega)]) (nm_r (nI_1 i) (ih _ (ic_ars ha (ic_cp (hf i hi)))))⟩
theorem ya_failsWithin {post : Int32 → SY → Prop} {k : Nat} {p0 : Int32} (hC : ic_C L I S W N B G xa tr su kd oa ob) (hP : ic_P L S W N tr su nl xb nb ms bd mb) (hp : p0 = nI k) (hk : k < 32) (hf : ic_ar fr S F) (K1 : (∃ s, s < S ∧ F s ∧ ic_FW (ic_St L W nb) (ic_Bd W bd) k s) → ∀ vl' cu' nt', post 1 ((nI L), (nI I), yg, (nI S), (nI W), (nI B), xb, yd, yv, yt, yo, yh, kd, oa, ob, ik, nl, us, uw, ra, qa, vl', mk, fr, cu', nt')) (K0 : ¬ (∃ s, s < S ∧ F s ∧ ic_FW (ic_St L W nb) (ic_Bd W bd) k s) → ∀ vl' cu' nt', post 0 ((nI L), (nI I), yg, (nI S), (nI W), (nI B), xb, yd, yv, yt, yo, yh, kd, oa, ob, ik, nl, us, uw, ra, qa, vl', mk, fr, cu', nt')) : wpY_failsWithin post ((nI L), (nI I), yg, (nI S), (nI W), (nI B), xb, yd, yv, yt, yo, yh, kd, oa, ob, ik, nl, us, uw, ra, qa, vl, mk, fr, cu, nt) p0 := by
  subst hp
  have hd := hC.1
  unfold ic_D at hd
  refine loop_0 (fun n i (p : (Nat → Int32) × (Nat → Int32) × (Nat → Int32)) => wY_failsWithin_2 post (nI k) n (nI i) (nI L) (nI I) yg (nI S) (nI W) (nI B) xb yd yv yt yo yh kd oa ob ik nl us uw ra qa (p.1) mk fr (p.2.1) (p.2.2)) (fun i _ => ∀ m, m < i → ¬ ∃ s, s < S ∧ F s ∧ ic_FA (ic_St L W nb) (ic_Bd W bd) m s) (k + 1) (vl, cu, nt) ic_all0 ?_ ?_
  · rintro n ⟨v, b, c⟩ hb
    refine br_t (nI_lt (by omega) (by omega)) (K0 ?_ _ _ _)
    rintro ⟨s, hs, hF, h⟩
    obtain ⟨m, hm, h⟩ := ic_FW_iff.mp h
    exact hb m (by omega) ⟨s, hs, hF, h⟩
  · rintro n i ⟨v, b, c⟩ hi hb ih
    refine br_f (nI_nlt (by omega) (by omega)) (ya_failsAfter hC hP rfl (by omega) hf (fun h v' b' c' => br_f (by decide) (K1 ?_ _ _ _)) (fun h v' b' c' => br_t rfl (nm_r (nI_1 i) (ih (_, _, _) (ic_all.mpr ⟨hb, h⟩)))))
    obtain ⟨s, hs, hF, h⟩ := h
    exact ⟨s, hs, hF, ic_FW_iff.mpr ⟨i, by omega, h⟩⟩
theorem ya_stateFails {post : Int32 → SY → Prop} {s k : Nat} {p0 p1 : Int32} (hC : ic_C L I S W N B G xa tr su kd oa ob) (hP : ic_P L S W N tr su nl xb nb ms bd mb) (hp : p0 = nI s) (hq : p1 = nI k) (hs : s < S) (hk : k < 32) (K1 : ic_FA (ic_St L W nb) (ic_Bd W bd) k s → ∀ vl' fr' cu' nt', post 1 ((nI L), (nI I), yg, (nI S), (nI W), (nI B), xb, yd, yv, yt, yo, yh, kd, oa, ob, ik, nl, us, uw, ra, qa, vl', mk, fr', cu', nt')) (K0 : ¬ ic_FA (ic_St L W nb) (ic_Bd W bd) k s → ∀ vl' fr' cu' nt', post 0 ((nI L), (nI I), yg, (nI S), (nI W), (nI B), xb, yd, yv, yt, yo, yh, kd, oa, ob, ik, nl, us, uw, ra, qa, vl', mk, fr', cu', nt')) : wpY_stateFailsAfter post ((nI L), (nI I), yg, (nI S), (nI W), (nI B), xb, yd, yv, yt, yo, yh, kd, oa, ob, ik, nl, us, uw, ra, qa, vl, mk, fr, cu, nt) p0 p1 := by
  subst hp hq
  have hd := hC.1
  unfold ic_D at hd
  refine loop_0 (fun n i (a : Nat → Int32) => wY_stateFailsAfter_2 post (nI s) (nI k) (nI L) (nI I) yg (nI S) (nI W) (nI B) xb yd yv yt yo yh n (nI i) kd oa ob ik nl us uw ra qa vl mk a cu nt) (fun i a => ic_ar a i (fun p => p = s)) S fr ic_ar0 ?_ ?_
  · intro n a ha
    refine br_t (nI_le (Nat.le_refl _) (by omega)) (ya_failsAfter hC hP rfl hk ha (fun h v' b' c' => ⟨rfl, K1 ?_ _ _ _ _⟩) (fun h v' b' c' => ⟨rfl, K0 (fun z => h ⟨s, hs, rfl, z⟩) _ _ _ _⟩))
    obtain ⟨p, _, rfl, h⟩ := h
    exact h
  · intro n i a hi ha ih
    refine br_f (nI_ge hi (by omega)) (br_c (fun h => ⟨vp_in_nI (by omega) (by omega), nm_r (e' := upd a i 1) (by rw [nI_clamp (by omega), ic_nar1]) (nm_r (nI_1 i) (ih _ (ic_ars ha (Or.inl ⟨?_, rfl⟩))))⟩) (fun h => ⟨vp_in_nI (by omega) (by omega), nm_r (e' := upd a i 0) (by rw [nI_clamp (by omega), ic_nar0]) (nm_r (nI_1 i) (ih _ (ic_ars ha (Or.inr ⟨?_, rfl⟩))))⟩))
    · exact (nI_eq (by omega) (by omega)).mp h
    · exact fun z => h (congrArg nI z)
theorem ic_agree {s p : Nat} {m : Int32} (hS : S = 2 ^ L) (hL : L ≤ 5) (hs : s < S) (hp : p < S) : ((nI s ^^^ nI p) &&& m) = 0 ↔ ∀ j, j < L → bt m j = true → s.testBit j = p.testBit j := by
  rw [ic_z]
  have hb : ∀ j, j < 32 → bt ((nI s ^^^ nI p) &&& m) j = ((s.testBit j ^^ p.testBit j) && bt m j) := fun j hj => by rw [b_and, b_xor, ic_nb hj, ic_nb hj]
  constructor
  · intro h j hj hm
    have z := h j (by omega)
    rw [hb j (by omega), hm, Bool.and_true] at z
    revert z
    cases s.testBit j <;> cases p.testBit j <;> simp
  · intro h j hj
    rw [hb j hj]
    by_cases hjL : j < L
    · cases hm : bt m j with
      | false => rw [Bool.and_false]
      | true => rw [h j hjL hm, Bool.xor_self, Bool.false_and]
    · have hl : 2 ^ L ≤ 2 ^ j := Nat.pow_le_pow_right (by decide) (by omega)
      rw [Nat.testBit_lt_two_pow (by omega), Nat.testBit_lt_two_pow (by omega)]
      rfl
theorem ya_covered {post : Int32 → Prop} {s : Nat} {p0 m : Int32} (hC : ic_C L I S W N B G xa tr su kd oa ob) (hp : p0 = nI s) (hs : s < S) (hf : ic_ar fr S F) (K1 : ic_Cv L S F m s → post 1) (K0 : ¬ ic_Cv L S F m s → post 0) : wpY_covered post ((nI L), (nI I), yg, (nI S), (nI W), (nI B), xb, yd, yv, yt, yo, yh, kd, oa, ob, ik, nl, us, uw, ra, qa, vl, mk, fr, cu, nt) p0 m := by
  subst hp
  have hd := hC.1
  unfold ic_D at hd
  refine loop_0 (fun n i (_ : Unit) => wY_covered_2 post (nI s) m (nI L) (nI I) yg (nI S) (nI W) (nI B) xb yd yv yt yo yh kd oa ob ik nl us uw ra qa vl mk fr cu nt n (nI i)) (fun i _ => ¬ ∃ p, p < i ∧ F p ∧ ∀ j, j < L → bt m j = true → s.testBit j = p.testBit j) S () ic_any0 ?_ ?_
  · intro n _ h
    exact br_t (nI_le (Nat.le_refl _) (by omega)) (K0 h)
  · intro n i _ hi h ih
    refine br_f (nI_ge hi (by omega)) ⟨vp_in_nI (by omega) (by omega), ?_⟩
    rw [nI_clamp (by omega), ic_agree (L := L) (by omega) (by omega) hs hi]
    rcases hf i hi with ⟨hF, e⟩ | ⟨hF, e⟩
    · refine br_f (by rw [e]; decide) (br_c (fun z => K1 ⟨i, hi, hF, z⟩) (fun z => nm_r (nI_1 i) (ih () fun y => ?_)))
      rw [ic_any] at y
      exact y.elim h fun x => z x.2
    · refine br_t e (nm_r (nI_1 i) (ih () fun y => ?_))
      rw [ic_any] at y
      exact y.elim h fun x => hF x.1
end
end
section
/-! the reference: trace, check -/
section
variable {L I S W N B G : Nat} {nb : Nat → Nat → Nat → Bool} {ms : Nat → Int32} {bd : Nat → Nat → Bool} {mb : Int32} {yg xb yd yv yt yo yh : Int32} {kd oa ob ik nl us uw ra qa vl mk fr cu nt : Nat → Int32} {xa : Int32} {tr su : Nat → Int32} {n : Nat}
theorem ya_tr83 {post : SY → Prop} {J : Int32 → Int32 → Int32 → Int32 → Int32 → Int32 → Int32 → Int32 → Int32 → Int32 → Int32 → Int32 → Int32 → Int32 → (Nat → Int32) → (Nat → Int32) → (Nat → Int32) → (Nat → Int32) → (Nat → Int32) → (Nat → Int32) → (Nat → Int32) → (Nat → Int32) → (Nat → Int32) → (Nat → Int32) → (Nat → Int32) → (Nat → Int32) → (Nat → Int32) → (Nat → Int32) → Prop} {t s : Nat} (hC : ic_C L I S W N B G xa tr su kd oa ob) (hP : ic_P L S W N tr su nl xb nb ms bd mb) (hn : n < 32) (ht : t ≤ n) (hs : s < S) (he : ∃ w, ic_Q L W nb bd n t s w) (K : ∀ uw' vl' fr' cu' nt', (∀ j, j ≠ t → uw' j = uw j) → uw' t = nI (ic_mn (ic_Q L W nb bd n t s)) → J (nI (ic_nx L nb s (ic_mn (ic_Q L W nb bd n t s)))) (nI (t + 1)) (nI L) (nI I) yg (nI S) (nI W) (nI B) xb yd yv (nI n) yo yh kd oa ob ik nl us uw' ra qa vl' mk fr' cu' nt') : ∃ m, wY_trace_83 post J (nI t) (nI s) m (nI s) 0 0 (nI L) (nI I) yg (nI S) (nI W) (nI B) xb yd yv (nI n) yo yh kd oa ob ik nl us uw ra qa vl mk fr cu nt := by
  have hd := hC.1
  unfold ic_D at hd
  obtain ⟨k1, k2⟩ := ic_mn_spec he
  have ki : ∀ i, i < ic_mn (ic_Q L W nb bd n t s) + 1 → ic_Q L W nb bd n t s i → i = ic_mn (ic_Q L W nb bd n t s) := fun i hi hq => by
    rcases Nat.lt_or_ge i (ic_mn (ic_Q L W nb bd n t s)) with z | z
    · exact absurd hq (k2 i z)
    · omega
  have hkW : ic_mn (ic_Q L W nb bd n t s) < W := k1.1
  refine loop_0 (fun m i (p : Int32 × Int32 × (Nat → Int32) × (Nat → Int32) × (Nat → Int32) × (Nat → Int32) × (Nat → Int32)) => wY_trace_83 post J (nI t) (nI s) m p.1 p.2.1 (nI i) (nI L) (nI I) yg (nI S) (nI W) (nI B) xb yd yv (nI n) yo yh kd oa ob ik nl us (p.2.2.1) ra qa (p.2.2.2.1) mk (p.2.2.2.2.1) (p.2.2.2.2.2.1) (p.2.2.2.2.2.2))
    (fun i p => (∀ j, j ≠ t → p.2.2.1 j = uw j) ∧ ((i ≤ ic_mn (ic_Q L W nb bd n t s) ∧ p.2.1 = 0) ∨ (i = ic_mn (ic_Q L W nb bd n t s) + 1 ∧ p.2.1 = 1 ∧ p.2.2.1 t = nI (ic_mn (ic_Q L W nb bd n t s)) ∧ p.1 = nI (ic_nx L nb s (ic_mn (ic_Q L W nb bd n t s))))))
    (ic_mn (ic_Q L W nb bd n t s) + 1) (nI s, 0, uw, vl, fr, cu, nt) ⟨fun _ _ => rfl, Or.inl ⟨Nat.zero_le _, rfl⟩⟩ ?_ ?_
  · rintro m ⟨x1, x2, u, v, f, c, o⟩ ⟨hu, hx⟩
    rcases hx with hx | ⟨_, rfl, hut, rfl⟩
    · exact absurd hx.1 (by omega)
    · have n10 : ¬ (1 : Int32) = 0 := by decide
      exact br_c (fun _ => nm_r (nI_1 t) (K u v f c o hu hut)) (fun _ => br_f n10 (nm_r (nI_1 t) (K u v f c o hu hut)))
  · rintro m i ⟨x1, x2, u, v, f, c, o⟩ hi ⟨hu, hx⟩ ih
    rcases hx with ⟨_, rfl⟩ | hx
    · have hiW : i < W := by omega
      have cont : ∀ (z : Int32) (v' f' c' o' : Nat → Int32), ((ic_Q L W nb bd n t s i ∧ z = 1) ∨ (¬ ic_Q L W nb bd n t s i ∧ z = 0)) → wY_trace_148 post J (wY_trace_83 post J (nI t) (nI s) m) (nI t) (nI s) (nI i) (nI (ic_nx L nb s i)) z (nI L) (nI I) yg (nI S) (nI W) (nI B) xb yd yv (nI n) yo yh kd oa ob ik nl us u ra qa v' mk f' c' o' := by
        intro z v' f' c' o' hz
        refine And.intro (vp_in_nI (by omega) (by omega)) (nm_r (e' := upd u t (nI i)) (by rw [nI_clamp (by omega)]) (nm_r (nI_1 i) (ih (nI (ic_nx L nb s i), z, upd u t (nI i), v', f', c', o') ⟨fun j hj => ?_, ?_⟩)))
        · show upd u t (nI i) j = uw j
          rw [pk_un hj]; exact hu j hj
        · rcases hz with ⟨hq, rfl⟩ | ⟨hq, rfl⟩
          · obtain rfl := ki i hi hq
            exact Or.inr ⟨rfl, rfl, pk_us, rfl⟩
          · refine Or.inl ⟨?_, rfl⟩
            have z2 : i ≠ ic_mn (ic_Q L W nb bd n t s) := fun e => hq (by rw [e]; exact k1)
            omega
      have hx : ic_nx L nb s i < 2 ^ L := ic_nx_lt
      refine br_f (nI_ge hiW (by omega)) (br_t rfl (ya_step hC hP rfl rfl hs hiW fun v' => ?_))
      by_cases e : t = n
      · refine br_t (by rw [e]) (ya_isBad hC hP rfl rfl hs hiW fun v2 => br_c (fun h => cont 1 _ _ _ _ (Or.inl ⟨⟨hiW, Or.inr ⟨e, ic_b1.mp h⟩⟩, rfl⟩)) (fun h => cont 0 _ _ _ _ (Or.inr ⟨fun q => ?_, rfl⟩)))
        rcases q.2 with q | q
        · omega
        · exact h (ic_b1.mpr q.2)
      · have ei : nI n - nI t - 1 = nI (n - t - 1) := by
          rw [pk_sub (by omega)]
          obtain ⟨k, hk⟩ : ∃ k, n - t = k + 1 := ⟨n - t - 1, by omega⟩
          rw [hk]
          exact nI_pred k
        refine br_f (fun z => e ((nI_eq (by omega) (by omega)).mp z)) (ya_stateFails hC hP rfl ei (by omega) (by omega) (fun h v2 f2 c2 o2 => cont 1 _ _ _ _ (Or.inl ⟨⟨hiW, Or.inl ⟨by omega, h⟩⟩, rfl⟩)) (fun h v2 f2 c2 o2 => cont 0 _ _ _ _ (Or.inr ⟨fun q => ?_, rfl⟩)))
        rcases q.2 with q | q
        · exact h q.2
        · exact e q.1
    · exact absurd hx.1 (by omega)
theorem ya_tr54 {post : SY → Prop} {x : Int32} (hC : ic_C L I S W N B G xa tr su kd oa ob) (hP : ic_P L S W N tr su nl xb nb ms bd mb) (hn : n < 32) (h0 : ∃ c, ic_P0 L S W nb bd ik n c) (hx : x = nI (ic_tS L S W nb bd ik n 0)) (K : ∀ us' uw' vl' fr' cu' nt', (∀ t, t < n + 1 → us' t = nI (ic_tS L S W nb bd ik n t) ∧ uw' t = nI (ic_tW L S W nb bd ik n t)) → post ((nI L), (nI I), yg, (nI S), (nI W), (nI B), xb, yd, yv, nI n, yo, yh, kd, oa, ob, ik, nl, us', uw', ra, qa, vl', mk, fr', cu', nt')) : ∃ m, wY_trace_54 post m x 0 (nI L) (nI I) yg (nI S) (nI W) (nI B) xb yd yv (nI n) yo yh kd oa ob ik nl us uw ra qa vl mk fr cu nt := by
  have hd := hC.1
  unfold ic_D at hd
  have ok := ic_tr_ok (by omega) h0
  refine loop_0 (fun m t (p : Int32 × (Nat → Int32) × (Nat → Int32) × (Nat → Int32) × (Nat → Int32) × (Nat → Int32) × (Nat → Int32)) => wY_trace_54 post m p.1 (nI t) (nI L) (nI I) yg (nI S) (nI W) (nI B) xb yd yv (nI n) yo yh kd oa ob ik nl (p.2.1) (p.2.2.1) ra qa (p.2.2.2.1) mk (p.2.2.2.2.1) (p.2.2.2.2.2.1) (p.2.2.2.2.2.2))
    (fun t p => p.1 = nI (ic_tS L S W nb bd ik n t) ∧ ∀ j, j < t → p.2.1 j = nI (ic_tS L S W nb bd ik n j) ∧ p.2.2.1 j = nI (ic_tW L S W nb bd ik n j))
    (n + 1) (x, us, uw, vl, fr, cu, nt) ⟨hx, ic_all0⟩ ?_ ?_
  · rintro m ⟨x1, a, b, v, f, c, o⟩ ⟨_, hab⟩
    exact br_t (nI_lt (by omega) (by omega)) (K _ _ _ _ _ _ hab)
  · rintro m t ⟨x1, a, b, v, f, c, o⟩ ht ⟨hx1, hab⟩ ih
    dsimp only at hx1 hab
    subst hx1
    obtain ⟨o1, o2⟩ := ok t (by omega)
    refine br_f (nI_nlt (by omega) (by omega)) (br_f (nI_ge (b := 32) (by omega) (by omega)) ⟨vp_in_nI (by omega) (by omega), nm_r (e' := upd a t (nI (ic_tS L S W nb bd ik n t))) (by rw [nI_clamp (by omega)]) ?_⟩)
    refine ya_tr83 hC hP hn (by omega) o1 (ic_Q_ex (by omega) o2) fun b' v' f' c' o' hb1 hb2 => ih (nI (ic_tS L S W nb bd ik n (t + 1)), upd a t (nI (ic_tS L S W nb bd ik n t)), b', v', f', c', o') ⟨rfl, ic_all.mpr ⟨fun j hj => ?_, ?_⟩⟩
    · show upd a t _ j = _ ∧ b' j = _
      rw [pk_un (by omega), hb1 j (by omega)]
      exact hab j hj
    · exact ⟨pk_us, hb2⟩
theorem ya_trace {post : SY → Prop} (hC : ic_C L I S W N B G xa tr su kd oa ob) (hP : ic_P L S W N tr su nl xb nb ms bd mb) (hn : n < 32) (h0 : ∃ c, ic_P0 L S W nb bd ik n c) (K : ∀ us' uw' vl' fr' cu' nt', (∀ t, t < n + 1 → us' t = nI (ic_tS L S W nb bd ik n t) ∧ uw' t = nI (ic_tW L S W nb bd ik n t)) → post ((nI L), (nI I), yg, (nI S), (nI W), (nI B), xb, yd, yv, nI n, yo, yh, kd, oa, ob, ik, nl, us', uw', ra, qa, vl', mk, fr', cu', nt')) : wpY_trace post ((nI L), (nI I), yg, (nI S), (nI W), (nI B), xb, yd, yv, nI n, yo, yh, kd, oa, ob, ik, nl, us, uw, ra, qa, vl, mk, fr, cu, nt) := by
  have hd := hC.1
  unfold ic_D at hd
  obtain ⟨k1, k2⟩ := ic_mn_spec h0
  have ki : ∀ i, i < ic_mn (ic_P0 L S W nb bd ik n) + 1 → ic_P0 L S W nb bd ik n i → i = ic_mn (ic_P0 L S W nb bd ik n) := fun i hi hq => by
    rcases Nat.lt_or_ge i (ic_mn (ic_P0 L S W nb bd ik n)) with z | z
    · exact absurd hq (k2 i z)
    · omega
  have hkS : ic_mn (ic_P0 L S W nb bd ik n) < S := k1.1
  refine loop_0 (fun m i (p : Int32 × Int32 × (Nat → Int32) × (Nat → Int32) × (Nat → Int32) × (Nat → Int32)) => wY_trace_6 post m p.1 p.2.1 (nI i) (nI L) (nI I) yg (nI S) (nI W) (nI B) xb yd yv (nI n) yo yh kd oa ob ik nl us uw ra qa (p.2.2.1) mk (p.2.2.2.1) (p.2.2.2.2.1) (p.2.2.2.2.2))
    (fun i p => (i ≤ ic_mn (ic_P0 L S W nb bd ik n) ∧ p.2.1 = 0) ∨ (i = ic_mn (ic_P0 L S W nb bd ik n) + 1 ∧ p.2.1 = 1 ∧ p.1 = nI (ic_mn (ic_P0 L S W nb bd ik n))))
    (ic_mn (ic_P0 L S W nb bd ik n) + 1) (0, 0, vl, fr, cu, nt) (Or.inl ⟨Nat.zero_le _, rfl⟩) ?_ ?_
  · rintro m ⟨x1, x2, v, f, c, o⟩ hx
    rcases hx with hx | ⟨_, rfl, rfl⟩
    · exact absurd hx.1 (by omega)
    · have n10 : ¬ (1 : Int32) = 0 := by decide
      exact br_c (fun _ => ya_tr54 hC hP hn h0 rfl K) (fun _ => br_f n10 (ya_tr54 hC hP hn h0 rfl K))
  · rintro m i ⟨x1, x2, v, f, c, o⟩ hi hx ih
    rcases hx with ⟨_, rfl⟩ | hx
    · have hiS : i < S := by omega
      have no : ∀ (v' f' c' o' : Nat → Int32), ¬ ic_P0 L S W nb bd ik n i → wY_trace_6 post m (nI i) 0 (nI (i + 1)) (nI L) (nI I) yg (nI S) (nI W) (nI B) xb yd yv (nI n) yo yh kd oa ob ik nl us uw ra qa v' mk f' c' o' := by
        intro v' f' c' o' hq
        refine ih (nI i, 0, v', f', c', o') (Or.inl ⟨?_, rfl⟩)
        have z2 : i ≠ ic_mn (ic_P0 L S W nb bd ik n) := fun e => hq (by rw [e]; exact k1)
        omega
      refine br_f (nI_ge hiS (by omega)) (br_t rfl (ya_isInitial hC rfl (fun h => br_f (by decide) ?_) (fun h => br_t rfl (nm_r (nI_1 i) (no _ _ _ _ fun q => h q.2.1)))))
      refine ya_stateFails hC hP rfl rfl hiS hn (fun hf v' f' c' o' => br_f (by decide) (nm_r (nI_1 i) (ih (nI i, 1, v', f', c', o') (Or.inr ?_)))) (fun hf v' f' c' o' => br_t rfl (nm_r (nI_1 i) (no _ _ _ _ fun q => hf q.2.2)))
      obtain e := ki i hi ⟨hiS, h, hf⟩
      exact ⟨by omega, rfl, congrArg nI e⟩
    · exact absurd hx.1 (by omega)
theorem ya_chkHit {post : Int32 → SY → Prop} (hC : ic_C L I S W N B G xa tr su kd oa ob) (hP : ic_P L S W N tr su nl xb nb ms bd mb) (hn : n < 32) (h0 : ∃ c, ic_P0 L S W nb bd ik n c) (hm : ∀ m, m < n → ¬ ∃ s, s < S ∧ ic_In ik L s ∧ ic_FA (ic_St L W nb) (ic_Bd W bd) m s) (K : ∀ us' uw' vl' fr' cu' nt', (∀ t, t < n + 1 → us' t = nI (ic_tS L S W nb bd ik n t) ∧ uw' t = nI (ic_tW L S W nb bd ik n t)) → post 2 ((nI L), (nI I), yg, (nI S), (nI W), (nI B), xb, yd, 2, nI n, yo, yh, kd, oa, ob, ik, nl, us', uw', ra, qa, vl', mk, fr', cu', nt')) : wpY_check post ((nI L), (nI I), yg, (nI S), (nI W), (nI B), xb, yd, yv, yt, yo, yh, kd, oa, ob, ik, nl, us, uw, ra, qa, vl, mk, fr, cu, nt) := by
  have hd := hC.1
  unfold ic_D at hd
  refine loop_0 (fun m i (p : Int32 × Int32 × (Nat → Int32) × (Nat → Int32) × (Nat → Int32) × (Nat → Int32)) => wY_check_7 post m (nI i) (nI L) (nI I) yg (nI S) (nI W) (nI B) xb yd (p.1) (p.2.1) yo yh kd oa ob ik nl us uw ra qa (p.2.2.1) mk (p.2.2.2.1) (p.2.2.2.2.1) (p.2.2.2.2.2))
    (fun i p => (i ≤ n ∧ p.1 = 1) ∨ (i = n + 1 ∧ p.1 = 2 ∧ p.2.1 = nI n)) (n + 1) (1, yt, vl, fr, cu, nt) (Or.inl ⟨Nat.zero_le _, rfl⟩) ?_ ?_
  · rintro m ⟨x1, x2, v, f, c, o⟩ hx
    rcases hx with hx | ⟨_, rfl, rfl⟩
    · exact absurd hx.1 (by omega)
    · have key : wY_check_49 post (nI L) (nI I) yg (nI S) (nI W) (nI B) xb yd 2 (nI n) yo yh kd oa ob ik nl us uw ra qa v mk f c o := br_t rfl (ya_trace hC hP hn h0 K)
      have n21 : ¬ (2 : Int32) = 1 := by decide
      exact br_c (fun _ => key) (fun _ => br_f n21 key)
  · rintro m i ⟨x1, x2, v, f, c, o⟩ hi hx ih
    rcases hx with ⟨_, rfl⟩ | hx
    · refine br_f (nI_nlt (a := 31) (by omega) (by omega)) (br_t rfl (ya_fromInitial hC fun f' hf' => ?_))
      refine ya_failsAfter hC hP rfl (by omega) hf' (fun h v' c' o' => br_f (by decide) (nm_r (nI_1 i) (ih (2, nI i, v', f', c', o') (Or.inr ?_)))) (fun h v' c' o' => br_t rfl (nm_r (nI_1 i) (ih (1, x2, v', f', c', o') (Or.inl ⟨?_, rfl⟩))))
      · have e : i = n := by
          rcases Nat.lt_or_ge i n with z | z
          · exact absurd h (hm i z)
          · omega
        exact ⟨by omega, rfl, congrArg nI e⟩
      · have z2 : i ≠ n := fun e => h (by
          obtain ⟨c, hc⟩ := h0
          rw [e]
          exact ⟨c, hc⟩)
        omega
    · exact absurd hx.1 (by omega)
theorem ya_chkMiss {post : Int32 → SY → Prop} (hC : ic_C L I S W N B G xa tr su kd oa ob) (hP : ic_P L S W N tr su nl xb nb ms bd mb) (hm : ∀ m, m < 32 → ¬ ∃ s, s < S ∧ ic_In ik L s ∧ ic_FA (ic_St L W nb) (ic_Bd W bd) m s) (K : ∀ vl' fr' cu' nt', post 1 ((nI L), (nI I), yg, (nI S), (nI W), (nI B), xb, yd, 1, yt, yo, yh, kd, oa, ob, ik, nl, us, uw, ra, qa, vl', mk, fr', cu', nt')) : wpY_check post ((nI L), (nI I), yg, (nI S), (nI W), (nI B), xb, yd, yv, yt, yo, yh, kd, oa, ob, ik, nl, us, uw, ra, qa, vl, mk, fr, cu, nt) := by
  have hd := hC.1
  unfold ic_D at hd
  refine loop_0 (fun m i (p : (Nat → Int32) × (Nat → Int32) × (Nat → Int32) × (Nat → Int32)) => wY_check_7 post m (nI i) (nI L) (nI I) yg (nI S) (nI W) (nI B) xb yd 1 yt yo yh kd oa ob ik nl us uw ra qa (p.1) mk (p.2.1) (p.2.2.1) (p.2.2.2)) (fun _ _ => True) 32 (vl, fr, cu, nt) trivial ?_ ?_
  · rintro m ⟨v, f, c, o⟩ _
    have key : wY_check_49 post (nI L) (nI I) yg (nI S) (nI W) (nI B) xb yd 1 yt yo yh kd oa ob ik nl us uw ra qa v mk f c o := br_f (by decide) (K _ _ _ _)
    exact br_t (nI_lt (a := 31) (by omega) (by omega)) key
  · rintro m i ⟨v, f, c, o⟩ hi _ ih
    refine br_f (nI_nlt (a := 31) (by omega) (by omega)) (br_t rfl (ya_fromInitial hC fun f' hf' => ?_))
    exact ya_failsAfter hC hP rfl (by omega) hf' (fun h v' c' o' => absurd h (hm i hi)) (fun h v' c' o' => br_t rfl (nm_r (nI_1 i) (ih (_, _, _, _) trivial)))
end
end
section
/-! the reference: holds (the invariant), begin, image -/
section
variable {L I S W N B G : Nat} {nb : Nat → Nat → Nat → Bool} {ms : Nat → Int32} {bd : Nat → Nat → Bool} {mb : Int32} {yg xb yd yv yt yo yh : Int32} {kd oa ob ik nl us uw ra qa vl mk fr cu nt : Nat → Int32} {xa : Int32} {tr su : Nat → Int32} {F H : Nat → Prop}
theorem ya_h146 {post : Int32 → SY → Prop} {J1 J : Int32 → Int32 → Int32 → Int32 → Int32 → Int32 → Int32 → Int32 → Int32 → Int32 → Int32 → Int32 → Int32 → (Nat → Int32) → (Nat → Int32) → (Nat → Int32) → (Nat → Int32) → (Nat → Int32) → (Nat → Int32) → (Nat → Int32) → (Nat → Int32) → (Nat → Int32) → (Nat → Int32) → (Nat → Int32) → (Nat → Int32) → (Nat → Int32) → (Nat → Int32) → Prop} {i : Nat} {x2 x3 : Int32} (hC : ic_C L I S W N B G xa tr su kd oa ob) (hP : ic_P L S W N tr su nl xb nb ms bd mb) (hf : ic_ar fr S H) (hi : i < S) (K : ∀ vl' fr', ic_ar fr' S (fun t => H t ∨ (H i ∧ ic_St L W nb i t)) → J (nI (i + 1)) (nI L) (nI I) yg (nI S) (nI W) (nI B) xb yd yv yt yo yh kd oa ob ik nl us uw ra qa vl' mk fr' cu nt) : ∃ n, wY_holds_146 post J1 J x2 x3 (nI i) n 0 (nI L) (nI I) yg (nI S) (nI W) (nI B) xb yd yv yt yo yh kd oa ob ik nl us uw ra qa vl mk fr cu nt := by
  have hd := hC.1
  unfold ic_D at hd
  have ec : (nI i).toNatClampNeg = i := nI_clamp (by omega)
  rcases hf i hi with ⟨hF, e⟩ | ⟨hF, e⟩
  · refine loop_0 (fun n w (p : (Nat → Int32) × (Nat → Int32)) => wY_holds_146 post J1 J x2 x3 (nI i) n (nI w) (nI L) (nI I) yg (nI S) (nI W) (nI B) xb yd yv yt yo yh kd oa ob ik nl us uw ra qa (p.1) mk (p.2) cu nt) (fun w p => ic_ar p.2 S (fun t => H t ∨ ∃ v, v < w ∧ ic_nx L nb i v = t)) W (vl, fr) ?_ ?_ ?_
    · exact ic_ar_congr hf fun t ht => ⟨Or.inl, fun h => h.resolve_right ic_any0⟩
    · rintro n ⟨v, a⟩ ha
      exact br_t (nI_le (Nat.le_refl _) (by omega)) (nm_r (nI_1 i) (K v a (ic_ar_congr ha fun t ht => or_congr_right ⟨fun z => ⟨hF, z⟩, fun z => z.2⟩)))
    · rintro n w ⟨v, a⟩ hw ha ih
      have hx : ic_nx L nb i w < 2 ^ L := ic_nx_lt
      have e1 : a i = 1 := by
        rcases ha i hi with z | z
        · exact z.2
        · exact absurd (Or.inl hF) z.1
      refine br_f (nI_ge hw (by omega)) ⟨vp_in_nI (by omega) (by omega), br_f (by rw [ec]; show ¬ a i = 0; rw [e1]; decide) ?_⟩
      refine ya_step hC hP rfl rfl hi hw fun v' => ⟨vp_in_nI (by omega) (by omega), nm_r (e' := upd a (ic_nx L nb i w) 1) (by rw [nI_clamp (by omega), ic_nar1]) (nm_r (nI_1 w) (ih (v', upd a (ic_nx L nb i w) 1) (ic_put ha fun t ht => ?_)))⟩
      rw [ic_any, or_assoc, eq_comm (a := t)]
  · refine ⟨1, br_f (nI_ge (a := 0) (by omega) (by omega)) ⟨vp_in_nI (by omega) (by omega), br_t (by rw [ec, e]) (nm_r (nI_1 i) (K vl fr (ic_ar_congr hf fun t ht => ⟨Or.inl, fun h => h.resolve_right fun z => hF z.1⟩)))⟩⟩
theorem ya_h134 {post : Int32 → SY → Prop} {J : Int32 → Int32 → Int32 → Int32 → Int32 → Int32 → Int32 → Int32 → Int32 → Int32 → Int32 → Int32 → Int32 → (Nat → Int32) → (Nat → Int32) → (Nat → Int32) → (Nat → Int32) → (Nat → Int32) → (Nat → Int32) → (Nat → Int32) → (Nat → Int32) → (Nat → Int32) → (Nat → Int32) → (Nat → Int32) → (Nat → Int32) → (Nat → Int32) → (Nat → Int32) → Prop} {r : Nat} {x2 : Int32} (hC : ic_C L I S W N B G xa tr su kd oa ob) (hP : ic_P L S W N tr su nl xb nb ms bd mb) (hf : ic_ar fr S H) (hH : ∀ t, H t → ic_Re S (ic_St L W nb) (ic_In ik L) t) (K : ∀ vl' fr' H', ic_ar fr' S H' → (∀ t, H t → H' t) → (∀ t, H' t → ic_Re S (ic_St L W nb) (ic_In ik L) t) → (∀ s, s < S → H s → ∀ t, ic_St L W nb s t → H' t) → J (nI (r + 1)) (nI L) (nI I) yg (nI S) (nI W) (nI B) xb yd yv yt yo yh kd oa ob ik nl us uw ra qa vl' mk fr' cu nt) : ∃ n, wY_holds_134 post J x2 (nI r) n 0 (nI L) (nI I) yg (nI S) (nI W) (nI B) xb yd yv yt yo yh kd oa ob ik nl us uw ra qa vl mk fr cu nt := by
  have hd := hC.1
  unfold ic_D at hd
  refine loop_0 (fun n i (p : (Nat → Int32) × (Nat → Int32)) => wY_holds_134 post J x2 (nI r) n (nI i) (nI L) (nI I) yg (nI S) (nI W) (nI B) xb yd yv yt yo yh kd oa ob ik nl us uw ra qa (p.1) mk (p.2) cu nt) (fun i p => ∃ H' : Nat → Prop, ic_ar p.2 S H' ∧ (∀ t, H t → H' t) ∧ (∀ t, H' t → ic_Re S (ic_St L W nb) (ic_In ik L) t) ∧ ∀ s, s < i → H s → ∀ t, ic_St L W nb s t → H' t) S (vl, fr) ⟨H, hf, fun _ h => h, hH, ic_all0⟩ ?_ ?_
  · rintro n ⟨v, a⟩ ⟨H', h1, h2, h3, h4⟩
    exact br_t (nI_le (Nat.le_refl _) (by omega)) (nm_r (nI_1 r) (K v a H' h1 h2 h3 h4))
  · rintro n i ⟨v, a⟩ hi ⟨H', h1, h2, h3, h4⟩ ih
    refine br_f (nI_ge hi (by omega)) (ya_h146 hC hP h1 hi fun v' a' ha' => ih (_, _) ⟨_, ha', fun t ht => Or.inl (h2 t ht), fun t ht => ?_, ic_all.mpr ⟨fun s hs hH t hst => Or.inl (h4 s hs hH t hst), fun hHi t hst => Or.inr ⟨h2 i hHi, hst⟩⟩⟩)
    exact ht.elim (h3 t) fun z => ic_Re_cls hi (h3 i z.1) z.2
theorem ya_h123 {post : Int32 → SY → Prop} {s : Nat} {p0 : Int32} (hC : ic_C L I S W N B G xa tr su kd oa ob) (hP : ic_P L S W N tr su nl xb nb ms bd mb) (hp : p0 = nI s) (hs : s < S) (hf : ic_ar fr S (ic_In ik L)) (K1 : ic_Cv L S (ic_Re S (ic_St L W nb) (ic_In ik L)) (ic_SH L ms mb 31) s → ∀ vl' mk' fr', post 1 ((nI L), (nI I), yg, (nI S), (nI W), (nI B), xb, yd, yv, yt, yo, yh, kd, oa, ob, ik, nl, us, uw, ra, qa, vl', mk', fr', cu, nt)) (K0 : ¬ ic_Cv L S (ic_Re S (ic_St L W nb) (ic_In ik L)) (ic_SH L ms mb 31) s → ∀ vl' mk' fr', post 0 ((nI L), (nI I), yg, (nI S), (nI W), (nI B), xb, yd, yv, yt, yo, yh, kd, oa, ob, ik, nl, us, uw, ra, qa, vl', mk', fr', cu, nt)) : ∃ n, wY_holds_123 post p0 n 0 (nI L) (nI I) yg (nI S) (nI W) (nI B) xb yd yv yt yo yh kd oa ob ik nl us uw ra qa vl mk fr cu nt := by
  subst hp
  have hd := hC.1
  unfold ic_D at hd
  have hSt := ic_StS (L := L) (S := S) (W := W) (nb := nb) (by omega)
  refine loop_0 (fun n r (p : (Nat → Int32) × (Nat → Int32)) => wY_holds_123 post (nI s) n (nI r) (nI L) (nI I) yg (nI S) (nI W) (nI B) xb yd yv yt yo yh kd oa ob ik nl us uw ra qa (p.1) mk (p.2) cu nt) (fun r p => ∃ H' : Nat → Prop, ic_ar p.2 S H' ∧ (∀ t, ic_RN S (ic_St L W nb) (ic_In ik L) r t → H' t) ∧ ∀ t, H' t → ic_Re S (ic_St L W nb) (ic_In ik L) t) S (vl, fr) ⟨_, hf, fun _ h => h, fun t h => ⟨0, h⟩⟩ ?_ ?_
  · rintro n ⟨v, a⟩ ⟨H', h1, h2, h3⟩
    have ha : ic_ar a S (ic_Re S (ic_St L W nb) (ic_In ik L)) := ic_ar_congr h1 fun t ht => ⟨h3 t, fun z => h2 t ((ic_Re_S hSt).mpr z)⟩
    refine br_t (nI_le (Nat.le_refl _) (by omega)) (ya_shared hC hP (k := 31) rfl (by omega) fun mk' => ?_)
    exact ya_covered hC rfl hs ha (fun h => br_f (by decide) (K1 h _ _ _)) (fun h => br_t rfl (K0 h _ _ _))
  · rintro n r ⟨v, a⟩ hr ⟨H', h1, h2, h3⟩ ih
    refine br_f (nI_ge hr (by omega)) (ya_h134 hC hP h1 h3 fun v' a' H2 g1 g2 g3 g4 => ih (_, _) ⟨H2, g1, fun t ht => ?_, g3⟩)
    rcases ht with ht | ⟨u, hu, hr, hst⟩
    · exact g2 t (h2 t ht)
    · exact g4 u hu (h2 u hr) t hst
theorem ya_begin {post : Int32 → SY → Prop} {k : Nat} {p0 : Int32} (hC : ic_C L I S W N B G xa tr su kd oa ob) (hP : ic_P L S W N tr su nl xb nb ms bd mb) (hp : p0 = nI k) (hk : k < 32) (K1 : (∃ s, s < S ∧ ic_In ik L s ∧ ic_FW (ic_St L W nb) (ic_Bd W bd) k s) → ∀ vl' fr' cu' nt', post 4 ((nI L), (nI I), yg, (nI S), (nI W), (nI B), xb, yd, yv, yt, 0, yh, kd, oa, ob, ik, nl, us, uw, ra, qa, vl', mk, fr', cu', nt')) (K0 : ¬ (∃ s, s < S ∧ ic_In ik L s ∧ ic_FW (ic_St L W nb) (ic_Bd W bd) k s) → ∀ ra' vl' fr' cu' nt', ic_ar ra' S (ic_In ik L) → post 3 ((nI L), (nI I), yg, (nI S), (nI W), (nI B), xb, nI k, yv, yt, 1, 0, kd, oa, ob, ik, nl, us, uw, ra', qa, vl', mk, fr', cu', nt')) : wpY_begin post ((nI L), (nI I), yg, (nI S), (nI W), (nI B), xb, yd, yv, yt, yo, yh, kd, oa, ob, ik, nl, us, uw, ra, qa, vl, mk, fr, cu, nt) p0 := by
  subst hp
  have hd := hC.1
  unfold ic_D at hd
  unfold wpY_begin
  refine br_f (nI_pos (by omega)) (br_t (nI_le (b := 31) (by omega) (by omega)) ?_)
  refine ya_fromInitial hC fun f hf => ?_
  refine ya_failsWithin hC hP rfl hk hf (fun h v c o => br_f (by decide) ?_) (fun h v c o => br_t rfl ?_)
  · exact And.intro rfl (And.intro rfl (br_t rfl (K1 h _ _ _ _)))
  · refine And.intro rfl (And.intro rfl (br_f (by decide) ?_))
    refine loop_0 (fun n i (a : Nat → Int32) => wY_begin_54 post (nI L) (nI I) yg (nI S) (nI W) (nI B) xb (nI k) yv yt 1 0 n (nI i) kd oa ob ik nl us uw a qa v mk f c o) (fun i a => ic_ar a i (ic_In ik L)) S ra ic_ar0 ?_ ?_
    · intro n a ha
      exact br_t (nI_le (Nat.le_refl _) (by omega)) (K0 h _ _ _ _ _ ha)
    · intro n i a hi ha ih
      exact br_f (nI_ge hi (by omega)) ⟨vp_in_nI (by omega) (by omega), vp_in_nI (by omega) (by omega), nm_r (e' := upd a i (vp_nar .boolean (f i))) (by rw [nI_clamp (by omega)]) (nm_r (nI_1 i) (ih _ (ic_ars ha (ic_cp (hf i hi)))))⟩
theorem ya_im136 {post : Int32 → SY → Prop} {J : Int32 → Int32 → (Nat → Int32) → (Nat → Int32) → (Nat → Int32) → (Nat → Int32) → (Nat → Int32) → (Nat → Int32) → (Nat → Int32) → (Nat → Int32) → (Nat → Int32) → (Nat → Int32) → (Nat → Int32) → (Nat → Int32) → (Nat → Int32) → (Nat → Int32) → Prop} {i : Nat} {x1 x2 : Int32} {P Q : Prop} (hi : i < 32) (hr : (P ∧ ra i = 1) ∨ (¬ P ∧ ra i = 0)) (hq : (Q ∧ qa i = 1) ∨ (¬ Q ∧ qa i = 0)) (K : ∀ v, (((P ∨ Q) ∧ v = 1) ∨ (¬ (P ∨ Q) ∧ v = 0)) → J x2 (nI (i + 1)) kd oa ob ik nl us uw (upd ra i v) qa vl mk fr cu nt) : wY_image_136 post J x1 x2 (nI i) (nI L) (nI I) yg (nI S) (nI W) (nI B) xb yd yv yt yo yh kd oa ob ik nl us uw ra qa vl mk fr cu nt := by
  have hin : vp_in (nI i) 32 := vp_in_nI hi (by omega)
  have ec : (nI i).toNatClampNeg = i := nI_clamp (by omega)
  unfold wY_image_136
  rw [ec, ic_nar0, ic_nar1]
  refine ⟨hin, ?_⟩
  rcases hr with ⟨p, e⟩ | ⟨p, e⟩
  · refine br_f (by rw [e]; decide) ⟨hin, nm_e (nm_r (nI_1 i) (K 1 (Or.inl ⟨Or.inl p, rfl⟩)))⟩
  · refine br_t e ⟨hin, ?_⟩
    rcases hq with ⟨q, e2⟩ | ⟨q, e2⟩
    · exact br_f (by rw [e2]; decide) ⟨hin, nm_e (nm_r (nI_1 i) (K 1 (Or.inl ⟨Or.inr q, rfl⟩)))⟩
    · exact br_t e2 ⟨hin, nm_e (nm_r (nI_1 i) (K 0 (Or.inr ⟨fun z => z.elim p q, rfl⟩)))⟩
theorem ya_im96 {post : Int32 → SY → Prop} {m : Int32} (hC : ic_C L I S W N B G xa tr su kd oa ob) (hf : ic_ar fr S H) (hr : ic_ar ra S F) (K : ∀ x2 qa' ra', ic_ar qa' S (ic_Cv L S H m) → ic_ar ra' S (fun s => F s ∨ ic_Cv L S H m s) → ((x2 = 6 ∧ ∀ s, s < S → ic_Cv L S H m s → F s) ∨ (x2 = 5 ∧ ¬ ∀ s, s < S → ic_Cv L S H m s → F s)) → post x2 ((nI L), (nI I), yg, (nI S), (nI W), (nI B), xb, yd, yv, yt, yo, 1, kd, oa, ob, ik, nl, us, uw, ra', qa', vl, mk, fr, cu, nt)) : ∃ n, wY_image_96 post m (nI L) (nI I) yg (nI S) (nI W) (nI B) xb yd yv yt yo yh n 6 0 kd oa ob ik nl us uw ra qa vl mk fr cu nt := by
  have hd := hC.1
  unfold ic_D at hd
  refine loop_0 (fun n i (p : Int32 × (Nat → Int32) × (Nat → Int32)) => wY_image_96 post m (nI L) (nI I) yg (nI S) (nI W) (nI B) xb yd yv yt yo yh n p.1 (nI i) kd oa ob ik nl us uw (p.2.2) (p.2.1) vl mk fr cu nt) (fun i p => ic_ar p.2.1 i (ic_Cv L S H m) ∧ ic_ar p.2.2 S (fun s => F s ∨ (s < i ∧ ic_Cv L S H m s)) ∧ ((p.1 = 6 ∧ ∀ s, s < i → ic_Cv L S H m s → F s) ∨ (p.1 = 5 ∧ ¬ ∀ s, s < i → ic_Cv L S H m s → F s))) S (6, qa, ra) ⟨ic_ar0, ic_ar_congr hr fun s hs => ⟨Or.inl, fun z => z.resolve_right fun y => absurd y.1 (Nat.not_lt_zero _)⟩, Or.inl ⟨rfl, ic_all0⟩⟩ ?_ ?_
  · rintro n ⟨x2, q, r⟩ ⟨hq, hr', hx⟩
    exact br_t (nI_le (Nat.le_refl _) (by omega)) (K x2 q r hq (ic_ar_congr hr' fun s hs => or_congr_right ⟨fun z => z.2, fun z => ⟨hs, z⟩⟩) hx)
  · rintro n i ⟨x2, q, r⟩ hi ⟨hq, hr', hx⟩ ih
    have hin : vp_in (nI i) 32 := vp_in_nI (by omega) (by omega)
    have ec : (nI i).toNatClampNeg = i := nI_clamp (by omega)
    have hri : (F i ∧ r i = 1) ∨ (¬ F i ∧ r i = 0) := (hr' i hi).imp (fun z => ⟨z.1.resolve_right fun y => absurd y.1 (Nat.lt_irrefl _), z.2⟩) (fun z => ⟨fun y => z.1 (Or.inl y), z.2⟩)
    have cont : ∀ (c : Int32) (q' : Nat → Int32), ic_ar q' (i + 1) (ic_Cv L S H m) → ((c = 6 ∧ ∀ s, s < i + 1 → ic_Cv L S H m s → F s) ∨ (c = 5 ∧ ¬ ∀ s, s < i + 1 → ic_Cv L S H m s → F s)) → wY_image_136 post (wY_image_96 post m (nI L) (nI I) yg (nI S) (nI W) (nI B) xb yd yv yt yo yh n) m c (nI i) (nI L) (nI I) yg (nI S) (nI W) (nI B) xb yd yv yt yo yh kd oa ob ik nl us uw r q' vl mk fr cu nt := by
      intro c q' hq' hc
      refine ya_im136 (by omega) hri (hq' i (by omega)) fun v hv => ih (c, q', upd r i v) ⟨hq', fun s hs => ?_, hc⟩
      dsimp only
      by_cases e : s = i
      · subst e
        rw [show upd r s v s = v from pk_us]
        exact hv.imp (fun z => ⟨z.1.imp id fun y => ⟨by omega, y⟩, z.2⟩) (fun z => ⟨fun y => z.1 (y.imp id fun w => w.2), z.2⟩)
      · rw [show upd r i v s = r s from pk_un e]
        exact (hr' s hs).imp (fun z => ⟨z.1.imp id fun y => ⟨by omega, y.2⟩, z.2⟩) (fun z => ⟨fun y => z.1 (y.imp id fun w => ⟨by omega, w.2⟩), z.2⟩)
    refine br_f (nI_ge hi (by omega)) (ya_covered hC rfl hi hf (fun h => ⟨hin, nm_r (e' := upd q i 1) (by rw [ec, ic_nar1]) ⟨hin, ?_⟩⟩) (fun h => ⟨hin, nm_r (e' := upd q i 0) (by rw [ec, ic_nar0]) ⟨hin, ?_⟩⟩))
    · have hq1 : ic_ar (upd q i 1) (i + 1) (ic_Cv L S H m) := ic_ars hq (Or.inl ⟨h, rfl⟩)
      rw [ec, show upd q i 1 i = 1 from pk_us]
      refine br_f (by decide) ⟨hin, ?_⟩
      rcases hri with ⟨z, e⟩ | ⟨z, e⟩
      · refine br_f (by show ¬ r i = 0; rw [e]; decide) (cont _ _ hq1 ?_)
        rw [ic_all]
        exact hx.imp (fun y => ⟨y.1, y.2, fun _ => z⟩) (fun y => ⟨y.1, fun w => y.2 w.1⟩)
      · refine br_t e (cont _ _ hq1 (Or.inr ⟨rfl, ?_⟩))
        rw [ic_all]
        exact fun w => z (w.2 h)
    · have hq1 : ic_ar (upd q i 0) (i + 1) (ic_Cv L S H m) := ic_ars hq (Or.inr ⟨h, rfl⟩)
      rw [ec, show upd q i 0 i = 0 from pk_us]
      refine br_t rfl (cont _ _ hq1 ?_)
      rw [ic_all]
      exact hx.imp (fun y => ⟨y.1, y.2, fun w => absurd w h⟩) (fun y => ⟨y.1, fun w => y.2 w.1⟩)
theorem ya_image {post : Int32 → SY → Prop} {d : Nat} (hC : ic_C L I S W N B G xa tr su kd oa ob) (hP : ic_P L S W N tr su nl xb nb ms bd mb) (hdd : d < 32) (hr : ic_ar ra S F) (Kc : (∃ t, t < S ∧ (∃ s, s < S ∧ F s ∧ ic_St L W nb s t) ∧ ic_FW (ic_St L W nb) (ic_Bd W bd) d t) → ∀ vl' fr' cu' nt', post 4 ((nI L), (nI I), yg, (nI S), (nI W), (nI B), xb, nI d, yv, yt, 1, yh, kd, oa, ob, ik, nl, us, uw, ra, qa, vl', mk, fr', cu', nt'))
    (Kn : ¬ (∃ t, t < S ∧ (∃ s, s < S ∧ F s ∧ ic_St L W nb s t) ∧ ic_FW (ic_St L W nb) (ic_Bd W bd) d t) → ∀ x2 qa' ra' vl' mk' fr' cu' nt', ic_ar qa' S (ic_Cv L S (fun t => ∃ s, s < S ∧ F s ∧ ic_St L W nb s t) (ic_SH L ms mb d)) → ic_ar ra' S (fun s => F s ∨ ic_Cv L S (fun t => ∃ s, s < S ∧ F s ∧ ic_St L W nb s t) (ic_SH L ms mb d) s) → ((x2 = 6 ∧ ∀ s, s < S → ic_Cv L S (fun t => ∃ s, s < S ∧ F s ∧ ic_St L W nb s t) (ic_SH L ms mb d) s → F s) ∨ (x2 = 5 ∧ ¬ ∀ s, s < S → ic_Cv L S (fun t => ∃ s, s < S ∧ F s ∧ ic_St L W nb s t) (ic_SH L ms mb d) s → F s)) → post x2 ((nI L), (nI I), yg, (nI S), (nI W), (nI B), xb, nI d, yv, yt, 1, 1, kd, oa, ob, ik, nl, us, uw, ra', qa', vl', mk', fr', cu', nt')) : wpY_image post ((nI L), (nI I), yg, (nI S), (nI W), (nI B), xb, nI d, yv, yt, 1, yh, kd, oa, ob, ik, nl, us, uw, ra, qa, vl, mk, fr, cu, nt) := by
  have hd := hC.1
  unfold ic_D at hd
  refine br_f (by decide) ?_
  refine loop_0 (fun n i (a : Nat → Int32) => wY_image_11 post (nI L) (nI I) yg (nI S) (nI W) (nI B) xb (nI d) yv yt 1 yh n (nI i) kd oa ob ik nl us uw ra qa vl mk fr a nt) (fun i a => ic_ar a i F) S cu ic_ar0 ?_ ?_
  · intro n a ha
    refine br_t (nI_le (Nat.le_refl _) (by omega)) (ya_push hC hP ha fun v c o hc => ?_)
    refine loop_0 (fun n i (a : Nat → Int32) => wY_image_43 post (nI L) (nI I) yg (nI S) (nI W) (nI B) xb (nI d) yv yt 1 yh n (nI i) kd oa ob ik nl us uw ra qa v mk a c o) (fun i a => ic_ar a i (fun t => ∃ s, s < S ∧ F s ∧ ic_St L W nb s t)) S fr ic_ar0 ?_ ?_
    · intro n f hf
      refine br_t (nI_le (Nat.le_refl _) (by omega)) (ya_failsWithin hC hP rfl hdd hf (fun h v' c' o' => br_f (by decide) (Kc h _ _ _ _)) (fun h v' c' o' => br_t rfl ?_))
      refine ya_shared hC hP rfl hdd fun k' => ?_
      exact ya_im96 hC hf hr fun x2 q r hq hr' hx => Kn h x2 _ _ _ _ _ _ _ hq hr' hx
    · intro n i f hi hf ih
      exact br_f (nI_ge hi (by omega)) ⟨vp_in_nI (by omega) (by omega), vp_in_nI (by omega) (by omega), nm_r (e' := upd f i (vp_nar .boolean (c i))) (by rw [nI_clamp (by omega)]) (nm_r (nI_1 i) (ih _ (ic_ars hf (ic_cp (hc i hi)))))⟩
  · intro n i a hi ha ih
    exact br_f (nI_ge hi (by omega)) ⟨vp_in_nI (by omega) (by omega), vp_in_nI (by omega) (by omega), nm_r (e' := upd a i (vp_nar .boolean (ra i))) (by rw [nI_clamp (by omega)]) (nm_r (nI_1 i) (ih _ (ic_ars ha (ic_cp (hr i hi)))))⟩
end
end
section
/-! the relation -/
def ic_Se (S : Nat) (xo xd xu xh xq yd yh : Int32) (ra qa : Nat → Int32) : Prop := xo = 0 ∨ (xo = 1 ∧ ∃ d, d < 32 ∧ xd = nI d ∧ yd = nI d ∧ (∀ s, s < 32 → bt xu s = true → s < S) ∧ ic_ar ra S (fun s => bt xu s = true) ∧ ((xh = 0 ∧ yh = 0) ∨ (xh = 1 ∧ yh = 1 ∧ ic_ar qa S (fun s => bt xq s = true))))
def ic_Vd (L S W : Nat) (nb : Nat → Nat → Nat → Bool) (ms : Nat → Int32) (mb : Int32) (ik : Nat → Int32) (xv xt xz yt : Int32) (ts ti us uw : Nat → Int32) : Prop := xv = 0 ∨ (xv = 1 ∧ ∀ s, s < S → (bt xz s = true ↔ ic_Cv L S (ic_Re S (ic_St L W nb) (ic_In ik L)) (ic_SH L ms mb 31) s)) ∨ (xv = 2 ∧ ∃ n, n < 32 ∧ xt = nI n ∧ yt = nI n ∧ ∀ t, t < n + 1 → us t = ts t ∧ uw t = ti t)
def ic_F (L I S W N B G : Nat) (nb : Nat → Nat → Nat → Bool) (ms : Nat → Int32) (bd : Nat → Nat → Bool) (mb : Int32) (xa xb xi xo xd xu xh xq xv xt xz yd yt yh : Int32) (tr su ik nl bf fl sm ts ti kd oa ob us uw ra qa : Nat → Int32) : Prop := ic_C L I S W N B G xa tr su kd oa ob ∧ ic_P L S W N tr su nl xb nb ms bd mb ∧ ic_D1 L S W nb ik xi bf ∧ ic_D2 L S W nb bd ms mb fl sm ∧ ic_Se S xo xd xu xh xq yd yh ra qa ∧ ic_Vd L S W nb ms mb ik xv xt xz yt ts ti us uw
def ic_RR (xl xg xf xs xw xa xn xb xi xo xd xu xh xq xv xt xz yl yi yg ys yw yb ybl yd yv yt yo yh : Int32) (tr su ik nl bf fl sm ts ti kd oa ob yik ynl us uw ra qa vl mk fr cu nt : Nat → Int32) : Prop := ∃ (L I S W N B G : Nat) (nb : Nat → Nat → Nat → Bool) (ms : Nat → Int32) (bd : Nat → Nat → Bool) (mb : Int32), xl = nI L ∧ xg = nI G ∧ xf = nI (1 + L + I) ∧ xs = nI S ∧ xw = nI W ∧ xn = nI N ∧ yl = nI L ∧ yi = nI I ∧ yg = nI G ∧ ys = nI S ∧ yw = nI W ∧ yb = nI B ∧ ybl = xb ∧ yv = xv ∧ yo = xo ∧ yik = ik ∧ ynl = nl ∧ ic_F L I S W N B G nb ms bd mb xa xb xi xo xd xu xh xq xv xt xz yd yt yh tr su ik nl bf fl sm ts ti kd oa ob us uw ra qa
def i_Rel (_k : Nat) (u : SX) (v : SY) : Prop := match u with
  | (xl, xg, xf, xs, xw, xa, xn, xb, xi, xo, xd, xu, xh, xq, xv, xt, xz, tr, su, ik, nl, bf, fl, sm, ts, ti) => match v with
    | (yl, yi, yg, ys, yw, yb, ybl, yd, yv, yt, yo, yh, kd, oa, ob, yik, ynl, us, uw, ra, qa, vl, mq, fr, cu, nt) => ic_RR xl xg xf xs xw xa xn xb xi xo xd xu xh xq xv xt xz yl yi yg ys yw yb ybl yd yv yt yo yh tr su ik nl bf fl sm ts ti kd oa ob yik ynl us uw ra qa vl mq fr cu nt
theorem i_up {k : Nat} {u : SX} {v : SY} (h : i_Rel k u v) : i_Rel (k + 4) u v := h
theorem ic_mk {k : Nat} {L I S W N B G : Nat} {nb : Nat → Nat → Nat → Bool} {ms : Nat → Int32} {bd : Nat → Nat → Bool} {mb : Int32} {xa xb xi xo xd xu xh xq xv xt xz yd yt yh : Int32} {tr su ik nl bf fl sm ts ti kd oa ob us uw ra qa vl mk fr cu nt : Nat → Int32} (h : ic_F L I S W N B G nb ms bd mb xa xb xi xo xd xu xh xq xv xt xz yd yt yh tr su ik nl bf fl sm ts ti kd oa ob us uw ra qa) : i_Rel k ((nI L), (nI G), (nI (1 + L + I)), (nI S), (nI W), xa, (nI N), xb, xi, xo, xd, xu, xh, xq, xv, xt, xz, tr, su, ik, nl, bf, fl, sm, ts, ti) ((nI L), (nI I), (nI G), (nI S), (nI W), (nI B), xb, yd, xv, yt, xo, yh, kd, oa, ob, ik, nl, us, uw, ra, qa, vl, mk, fr, cu, nt) := ⟨L, I, S, W, N, B, G, nb, ms, bd, mb, rfl, rfl, rfl, rfl, rfl, rfl, rfl, rfl, rfl, rfl, rfl, rfl, rfl, rfl, rfl, rfl, rfl, h⟩
theorem ic_el {k : Nat} {u : SX} {v : SY} {P : SX → SY → Prop} (h : ∀ (L I S W N B G : Nat) (nb : Nat → Nat → Nat → Bool) (ms : Nat → Int32) (bd : Nat → Nat → Bool) (mb : Int32) (xa xb xi xo xd xu xh xq xv xt xz yd yt yh : Int32) (tr su ik nl bf fl sm ts ti kd oa ob us uw ra qa vl mk fr cu nt : Nat → Int32), ic_F L I S W N B G nb ms bd mb xa xb xi xo xd xu xh xq xv xt xz yd yt yh tr su ik nl bf fl sm ts ti kd oa ob us uw ra qa → P ((nI L), (nI G), (nI (1 + L + I)), (nI S), (nI W), xa, (nI N), xb, xi, xo, xd, xu, xh, xq, xv, xt, xz, tr, su, ik, nl, bf, fl, sm, ts, ti) ((nI L), (nI I), (nI G), (nI S), (nI W), (nI B), xb, yd, xv, yt, xo, yh, kd, oa, ob, ik, nl, us, uw, ra, qa, vl, mk, fr, cu, nt)) (I : i_Rel k u v) : P u v := by
  obtain ⟨xl, xg, xf, xs, xw, xa, xn, xb, xi, xo, xd, xu, xh, xq, xv, xt, xz, tr, su, ik, nl, bf, fl, sm, ts, ti⟩ := u
  obtain ⟨yl, yi, yg, ys, yw, yb, ybl, yd, yv, yt, yo, yh, kd, oa, ob, yik, ynl, us, uw, ra, qa, vl, mk, fr, cu, nt⟩ := v
  obtain ⟨L, I, S, W, N, B, G, nb, ms, bd, mb, rfl, rfl, rfl, rfl, rfl, rfl, rfl, rfl, rfl, rfl, rfl, rfl, rfl, rfl, rfl, rfl, rfl, hF⟩ := I
  exact h _ _ _ _ _ _ _ _ _ _ _ _ _ _ _ _ _ _ _ _ _ _ _ _ _ _ _ _ _ _ _ _ _ _ _ _ _ _ _ _ _ _ _ _ _ _ hF
/-! ranges -/
section
variable {L I S W N B G : Nat} {nb : Nat → Nat → Nat → Bool} {ms : Nat → Int32} {bd : Nat → Nat → Bool} {mb : Int32} {xg xf xa xb xi xo xd xu xh xq xv xt xz : Int32} {tr su ik nl bf fl sm ts ti : Nat → Int32}
theorem ic_2N : 2 * nI N = nI (2 * N) := by
  show nI 2 * nI N = _
  rw [pk_mul]
theorem xa_lit1 {post : Int32 → Prop} {m : Nat} {p0 : Int32} (hp : p0 = nI m) (hm : m < 2 * N) (hN : N ≤ 24) (K : post 1) : wpX_isLiteral post ((nI L), xg, xf, (nI S), (nI W), xa, (nI N), xb, xi, xo, xd, xu, xh, xq, xv, xt, xz, tr, su, ik, nl, bf, fl, sm, ts, ti) p0 := ic_rng1 hp ic_2N hm (by omega) K
theorem xa_lit0 {post : Int32 → Prop} {p0 : Int32} (h : p0 < 0 ∨ nI (2 * N) ≤ p0) (K : post 0) : wpX_isLiteral post ((nI L), xg, xf, (nI S), (nI W), xa, (nI N), xb, xi, xo, xd, xu, xh, xq, xv, xt, xz, tr, su, ik, nl, bf, fl, sm, ts, ti) p0 := ic_rng0 (by rw [ic_2N]; exact h) K
theorem xa_sta1 {post : Int32 → Prop} {s : Nat} {p0 : Int32} (hp : p0 = nI s) (hs : s < S) (hS : S ≤ 32) (K : post 1) : wpX_isState post ((nI L), xg, xf, (nI S), (nI W), xa, (nI N), xb, xi, xo, xd, xu, xh, xq, xv, xt, xz, tr, su, ik, nl, bf, fl, sm, ts, ti) p0 := ic_rng1 hp rfl hs (by omega) K
theorem xa_sta0 {post : Int32 → Prop} {p0 : Int32} (h : p0 < 0 ∨ nI S ≤ p0) (K : post 0) : wpX_isState post ((nI L), xg, xf, (nI S), (nI W), xa, (nI N), xb, xi, xo, xd, xu, xh, xq, xv, xt, xz, tr, su, ik, nl, bf, fl, sm, ts, ti) p0 := ic_rng0 h K
theorem xa_wor1 {post : Int32 → Prop} {s : Nat} {p0 : Int32} (hp : p0 = nI s) (hs : s < W) (hW : W ≤ 4) (K : post 1) : wpX_isWord post ((nI L), xg, xf, (nI S), (nI W), xa, (nI N), xb, xi, xo, xd, xu, xh, xq, xv, xt, xz, tr, su, ik, nl, bf, fl, sm, ts, ti) p0 := ic_rng1 hp rfl hs (by omega) K
theorem xa_wor0 {post : Int32 → Prop} {p0 : Int32} (h : p0 < 0 ∨ nI W ≤ p0) (K : post 0) : wpX_isWord post ((nI L), xg, xf, (nI S), (nI W), xa, (nI N), xb, xi, xo, xd, xu, xh, xq, xv, xt, xz, tr, su, ik, nl, bf, fl, sm, ts, ti) p0 := ic_rng0 h K
end
theorem ic_ix (x : Int32) {n : Nat} (hn : n < 2 ^ 31) : (x < 0 ∨ nI n ≤ x) ∨ ∃ j : Nat, j < n ∧ x = nI j := by
  rcases pk_ix x hn with h | h | h
  · exact Or.inl (Or.inl h)
  · exact Or.inl (Or.inr h)
  · exact Or.inr h
theorem ic_ge_nlt {x : Int32} {n : Nat} (hn : n < 2 ^ 31) (h : nI n ≤ x) : ¬ x < nI n := fun z => absurd (Int32.lt_of_lt_of_le z h) (Int32.lt_irrefl)
theorem ic_ge_nle {x : Int32} {n : Nat} (hn : n + 1 < 2 ^ 31) (h : nI (n + 1) ≤ x) : ¬ x ≤ nI n := fun z => absurd (Int32.le_trans h z) (nI_ge (by omega) hn)
theorem ic_ge_lt {x : Int32} {n : Nat} (hn : n + 1 < 2 ^ 31) (h : nI (n + 1) ≤ x) : nI n < x := Int32.not_le.mp (ic_ge_nle hn h)
end
section
/-! the calls that read, or store little -/
theorem i_vc_value {k : Nat} {u : SX} {v : SY} (I : i_Rel k u v) (hk : k + 4 ≤ 2051) (v1 : Int32) (v2 : Int32) (v3 : Int32) : wpX_value (fun r => wpY_value (fun r' v' => r' = r ∧ i_Rel (k + 4) u v') v v1 v2 v3) u v1 v2 v3 := by
  refine ic_el (P := fun u v => wpX_value (fun r => wpY_value (fun r' v' => r' = r ∧ i_Rel (k + 4) u v') v v1 v2 v3) u v1 v2 v3) ?_ I
  intro L I S W N B G nb ms bd mb xa xb xi xo xd xu xh xq xv xt xz yd yt yh tr su ik nl bf fl sm ts ti kd oa ob us uw ra qa vl mk fr cu nt hF
  have hC := hF.1
  have hd := hC.1
  unfold ic_D at hd
  unfold wpX_value
  rcases ic_ix v1 (n := 2 * N) (by omega) with b | ⟨m, hm, rfl⟩
  · refine xa_lit0 b (br_t rfl ?_)
    unfold wpY_value
    exact ya_valid0 hC b (br_t rfl ⟨rfl, ic_mk hF⟩)
  · refine xa_lit1 rfl hm (by omega) (br_f (by decide) ?_)
    rcases ic_ix v2 (n := S) (by omega) with b | ⟨s, hs, rfl⟩
    · refine xa_sta0 b (br_t rfl ?_)
      unfold wpY_value
      exact ya_valid1 hC rfl hm (br_f (by decide) (ya_place0 (Or.inl b) (br_t rfl ⟨rfl, ic_mk hF⟩)))
    · refine xa_sta1 rfl hs (by omega) (br_f (by decide) ?_)
      rcases ic_ix v3 (n := W) (by omega) with b | ⟨w, hw, rfl⟩
      · refine xa_wor0 b (br_t rfl ?_)
        unfold wpY_value
        exact ya_valid1 hC rfl hm (br_f (by decide) (ya_place0 (Or.inr b) (br_t rfl ⟨rfl, ic_mk hF⟩)))
      · refine xa_wor1 rfl hw (by omega) (br_f (by decide) ?_)
        refine xa_truthOf rfl rfl (by omega) (by omega) hC.2.1 (by omega) fun r hr => ?_
        refine ya_value hC rfl rfl rfl hm hs hw fun vl' => ⟨?_, ic_mk hF⟩
        rw [ic_ur _ (by omega), hr s hs]
theorem i_vc_support {k : Nat} {u : SX} {v : SY} (I : i_Rel k u v) (hk : k + 4 ≤ 2051) (v1 : Int32) : wpX_support (fun r => wpY_support (fun r' v' => r' = r ∧ i_Rel (k + 4) u v') v v1) u v1 := by
  refine ic_el (P := fun u v => wpX_support (fun r => wpY_support (fun r' v' => r' = r ∧ i_Rel (k + 4) u v') v v1) u v1) ?_ I
  intro L I S W N B G nb ms bd mb xa xb xi xo xd xu xh xq xv xt xz yd yt yh tr su ik nl bf fl sm ts ti kd oa ob us uw ra qa vl mk fr cu nt hF
  have hC := hF.1
  have hd := hC.1
  unfold ic_D at hd
  unfold wpX_support
  rcases ic_ix v1 (n := 2 * N) (by omega) with b | ⟨m, hm, rfl⟩
  · refine xa_lit0 b (br_t rfl ?_)
    unfold wpY_support
    exact ya_valid0 hC b (br_t rfl ⟨rfl, ic_mk hF⟩)
  · have e : nI m >>> ((1 : Int32) &&& 31) = nI (m / 2) := ic_half (by omega)
    refine xa_lit1 rfl hm (by omega) (br_f (by decide) ⟨by rw [e]; exact vp_in_nI (by omega) (by omega), ?_⟩)
    refine ya_support hC rfl hm fun mk' => ⟨?_, ic_mk hF⟩
    rw [e, nI_clamp (by omega)]
theorem i_vc_step {k : Nat} {u : SX} {v : SY} (I : i_Rel k u v) (hk : k + 4 ≤ 2051) (v1 : Int32) (v2 : Int32) : wpX_step (fun r => wpY_step (fun r' v' => r' = r ∧ i_Rel (k + 4) u v') v v1 v2) u v1 v2 := by
  refine ic_el (P := fun u v => wpX_step (fun r => wpY_step (fun r' v' => r' = r ∧ i_Rel (k + 4) u v') v v1 v2) u v1 v2) ?_ I
  intro L I S W N B G nb ms bd mb xa xb xi xo xd xu xh xq xv xt xz yd yt yh tr su ik nl bf fl sm ts ti kd oa ob us uw ra qa vl mk fr cu nt hF
  have hC := hF.1
  have hP := hF.2.1
  have hd := hC.1
  unfold ic_D at hd
  unfold wpX_step
  rcases ic_ix v1 (n := S) (by omega) with b | ⟨s, hs, rfl⟩
  · refine xa_sta0 b (br_t rfl ?_)
    unfold wpY_step
    exact ya_place0 (Or.inl b) (br_t rfl ⟨rfl, ic_mk hF⟩)
  · refine xa_sta1 rfl hs (by omega) (br_f (by decide) ?_)
    rcases ic_ix v2 (n := W) (by omega) with b | ⟨w, hw, rfl⟩
    · refine xa_wor0 b (br_t rfl ?_)
      unfold wpY_step
      exact ya_place0 (Or.inr b) (br_t rfl ⟨rfl, ic_mk hF⟩)
    · refine xa_wor1 rfl hw (by omega) (br_f (by decide) ?_)
      refine xa_successor hC hP rfl rfl hs hw ?_
      exact ya_step hC hP rfl rfl hs hw fun vl' => ⟨rfl, ic_mk hF⟩
theorem i_vc_isBad {k : Nat} {u : SX} {v : SY} (I : i_Rel k u v) (hk : k + 4 ≤ 2051) (v1 : Int32) (v2 : Int32) : wpX_isBad (fun r => wpY_isBad (fun r' v' => r' = r ∧ i_Rel (k + 4) u v') v v1 v2) u v1 v2 := by
  refine ic_el (P := fun u v => wpX_isBad (fun r => wpY_isBad (fun r' v' => r' = r ∧ i_Rel (k + 4) u v') v v1 v2) u v1 v2) ?_ I
  intro L I S W N B G nb ms bd mb xa xb xi xo xd xu xh xq xv xt xz yd yt yh tr su ik nl bf fl sm ts ti kd oa ob us uw ra qa vl mk fr cu nt hF
  have hC := hF.1
  have hP := hF.2.1
  have hd := hC.1
  unfold ic_D at hd
  unfold wpX_isBad
  obtain ⟨m, hm, e, _, _⟩ := hP.2
  rcases ic_ix v1 (n := S) (by omega) with b | ⟨s, hs, rfl⟩
  · refine xa_sta0 b (br_t rfl ?_)
    unfold wpY_isBad wpY_value
    exact ya_valid1 hC e hm (br_f (by decide) (ya_place0 (Or.inl b) (br_t rfl ⟨rfl, ic_mk hF⟩)))
  · refine xa_sta1 rfl hs (by omega) (br_f (by decide) ?_)
    rcases ic_ix v2 (n := W) (by omega) with b | ⟨w, hw, rfl⟩
    · refine xa_wor0 b (br_t rfl ?_)
      unfold wpY_isBad wpY_value
      exact ya_valid1 hC e hm (br_f (by decide) (ya_place0 (Or.inr b) (br_t rfl ⟨rfl, ic_mk hF⟩)))
    · refine xa_wor1 rfl hw (by omega) (br_f (by decide) ?_)
      refine xa_truthLi hC hP.2 rfl hw fun r hr => ?_
      refine ya_isBad hC hP rfl rfl hs hw fun vl' => ⟨?_, ic_mk hF⟩
      rw [ic_ur _ (by omega), hr s hs]
theorem i_vc_shared {k : Nat} {u : SX} {v : SY} (I : i_Rel k u v) (hk : k + 4 ≤ 2051) (v1 : Int32) : wpX_shared (fun r => wpY_shared (fun r' v' => r' = r ∧ i_Rel (k + 4) u v') v v1) u v1 := by
  refine ic_el (P := fun u v => wpX_shared (fun r => wpY_shared (fun r' v' => r' = r ∧ i_Rel (k + 4) u v') v v1) u v1) ?_ I
  intro L I S W N B G nb ms bd mb xa xb xi xo xd xu xh xq xv xt xz yd yt yh tr su ik nl bf fl sm ts ti kd oa ob us uw ra qa vl mk fr cu nt hF
  have hC := hF.1
  have hP := hF.2.1
  have h2 := hF.2.2.2.1
  rcases ic_ix v1 (n := 32) (by omega) with b | ⟨j, hj, rfl⟩
  · have key : ∀ {A : Prop} {C : Prop}, C → (v1 < 0 → C) ∧ (¬ v1 < 0 → ((v1 ≤ 31 → A) ∧ (¬ v1 ≤ 31 → C))) := fun c => br_c (fun _ => c) (fun z => br_f (ic_ge_nle (n := 31) (by omega) (b.resolve_left z)) c)
    exact key (key ⟨rfl, ic_mk hF⟩)
  · refine br_f (nI_pos (by omega)) (br_t (nI_le (b := 31) (by omega) (by omega)) ⟨vp_in_nI hj (by omega), ?_⟩)
    refine ya_shared hC hP rfl hj fun mk' => ⟨?_, ic_mk hF⟩
    rw [nI_clamp (by omega), h2.2 j hj]
theorem i_vc_length {k : Nat} {u : SX} {v : SY} (I : i_Rel k u v) (hk : k + 4 ≤ 2051) : wpX_length (fun r => wpY_length (fun r' => r' = r ∧ i_Rel (k + 4) u v) v) u := by
  refine ic_el (P := fun u v => wpX_length (fun r => wpY_length (fun r' => r' = r ∧ i_Rel (k + 4) u v) v) u) ?_ I
  intro L I S W N B G nb ms bd mb xa xb xi xo xd xu xh xq xv xt xz yd yt yh tr su ik nl bf fl sm ts ti kd oa ob us uw ra qa vl mk fr cu nt hF
  rcases hF.2.2.2.2.2 with rfl | ⟨rfl, _⟩ | ⟨rfl, n, hn, rfl, rfl, _⟩
  · exact br_f (by decide) (br_f (by decide) (br_t rfl ⟨rfl, ic_mk hF⟩))
  · exact br_f (by decide) (br_t rfl (br_f (by decide) (br_t rfl ⟨rfl, ic_mk hF⟩)))
  · exact br_t rfl (br_f (by decide) (br_f (by decide) ⟨rfl, ic_mk hF⟩))
theorem i_vc_traceState {k : Nat} {u : SX} {v : SY} (I : i_Rel k u v) (hk : k + 4 ≤ 2051) (v1 : Int32) : wpX_traceState (fun r => wpY_traceState (fun r' => r' = r ∧ i_Rel (k + 4) u v) v v1) u v1 := by
  refine ic_el (P := fun u v => wpX_traceState (fun r => wpY_traceState (fun r' => r' = r ∧ i_Rel (k + 4) u v) v v1) u v1) ?_ I
  intro L I S W N B G nb ms bd mb xa xb xi xo xd xu xh xq xv xt xz yd yt yh tr su ik nl bf fl sm ts ti kd oa ob us uw ra qa vl mk fr cu nt hF
  unfold wpX_traceState
  rcases hF.2.2.2.2.2 with rfl | ⟨rfl, _⟩ | ⟨rfl, n, hn, rfl, rfl, ht⟩
  · exact br_f (by decide) (br_t rfl (br_f (by decide) ⟨rfl, ic_mk hF⟩))
  · exact br_f (by decide) (br_t rfl (br_f (by decide) ⟨rfl, ic_mk hF⟩))
  · refine br_t rfl ?_
    rcases ic_ix v1 (n := n + 1) (by omega) with b | ⟨j, hj, rfl⟩
    · exact br_c (fun z => br_t rfl (br_t rfl (br_t z ⟨rfl, ic_mk hF⟩))) (fun z => br_t (ic_ge_lt (by omega) (b.resolve_left z)) (br_t rfl (br_t rfl (br_f z (br_f (ic_ge_nle (by omega) (b.resolve_left z)) ⟨rfl, ic_mk hF⟩)))))
    · refine br_f (nI_pos (by omega)) (br_f (nI_nlt (by omega) (by omega)) (br_f (by decide) ⟨vp_in_nI (by omega) (by omega), ?_⟩))
      refine br_t rfl (br_f (nI_pos (by omega)) (br_t (nI_le (by omega) (by omega)) ⟨vp_in_nI (by omega) (by omega), ?_, ic_mk hF⟩))
      rw [nI_clamp (by omega)]
      exact (ht j hj).1
theorem i_vc_traceInput {k : Nat} {u : SX} {v : SY} (I : i_Rel k u v) (hk : k + 4 ≤ 2051) (v1 : Int32) : wpX_traceInput (fun r => wpY_traceInput (fun r' => r' = r ∧ i_Rel (k + 4) u v) v v1) u v1 := by
  refine ic_el (P := fun u v => wpX_traceInput (fun r => wpY_traceInput (fun r' => r' = r ∧ i_Rel (k + 4) u v) v v1) u v1) ?_ I
  intro L I S W N B G nb ms bd mb xa xb xi xo xd xu xh xq xv xt xz yd yt yh tr su ik nl bf fl sm ts ti kd oa ob us uw ra qa vl mk fr cu nt hF
  unfold wpX_traceInput
  rcases hF.2.2.2.2.2 with rfl | ⟨rfl, _⟩ | ⟨rfl, n, hn, rfl, rfl, ht⟩
  · exact br_f (by decide) (br_t rfl (br_f (by decide) ⟨rfl, ic_mk hF⟩))
  · exact br_f (by decide) (br_t rfl (br_f (by decide) ⟨rfl, ic_mk hF⟩))
  · refine br_t rfl ?_
    rcases ic_ix v1 (n := n + 1) (by omega) with b | ⟨j, hj, rfl⟩
    · exact br_c (fun z => br_t rfl (br_t rfl (br_t z ⟨rfl, ic_mk hF⟩))) (fun z => br_t (ic_ge_lt (by omega) (b.resolve_left z)) (br_t rfl (br_t rfl (br_f z (br_f (ic_ge_nle (by omega) (b.resolve_left z)) ⟨rfl, ic_mk hF⟩)))))
    · refine br_f (nI_pos (by omega)) (br_f (nI_nlt (by omega) (by omega)) (br_f (by decide) ⟨vp_in_nI (by omega) (by omega), ?_⟩))
      refine br_t rfl (br_f (nI_pos (by omega)) (br_t (nI_le (by omega) (by omega)) ⟨vp_in_nI (by omega) (by omega), ?_, ic_mk hF⟩))
      rw [nI_clamp (by omega)]
      exact (ht j hj).2
end
section
/-! gate, latch, bad -/
theorem ic_gateB {k : Nat} {L I S W N B G : Nat} {nb : Nat → Nat → Nat → Bool} {ms : Nat → Int32} {bd : Nat → Nat → Bool} {mb : Int32} {xa xb xi xo xd xu xh xq xv xt xz yd yt yh : Int32} {tr su ik nl bf fl sm ts ti kd oa ob us uw ra qa vl mk fr cu nt : Nat → Int32} {v1 v2 v3 : Int32} {PX : Int32 → SX → Prop} (hF : ic_F L I S W N B G nb ms bd mb xa xb xi xo xd xu xh xq xv xt xz yd yt yh tr su ik nl bf fl sm ts ti kd oa ob us uw ra qa) (hPX : ∀ r u', wY_gate_9 (fun r' v' => r' = r ∧ i_Rel (k + 4) u' v') v1 v2 v3 (nI L) (nI I) (nI G) (nI S) (nI W) (nI B) xb yd xv yt xo yh kd oa ob ik nl us uw ra qa vl mk fr cu nt → PX r u') : wX_gate_11 PX v1 v2 v3 (nI L) (nI G) (nI (1 + L + I)) (nI S) (nI W) xa (nI N) xb xi xo xd xu xh xq xv xt xz tr su ik nl bf fl sm ts ti := by
  obtain ⟨hC, hP, h1, h2, hS, hV⟩ := id hF
  have hd := hC.1
  unfold ic_D at hd
  unfold wX_gate_11
  rcases ic_ix v2 (n := 2 * N) (by omega) with b | ⟨x, hx, rfl⟩
  · refine xa_lit0 b (br_t rfl (hPX _ _ ?_))
    unfold wY_gate_9
    exact ya_valid0 hC b (br_t rfl ⟨rfl, ic_mk hF⟩)
  · refine xa_lit1 rfl hx (by omega) (br_f (by decide) ?_)
    rcases ic_ix v3 (n := 2 * N) (by omega) with b | ⟨y, hy, rfl⟩
    · refine xa_lit0 b (br_t rfl (hPX _ _ ?_))
      unfold wY_gate_9
      exact ya_valid1 hC rfl hx (br_f (by decide) (ya_valid0 hC b (br_t rfl ⟨rfl, ic_mk hF⟩)))
    · refine xa_lit1 rfl hy (by omega) (br_f (by decide) ?_)
      have eN : nI N - nI (1 + L + I) = nI B := by
        rw [pk_sub (by omega)]
        exact congrArg nI (by omega)
      rw [eN]
      refine br_c (fun z => ?_) (fun z => hPX _ _ ?_)
      · have hB : B < G := (nI_ltI (by omega) (by omega)).mp z
        refine xa_gate56 hC (by omega) rfl rfl rfl hx hy fun tr' ht hn => hPX _ _ ?_
        unfold wY_gate_9
        have hin : vp_in (nI B) 16 := vp_in_nI (by omega) (by omega)
        have ec : (nI B).toNatClampNeg = B := nI_clamp (by omega)
        refine ya_valid1 hC rfl hx (br_f (by decide) (ya_valid1 hC rfl hy (br_f (by decide) ?_)))
        rw [ec]
        refine br_t z ⟨hin, nm_e ⟨hin, nm_e ⟨hin, nm_e (nm_r (nI_1 B) ⟨?_, ic_mk ⟨ic_C_gate hC hB hx hy ht hn, ic_P_ext (by omega) ht (fun j hj => pk_un (by omega)) hP, h1, h2, hS, hV⟩⟩)⟩⟩⟩
        show nI 2 * ((nI L + nI I) + nI (B + 1)) = _
        rw [nI_add, nI_add, pk_mul]
        exact congrArg nI (by omega)
      · unfold wY_gate_9
        refine ya_valid1 hC rfl hx (br_f (by decide) (ya_valid1 hC rfl hy (br_f (by decide) ?_)))
        exact br_f z ⟨rfl, ic_mk hF⟩
theorem i_vc_gate {k : Nat} {u : SX} {v : SY} (I : i_Rel k u v) (hk : k + 4 ≤ 2051) (v1 : Int32) (v2 : Int32) (v3 : Int32) : wpX_gate (fun r u' => wpY_gate (fun r' v' => r' = r ∧ i_Rel (k + 4) u' v') v v1 v2 v3) u v1 v2 v3 := by
  refine ic_el (P := fun u v => wpX_gate (fun r u' => wpY_gate (fun r' v' => r' = r ∧ i_Rel (k + 4) u' v') v v1 v2 v3) u v1 v2 v3) ?_ I
  intro L I S W N B G nb ms bd mb xa xb xi xo xd xu xh xq xv xt xz yd yt yh tr su ik nl bf fl sm ts ti kd oa ob us uw ra qa vl mk fr cu nt hF
  exact br_c (fun h => ic_gateB hF fun r u' g => br_t h g) (fun h => br_c (fun h' => ic_gateB hF fun r u' g => br_f h (br_t h' g)) (fun h' => br_f h (br_f h' ⟨rfl, ic_mk hF⟩)))
theorem ic_P_latch {L S W N i m : Nat} {tr su nl ms : Nat → Int32} {xb mb v3 : Int32} {nb : Nat → Nat → Nat → Bool} {bd : Nat → Nat → Bool} (hP : ic_P L S W N tr su nl xb nb ms bd mb) (hm : m < 2 * N) (h3 : v3 = nI m) : ic_P L S W N tr su (upd nl i v3) xb (fun j s w => if j = i then ic_L tr m s w else nb j s w) (upd ms i (su (m / 2))) bd mb := by
  refine ⟨fun j hj => ?_, hP.2⟩
  by_cases e : j = i
  · subst e
    refine ⟨m, hm, by rw [pk_us]; exact h3, pk_us.symm, fun s hs w hw => ?_⟩
    exact (if_pos rfl).symm
  · obtain ⟨p, hp, e1, e2, e3⟩ := hP.1 j hj
    refine ⟨p, hp, by rw [pk_un e]; exact e1, by rw [pk_un e]; exact e2, fun s hs w hw => ?_⟩
    rw [e3 s hs w hw]
    exact (if_neg e).symm
theorem ic_latB {k : Nat} {L I S W N B G : Nat} {nb : Nat → Nat → Nat → Bool} {ms : Nat → Int32} {bd : Nat → Nat → Bool} {mb : Int32} {xa xb xi xo xd xu xh xq xv xt xz yd yt yh : Int32} {tr su ik nl bf fl sm ts ti kd oa ob us uw ra qa vl mk fr cu nt : Nat → Int32} {i j : Nat} {v2 v3 : Int32} {PX : Int32 → SX → Prop} (hF : ic_F L I S W N B G nb ms bd mb xa xb xi xo xd xu xh xq xv xt xz yd yt yh tr su ik nl bf fl sm ts ti kd oa ob us uw ra qa) (hi : i < L) (hj : j < 3) (e2 : v2 = nI j) (hPX : ∀ r u', wpY_latch (fun r' v' => r' = r ∧ i_Rel (k + 4) u' v') ((nI L), (nI I), (nI G), (nI S), (nI W), (nI B), xb, yd, xv, yt, xo, yh, kd, oa, ob, ik, nl, us, uw, ra, qa, vl, mk, fr, cu, nt) (nI i) v2 v3 → PX r u') : wX_latch_30 PX (nI i) v2 v3 (nI L) (nI G) (nI (1 + L + I)) (nI S) (nI W) xa (nI N) xb xi xo xd xu xh xq xv xt xz tr su ik nl bf fl sm ts ti := by
  obtain ⟨hC, hP, h1, h2, hS, hV⟩ := id hF
  have hd := hC.1
  unfold ic_D at hd
  have hin : vp_in (nI i) 5 := vp_in_nI (by omega) (by omega)
  have ec : (nI i).toNatClampNeg = i := nI_clamp (by omega)
  unfold wX_latch_30
  rcases ic_ix v3 (n := 2 * N) (by omega) with b | ⟨m, hm, e3⟩
  · refine xa_lit0 b (br_t rfl (hPX _ _ ?_))
    unfold wpY_latch
    refine br_f (nI_pos (by omega)) (br_f (nI_ge hi (by omega)) (br_f (by rw [e2]; exact nI_pos (by omega)) (br_f (by rw [e2]; exact nI_nlt (a := 2) (by omega) (by omega)) ?_)))
    exact ya_valid0 hC b (br_t rfl ⟨rfl, ic_mk hF⟩)
  · refine xa_lit1 e3 hm (by omega) (br_f (by decide) ?_)
    rw [ec]
    refine ⟨hin, nm_e ⟨hin, nm_e ?_⟩⟩
    have hP' := ic_P_latch (i := i) hP hm e3
    refine xa_renewTransitions hC hP' (fun j' hj' => ?_) fun xi' bf' g1 => ?_
    · by_cases e : j' = i
      · subst e
        rw [pk_us, e2]
        rcases (by omega : j = 0 ∨ j = 1 ∨ j = 2) with rfl | rfl | rfl
        · exact Or.inl rfl
        · exact Or.inr (Or.inl rfl)
        · exact Or.inr (Or.inr rfl)
      · rw [pk_un e]; exact h1.1 j' hj'
    · refine xa_renewProperty hC hP' g1 fun fl' sm' g2 => hPX _ _ ?_
      unfold wpY_latch
      refine br_f (nI_pos (by omega)) (br_f (nI_ge hi (by omega)) (br_f (by rw [e2]; exact nI_pos (by omega)) (br_f (by rw [e2]; exact nI_nlt (a := 2) (by omega) (by omega)) ?_)))
      refine ya_valid1 hC e3 hm (br_f (by decide) ?_)
      rw [ec]
      exact ⟨hin, nm_e ⟨hin, nm_e ⟨rfl, ic_mk ⟨hC, hP', g1, g2, Or.inl rfl, Or.inl rfl⟩⟩⟩⟩
theorem i_vc_latch {k : Nat} {u : SX} {v : SY} (I : i_Rel k u v) (hk : k + 4 ≤ 2051) (v1 : Int32) (v2 : Int32) (v3 : Int32) : wpX_latch (fun r u' => wpY_latch (fun r' v' => r' = r ∧ i_Rel (k + 4) u' v') v v1 v2 v3) u v1 v2 v3 := by
  refine ic_el (P := fun u v => wpX_latch (fun r u' => wpY_latch (fun r' v' => r' = r ∧ i_Rel (k + 4) u' v') v v1 v2 v3) u v1 v2 v3) ?_ I
  intro L I S W N B G nb ms bd mb xa xb xi xo xd xu xh xq xv xt xz yd yt yh tr su ik nl bf fl sm ts ti kd oa ob us uw ra qa vl mk fr cu nt hF
  have hC := hF.1
  have hd := hC.1
  unfold ic_D at hd
  rcases ic_ix v1 (n := L) (by omega) with b | ⟨i, hi, rfl⟩
  · have keyX : ∀ {A C : Prop}, C → (v1 < 0 → C) ∧ (¬ v1 < 0 → ((v1 < nI L → A) ∧ (¬ v1 < nI L → C))) := fun c => br_c (fun _ => c) (fun z => br_f (ic_ge_nlt (by omega) (b.resolve_left z)) c)
    exact keyX (ic_rng0 b ⟨rfl, ic_mk hF⟩)
  · refine br_f (nI_pos (by omega)) (br_t (nI_lt hi (by omega)) ?_)
    rcases ic_ix v2 (n := 3) (by omega) with b | ⟨j, hj, e2⟩
    · have n0 : ¬ v2 = 0 := fun z => by
        subst z
        exact b.elim (by decide) (by decide)
      have n1 : ¬ v2 = 1 := fun z => by
        subst z
        exact b.elim (by decide) (by decide)
      have n2 : ¬ v2 = 2 := fun z => by
        subst z
        exact b.elim (by decide) (by decide)
      refine br_f n0 (br_f n1 (br_f n2 ?_))
      refine br_f (nI_pos (by omega)) (br_f (nI_ge hi (by omega)) ?_)
      exact br_c (fun _ => ⟨rfl, ic_mk hF⟩) (fun z => br_t (ic_ge_lt (n := 2) (by omega) (b.resolve_left z)) ⟨rfl, ic_mk hF⟩)
    · have key := ic_latB (k := k) (v3 := v3) hF hi hj e2 (PX := fun r u' => wpY_latch (fun r' v' => r' = r ∧ i_Rel (k + 4) u' v') ((nI L), (nI I), (nI G), (nI S), (nI W), (nI B), xb, yd, xv, yt, xo, yh, kd, oa, ob, ik, nl, us, uw, ra, qa, vl, mk, fr, cu, nt) (nI i) v2 v3) (fun _ _ h => h)
      have h012 : v2 = 0 ∨ v2 = 1 ∨ v2 = 2 := by
        rw [e2]
        rcases (by omega : j = 0 ∨ j = 1 ∨ j = 2) with rfl | rfl | rfl
        · exact Or.inl rfl
        · exact Or.inr (Or.inl rfl)
        · exact Or.inr (Or.inr rfl)
      exact br_c (fun _ => key) (fun z => br_c (fun _ => key) (fun z1 => br_t ((h012.resolve_left z).resolve_left z1) key))
theorem i_vc_bad {k : Nat} {u : SX} {v : SY} (I : i_Rel k u v) (hk : k + 4 ≤ 2051) (v1 : Int32) : wpX_bad (fun r u' => wpY_bad (fun r' v' => r' = r ∧ i_Rel (k + 4) u' v') v v1) u v1 := by
  refine ic_el (P := fun u v => wpX_bad (fun r u' => wpY_bad (fun r' v' => r' = r ∧ i_Rel (k + 4) u' v') v v1) u v1) ?_ I
  intro L I S W N B G nb ms bd mb xa xb xi xo xd xu xh xq xv xt xz yd yt yh tr su ik nl bf fl sm ts ti kd oa ob us uw ra qa vl mk fr cu nt hF
  obtain ⟨hC, hP, h1, h2, hS, hV⟩ := id hF
  have hd := hC.1
  unfold ic_D at hd
  unfold wpX_bad
  rcases ic_ix v1 (n := 2 * N) (by omega) with b | ⟨m, hm, rfl⟩
  · refine xa_lit0 b (br_t rfl ?_)
    unfold wpY_bad
    exact ya_valid0 hC b (br_t rfl ⟨rfl, ic_mk hF⟩)
  · refine xa_lit1 rfl hm (by omega) (br_f (by decide) ?_)
    have hP' : ic_P L S W N tr su nl (nI m) nb ms (ic_L tr m) (su (m / 2)) := ⟨hP.1, m, hm, rfl, rfl, fun _ _ _ _ => rfl⟩
    refine xa_renewProperty hC hP' h1 fun fl' sm' g2 => ?_
    unfold wpX_dropResults
    unfold wpY_bad
    exact ya_valid1 hC rfl hm (br_f (by decide) ⟨rfl, ic_mk ⟨hC, hP', h1, g2, Or.inl rfl, Or.inl rfl⟩⟩)
end
section
/-! begin, image, check, holds -/
theorem i_vc_begin {k : Nat} {u : SX} {v : SY} (I : i_Rel k u v) (hk : k + 4 ≤ 2051) (v1 : Int32) : wpX_begin (fun r u' => wpY_begin (fun r' v' => r' = r ∧ i_Rel (k + 4) u' v') v v1) u v1 := by
  refine ic_el (P := fun u v => wpX_begin (fun r u' => wpY_begin (fun r' v' => r' = r ∧ i_Rel (k + 4) u' v') v v1) u v1) ?_ I
  intro L I S W N B G nb ms bd mb xa xb xi xo xd xu xh xq xv xt xz yd yt yh tr su ik nl bf fl sm ts ti kd oa ob us uw ra qa vl mk fr cu nt hF
  obtain ⟨hC, hP, h1, h2, hS, hV⟩ := id hF
  have hd := hC.1
  unfold ic_D at hd
  rcases ic_ix v1 (n := 32) (by omega) with b | ⟨j, hj, rfl⟩
  · have key : ∀ {A C : Prop}, C → (v1 < 0 → C) ∧ (¬ v1 < 0 → ((v1 ≤ 31 → A) ∧ (¬ v1 ≤ 31 → C))) := fun c => br_c (fun _ => c) (fun z => br_f (ic_ge_nle (n := 31) (by omega) (b.resolve_left z)) c)
    exact key (key ⟨rfl, ic_mk hF⟩)
  · refine br_f (nI_pos (by omega)) (br_t (nI_le (b := 31) (by omega) (by omega)) ⟨vp_in_nI hj (by omega), ?_⟩)
    rw [nI_clamp (by omega), ic_cut h2 (by omega) hj h1.2.1]
    refine br_c (fun h => ?_) (fun h => ?_)
    · refine ya_begin hC hP rfl hj (fun z => absurd z h) (fun _ ra' vl' fr' cu' nt' hr => ⟨rfl, ic_mk ⟨hC, hP, h1, h2, Or.inr ⟨rfl, j, hj, rfl, rfl, fun s hs z => ((h1.2.1 s hs).mp z).1, ?_, Or.inl ⟨rfl, rfl⟩⟩, hV⟩⟩)
      exact ic_ar_congr hr fun s hs => by
        rw [h1.2.1 s (by omega)]
        exact ⟨fun z => ⟨hs, z⟩, fun z => z.2⟩
    · exact ya_begin hC hP rfl hj (fun _ vl' fr' cu' nt' => ⟨rfl, ic_mk ⟨hC, hP, h1, h2, Or.inl rfl, hV⟩⟩) (fun z => absurd z h)
theorem i_vc_image {k : Nat} {u : SX} {v : SY} (I : i_Rel k u v) (hk : k + 4 ≤ 2051) : wpX_image (fun r u' => wpY_image (fun r' v' => r' = r ∧ i_Rel (k + 4) u' v') v) u := by
  refine ic_el (P := fun u v => wpX_image (fun r u' => wpY_image (fun r' v' => r' = r ∧ i_Rel (k + 4) u' v') v) u) ?_ I
  intro L I S W N B G nb ms bd mb xa xb xi xo xd xu xh xq xv xt xz yd yt yh tr su ik nl bf fl sm ts ti kd oa ob us uw ra qa vl mk fr cu nt hF
  obtain ⟨hC, hP, h1, h2, hS, hV⟩ := id hF
  have hd := hC.1
  unfold ic_D at hd
  rcases hS with rfl | ⟨rfl, d, hdd, rfl, rfl, hu, hr, hh⟩
  · exact br_t rfl (br_t rfl ⟨rfl, ic_mk hF⟩)
  · refine br_f (by decide) (xa_successors hC h1 fun x hx => ⟨vp_in_nI hdd (by omega), ?_⟩)
    rw [nI_clamp (by omega), ic_cut h2 (by omega) hdd hx]
    refine br_c (fun h => ⟨vp_in_nI hdd (by omega), ?_⟩) (fun h => ?_)
    · have hx2 : ∀ s, s < 32 → bt x s = true → s < S := fun s hs z => ((hx s hs).mp z).1
      rw [h2.2 d hdd]
      refine xa_cover hC hx2 fun y hy => ?_
      have hcv : ∀ s, ic_Cv L S (fun p => bt x p = true) (ic_SH L ms mb d) s ↔ ic_Cv L S (fun t => ∃ s, s < S ∧ bt xu s = true ∧ ic_St L W nb s t) (ic_SH L ms mb d) s := fun s => ic_Cv_congr fun p hp => by
        rw [hx p (by omega)]
        exact ⟨fun z => z.2, fun z => ⟨hp, z⟩⟩
      have hy2 : ∀ s, s < S → (bt y s = true ↔ ic_Cv L S (fun t => ∃ s, s < S ∧ bt xu s = true ∧ ic_St L W nb s t) (ic_SH L ms mb d) s) := fun s hs => by
        rw [hy s (by omega), hcv]
        exact ⟨fun z => z.2, fun z => ⟨hs, z⟩⟩
      have hz : (y &&& (xu ^^^ (-1))) = 0 ↔ ∀ s, s < S → ic_Cv L S (fun t => ∃ s, s < S ∧ bt xu s = true ∧ ic_St L W nb s t) (ic_SH L ms mb d) s → bt xu s = true := by
        rw [ic_z]
        constructor
        · intro z s hs hc
          have z2 := z s (by omega)
          rw [b_and, ic_not _ (by omega), (hy2 s hs).mpr hc, Bool.true_and] at z2
          revert z2
          cases bt xu s <;> simp
        · intro z s hs
          rw [b_and, ic_not _ hs]
          cases hb : bt y s with
          | false => rfl
          | true =>
            have hs2 := ((hy s hs).mp hb).1
            rw [z s hs2 ((hy2 s hs2).mp hb)]
            rfl
      rw [hz]
      refine br_c (fun g => ?_) (fun g => nm_e ?_)
      · refine ya_image hC hP hdd hr (fun z => absurd z h) (fun _ x2 qa' ra' vl' mk' fr' cu' nt' hq hr' hx2 => ?_)
        rcases hx2 with ⟨rfl, _⟩ | ⟨_, z⟩
        · refine ⟨rfl, ic_mk ⟨hC, hP, h1, h2, Or.inr ⟨rfl, d, hdd, rfl, rfl, hu, ?_, Or.inr ⟨rfl, rfl, ?_⟩⟩, hV⟩⟩
          · exact ic_ar_congr hr' fun s hs => ⟨fun z => z.elim id (g s hs), Or.inl⟩
          · exact ic_ar_congr hq fun s hs => (hy2 s hs).symm
        · exact absurd g z
      · refine ya_image hC hP hdd hr (fun z => absurd z h) (fun _ x2 qa' ra' vl' mk' fr' cu' nt' hq hr' hx2 => ?_)
        rcases hx2 with ⟨_, z⟩ | ⟨rfl, _⟩
        · exact absurd z g
        · refine ⟨rfl, ic_mk ⟨hC, hP, h1, h2, Or.inr ⟨rfl, d, hdd, rfl, rfl, ?_, ?_, Or.inr ⟨rfl, rfl, ?_⟩⟩, hV⟩⟩
          · intro s hs z
            rw [b_or, Bool.or_eq_true] at z
            exact z.elim (hu s hs) fun z => ((hy s hs).mp z).1
          · exact ic_ar_congr hr' fun s hs => by rw [b_or, Bool.or_eq_true, hy2 s hs]
          · exact ic_ar_congr hq fun s hs => (hy2 s hs).symm
    · refine ya_image hC hP hdd hr (fun _ vl' fr' cu' nt' => ⟨rfl, ic_mk ⟨hC, hP, h1, h2, Or.inr ⟨rfl, d, hdd, rfl, rfl, hu, hr, hh⟩, hV⟩⟩) (fun z => absurd z h)
theorem i_vc_check {k : Nat} {u : SX} {v : SY} (I : i_Rel k u v) (hk : k + 4 ≤ 2051) : wpX_check (fun r u' => wpY_check (fun r' v' => r' = r ∧ i_Rel (k + 4) u' v') v) u := by
  refine ic_el (P := fun u v => wpX_check (fun r u' => wpY_check (fun r' v' => r' = r ∧ i_Rel (k + 4) u' v') v) u) ?_ I
  intro L I S W N B G nb ms bd mb xa xb xi xo xd xu xh xq xv xt xz yd yt yh tr su ik nl bf fl sm ts ti kd oa ob us uw ra qa vl mk fr cu nt hF
  obtain ⟨hC, hP, h1, h2, hS, hV⟩ := id hF
  have hd := hC.1
  unfold ic_D at hd
  unfold wpX_check
  by_cases hx : ∃ n, n < 32 ∧ ∃ s, s < S ∧ ic_In ik L s ∧ ic_FA (ic_St L W nb) (ic_Bd W bd) n s
  · obtain ⟨n, ⟨hn, h0⟩, hl⟩ := pk_least _ hx
    have hm : ∀ m, m < n → ¬ ∃ s, s < S ∧ ic_In ik L s ∧ ic_FA (ic_St L W nb) (ic_Bd W bd) m s := fun m hmn z => hl m hmn ⟨by omega, z⟩
    have hm2 : ∀ m, m < n → ∀ s, s < S → ic_In ik L s → ¬ ic_FA (ic_St L W nb) (ic_Bd W bd) m s := fun m hmn s hs hi z => hm m hmn ⟨s, hs, hi, z⟩
    have hl2 : ∀ m, m < n → ¬ ∃ s, s < S ∧ ic_In ik L s ∧ ic_FW (ic_St L W nb) (ic_Bd W bd) m s := by
      rintro m hmn ⟨s, hs, hi, z⟩
      obtain ⟨j, hj, z⟩ := ic_FW_iff.mp z
      exact hm2 j (by omega) s hs hi z
    have hn2 : ∃ s, s < S ∧ ic_In ik L s ∧ ic_FW (ic_St L W nb) (ic_Bd W bd) n s := by
      obtain ⟨s, hs, hi, z⟩ := h0
      exact ⟨s, hs, hi, ic_FW_iff.mpr ⟨n, Nat.le_refl _, z⟩⟩
    refine xa_sfHit hC h1 h2 hn hn2 hl2 (br_f (nI_pos (by omega)) ?_)
    refine xa_recordTrace hC hP h1 h2 rfl hn h0 hm2 fun ts' ti' ht => ?_
    refine ya_chkHit hC hP hn h0 hm fun us' uw' vl' fr' cu' nt' hy => ⟨rfl, ic_mk ⟨hC, hP, h1, h2, hS, Or.inr (Or.inr ⟨rfl, n, hn, rfl, rfl, fun t htn => ?_⟩)⟩⟩
    rw [(hy t htn).1, (hy t htn).2, (ht t htn).1, (ht t htn).2]
    exact ⟨rfl, rfl⟩
  · have hm : ∀ m, m < 32 → ¬ ∃ s, s < S ∧ ic_In ik L s ∧ ic_FA (ic_St L W nb) (ic_Bd W bd) m s := fun m hmn z => hx ⟨m, hmn, z⟩
    have hl2 : ∀ m, m < 32 → ¬ ∃ s, s < S ∧ ic_In ik L s ∧ ic_FW (ic_St L W nb) (ic_Bd W bd) m s := by
      rintro m hmn ⟨s, hs, hi, z⟩
      obtain ⟨j, hj, z⟩ := ic_FW_iff.mp z
      exact hm j (by omega) ⟨s, hs, hi, z⟩
    refine xa_sfMiss hC h1 h2 hl2 (br_t (by decide) ?_)
    refine xa_reachableStates hC h1 fun x hx => ?_
    refine xa_cover hC (fun s hs z => ((hx s hs).mp z).1) fun y hy => ?_
    refine ya_chkMiss hC hP hm fun vl' fr' cu' nt' => ⟨rfl, ic_mk ⟨hC, hP, h1, h2, hS, Or.inr (Or.inl ⟨rfl, fun s hs => ?_⟩)⟩⟩
    rw [hy s (by omega), h2.2 31 (by omega), ic_Cv_congr (G := ic_Re S (ic_St L W nb) (ic_In ik L)) fun p hp => by
      rw [hx p (by omega)]
      exact ⟨fun z => z.2, fun z => ⟨hp, z⟩⟩]
    exact ⟨fun z => z.2, fun z => ⟨hs, z⟩⟩
theorem ic_bit1 {x : Int32} {s : Nat} (hs : s < 32) (h : bt x s = true) : (1 : Int32) = (x.toUInt32 >>> ((nI s).toUInt32 &&& Int32.toUInt32 31)).toInt32 &&& 1 := by
  rw [ic_ur _ hs, h]; rfl
theorem ic_bit0 {x : Int32} {s : Nat} (hs : s < 32) (h : ¬ bt x s = true) : (0 : Int32) = (x.toUInt32 >>> ((nI s).toUInt32 &&& Int32.toUInt32 31)).toInt32 &&& 1 := by
  rw [ic_ur _ hs, Bool.eq_false_iff.mpr h]; rfl
theorem i_vc_holds {k : Nat} {u : SX} {v : SY} (I : i_Rel k u v) (hk : k + 4 ≤ 2051) (v1 : Int32) (v2 : Int32) : wpX_holds (fun r => wpY_holds (fun r' v' => r' = r ∧ i_Rel (k + 4) u v') v v1 v2) u v1 v2 := by
  refine ic_el (P := fun u v => wpX_holds (fun r => wpY_holds (fun r' v' => r' = r ∧ i_Rel (k + 4) u v') v v1 v2) u v1 v2) ?_ I
  intro L I S W N B G nb ms bd mb xa xb xi xo xd xu xh xq xv xt xz yd yt yh tr su ik nl bf fl sm ts ti kd oa ob us uw ra qa vl mk fr cu nt hF
  obtain ⟨hC, hP, h1, h2, hS, hV⟩ := id hF
  have hd := hC.1
  unfold ic_D at hd
  unfold wpX_holds
  rcases ic_ix v2 (n := S) (by omega) with b | ⟨s, hs, rfl⟩
  · refine xa_sta0 b (br_t rfl ?_)
    exact br_c (fun _ => ⟨rfl, ic_mk hF⟩) (fun _ => br_c (fun _ => ⟨rfl, ic_mk hF⟩) (fun _ => ya_place0 (Or.inl b) (br_t rfl ⟨rfl, ic_mk hF⟩)))
  · have hin : vp_in (nI s) 32 := vp_in_nI (by omega) (by omega)
    have ec : (nI s).toNatClampNeg = s := nI_clamp (by omega)
    refine xa_sta1 rfl hs (by omega) (br_f (by decide) ?_)
    rcases ic_ix v1 (n := 4) (by omega) with b | ⟨j, hj, rfl⟩
    · have n0 : ¬ v1 = 0 := fun z => by
        subst z
        exact b.elim (by decide) (by decide)
      have n1 : ¬ v1 = 1 := fun z => by
        subst z
        exact b.elim (by decide) (by decide)
      have n2 : ¬ v1 = 2 := fun z => by
        subst z
        exact b.elim (by decide) (by decide)
      have n3 : ¬ v1 = 3 := fun z => by
        subst z
        exact b.elim (by decide) (by decide)
      refine br_f n0 (br_f n1 (br_f n2 (br_f n3 ?_)))
      exact br_c (fun _ => ⟨rfl, ic_mk hF⟩) (fun z => br_t (ic_ge_lt (n := 3) (by omega) (b.resolve_left z)) ⟨rfl, ic_mk hF⟩)
    · have pl : ∀ {A : Prop} {post : Int32 → Prop}, post 1 → (nI j < 0 → A) ∧ (¬ nI j < 0 → ((3 < nI j → A) ∧ (¬ 3 < nI j → wpY_place post ((nI L), (nI I), (nI G), (nI S), (nI W), (nI B), xb, yd, xv, yt, xo, yh, kd, oa, ob, ik, nl, us, uw, ra, qa, vl, mk, fr, cu, nt) (nI s) 0))) := fun p => br_f (nI_pos (by omega)) (br_f (nI_nlt (a := 3) (by omega) (by omega)) (ya_place1 hC (w := 0) rfl rfl hs (by omega) p))
      rcases (by omega : j = 0 ∨ j = 1 ∨ j = 2 ∨ j = 3) with rfl | rfl | rfl | rfl
      · refine br_t rfl (pl (br_f (by decide) (br_t rfl ?_)))
        refine ya_isInitial hC rfl (fun h => br_f (by decide) ⟨?_, ic_mk hF⟩) (fun h => br_t rfl ⟨?_, ic_mk hF⟩)
        · exact ic_bit1 (by omega) ((h1.2.1 s (by omega)).mpr ⟨hs, h⟩)
        · exact ic_bit0 (by omega) fun z => h ((h1.2.1 s (by omega)).mp z).2
      · refine br_f (by decide) (br_t rfl ?_)
        rcases hS with rfl | ⟨rfl, d, hdd, rfl, rfl, hu, hr, hh⟩
        · refine br_t rfl (br_f (by decide) (br_f (by decide) (pl (br_f (by decide) (br_f (by decide) (br_t rfl (br_t rfl ⟨rfl, ic_mk hF⟩)))))))
        · refine br_f (by decide) (pl (br_f (by decide) (br_f (by decide) (br_t rfl (br_f (by decide) ⟨hin, ?_⟩)))))
          rw [ec]
          rcases hr s hs with ⟨z, e⟩ | ⟨z, e⟩
          · exact br_f (by rw [e]; decide) ⟨ic_bit1 (by omega) z, ic_mk hF⟩
          · exact br_t e ⟨ic_bit0 (by omega) z, ic_mk hF⟩
      · refine br_f (by decide) (br_f (by decide) (br_t rfl ?_))
        rcases hS with rfl | ⟨rfl, d, hdd, rfl, rfl, hu, hr, hh⟩
        · refine br_t rfl (br_f (by decide) (pl (br_f (by decide) (br_f (by decide) (br_f (by decide) (br_t rfl (br_t rfl ⟨rfl, ic_mk hF⟩)))))))
        · refine br_f (by decide) ?_
          rcases hh with ⟨rfl, rfl⟩ | ⟨rfl, rfl, hq⟩
          · refine br_t rfl (br_f (by decide) (pl (br_f (by decide) (br_f (by decide) (br_f (by decide) (br_t rfl (br_f (by decide) (br_t rfl ⟨rfl, ic_mk hF⟩))))))))
          · refine br_f (by decide) (pl (br_f (by decide) (br_f (by decide) (br_f (by decide) (br_t rfl (br_f (by decide) (br_f (by decide) ⟨hin, ?_⟩)))))))
            rw [ec]
            rcases hq s hs with ⟨z, e⟩ | ⟨z, e⟩
            · exact br_f (by rw [e]; decide) ⟨ic_bit1 (by omega) z, ic_mk hF⟩
            · exact br_t e ⟨ic_bit0 (by omega) z, ic_mk hF⟩
      · refine br_f (by decide) (br_f (by decide) (br_f (by decide) (br_t rfl ?_)))
        have yr : ∀ {A B C E : Prop}, E → ((nI 3 = 0 → A) ∧ (¬ nI 3 = 0 → ((nI 3 = 1 → B) ∧ (¬ nI 3 = 1 → ((nI 3 = 2 → C) ∧ (¬ nI 3 = 2 → E)))))) := fun e => br_f (by decide) (br_f (by decide) (br_f (by decide) e))
        rcases hV with rfl | ⟨rfl, hz⟩ | ⟨rfl, n, hn, rfl, rfl, ht⟩
        · exact br_f (by decide) (pl (br_f (by decide) (yr (br_f (by decide) ⟨rfl, ic_mk hF⟩))))
        · refine br_t rfl (pl (br_f (by decide) (yr (br_t rfl ?_))))
          refine ya_fromInitial hC fun f hf => ?_
          refine ya_h123 hC hP rfl hs hf (fun h vl' mk' fr' => ⟨?_, ic_mk hF⟩) (fun h vl' mk' fr' => ⟨?_, ic_mk hF⟩)
          · exact ic_bit1 (by omega) ((hz s hs).mpr h)
          · exact ic_bit0 (by omega) fun z => h ((hz s hs).mp z)
        · exact br_f (by decide) (pl (br_f (by decide) (yr (br_f (by decide) ⟨rfl, ic_mk hF⟩))))
end
section
/-! the constructors -/
def ic_n0 : Nat → Nat → Int32
  | 0 => fun _ => 0
  | i + 1 => upd (ic_n0 i) i (nI (2 * (1 + i)))
theorem ic_n0_at {j : Nat} : ∀ {i : Nat}, j < i → ic_n0 i j = nI (2 * (1 + j)) := by
  intro i
  induction i with
  | zero => intro h; exact absurd h (Nat.not_lt_zero _)
  | succ i ih =>
    intro h
    by_cases e : j = i
    · subst e; exact pk_us
    · exact (pk_un e).trans (ih (by omega))
def ic_xa (S : Nat) : Int32 := ((-1 : Int32).toUInt32 >>> ((32 - nI S).toUInt32 &&& Int32.toUInt32 31)).toInt32
theorem ic_xa_bt : ∀ L, L < 6 → 1 ≤ L → ∀ s, s < 32 → bt (ic_xa (2 ^ L)) s = decide (s < 2 ^ L) := by decide +kernel
theorem ic_sh1 : ∀ L, L < 6 → (1 : Int32) <<< (nI L &&& 31) = nI (2 ^ L) := by decide +kernel
theorem ic_pw : ∀ L, L < 6 → 1 ≤ L → 2 ≤ 2 ^ L ∧ 2 ^ L ≤ 32 := by decide
theorem ic_pw2 : ∀ I, I < 3 → 1 ≤ 2 ^ I ∧ 2 ^ I ≤ 4 := by decide
theorem ic_clamp (x : Int32) (lo hi : Nat) (hlh : lo ≤ hi) (hh : hi < 2 ^ 31) : ∃ r, lo ≤ r ∧ r ≤ hi ∧ (∀ (post : Int32 → Prop) (u : SX), post (nI r) → wpX_clamp post u x (nI lo) (nI hi)) ∧ ∀ A : Int32 → Prop, A (nI r) → ((nI lo ≤ x → ((x ≤ nI hi → A x) ∧ (¬ x ≤ nI hi → A (nI hi)))) ∧ (¬ nI lo ≤ x → A (nI lo))) := by
  by_cases h : nI lo ≤ x
  · by_cases h2 : x ≤ nI hi
    · have h0 : ¬ x < 0 := Int32.not_lt.mpr (Int32.le_trans (nI_pos' (by omega)) h)
      obtain ⟨j, hj, rfl⟩ := nI_of2 (M := nI hi) (nI_toInt hh) h0 h2
      refine ⟨j, (nI_leI (by omega) (by omega)).mp h, hj, fun post u p => ?_, fun A p => br_t h (br_t h2 p)⟩
      obtain ⟨xl, xg, xf, xs, xw, xa, xn, xb, xi, xo, xd, xu, xh, xq, xv, xt, xz, tr, su, ik, nl, bf, fl, sm, ts, ti⟩ := u
      exact br_t h (br_t h2 p)
    · refine ⟨hi, hlh, Nat.le_refl _, fun post u p => ?_, fun A p => br_t h (br_f h2 p)⟩
      obtain ⟨xl, xg, xf, xs, xw, xa, xn, xb, xi, xo, xd, xu, xh, xq, xv, xt, xz, tr, su, ik, nl, bf, fl, sm, ts, ti⟩ := u
      exact br_t h (br_f h2 p)
  · refine ⟨lo, Nat.le_refl _, hlh, fun post u p => ?_, fun A p => br_f h p⟩
    obtain ⟨xl, xg, xf, xs, xw, xa, xn, xb, xi, xo, xd, xu, xh, xq, xv, xt, xz, tr, su, ik, nl, bf, fl, sm, ts, ti⟩ := u
    exact br_f h p
section
variable {L I S W G : Nat}
theorem ya_init207 {post : SY → Prop} (hL : L ≤ 5) (K : post ((nI L), (nI I), nI G, (nI S), (nI W), 0, 0, 0, 0, 0, 0, 0, (fun _ => 0), (fun _ => 0), (fun _ => 0), (fun _ => 0), ic_n0 L, (fun _ => 0), (fun _ => 0), (fun _ => 0), (fun _ => 0), (fun _ => 0), (fun _ => 0), (fun _ => 0), (fun _ => 0), (fun _ => 0))) : ∃ n, wY_init_207 post (nI L) (nI I) (nI G) (nI S) (nI W) 0 0 0 0 0 0 0 n 0 (fun _ => 0) (fun _ => 0) (fun _ => 0) (fun _ => 0) (fun _ => 0) (fun _ => 0) (fun _ => 0) (fun _ => 0) (fun _ => 0) (fun _ => 0) (fun _ => 0) (fun _ => 0) (fun _ => 0) (fun _ => 0) := by
  refine loop_0 (fun n i (a : Nat → Int32) => wY_init_207 post (nI L) (nI I) (nI G) (nI S) (nI W) 0 0 0 0 0 0 0 n (nI i) (fun _ => 0) (fun _ => 0) (fun _ => 0) (fun _ => 0) a (fun _ => 0) (fun _ => 0) (fun _ => 0) (fun _ => 0) (fun _ => 0) (fun _ => 0) (fun _ => 0) (fun _ => 0) (fun _ => 0)) (fun i a => a = ic_n0 i) L (fun _ => 0) rfl ?_ ?_
  · intro n a ha
    subst ha
    exact br_t (nI_le (Nat.le_refl _) (by omega)) K
  · intro n i a hi ha ih
    subst ha
    have e : 2 * (1 + nI i) = nI (2 * (1 + i)) := by
      show nI 2 * (nI 1 + nI i) = _
      rw [nI_add, pk_mul]
    exact br_f (nI_ge hi (by omega)) ⟨vp_in_nI (by omega) (by omega), nm_r (e' := upd (ic_n0 i) i (nI (2 * (1 + i)))) (by rw [nI_clamp (by omega), e]) (nm_r (nI_1 i) (ih _ rfl))⟩
theorem xa_init185 {post : SX → Prop} {tr su : Nat → Int32} (hD : ic_D L I S W (1 + L + I) 0 G) (hxa : ∀ s, s < 32 → bt (ic_xa S) s = decide (s < S)) (t0 : ∀ w, w < 4 → tr w = 0) (t1 : ∀ j, j < L → ∀ w, w < W → ∀ s, s < S → bt (tr (4 * (1 + j) + w)) s = s.testBit j) (s0 : su 0 = 0) (s1 : ∀ j, j < L → su (1 + j) = (1 : Int32) <<< (nI j &&& 31)) (s2 : ∀ x, 1 + L ≤ x → su x = 0)
    (K : ∀ tr' xi' bf' fl' sm', ic_C L I S W (1 + L + I) 0 G (ic_xa S) tr' su (fun _ => 0) (fun _ => 0) (fun _ => 0) → ic_P L S W (1 + L + I) tr' su (ic_n0 L) 0 (fun i s _ => s.testBit i) (fun i => (1 : Int32) <<< (nI i &&& 31)) (fun _ _ => false) 0 → ic_D1 L S W (fun i s _ => s.testBit i) (fun _ => 0) xi' bf' → ic_D2 L S W (fun i s _ => s.testBit i) (fun _ _ => false) (fun i => (1 : Int32) <<< (nI i &&& 31)) 0 fl' sm' → post ((nI L), (nI G), (nI (1 + L + I)), (nI S), (nI W), ic_xa S, nI (1 + L + I), 0, xi', 0, 0, 0, 0, 0, 0, 0, 0, tr', su, (fun _ => 0), ic_n0 L, bf', fl', sm', (fun _ => 0), (fun _ => 0))) :
    ∃ n, wX_init_185 post (nI I) n 0 (nI L) (nI G) (nI (1 + L + I)) (nI S) (nI W) (ic_xa S) (nI (1 + L + I)) 0 0 0 0 0 0 0 0 0 0 tr su (fun _ => 0) (ic_n0 L) (fun _ => 0) (fun _ => 0) (fun _ => 0) (fun _ => 0) (fun _ => 0) := by
  have hd := hD
  unfold ic_D at hd
  refine loop_0 (fun n j (t : Nat → Int32) => wX_init_185 post (nI I) n (nI j) (nI L) (nI G) (nI (1 + L + I)) (nI S) (nI W) (ic_xa S) (nI (1 + L + I)) 0 0 0 0 0 0 0 0 0 0 t su (fun _ => 0) (ic_n0 L) (fun _ => 0) (fun _ => 0) (fun _ => 0) (fun _ => 0) (fun _ => 0)) (fun j t => (∀ x, x < 4 * (1 + L) → t x = tr x) ∧ ∀ i, i < j → ∀ w, w < W → ∀ s, s < S → bt (t (4 * (1 + L + i) + w)) s = w.testBit i) I tr ⟨fun _ _ => rfl, ic_all0⟩ ?_ ?_
  · rintro n t ⟨ht, hi⟩
    have hC : ic_C L I S W (1 + L + I) 0 G (ic_xa S) t su (fun _ => 0) (fun _ => 0) (fun _ => 0) := by
      refine ⟨hD, hxa, ?_, ?_, ?_, s0, s1, fun j hj => s2 _ (by omega), ic_all0⟩
      · intro s hs w hw
        show bt (t (4 * 0 + w)) s = false
        rw [ht _ (by omega), t0 _ (by omega), b_0]
      · intro i hi' s hs w hw
        show bt (t (4 * (1 + i) + w)) s = _
        rw [ht _ (by omega)]
        exact t1 i hi' w hw s hs
      · intro i hi' s hs w hw
        exact hi i hi' w hw s hs
    have hP : ic_P L S W (1 + L + I) t su (ic_n0 L) 0 (fun i s _ => s.testBit i) (fun i => (1 : Int32) <<< (nI i &&& 31)) (fun _ _ => false) 0 := by
      refine ⟨fun i hi' => ⟨2 * (1 + i), by omega, ic_n0_at hi', ?_, fun s hs w hw => ?_⟩, 0, by omega, rfl, s0, fun s hs w hw => ?_⟩
      · rw [show 2 * (1 + i) / 2 = 1 + i by omega]
        exact s1 i hi'
      · unfold ic_L
        rw [show 2 * (1 + i) / 2 = 1 + i by omega, show 2 * (1 + i) % 2 = 0 by omega, hC.2.2.2.1 i hi' s hs w hw]
        exact Bool.xor_false _
      · unfold ic_L
        rw [show 0 / 2 = 0 by omega, hC.2.2.1 s hs w hw]
        rfl
    refine br_t (nI_le (Nat.le_refl _) (by omega)) ?_
    refine xa_renewTransitions hC hP (fun i _ => Or.inl rfl) fun xi' bf' h1 => ?_
    exact xa_renewProperty hC hP h1 fun fl' sm' h2 => K _ _ _ _ _ hC hP h1 h2
  · rintro n j t hj ⟨ht, hi⟩ ih
    refine br_f (nI_ge hj (by omega)) (xa_fillInput (L := L) rfl (by omega) (by omega) (by omega) (by omega) hxa fun t' g1 g2 => nm_r (nI_1 j) (ih _ ⟨fun x hx => ?_, ic_all.mpr ⟨fun i hij w hw s hs => ?_, g2⟩⟩))
    · rw [g1 x (by omega)]; exact ht x hx
    · rw [g1 _ (by omega)]; exact hi i hij w hw s hs
end
theorem i_vc0 (k0 : Int32) (k1 : Int32) (k2 : Int32) : wpX_init (fun u => wpY_init (fun v => i_Rel 3 u v) k0 k1 k2) k0 k1 k2 := by
  obtain ⟨I, _, hI, cI, yI⟩ := ic_clamp k1 0 2 (by omega) (by omega)
  obtain ⟨L, hL1, hL, cL, yL⟩ := ic_clamp k0 1 5 (by omega) (by omega)
  obtain ⟨G, _, hG, cG, yG⟩ := ic_clamp k2 1 16 (by omega) (by omega)
  have pS := ic_pw L (by omega) hL1
  have pW := ic_pw2 I (by omega)
  have eS := ic_sh1 L (by omega)
  have eW := ic_sh1 I (by omega)
  have hxa := ic_xa_bt L (by omega) hL1
  obtain ⟨S, hS⟩ : ∃ S, S = 2 ^ L := ⟨_, rfl⟩
  obtain ⟨W, hW⟩ : ∃ W, W = 2 ^ I := ⟨_, rfl⟩
  rw [← hS] at pS eS hxa
  rw [← hW] at pW eW
  have hD : ic_D L I S W (1 + L + I) 0 G := by unfold ic_D; omega
  have e1 : (1 + nI L) + nI I = nI (1 + L + I) := by
    show (nI 1 + nI L) + nI I = _
    rw [nI_add, nI_add]
  unfold wpX_init
  refine cI _ _ (cL _ _ (cG _ _ (nm_r e1 (nm_r eS (nm_r eW (nm_r (e' := ic_xa S) rfl ?_))))))
  refine loop_0 (fun n i (p : (Nat → Int32) × (Nat → Int32) × (Nat → Int32)) => wX_init_161 (fun u => wpY_init (fun v => i_Rel 3 u v) k0 k1 k2) (nI I) n (nI i) (nI L) (nI G) (nI (1 + L + I)) (nI S) (nI W) (ic_xa S) (nI (1 + L + I)) 0 0 0 0 0 0 0 0 0 0 (p.1) (p.2.1) (fun _ => 0) (p.2.2) (fun _ => 0) (fun _ => 0) (fun _ => 0) (fun _ => 0) (fun _ => 0))
    (fun i p => (∀ w, w < 4 → p.1 w = 0) ∧ (∀ j, j < i → ∀ w, w < W → ∀ s, s < S → bt (p.1 (4 * (1 + j) + w)) s = s.testBit j) ∧ p.2.1 0 = 0 ∧ (∀ j, j < i → p.2.1 (1 + j) = (1 : Int32) <<< (nI j &&& 31)) ∧ (∀ x, 1 + i ≤ x → p.2.1 x = 0) ∧ p.2.2 = ic_n0 i)
    L (fun _ => 0, fun _ => 0, fun _ => 0) ⟨fun _ _ => rfl, ic_all0, rfl, ic_all0, fun _ _ => rfl, rfl⟩ ?_ ?_
  · rintro n ⟨t, s, nl⟩ ⟨t0, t1, s0, s1, s2, hn⟩
    dsimp only at t0 t1 s0 s1 s2 hn
    subst hn
    refine br_t (nI_le (Nat.le_refl _) (by omega)) (xa_init185 hD hxa t0 t1 s0 s1 s2 fun tr' xi' bf' fl' sm' hC hP h1 h2 => ?_)
    refine yL (fun z => wY_init_134 _ k1 k2 z 0 0 0 0 0 0 0 0 0 0 0 0 (fun _ => 0) (fun _ => 0) (fun _ => 0) (fun _ => 0) (fun _ => 0) (fun _ => 0) (fun _ => 0) (fun _ => 0) (fun _ => 0) (fun _ => 0) (fun _ => 0) (fun _ => 0) (fun _ => 0) (fun _ => 0)) ?_
    refine yI (fun z => wY_init_156 _ k2 z (nI L) 0 0 0 0 0 0 0 0 0 0 0 (fun _ => 0) (fun _ => 0) (fun _ => 0) (fun _ => 0) (fun _ => 0) (fun _ => 0) (fun _ => 0) (fun _ => 0) (fun _ => 0) (fun _ => 0) (fun _ => 0) (fun _ => 0) (fun _ => 0) (fun _ => 0)) ?_
    refine yG (fun z => wY_init_181 _ z (nI L) (nI I) 0 0 0 0 0 0 0 0 0 0 (fun _ => 0) (fun _ => 0) (fun _ => 0) (fun _ => 0) (fun _ => 0) (fun _ => 0) (fun _ => 0) (fun _ => 0) (fun _ => 0) (fun _ => 0) (fun _ => 0) (fun _ => 0) (fun _ => 0) (fun _ => 0)) ?_
    refine nm_r eS (nm_r eW ?_)
    refine ya_init207 hL ?_
    exact ic_mk (B := 0) ⟨hC, hP, h1, h2, Or.inl rfl, Or.inl rfl⟩
  · rintro n i ⟨t, s, nl⟩ hi ⟨t0, t1, s0, s1, s2, hn⟩ ih
    dsimp only at t0 t1 s0 s1 s2 hn
    subst hn
    refine br_f (nI_ge hi (by omega)) (xa_fillLatch rfl (by omega) (by omega) (by omega) fun t' g1 g2 => nm_r (nI_1 i) (ih (t', upd s (1 + i) ((1 : Int32) <<< (nI i &&& 31)), upd (ic_n0 i) i (nI (2 * (1 + i)))) ⟨fun w hw => ?_, ic_all.mpr ⟨fun j hj w hw s hs => ?_, g2⟩, ?_, ic_all.mpr ⟨fun j hj => ?_, pk_us⟩, fun x hx => ?_, rfl⟩))
    · show t' w = 0
      rw [g1 w (by omega)]; exact t0 w hw
    · show bt (t' _) s = _
      rw [g1 _ (by omega)]; exact t1 j hj w hw s hs
    · exact (pk_un (by omega)).trans s0
    · exact (pk_un (by omega)).trans (s1 j hj)
    · exact (pk_un (by omega)).trans (s2 x (by omega))
end
