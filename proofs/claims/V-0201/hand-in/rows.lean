section
/-! pure rows to paste: stores, nI and lN arithmetic, masks, shifts, narrowing, branches by naturals (pk_le, pk_lt, pk_eq), loops (lp1 .. lp16: the measure of the state; rp1 ..: recursion), negatives. Take what you need -/
theorem pk_us {f : Nat → Int32} {k : Nat} {x : Int32} : upd f k x k = x := if_pos rfl
theorem pk_un {f : Nat → Int32} {k j : Nat} {x : Int32} (h : j ≠ k) : upd f k x j = f j := if_neg h
theorem pk_uLs {f : Nat → Int64} {k : Nat} {x : Int64} : vp_updL f k x k = x := if_pos rfl
theorem pk_uLn {f : Nat → Int64} {k j : Nat} {x : Int64} (h : j ≠ k) : vp_updL f k x j = f j := if_neg h
theorem pk_sub {a b : Nat} (h : b ≤ a) : nI a - nI b = nI (a - b) := by
  obtain ⟨c, rfl⟩ : ∃ c, a = c + b := ⟨a - b, by omega⟩
  rw [← nI_add, Int32.add_sub_cancel, Nat.add_sub_cancel]
theorem pk_m1 (n : Nat) : nI (n + 1) + (-1) = nI n := by
  rw [← nI_1, Int32.add_assoc, show (1 : Int32) + (-1) = 0 from rfl, Int32.add_zero]
theorem pk_mul (a b : Nat) : nI a * nI b = nI (a * b) := (Int32.ofNat_mul a b).symm
theorem pk_div {a d : Nat} (ha : a < 2 ^ 31) (h0 : 0 < d) (hd : d < 2 ^ 31) : nI a / nI d = nI (a / d) := by
  apply Int32.toInt_inj.mp
  rw [lg_idiv_nonneg (by rw [nI_toInt ha]; omega) (by rw [nI_toInt hd]; omega), nI_toInt ha, nI_toInt hd, nI_toInt (Nat.lt_of_le_of_lt (Nat.div_le_self a d) ha)]
  first | rfl | exact (Int.natCast_ediv _ _).symm
theorem pk_rem {a d : Nat} (ha : a < 2 ^ 31) (h0 : 0 < d) (hd : d < 2 ^ 31) : nI a - nI a / nI d * nI d = nI (a % d) := by
  rw [pk_div ha h0 hd, pk_mul, pk_sub (Nat.div_mul_le_self a d)]
  exact congrArg nI (by have := Nat.div_add_mod' a d; omega)
theorem pk_sub_toInt {a b : Nat} (ha : a < 2 ^ 30) (hb : b < 2 ^ 30) : (nI a - nI b).toInt = (a : Int) - b := by
  rw [Int32.toInt_sub, nI_toInt (by omega), nI_toInt (by omega)]
  exact Int.bmod_eq_of_le (by omega) (by omega)
theorem pk_sneg {a b : Nat} (hb : b < 2 ^ 30) (h : a < b) : nI a - nI b < 0 := by
  rw [Int32.lt_iff_toInt_lt, pk_sub_toInt (by omega) hb, show (0 : Int32).toInt = 0 from by decide]
  omega
theorem pk_ix (x : Int32) {n : Nat} (hn : n < 2 ^ 31) : x < 0 ∨ nI n ≤ x ∨ ∃ j : Nat, j < n ∧ x = nI j := by
  by_cases h : x < 0
  · exact Or.inl h
  · obtain ⟨j, hj, rfl⟩ := nI_of h
    by_cases h2 : j < n
    · exact Or.inr (Or.inr ⟨j, h2, rfl⟩)
    · exact Or.inr (Or.inl (nI_le (by omega) hj))
theorem pk_le {x y : Int32} {A B : Prop} (a b : Nat) (f : a ≤ b → A) (g : b < a → B) (hx : x = nI a := by rfl) (hy : y = nI b := by rfl) (ha : a < 2 ^ 31 := by omega) (hb : b < 2 ^ 31 := by omega) : (x ≤ y → A) ∧ (¬ x ≤ y → B) := by
  subst hx hy
  rw [nI_leI ha hb]
  exact ⟨f, fun z => g (by omega)⟩
theorem pk_lt {x y : Int32} {A B : Prop} (a b : Nat) (f : a < b → A) (g : b ≤ a → B) (hx : x = nI a := by rfl) (hy : y = nI b := by rfl) (ha : a < 2 ^ 31 := by omega) (hb : b < 2 ^ 31 := by omega) : (x < y → A) ∧ (¬ x < y → B) := by
  subst hx hy
  rw [nI_ltI ha hb]
  exact ⟨f, fun z => g (by omega)⟩
theorem pk_eq {x y : Int32} {A B : Prop} (a b : Nat) (f : a = b → A) (g : a ≠ b → B) (hx : x = nI a := by rfl) (hy : y = nI b := by rfl) (ha : a < 2 ^ 31 := by omega) (hb : b < 2 ^ 31 := by omega) : (x = y → A) ∧ (¬ x = y → B) := by
  subst hx hy
  rw [nI_eq ha hb]
  exact ⟨f, g⟩
theorem pk_in {x : Int32} (n N : Nat) (h : n < N) (hx : x = nI n := by rfl) (hN : N < 2 ^ 31 := by omega) : vp_in x N := by
  subst hx
  exact vp_in_nI h hN
theorem pk_cl {x : Int32} (n : Nat) (hx : x = nI n := by rfl) (h : n < 2 ^ 31 := by omega) : x.toNatClampNeg = n := by
  subst hx
  exact nI_clamp h
theorem pk_tn {n : Nat} (h : n < 2 ^ 32) : (nI n).toBitVec.toNat = n := Nat.mod_eq_of_lt h
theorem pk_and (x : Int32) {m : Int32} (k : Nat) (hm : m.toBitVec.toNat = 2 ^ k - 1) : x &&& m = nI (x.toBitVec.toNat % 2 ^ k) := by
  apply Int32.toBitVec_inj.mp
  apply BitVec.eq_of_toNat_eq
  rw [Int32.toBitVec_and, BitVec.toNat_and, hm, Nat.and_two_pow_sub_one_eq_mod]
  show _ = (BitVec.ofNat 32 _).toNat
  rw [BitVec.toNat_ofNat]
  exact (Nat.mod_eq_of_lt (Nat.lt_of_le_of_lt (Nat.mod_le _ _) x.toBitVec.isLt)).symm
theorem pk_andN {n : Nat} (h : n < 2 ^ 32) {m : Int32} (k : Nat) (hm : m.toBitVec.toNat = 2 ^ k - 1) : nI n &&& m = nI (n % 2 ^ k) := by
  rw [pk_and _ k hm, pk_tn h]
theorem pk_andE (x : Int32) {m : Int32} (k : Nat) (hm : m.toBitVec.toNat = 2 ^ k - 1) : ∃ j : Nat, j < 2 ^ k ∧ x &&& m = nI j := ⟨_, Nat.mod_lt _ (Nat.two_pow_pos k), pk_and x k hm⟩
theorem pk_andIn (x : Int32) {m : Int32} (k : Nat) (hm : m.toBitVec.toNat = 2 ^ k - 1) (hk : k ≤ 30) : vp_in (x &&& m) (2 ^ k) := by
  obtain ⟨j, hj, e⟩ := pk_andE x k hm
  rw [e]
  exact vp_in_nI hj (Nat.lt_of_le_of_lt (Nat.pow_le_pow_right (by decide) hk) (by decide))
theorem pk_shl (a s : Int32) (k : Nat) (hs : (s.toBitVec.smod 32).toNat = k) : (a <<< s).toBitVec.toNat = a.toBitVec.toNat * 2 ^ k % 2 ^ 32 := by
  show (a.toBitVec <<< (s.toBitVec.smod 32).toNat).toNat = _
  rw [hs, BitVec.toNat_shiftLeft, Nat.shiftLeft_eq]
theorem pk_shlN {n : Nat} (s : Int32) (k : Nat) (hs : (s.toBitVec.smod 32).toNat = k) (h : n * 2 ^ k < 2 ^ 32) : nI n <<< s = nI (n * 2 ^ k) := by
  apply Int32.toBitVec_inj.mp
  apply BitVec.eq_of_toNat_eq
  have hn : n < 2 ^ 32 := Nat.lt_of_le_of_lt (Nat.le_mul_of_pos_right n (Nat.two_pow_pos k)) h
  rw [pk_shl _ _ k hs, pk_tn hn, pk_tn h, Nat.mod_eq_of_lt h]
theorem pk_shr (a s : Int32) (k : Nat) (hs : (s.toBitVec.smod 32).toNat = k) : (a >>> s).toInt = a.toInt >>> k := by
  show (a.toBitVec.sshiftRight (s.toBitVec.smod 32).toNat).toInt = _
  rw [hs, BitVec.toInt_sshiftRight]
  rfl
theorem pk_shrN {n : Nat} (h : n < 2 ^ 31) (s : Int32) (k : Nat) (hs : (s.toBitVec.smod 32).toNat = k) : nI n >>> s = nI (n / 2 ^ k) := by
  apply Int32.toInt_inj.mp
  have h2 : n / 2 ^ k ≤ n := Nat.div_le_self _ _
  rw [pk_shr _ _ k hs, nI_toInt h, nI_toInt (by omega), Int.shiftRight_eq_div_pow]
  rfl
theorem pk_ushr (x s : Int32) (k : Nat) (hs : ((s.toUInt32 &&& Int32.toUInt32 31).toBitVec % 32).toNat = k) : (x.toUInt32 >>> (s.toUInt32 &&& Int32.toUInt32 31)).toInt32.toBitVec.toNat = x.toBitVec.toNat / 2 ^ k := by
  have e : (x.toUInt32 >>> (s.toUInt32 &&& Int32.toUInt32 31)).toInt32.toBitVec = x.toBitVec >>> k := by
    rw [← hs]
    exact UInt32.toBitVec_shiftRight _ _
  rw [e, BitVec.toNat_ushiftRight, Nat.shiftRight_eq_div_pow]
theorem pk_ushrN {n : Nat} (hn : n < 2 ^ 32) (s : Int32) (k : Nat) (hs : ((s.toUInt32 &&& Int32.toUInt32 31).toBitVec % 32).toNat = k) : ((nI n).toUInt32 >>> (s.toUInt32 &&& Int32.toUInt32 31)).toInt32 = nI (n / 2 ^ k) := by
  apply Int32.toBitVec_inj.mp
  apply BitVec.eq_of_toNat_eq
  rw [pk_ushr _ s k hs, pk_tn hn, pk_tn (Nat.lt_of_le_of_lt (Nat.div_le_self _ _) hn)]
theorem pk_least (P : Nat → Prop) (h : ∃ k, P k) : ∃ k, P k ∧ ∀ j, j < k → ¬ P j := by
  obtain ⟨k, hk⟩ := h
  induction k using Nat.strongRecOn with
  | ind k ih =>
    by_cases e : ∃ j, j < k ∧ P j
    · obtain ⟨j, hj, pj⟩ := e
      exact ih j hj pj
    · exact ⟨k, hk, fun j hj pj => e ⟨j, hj, pj⟩⟩
theorem ek_if {c d A B : Prop} (e : c ↔ d) (f : d → A) (g : ¬ d → B) : (c → A) ∧ (¬ c → B) :=
  ⟨fun z => f (e.mp z), fun z => g (fun y => z (e.mpr y))⟩
theorem ek_v {α : Sort _} {P : α → Prop} {a b : α} (e : a = b) (h : P b) : P a := e ▸ h
end
section
/-! rows on bits, shifts and unsigned numbers, to paste: each family out of a closed proof of our own, whole with what it rests on; each by itself clean at Lean in its own claim (generation 39, form 5). Take a family whole -/
/-! ===== Int32 by its bits: bt x i ===== -/
def bt (x : Int32) (i : Nat) : Bool := x.toBitVec.getLsbD i
theorem b_ext {x y : Int32} (h : ∀ i, i < 32 → bt x i = bt y i) : x = y := Int32.toBitVec_inj.mp (BitVec.eq_of_getLsbD_eq (fun i hi => h i hi))
theorem b_or (x y : Int32) (i : Nat) : bt (x ||| y) i = (bt x i || bt y i) := by unfold bt; rw [Int32.toBitVec_or, BitVec.getLsbD_or]
theorem b_and (x y : Int32) (i : Nat) : bt (x &&& y) i = (bt x i && bt y i) := by unfold bt; rw [Int32.toBitVec_and, BitVec.getLsbD_and]
theorem b_xor (x y : Int32) (i : Nat) : bt (x ^^^ y) i = (bt x i ^^ bt y i) := by unfold bt; rw [Int32.toBitVec_xor, BitVec.getLsbD_xor]
theorem b_big {x : Int32} {i : Nat} (h : 32 ≤ i) : bt x i = false := BitVec.getLsbD_of_ge _ _ h
theorem b_255 (i : Nat) : bt 255 i = decide (i < 8) := by
  rcases Nat.lt_or_ge i 32 with h | h
  · exact (by decide +kernel : ∀ i, i < 32 → bt 255 i = decide (i < 8)) i h
  · rw [b_big h, decide_eq_false (by omega)]
theorem b_65535 (i : Nat) : bt 65535 i = decide (i < 16) := by
  rcases Nat.lt_or_ge i 32 with h | h
  · exact (by decide +kernel : ∀ i, i < 32 → bt 65535 i = decide (i < 16)) i h
  · rw [b_big h, decide_eq_false (by omega)]
theorem b_m1 : ∀ i, i < 32 → bt (-1) i = true := by decide +kernel
theorem b_0 (i : Nat) : bt 0 i = false := BitVec.getLsbD_zero
theorem s_l : ∀ n, n < 32 → ((nI n &&& 31).toBitVec.smod 32).toNat = n := by decide +kernel
theorem s_u : ∀ n, n < 32 → (((nI n).toUInt32 &&& Int32.toUInt32 31).toBitVec % 32).toNat = n := by decide +kernel
theorem b_shl (n : Nat) (hn : n < 32) (x : Int32) {i : Nat} (hi : i < 32) : bt (x <<< (nI n &&& 31)) i = (decide (n ≤ i) && bt x (i - n)) := by
  unfold bt
  rw [Int32.toBitVec_shiftLeft]
  show (x.toBitVec <<< ((nI n &&& 31).toBitVec.smod 32).toNat).getLsbD i = _
  rw [s_l n hn, BitVec.getLsbD_shiftLeft]
  rcases Nat.lt_or_ge i n with h | h
  · simp [h, Nat.not_le.mpr h]
  · simp [hi, h, Nat.not_lt.mpr h]
theorem b_ushr (n : Nat) (hn : n < 32) (x : Int32) (i : Nat) : bt ((x.toUInt32 >>> ((nI n).toUInt32 &&& Int32.toUInt32 31)).toInt32) i = bt x (n + i) := by
  show (x.toUInt32 >>> ((nI n).toUInt32 &&& Int32.toUInt32 31)).toBitVec.getLsbD i = x.toUInt32.toBitVec.getLsbD (n + i)
  rw [UInt32.toBitVec_shiftRight]
  show (x.toUInt32.toBitVec >>> (((nI n).toUInt32 &&& Int32.toUInt32 31).toBitVec % 32).toNat).getLsbD i = _
  rw [s_u n hn, BitVec.getLsbD_ushiftRight]
theorem b_sshr (n : Nat) (hn : n < 32) (x : Int32) {i : Nat} (hi : i < 32) : bt (x >>> (nI n &&& 31)) i = if n + i < 32 then bt x (n + i) else bt x 31 := by
  unfold bt
  rw [Int32.toBitVec_shiftRight]
  show (x.toBitVec.sshiftRight ((nI n &&& 31).toBitVec.smod 32).toNat).getLsbD i = _
  rw [s_l n hn, BitVec.getLsbD_sshiftRight, BitVec.msb_eq_getLsbD_last]
  simp [hi]
theorem b_shl8 (x : Int32) {i : Nat} (hi : i < 32) : bt (x <<< ((8 : Int32) &&& 31)) i = (decide (8 ≤ i) && bt x (i - 8)) := b_shl 8 (by omega) x hi
theorem b_shl16 (x : Int32) {i : Nat} (hi : i < 32) : bt (x <<< ((16 : Int32) &&& 31)) i = (decide (16 ≤ i) && bt x (i - 16)) := b_shl 16 (by omega) x hi
theorem b_shl24 (x : Int32) {i : Nat} (hi : i < 32) : bt (x <<< ((24 : Int32) &&& 31)) i = (decide (24 ≤ i) && bt x (i - 24)) := b_shl 24 (by omega) x hi
theorem b_sshr8 (x : Int32) {i : Nat} (hi : i < 32) : bt (x >>> ((8 : Int32) &&& 31)) i = if 8 + i < 32 then bt x (8 + i) else bt x 31 := b_sshr 8 (by omega) x hi
/-! ===== nI under and, xor, >>>, one bit, 65535 ===== -/
theorem nx_and (a b : Nat) : nI a &&& nI b = nI (a &&& b) := by
  apply Int32.toBitVec_inj.1
  show BitVec.ofNat 32 a &&& BitVec.ofNat 32 b = BitVec.ofNat 32 (a &&& b)
  apply BitVec.eq_of_getLsbD_eq
  intro i hi
  simp [hi]
theorem nx_xor (a b : Nat) : nI a ^^^ nI b = nI (a ^^^ b) := by
  apply Int32.toBitVec_inj.1
  show BitVec.ofNat 32 a ^^^ BitVec.ofNat 32 b = BitVec.ofNat 32 (a ^^^ b)
  apply BitVec.eq_of_getLsbD_eq
  intro i hi
  simp [hi]
theorem nx_cnt : ∀ j : Fin 32, (UInt32.ofNat j.val &&& Int32.toUInt32 31).toNat % 32 = j.val := by decide +kernel
theorem nx_ush {k j : Nat} (hk : k < 65536) (hj : j < 32) : ((nI k).toUInt32 >>> ((nI j).toUInt32 &&& Int32.toUInt32 31)).toInt32 = nI (k >>> j) := by
  have hs : k >>> j ≤ k := by
    rw [Nat.shiftRight_eq_div_pow]
    exact Nat.div_le_self _ _
  have e2 : UInt32.ofNat k >>> (UInt32.ofNat j &&& Int32.toUInt32 31) = UInt32.ofNat (k >>> j) := by
    apply UInt32.toNat_inj.1
    have h1 : (UInt32.ofNat k).toNat = k := Nat.mod_eq_of_lt (by omega)
    have h2 : (UInt32.ofNat (k >>> j)).toNat = k >>> j := Nat.mod_eq_of_lt (by omega)
    rw [UInt32.toNat_shiftRight, nx_cnt ⟨j, hj⟩, h1, h2]
  show (UInt32.ofNat k >>> (UInt32.ofNat j &&& Int32.toUInt32 31)).toInt32 = _
  rw [e2]
  rfl
theorem nx_bit {k j : Nat} (hk : k < 65536) (hj : j < 16) : (((nI k).toUInt32 >>> ((nI j).toUInt32 &&& Int32.toUInt32 31)).toInt32 &&& 1) = 0 ↔ k.testBit j = false := by
  rw [nx_ush hk (by omega)]
  show nI (k >>> j) &&& nI 1 = 0 ↔ _
  rw [nx_and, Nat.and_one_is_mod, ← nI_0, nI_eq (by omega) (by omega), Nat.testBit_eq_decide_div_mod_eq, Nat.shiftRight_eq_div_pow, decide_eq_false_iff_not]
  generalize k / 2 ^ j = z
  omega
theorem nx_mod (k : Nat) : nI k &&& 65535 = nI (k % 65536) := by
  show nI k &&& nI 65535 = _
  rw [nx_and, show (65535 : Nat) = 2 ^ 16 - 1 from rfl, Nat.and_two_pow_sub_one_eq_mod]
theorem nx_m16 {k : Nat} (h : k < 65536) : nI k &&& 65535 = nI k := by rw [nx_mod, Nat.mod_eq_of_lt h]
theorem nx_mask (x : Int32) : ∃ k, k < 65536 ∧ x &&& 65535 = nI k := by
  have e : x = nI x.toBitVec.toNat := by
    apply Int32.toBitVec_inj.1
    show x.toBitVec = BitVec.ofNat 32 x.toBitVec.toNat
    simp
  refine ⟨x.toBitVec.toNat % 65536, Nat.mod_lt _ (by omega), ?_⟩
  rw [← nx_mod, ← e]
/-! ===== Int32 as a set of bits: test, set ===== -/
def nf_M (m : Int32) : Nat := 4294967296 - m.toBitVec.toNat
theorem nf_sh : ∀ l, l < 32 → ((1 : Int32) <<< (nI l &&& 31)).toBitVec = BitVec.twoPow 32 l := by decide +kernel
theorem nf_sl : ∀ l, l < 32 → (((nI l).toUInt32 &&& Int32.toUInt32 31).toBitVec % 32).toNat = l := by decide +kernel
theorem nf_tp : ∀ l, l < 32 → BitVec.twoPow 32 l ≠ 0#32 := by decide +kernel
theorem nf_bit (m : Int32) (l : Nat) (hl : l < 32) : ((m.toUInt32 >>> ((nI l).toUInt32 &&& Int32.toUInt32 31)).toInt32 &&& 1) = 0 ↔ (m &&& ((1 : Int32) <<< (nI l &&& 31))) = 0 := by
  have e : ((m.toUInt32 >>> ((nI l).toUInt32 &&& Int32.toUInt32 31)).toInt32).toBitVec = m.toBitVec >>> l := by
    show m.toBitVec >>> (((nI l).toUInt32 &&& Int32.toUInt32 31).toBitVec % 32) = m.toBitVec >>> l
    rw [BitVec.ushiftRight_eq', nf_sl l hl]
  rw [← Int32.toBitVec_inj, ← Int32.toBitVec_inj, Int32.toBitVec_and, Int32.toBitVec_and, nf_sh l hl, e, BitVec.and_twoPow]
  show (m.toBitVec >>> l &&& 1#32) = 0#32 ↔ _ = 0#32
  rw [BitVec.and_one_eq_setWidth_ofBool_getLsbD, BitVec.getLsbD_ushiftRight, Nat.add_zero]
  cases hb : m.toBitVec.getLsbD l
  · exact ⟨fun _ => by simp, fun _ => by decide⟩
  · exact ⟨fun z => absurd z (by decide), fun z => absurd ((if_pos rfl).symm.trans z) (nf_tp l hl)⟩
theorem nf_gr (m k : Int32) (h : m &&& k = 0) (hk : k ≠ 0) : nf_M (m ||| k) < nf_M m := by
  have hm := m.toBitVec.isLt
  have hm' := (m ||| k).toBitVec.isLt
  have h1 : m.toBitVec.toNat ≤ (m ||| k).toBitVec.toNat := by
    rw [Int32.toBitVec_or, BitVec.toNat_or]
    exact Nat.left_le_or
  have h2 : m.toBitVec.toNat ≠ (m ||| k).toBitVec.toNat := by
    intro e
    have e2 : m = m ||| k := Int32.toBitVec_inj.mp (BitVec.eq_of_toNat_eq e)
    apply hk
    apply Int32.toBitVec_inj.mp
    show k.toBitVec = 0#32
    apply BitVec.eq_of_getLsbD_eq
    intro i hi
    have a : m.toBitVec.getLsbD i = (m.toBitVec.getLsbD i || k.toBitVec.getLsbD i) := by rw [← BitVec.getLsbD_or, ← Int32.toBitVec_or, ← e2]
    have b : (m.toBitVec.getLsbD i && k.toBitVec.getLsbD i) = false := by
      rw [← BitVec.getLsbD_and, ← Int32.toBitVec_and, h]
      exact BitVec.getLsbD_zero
    rw [BitVec.getLsbD_zero]
    revert a b
    cases m.toBitVec.getLsbD i <;> cases k.toBitVec.getLsbD i <;> simp
  unfold nf_M
  omega
/-! ===== Int64 as a set of bits: test, set, clear ===== -/
theorem ts_nf {x : Bool} (h : ¬ x = false) : x = true := by cases x <;> first | rfl | exact absurd rfl h
theorem ts_nt {x : Bool} (h : ¬ x = true) : x = false := by cases x <;> first | rfl | exact absurd rfl h
theorem ts_bit {w : Int64} {s : UInt64} {j : Nat} (hj : j < 64) (hs : s.toNat = j) : ((w.toUInt64 >>> s).toInt64 &&& 1) = 0 ↔ w.toBitVec.getLsbD j = false := by
  have e : (w.toUInt64 >>> s).toInt64.toBitVec = w.toBitVec >>> j := by
    apply BitVec.eq_of_toNat_eq
    show (w.toUInt64 >>> s).toNat = _
    rw [UInt64.toNat_shiftRight, hs, Nat.mod_eq_of_lt hj, BitVec.toNat_ushiftRight]
    rfl
  rw [← Int64.toBitVec_inj, Int64.toBitVec_and, e]
  show w.toBitVec >>> j &&& 1#64 = 0#64 ↔ _
  constructor
  · intro h
    have t := congrArg (fun x => x.getLsbD 0) h
    simpa using t
  · intro h
    apply BitVec.eq_of_getLsbD_eq
    intro i hi
    cases i with
    | zero => simp [h]
    | succ i => simp
theorem ts_or {w m : Int64} {j : Nat} (hj : j < 64) (hm : m.toBitVec = BitVec.twoPow 64 j) : (w ||| m) = w ↔ w.toBitVec.getLsbD j = true := by
  rw [← Int64.toBitVec_inj, Int64.toBitVec_or, hm]
  constructor
  · intro h
    have t := congrArg (fun x => x.getLsbD j) h
    simp only [BitVec.getLsbD_or, BitVec.getLsbD_twoPow] at t
    simpa [hj] using t.symm
  · intro h
    apply BitVec.eq_of_getLsbD_eq
    intro i hi
    rw [BitVec.getLsbD_or, BitVec.getLsbD_twoPow]
    by_cases e : j = i
    · subst e; rw [h, Bool.true_or]
    · simp [e]
theorem ts_and {w m : Int64} {j : Nat} (hj : j < 64) (hm : m.toBitVec = BitVec.twoPow 64 j) : (w &&& (m ^^^ (-1))) = w ↔ w.toBitVec.getLsbD j = false := by
  have ha : (-1 : Int64).toBitVec = BitVec.allOnes 64 := by decide
  rw [← Int64.toBitVec_inj, Int64.toBitVec_and, Int64.toBitVec_xor, hm, ha]
  constructor
  · intro h
    have t := congrArg (fun x => x.getLsbD j) h
    simp only [BitVec.getLsbD_and, BitVec.getLsbD_xor, BitVec.getLsbD_twoPow, BitVec.getLsbD_allOnes] at t
    simpa [hj] using t.symm
  · intro h
    apply BitVec.eq_of_getLsbD_eq
    intro i hi
    rw [BitVec.getLsbD_and, BitVec.getLsbD_xor, BitVec.getLsbD_twoPow, BitVec.getLsbD_allOnes]
    by_cases e : j = i
    · subst e; rw [h, Bool.false_and]
    · simp [e, hi]
end
section
/-! ===== a set of 128 patterns in two longs; one long by its bits ===== -/
def bz_l (x : Int64) (i : Nat) : Bool := x.toBitVec.getLsbD i
def bz_b (lo hi : Int64) (p : Nat) : Bool := if p < 64 then bz_l lo p else bz_l hi (p - 64)
theorem bz_lo (lo hi : Int64) {p : Nat} (h : p < 64) : bz_b lo hi p = bz_l lo p := if_pos h
theorem bz_hi (lo hi : Int64) {p : Nat} (h : 64 ≤ p) : bz_b lo hi p = bz_l hi (p - 64) := if_neg (Nat.not_lt.mpr h)
theorem bz_land (x y : Int64) (i : Nat) : bz_l (x &&& y) i = (bz_l x i && bz_l y i) := by unfold bz_l; rw [Int64.toBitVec_and, BitVec.getLsbD_and]
theorem bz_lor (x y : Int64) (i : Nat) : bz_l (x ||| y) i = (bz_l x i || bz_l y i) := by unfold bz_l; rw [Int64.toBitVec_or, BitVec.getLsbD_or]
theorem bz_lxor (x y : Int64) (i : Nat) : bz_l (x ^^^ y) i = (bz_l x i ^^ bz_l y i) := by unfold bz_l; rw [Int64.toBitVec_xor, BitVec.getLsbD_xor]
theorem bz_l0 (i : Nat) : bz_l 0 i = false := BitVec.getLsbD_zero
theorem bz_lm1 {i : Nat} (h : i < 64) : bz_l (-1) i = true := by
  have ha : (-1 : Int64).toBitVec = BitVec.allOnes 64 := by decide
  unfold bz_l
  rw [ha, BitVec.getLsbD_allOnes, decide_eq_true h]
theorem bz_lbig {x : Int64} {i : Nat} (h : 64 ≤ i) : bz_l x i = false := BitVec.getLsbD_of_ge _ _ h
theorem bz_and (a b c d : Int64) (p : Nat) : bz_b (a &&& b) (c &&& d) p = (bz_b a c p && bz_b b d p) := by
  unfold bz_b
  split
  · exact bz_land a b p
  · exact bz_land c d _
theorem bz_or (a b c d : Int64) (p : Nat) : bz_b (a ||| b) (c ||| d) p = (bz_b a c p || bz_b b d p) := by
  unfold bz_b
  split
  · exact bz_lor a b p
  · exact bz_lor c d _
theorem bz_xor (a b c d : Int64) (p : Nat) : bz_b (a ^^^ b) (c ^^^ d) p = (bz_b a c p ^^ bz_b b d p) := by
  unfold bz_b
  split
  · exact bz_lxor a b p
  · exact bz_lxor c d _
theorem bz_m1 {p : Nat} (h : p < 128) : bz_b (-1) (-1) p = true := by
  unfold bz_b
  split
  · exact bz_lm1 (by omega)
  · exact bz_lm1 (by omega)
theorem bz_0 (p : Nat) : bz_b 0 0 p = false := by
  unfold bz_b
  split
  · exact bz_l0 _
  · exact bz_l0 _
theorem bz_big {a b : Int64} {p : Nat} (h : 128 ≤ p) : bz_b a b p = false := by
  rw [bz_hi _ _ (by omega)]
  exact bz_lbig (by omega)
theorem bz_not (a b : Int64) {p : Nat} (h : p < 128) : bz_b (a ^^^ (-1)) (b ^^^ (-1)) p = !bz_b a b p := by
  rw [bz_xor, bz_m1 h, Bool.xor_true]
theorem bz_x0 (a b : Int64) (p : Nat) : bz_b (a ^^^ 0) (b ^^^ 0) p = bz_b a b p := by
  rw [bz_xor, bz_0, Bool.xor_false]
theorem bz_lzero {x : Int64} : x = 0 ↔ ∀ i, i < 64 → bz_l x i = false := by
  constructor
  · intro h i _
    rw [h]
    exact bz_l0 i
  · intro h
    apply Int64.toBitVec_inj.mp
    show x.toBitVec = 0#64
    apply BitVec.eq_of_getLsbD_eq
    intro i hi
    rw [BitVec.getLsbD_zero]
    exact h i hi
theorem bz_zero {a b : Int64} : (a ||| b) = 0 ↔ ∀ p, p < 128 → bz_b a b p = false := by
  rw [bz_lzero]
  constructor
  · intro h p hp
    rcases Nat.lt_or_ge p 64 with z | z
    · rw [bz_lo _ _ z]
      have t := h p z
      rw [bz_lor, Bool.or_eq_false_iff] at t
      exact t.1
    · rw [bz_hi _ _ z]
      have t := h (p - 64) (by omega)
      rw [bz_lor, Bool.or_eq_false_iff] at t
      exact t.2
  · intro h i hi
    rw [bz_lor, Bool.or_eq_false_iff]
    have t := h i (by omega)
    have t2 := h (i + 64) (by omega)
    rw [bz_lo _ _ hi] at t
    rw [bz_hi _ _ (by omega), Nat.add_sub_cancel] at t2
    exact ⟨t, t2⟩
theorem bz_nz {a b : Int64} : ¬ (a ||| b) = 0 ↔ ∃ p, p < 128 ∧ bz_b a b p = true := by
  rw [bz_zero]
  constructor
  · intro h
    apply Classical.byContradiction
    intro g
    exact h (fun p hp => ts_nt (fun z => g ⟨p, hp, z⟩))
  · intro ⟨p, hp, z⟩ h
    rw [h p hp] at z
    exact absurd z (by decide)
theorem bz_sh : ∀ p, p < 128 → ((nI p &&& 63).toInt64.toUInt64 &&& Int64.toUInt64 63).toNat = p % 64 := by decide +kernel
theorem bz_tw : ∀ p, p < 128 → ((1 : Int64) <<< ((nI p &&& 63).toInt64 &&& 63)).toBitVec = BitVec.twoPow 64 (p % 64) := by decide +kernel
theorem bz_tw1 : ∀ p, p < 64 → ((1 : Int64) <<< ((nI p).toInt64 &&& 63)).toBitVec = BitVec.twoPow 64 p := by decide +kernel
theorem bz_one {p : Nat} (hp : p < 64) (i : Nat) : bz_l ((1 : Int64) <<< ((nI p).toInt64 &&& 63)) i = decide (i = p) := by
  unfold bz_l
  rw [bz_tw1 p hp, BitVec.getLsbD_twoPow]
  by_cases e : i = p
  · subst e; simp [hp]
  · simp [e, Ne.symm e]
theorem bz_one2 {p : Nat} (hp : p < 128) (i : Nat) : bz_l ((1 : Int64) <<< ((nI p &&& 63).toInt64 &&& 63)) i = decide (i = p % 64) := by
  unfold bz_l
  rw [bz_tw p hp, BitVec.getLsbD_twoPow]
  have h : p % 64 < 64 := Nat.mod_lt _ (by decide)
  by_cases e : i = p % 64
  · subst e; simp [h]
  · simp [e, Ne.symm e]
theorem bz_con {w : Int64} {p : Nat} (hp : p < 128) : (((w.toUInt64 >>> ((nI p &&& 63).toInt64.toUInt64 &&& Int64.toUInt64 63)).toInt64) &&& 1) = 0 ↔ bz_l w (p % 64) = false :=
  ts_bit (Nat.mod_lt _ (by decide)) (bz_sh p hp)
/-- a bit of a long asked by a mask -/
theorem bz_ask {w : Int64} {c : Nat} (hc : c < 64) : (w &&& ((1 : Int64) <<< ((nI c).toInt64 &&& 63))) = 0 ↔ bz_l w c = false := by
  rw [bz_lzero]
  constructor
  · intro h
    have t := h c hc
    rw [bz_land, bz_one hc, decide_eq_true rfl, Bool.and_true] at t
    exact t
  · intro h i _
    rw [bz_land, bz_one hc]
    by_cases e : i = c
    · subst e; rw [h, Bool.false_and]
    · rw [decide_eq_false e, Bool.and_false]
/-! ===== ints by their bits ===== -/
theorem bz_p2 : ∀ k, k < 31 → (1 : Int32) <<< (nI k &&& 31) = nI (2 ^ k) := by decide +kernel
theorem bz_pc {N M : Nat} (h : N + M < 31) : (1 : Int32) <<< ((nI N + nI M) &&& 31) = nI (2 ^ (N + M)) := by
  rw [nI_add]
  exact bz_p2 _ h
theorem bz_p7 {k : Nat} (h : k ≤ 7) : 2 ^ k ≤ 128 := Nat.pow_le_pow_right (by decide) h
theorem bz_nm' : ∀ N, N < 5 → ∀ p, p < 128 → nI p &&& (((1 : Int32) <<< (nI N &&& 31)) - 1) = nI (p % 2 ^ N) := by decide +kernel
theorem bz_nm {N p : Nat} (hN : N ≤ 4) (hp : p < 128) : nI p &&& (((1 : Int32) <<< (nI N &&& 31)) - 1) = nI (p % 2 ^ N) := bz_nm' N (by omega) p hp
theorem bz_st : ∀ k, k < 6 → ∀ i, i < 64 → bz_l (((1 : Int64) <<< ((nI (2 ^ k)).toInt64 &&& 63)) - 1) i = decide (i < 2 ^ k) := by decide +kernel
theorem bz_i1 {s : Nat} (hs : s < 32) (i : Nat) : bt ((1 : Int32) <<< (nI s &&& 31)) i = decide (i = s) := by
  unfold bt
  rw [nf_sh s hs, BitVec.getLsbD_twoPow]
  by_cases e : i = s
  · subst e; simp [hs]
  · simp [e, Ne.symm e]
theorem bz_izero {x : Int32} : x = 0 ↔ ∀ i, i < 32 → bt x i = false := by
  constructor
  · intro h i _
    rw [h]
    exact b_0 i
  · intro h
    apply b_ext
    intro i hi
    rw [b_0, h i hi]
theorem bz_oc {x : Int32} {s : Nat} (hs : s < 32) : (x &&& ((1 : Int32) <<< (nI s &&& 31))) = 0 ↔ bt x s = false := by
  rw [bz_izero]
  constructor
  · intro h
    have t := h s hs
    rw [b_and, bz_i1 hs, decide_eq_true rfl, Bool.and_true] at t
    exact t
  · intro h i _
    rw [b_and, bz_i1 hs]
    by_cases e : i = s
    · subst e; rw [h, Bool.false_and]
    · rw [decide_eq_false e, Bool.and_false]
theorem bz_i01 (i : Nat) : bt 1 i = decide (i = 0) := by
  have h : (1 : Int32).toBitVec = BitVec.twoPow 32 0 := by decide
  unfold bt
  rw [h, BitVec.getLsbD_twoPow]
  by_cases e : i = 0
  · subst e; simp
  · simp [e, Ne.symm e]
theorem bz_1 {x : Int32} : (x &&& 1) = 1 ↔ bt x 0 = true := by
  constructor
  · intro h
    have t := congrArg (fun z => bt z 0) h
    rw [b_and, bz_i01, decide_eq_true rfl, Bool.and_true] at t
    exact t
  · intro h
    apply b_ext
    intro i hi
    rw [b_and, bz_i01]
    by_cases e : i = 0
    · subst e; rw [h]; rfl
    · rw [decide_eq_false e, Bool.and_false]
theorem bz_sr {x : Int32} {s : Nat} (hs : s < 32) : ((x >>> (nI s &&& 31)) &&& 1) = 1 ↔ bt x s = true := by
  rw [bz_1, b_sshr s hs x (by omega), Nat.add_zero, if_pos hs]
theorem bz_ni (n i : Nat) (hi : i < 32) : bt (nI n) i = n.testBit i := by
  show (BitVec.ofNat 32 n).getLsbD i = _
  rw [BitVec.getLsbD_ofNat, decide_eq_true hi, Bool.true_and]
theorem bz_srn {p s : Nat} (hs : s < 32) : ((nI p >>> (nI s &&& 31)) &&& 1) = 1 ↔ p.testBit s = true := by
  rw [bz_sr hs, bz_ni _ _ hs]
theorem bz_set {x : Int32} {s : Nat} (hs : s < 32) (i : Nat) : bt (x ||| ((1 : Int32) <<< (nI s &&& 31))) i = (bt x i || decide (i = s)) := by
  rw [b_or, bz_i1 hs]
theorem bz_clr {x : Int32} {s : Nat} (hs : s < 32) (i : Nat) : bt (x &&& (((1 : Int32) <<< (nI s &&& 31)) ^^^ (-1))) i = (bt x i && !decide (i = s)) := by
  rw [b_and, b_xor, bz_i1 hs]
  rcases Nat.lt_or_ge i 32 with z | z
  · rw [b_m1 i z, Bool.xor_true]
  · rw [b_big z, Bool.false_and, Bool.false_and]
theorem bz_x1 (q : Int32) : ¬ q = q ^^^ 1 := by
  intro h
  have t := congrArg (fun z => bt z 0) h
  rw [b_xor, bz_i01, decide_eq_true rfl] at t
  cases hb : bt q 0 <;> rw [hb] at t <;> exact absurd t (by decide)
theorem bz_n0 : vp_nar .boolean 0 = 0 := rfl
theorem bz_n1 : vp_nar .boolean 1 = 1 := rfl
/-! ===== truth values as ints, decided propositions ===== -/
def zz_i (b : Bool) : Int32 := cond b 1 0
theorem zz_i0 {b : Bool} : zz_i b = 0 ↔ b = false := by cases b <;> decide
theorem zz_i1 {b : Bool} : zz_i b = 1 ↔ b = true := by cases b <;> decide
theorem zz_inar (b : Bool) : vp_nar .boolean (zz_i b) = zz_i b := by cases b <;> rfl
theorem zz_inj {a b : Bool} : zz_i a = zz_i b ↔ a = b := by cases a <;> cases b <;> decide
theorem zz_n0 {b : Bool} : ¬ zz_i b = 0 ↔ b = true := by cases b <;> decide
noncomputable def zz_d (P : Prop) : Bool := @decide P (Classical.propDecidable P)
theorem zz_dt {P : Prop} : zz_d P = true ↔ P := @decide_eq_true_iff P (Classical.propDecidable P)
theorem zz_df {P : Prop} : zz_d P = false ↔ ¬ P := @decide_eq_false_iff_not P (Classical.propDecidable P)
theorem zz_dc {P P' : Prop} (h : P ↔ P') : zz_d P = zz_d P' := by rw [propext h]
theorem zz_be {a b : Bool} (h : a = true ↔ b = true) : a = b := by cases a <;> cases b <;> simp at h <;> rfl
/-! ===== the pure reasoner ===== -/
def zz_T (el eh : Nat → Int64) (h p : Nat) : Bool := bz_b (el h) (eh h) p
def zz_lk (M : Nat) (mr : Nat → Int32) (nd fl : Nat → Nat → Bool) (q : Int32) (p o : Nat) : Prop :=
  ∀ m, m < M → (mr m = q → nd m p = false → fl m o = false) ∧ (mr m = q ^^^ 1 → fl m p = true → nd m o = true)
theorem zz_lk0 (mr : Nat → Int32) (nd fl : Nat → Nat → Bool) (q : Int32) (p o : Nat) : zz_lk 0 mr nd fl q p o := fun m h => absurd h (Nat.not_lt_zero m)
theorem zz_lks {M : Nat} {mr : Nat → Int32} {nd fl : Nat → Nat → Bool} {q : Int32} {p o : Nat} : zz_lk (M + 1) mr nd fl q p o ↔ zz_lk M mr nd fl q p o ∧ ((mr M = q → nd M p = false → fl M o = false) ∧ (mr M = q ^^^ 1 → fl M p = true → nd M o = true)) := by
  constructor
  · intro h
    exact ⟨fun m hm => h m (by omega), h M (by omega)⟩
  · intro h m hm
    rcases Nat.lt_or_ge m M with z | z
    · exact h.1 m z
    · have e : m = M := by omega
      subst e
      exact h.2
def zz_wt (M : Nat) (mr : Nat → Int32) (nd fl : Nat → Nat → Bool) (S : Nat → Bool) (p : Nat) : Prop :=
  ∀ m, m < M → nd m p = true → ∃ o, o < 128 ∧ S o = true ∧ fl m o = true ∧ zz_lk M mr nd fl (mr m) p o
noncomputable def zz_st (M : Nat) (mr : Nat → Int32) (nd fl : Nat → Nat → Bool) (S : Nat → Bool) (p : Nat) : Nat → Bool :=
  fun o => S o && (!(decide (o = p)) || zz_d (zz_wt M mr nd fl S p))
noncomputable def zz_ps (M : Nat) (mr : Nat → Int32) (nd fl : Nat → Nat → Bool) (S : Nat → Bool) : Nat → Nat → Bool
  | 0 => S
  | k + 1 => zz_st M mr nd fl (zz_ps M mr nd fl S k) k
noncomputable def zz_cg (M : Nat) (mr : Nat → Int32) (nd fl : Nat → Nat → Bool) (S : Nat → Bool) : Nat → Bool
  | 0 => false
  | k + 1 => zz_cg M mr nd fl S k || (zz_ps M mr nd fl S k k && !zz_d (zz_wt M mr nd fl (zz_ps M mr nd fl S k) k))
noncomputable def zz_rd (M : Nat) (mr : Nat → Int32) (nd fl : Nat → Nat → Bool) : Nat → Bool → (Nat → Bool) → Nat → Bool
  | 0, _, S => S
  | _ + 1, false, S => S
  | n + 1, true, S => zz_rd M mr nd fl n (zz_cg M mr nd fl S 128) (zz_ps M mr nd fl S 128)
def zz_bad (mask : Int32) (al ar : Nat → Int32) (el eh : Nat → Int64) (p s : Nat) : Bool := bt mask s && zz_T el eh (al s).toNatClampNeg p && !zz_T el eh (ar s).toNatClampNeg p
noncomputable def zz_s0 (P : Nat) (mask : Int32) (al ar : Nat → Int32) (el eh : Nat → Int64) (p : Nat) : Bool :=
  decide (p < P) && zz_d (∀ s, s < 8 → zz_bad mask al ar el eh p s = false)
noncomputable def zz_gg (N M : Nat) (mr : Nat → Int32) (nl nh il ih : Nat → Int64) (al ar : Nat → Int32) (el eh : Nat → Int64) (mask : Int32) : Nat → Bool :=
  zz_rd M mr (zz_T nl nh) (zz_T il ih) 129 true (zz_s0 (2 ^ (N + M)) mask al ar el eh)
/-- the front of the walk behind position i -/
noncomputable def zz_fr (M : Nat) (mr : Nat → Int32) (nd fl : Nat → Nat → Bool) (G : Nat → Bool) (rl : Nat → Int32) (wx : Nat → Nat → Bool) : Nat → Nat → Bool
  | 0 => fun p => G p && wx 0 p
  | i + 1 => fun p => (G p && zz_d (∃ o, o < 128 ∧ zz_fr M mr nd fl G rl wx i o = true ∧ zz_lk M mr nd fl (rl (i + 1)) o p)) && wx (i + 1) p
theorem zz_fr_congr {M : Nat} {mr : Nat → Int32} {nd fl : Nat → Nat → Bool} {G : Nat → Bool} {rl rl' : Nat → Int32} {wx wx' : Nat → Nat → Bool} : ∀ i, (∀ j, j ≤ i → rl j = rl' j ∧ ∀ p, p < 128 → wx j p = wx' j p) → ∀ p, p < 128 → zz_fr M mr nd fl G rl wx i p = zz_fr M mr nd fl G rl' wx' i p
  | 0, h, p, hp => by
    simp only [zz_fr]
    rw [(h 0 (Nat.le_refl 0)).2 p hp]
  | i + 1, h, p, hp => by
    have ih := zz_fr_congr i (fun j hj => h j (by omega)) (M := M) (mr := mr) (nd := nd) (fl := fl) (G := G)
    simp only [zz_fr]
    rw [(h (i + 1) (Nat.le_refl _)).2 p hp, (h (i + 1) (Nat.le_refl _)).1]
    have e : (∃ o, o < 128 ∧ zz_fr M mr nd fl G rl wx i o = true ∧ zz_lk M mr nd fl (rl' (i + 1)) o p) ↔ (∃ o, o < 128 ∧ zz_fr M mr nd fl G rl' wx' i o = true ∧ zz_lk M mr nd fl (rl' (i + 1)) o p) := by
      constructor
      · intro ⟨o, ho, a, b⟩
        exact ⟨o, ho, by rw [← ih o ho]; exact a, b⟩
      · intro ⟨o, ho, a, b⟩
        exact ⟨o, ho, by rw [ih o ho]; exact a, b⟩
    rw [zz_dc e]
theorem zz_frG {M : Nat} {mr : Nat → Int32} {nd fl : Nat → Nat → Bool} {G : Nat → Bool} {rl : Nat → Int32} {wx : Nat → Nat → Bool} {i p : Nat} (h : zz_fr M mr nd fl G rl wx i p = true) : G p = true := by
  cases i with
  | zero =>
    simp only [zz_fr, Bool.and_eq_true] at h
    exact h.1
  | succ i =>
    simp only [zz_fr, Bool.and_eq_true] at h
    exact h.1.1
/-- a pass keeps to its set -/
theorem zz_ps_le {M : Nat} {mr : Nat → Int32} {nd fl : Nat → Nat → Bool} {S : Nat → Bool} : ∀ k o, zz_ps M mr nd fl S k o = true → S o = true
  | 0, _, h => h
  | k + 1, o, h => by
    simp only [zz_ps, zz_st, Bool.and_eq_true] at h
    exact zz_ps_le k o h.1
theorem zz_rd_le {M : Nat} {mr : Nat → Int32} {nd fl : Nat → Nat → Bool} : ∀ (n : Nat) (c : Bool) (S : Nat → Bool) (o : Nat), zz_rd M mr nd fl n c S o = true → S o = true
  | 0, _, _, _, h => h
  | _ + 1, false, _, _, h => h
  | n + 1, true, S, o, h => zz_ps_le 128 o (zz_rd_le n _ _ o h)
theorem zz_gg_lt {N M : Nat} {mr : Nat → Int32} {nl nh il ih : Nat → Int64} {al ar : Nat → Int32} {el eh : Nat → Int64} {mask : Int32} {o : Nat} (h : zz_gg N M mr nl nh il ih al ar el eh mask o = true) : o < 2 ^ (N + M) := by
  have t := zz_rd_le _ _ _ _ h
  unfold zz_s0 at t
  rw [Bool.and_eq_true] at t
  exact of_decide_eq_true t.1
/-- patterns beyond P: nothing happens there -/
theorem zz_ps_out {M : Nat} {mr : Nat → Int32} {nd fl : Nat → Nat → Bool} {S : Nat → Bool} {P : Nat} (hS : ∀ o, S o = true → o < P) : ∀ d, zz_ps M mr nd fl S (P + d) = zz_ps M mr nd fl S P ∧ zz_cg M mr nd fl S (P + d) = zz_cg M mr nd fl S P
  | 0 => ⟨rfl, rfl⟩
  | d + 1 => by
    obtain ⟨h1, h2⟩ := zz_ps_out hS d (M := M) (mr := mr) (nd := nd) (fl := fl)
    have hf : zz_ps M mr nd fl S (P + d) (P + d) = false := ts_nt (fun z => absurd (hS _ (zz_ps_le _ _ z)) (by omega))
    constructor
    · show zz_st M mr nd fl (zz_ps M mr nd fl S (P + d)) (P + d) = _
      rw [← h1]
      funext o
      unfold zz_st
      by_cases e : o = P + d
      · subst e; rw [hf, Bool.false_and]
      · rw [decide_eq_false e, Bool.not_false, Bool.true_or, Bool.and_true]
    · show (zz_cg M mr nd fl S (P + d) || (zz_ps M mr nd fl S (P + d) (P + d) && _)) = _
      rw [hf, Bool.false_and, Bool.or_false, h2]
theorem zz_ps_P {M : Nat} {mr : Nat → Int32} {nd fl : Nat → Nat → Bool} {S : Nat → Bool} {P : Nat} (hS : ∀ o, S o = true → o < P) (hP : P ≤ 128) : zz_ps M mr nd fl S 128 = zz_ps M mr nd fl S P ∧ zz_cg M mr nd fl S 128 = zz_cg M mr nd fl S P := by
  have h := zz_ps_out (M := M) (mr := mr) (nd := nd) (fl := fl) hS (128 - P)
  rw [show P + (128 - P) = 128 by omega] at h
  exact h
end
section
/-! ===== the component: contains, links ===== -/
section
variable {N R Q C Z M L : Nat} {sm lf gf : Int32} {gl gh tl th ul uh : Int64} {kd fa sb mr al ar wv wr : Nat → Int32} {el eh nl nh il ih ll lh wd wl wh : Nat → Int64}
theorem xc_con {post : Int32 → Prop} {lo hi : Int64} {p : Nat} (hp : p < 128) (h0 : bz_b lo hi p = false → post 0) (h1 : bz_b lo hi p = true → post 1) : wpX_contains post (nI N, nI R, nI Q, nI C, nI Z, nI M, sm, lf, gf, gl, gh, tl, th, nI L, ul, uh, kd, fa, sb, el, eh, mr, nl, nh, il, ih, al, ar, ll, lh, wv, wr, wd, wl, wh) lo hi (nI p) := by
  refine pk_le 64 p (fun h => ?_) (fun h => ?_)
  · unfold wX_contains_12
    have e : bz_b lo hi p = bz_l hi (p % 64) := by rw [bz_hi _ _ h, show p - 64 = p % 64 by omega]
    rw [e] at h0 h1
    exact ek_if (bz_con hp) h0 (fun z => h1 (ts_nf z))
  · unfold wX_contains_12
    have e : bz_b lo hi p = bz_l lo (p % 64) := by rw [bz_lo _ _ h, show p % 64 = p by omega]
    rw [e] at h0 h1
    exact ek_if (bz_con hp) h0 (fun z => h1 (ts_nf z))
theorem xc_pc {post : Int32 → Prop} (h : N + M < 31) (H : post (nI (2 ^ (N + M)))) : wpX_patternCount post (nI N, nI R, nI Q, nI C, nI Z, nI M, sm, lf, gf, gl, gh, tl, th, nI L, ul, uh, kd, fa, sb, el, eh, mr, nl, nh, il, ih, al, ar, ll, lh, wv, wr, wd, wl, wh) :=
  ek_v (P := post) (bz_pc h) H
theorem xc_ix (q p : Nat) : nI q * 128 + nI p = nI (q * 128 + p) := by
  rw [show (128 : Int32) = nI 128 from rfl, pk_mul, nI_add]
theorem xc_lr {post : SX → Prop} {q p : Nat} (hq : q < 4) (hp : p < 128) (hM : M ≤ 7) (K : ∀ lo hi : Int64, (∀ o, o < 128 → (bz_b lo hi o = true ↔ zz_lk M mr (zz_T nl nh) (zz_T il ih) (nI q) p o)) → post (nI N, nI R, nI Q, nI C, nI Z, nI M, sm, lf, gf, gl, gh, tl, th, nI L, ul, uh, kd, fa, sb, el, eh, mr, nl, nh, il, ih, al, ar, vp_updL ll (q * 128 + p) lo, vp_updL lh (q * 128 + p) hi, wv, wr, wd, wl, wh)) : ∀ (n m : Nat) (lo hi : Int64), m ≤ M → M - m < n → (∀ o, o < 128 → (bz_b lo hi o = true ↔ zz_lk m mr (zz_T nl nh) (zz_T il ih) (nI q) p o)) → wX_linkRow_12 post (nI q) (nI p) (nI N) (nI R) (nI Q) (nI C) (nI Z) (nI M) sm lf gf gl gh tl th (nI L) ul uh kd fa sb el eh mr nl nh il ih al ar ll lh wv wr wd wl wh n lo hi (nI m) := by
  intro n
  induction n with
  | zero => intro m lo hi h1 h2; exact absurd h2 (Nat.not_lt_zero _)
  | succ n IH =>
    intro m lo hi h1 h2 H
    refine pk_le M m (fun hm => ?_) (fun hm => ?_)
    · have e : m = M := by omega
      rw [e] at H
      rw [xc_ix, nI_clamp (by omega)]
      exact ⟨vp_in_nI (by omega) (by decide), nm_e ⟨vp_in_nI (by omega) (by decide), nm_e (K lo hi H)⟩⟩
    · rw [nI_clamp (n := m) (by omega)]
      have V : vp_in (nI m) 7 := vp_in_nI (by omega) (by decide)
      have NX : ∀ lo' hi' : Int64, (∀ o, o < 128 → (bz_b lo' hi' o = true ↔ zz_lk (m + 1) mr (zz_T nl nh) (zz_T il ih) (nI q) p o)) → ∀ x : Int32, x = nI m + 1 → wX_linkRow_12 post (nI q) (nI p) (nI N) (nI R) (nI Q) (nI C) (nI Z) (nI M) sm lf gf gl gh tl th (nI L) ul uh kd fa sb el eh mr nl nh il ih al ar ll lh wv wr wd wl wh n lo' hi' x := fun lo' hi' H' => nm_r (nI_1 m) (IH (m + 1) lo' hi' (by omega) (by omega) H')
      refine ⟨V, br_c (fun hr => ?_) (fun hr => ?_)⟩
      · refine ⟨V, V, xc_con hp (fun hb => ?_) (fun hb => ?_)⟩
        · refine br_t rfl ⟨V, nm_e ⟨V, nm_e (NX _ _ (fun o ho => ?_))⟩⟩
          rw [zz_lks, bz_and, bz_not _ _ ho, Bool.and_eq_true, H o ho, Bool.not_eq_true']
          exact ⟨fun z => ⟨z.1, fun _ _ => z.2, fun w => absurd (hr.symm.trans w) (bz_x1 _)⟩, fun z => ⟨z.1, z.2.1 hr hb⟩⟩
        · refine br_f (by decide) (NX lo hi (fun o ho => ?_))
          rw [zz_lks, H o ho]
          exact ⟨fun z => ⟨z, fun _ w => absurd (hb.symm.trans w) (by decide), fun w => absurd (hr.symm.trans w) (bz_x1 _)⟩, fun z => z.1⟩
      · refine ⟨V, br_c (fun hr2 => ?_) (fun hr2 => ?_)⟩
        · refine ⟨V, V, xc_con hp (fun hb => ?_) (fun hb => ?_)⟩
          · refine br_t rfl (NX lo hi (fun o ho => ?_))
            rw [zz_lks, H o ho]
            exact ⟨fun z => ⟨z, fun w => absurd w hr, fun _ w => absurd (hb.symm.trans w) (by decide)⟩, fun z => z.1⟩
          · refine br_f (by decide) ⟨V, nm_e ⟨V, nm_e (NX _ _ (fun o ho => ?_))⟩⟩
            rw [zz_lks, bz_and, Bool.and_eq_true, H o ho]
            exact ⟨fun z => ⟨z.1, fun w => absurd w hr, fun _ _ => z.2⟩, fun z => ⟨z.1, z.2.2 hr2 hb⟩⟩
        · refine NX lo hi (fun o ho => ?_)
          rw [zz_lks, H o ho]
          exact ⟨fun z => ⟨z, fun w => absurd w hr, fun w => absurd w hr2⟩, fun z => z.1⟩
theorem xc_linkRow {post : SX → Prop} {q p : Nat} (hq : q < 4) (hp : p < 128) (hM : M ≤ 7) (K : ∀ lo hi : Int64, (∀ o, o < 128 → (bz_b lo hi o = true ↔ zz_lk M mr (zz_T nl nh) (zz_T il ih) (nI q) p o)) → post (nI N, nI R, nI Q, nI C, nI Z, nI M, sm, lf, gf, gl, gh, tl, th, nI L, ul, uh, kd, fa, sb, el, eh, mr, nl, nh, il, ih, al, ar, vp_updL ll (q * 128 + p) lo, vp_updL lh (q * 128 + p) hi, wv, wr, wd, wl, wh)) : wpX_linkRow post (nI N, nI R, nI Q, nI C, nI Z, nI M, sm, lf, gf, gl, gh, tl, th, nI L, ul, uh, kd, fa, sb, el, eh, mr, nl, nh, il, ih, al, ar, ll, lh, wv, wr, wd, wl, wh) (nI q) (nI p) :=
  Exists.intro (M + 1) (xc_lr hq hp hM K (M + 1) 0 (-1) (-1) (by omega) (by omega) (fun o ho => ⟨fun _ => zz_lk0 _ _ _ _ _ _, fun _ => bz_m1 ho⟩))
def zz_row (M : Nat) (mr : Nat → Int32) (nl nh il ih ll lh : Nat → Int64) (q p : Nat) : Prop :=
  ∀ o, o < 128 → (bz_b (ll (q * 128 + p)) (lh (q * 128 + p)) o = true ↔ zz_lk M mr (zz_T nl nh) (zz_T il ih) (nI q) p o)
def zz_lo (R P M : Nat) (mr : Nat → Int32) (nl nh il ih ll lh : Nat → Int64) : Prop :=
  ∀ q p, q < 2 * R → p < P → zz_row M mr nl nh il ih ll lh q p
theorem zz_row_u {q p q' p' : Nat} {lo hi : Int64} (h : zz_row M mr nl nh il ih ll lh q' p') (e : q' * 128 + p' ≠ q * 128 + p) : zz_row M mr nl nh il ih (vp_updL ll (q * 128 + p) lo) (vp_updL lh (q * 128 + p) hi) q' p' := by
  intro o ho
  rw [pk_uLn e, pk_uLn e]
  exact h o ho
theorem zz_row_s {q p : Nat} {lo hi : Int64} (H : ∀ o, o < 128 → (bz_b lo hi o = true ↔ zz_lk M mr (zz_T nl nh) (zz_T il ih) (nI q) p o)) : zz_row M mr nl nh il ih (vp_updL ll (q * 128 + p) lo) (vp_updL lh (q * 128 + p) hi) q p := by
  intro o ho
  rw [pk_uLs, pk_uLs]
  exact H o ho
theorem xc_rl27 {post : SX → Prop} {P q : Nat} {J : Int32 → Int32 → Int32 → Int32 → Int32 → Int32 → Int32 → Int32 → Int32 → Int32 → Int64 → Int64 → Int64 → Int64 → Int32 → Int64 → Int64 → (Nat → Int32) → (Nat → Int32) → (Nat → Int32) → (Nat → Int64) → (Nat → Int64) → (Nat → Int32) → (Nat → Int64) → (Nat → Int64) → (Nat → Int64) → (Nat → Int64) → (Nat → Int32) → (Nat → Int32) → (Nat → Int64) → (Nat → Int64) → (Nat → Int32) → (Nat → Int32) → (Nat → Int64) → (Nat → Int64) → (Nat → Int64) → Prop} (hq : q < 4) (hP : P ≤ 128) (hM : M ≤ 7) (K : ∀ ll lh : Nat → Int64, (∀ q' p', q' < q + 1 → p' < P → zz_row M mr nl nh il ih ll lh q' p') → J (nI (q + 1)) (nI N) (nI R) (nI Q) (nI C) (nI Z) (nI M) sm lf gf gl gh tl th (nI L) ul uh kd fa sb el eh mr nl nh il ih al ar ll lh wv wr wd wl wh) : ∀ (n p : Nat) (ll lh : Nat → Int64), p ≤ P → P - p < n → (∀ q' p', q' < q → p' < P → zz_row M mr nl nh il ih ll lh q' p') → (∀ p', p' < p → zz_row M mr nl nh il ih ll lh q p') → wX_refreshLinks_27 post J (nI P) (nI q) n (nI p) (nI N) (nI R) (nI Q) (nI C) (nI Z) (nI M) sm lf gf gl gh tl th (nI L) ul uh kd fa sb el eh mr nl nh il ih al ar ll lh wv wr wd wl wh := by
  intro n
  induction n with
  | zero => intro p ll lh h1 h2; exact absurd h2 (Nat.not_lt_zero _)
  | succ n IH =>
    intro p ll lh h1 h2 H1 H2
    refine pk_le P p (fun hm => ?_) (fun hm => ?_)
    · refine nm_r (nI_1 q) (K ll lh (fun q' p' a b => ?_))
      rcases Nat.lt_or_ge q' q with z | z
      · exact H1 q' p' z b
      · have e : q' = q := by omega
        rw [e]
        exact H2 p' (by omega)
    · refine xc_linkRow hq (by omega) hM (fun lo hi H => ?_)
      refine nm_r (nI_1 p) (IH (p + 1) _ _ (by omega) (by omega) (fun q' p' a b => zz_row_u (H1 q' p' a b) (by omega)) (fun p' a => ?_))
      rcases Nat.lt_or_ge p' p with z | z
      · exact zz_row_u (H2 p' z) (by omega)
      · have e : p' = p := by omega
        rw [e]
        exact zz_row_s H
theorem xc_rl15 {post : SX → Prop} {P : Nat} (hR : R ≤ 2) (hP : P ≤ 128) (hM : M ≤ 7) (K : ∀ ll lh : Nat → Int64, zz_lo R P M mr nl nh il ih ll lh → post (nI N, nI R, nI Q, nI C, nI Z, nI M, sm, 1, gf, gl, gh, tl, th, nI L, ul, uh, kd, fa, sb, el, eh, mr, nl, nh, il, ih, al, ar, ll, lh, wv, wr, wd, wl, wh)) : ∀ (n q : Nat) (ll lh : Nat → Int64), q ≤ 2 * R → 2 * R - q < n → (∀ q' p', q' < q → p' < P → zz_row M mr nl nh il ih ll lh q' p') → wX_refreshLinks_15 post (nI P) n (nI q) (nI N) (nI R) (nI Q) (nI C) (nI Z) (nI M) sm lf gf gl gh tl th (nI L) ul uh kd fa sb el eh mr nl nh il ih al ar ll lh wv wr wd wl wh := by
  intro n
  induction n with
  | zero => intro q ll lh h1 h2; exact absurd h2 (Nat.not_lt_zero _)
  | succ n IH =>
    intro q ll lh h1 h2 H1
    refine pk_le (2 * R) q (fun hm => ?_) (fun hm => ?_) (pk_mul 2 R)
    · exact K ll lh (fun q' p' a b => H1 q' p' (by omega) b)
    · exact Exists.intro (P + 1) (xc_rl27 (by omega) hP hM (fun ll lh H => IH (q + 1) ll lh (by omega) (by omega) H) (P + 1) 0 ll lh (by omega) (by omega) H1 (fun p' a => absurd a (Nat.not_lt_zero _)))
theorem xc_refreshLinks {post : SX → Prop} (hR : R ≤ 2) (hP : N + M ≤ 7) (F : lf = 0 ∨ (lf = 1 ∧ zz_lo R (2 ^ (N + M)) M mr nl nh il ih ll lh)) (K : ∀ ll lh : Nat → Int64, zz_lo R (2 ^ (N + M)) M mr nl nh il ih ll lh → post (nI N, nI R, nI Q, nI C, nI Z, nI M, sm, 1, gf, gl, gh, tl, th, nI L, ul, uh, kd, fa, sb, el, eh, mr, nl, nh, il, ih, al, ar, ll, lh, wv, wr, wd, wl, wh)) : wpX_refreshLinks post (nI N, nI R, nI Q, nI C, nI Z, nI M, sm, lf, gf, gl, gh, tl, th, nI L, ul, uh, kd, fa, sb, el, eh, mr, nl, nh, il, ih, al, ar, ll, lh, wv, wr, wd, wl, wh) := by
  rcases F with rfl | ⟨rfl, H⟩
  · refine br_t rfl (xc_pc (by omega) ?_)
    exact Exists.intro (2 * R + 1) (xc_rl15 hR (bz_p7 hP) (by omega) K (2 * R + 1) 0 ll lh (by omega) (by omega) (fun q' p' a => absurd a (Nat.not_lt_zero _)))
  · exact br_f (by decide) (K ll lh H)
end
end
section
/-! ===== the component: start set, witnesses, elimination ===== -/
theorem zz_all_s {f : Nat → Bool} (s : Nat) : zz_d (∀ j, j < s + 1 → f j = false) = (zz_d (∀ j, j < s → f j = false) && !f s) := by
  apply zz_be
  rw [zz_dt, Bool.and_eq_true, zz_dt, Bool.not_eq_true']
  constructor
  · intro h
    exact ⟨fun j hj => h j (by omega), h s (by omega)⟩
  · intro h j hj
    rcases Nat.lt_or_ge j s with z | z
    · exact h.1 j z
    · have e : j = s := by omega
      rw [e]
      exact h.2
theorem zz_s0e (P : Nat) (mask : Int32) (al ar : Nat → Int32) (el eh : Nat → Int64) (p : Nat) : zz_s0 P mask al ar el eh p = (decide (p < P) && zz_d (∀ s, s < 8 → zz_bad mask al ar el eh p s = false)) := rfl
section
variable {N R Q C Z M L : Nat} {sm lf gf : Int32} {gl gh tl th ul uh : Int64} {kd fa sb mr al ar wv wr : Nat → Int32} {el eh nl nh il ih ll lh wd wl wh : Nat → Int64}
theorem xc_st46 {post : SX → Prop} {mask : Int32} {B : Nat → Bool} (hA : ∀ s, s < 8 → bt mask s = true → vp_in (al s) 48 ∧ vp_in (ar s) 48) (K : ∀ tl th : Int64, (∀ p, p < 128 → bz_b tl th p = (B p && zz_d (∀ s, s < 8 → zz_bad mask al ar el eh p s = false))) → post (nI N, nI R, nI Q, nI C, nI Z, nI M, sm, lf, gf, gl, gh, tl, th, nI L, ul, uh, kd, fa, sb, el, eh, mr, nl, nh, il, ih, al, ar, ll, lh, wv, wr, wd, wl, wh)) : ∀ (n s : Nat) (tl th : Int64), s ≤ 8 → 8 - s < n → (∀ p, p < 128 → bz_b tl th p = (B p && zz_d (∀ j, j < s → zz_bad mask al ar el eh p j = false))) → wX_startTrial_46 post mask (nI N) (nI R) (nI Q) (nI C) (nI Z) (nI M) sm lf gf gl gh (nI L) ul uh kd fa sb el eh mr nl nh il ih al ar ll lh wv wr wd wl wh n (nI s) tl th := by
  intro n
  induction n with
  | zero => intro s tl th h1 h2; exact absurd h2 (Nat.not_lt_zero _)
  | succ n IH =>
    intro s tl th h1 h2 H
    refine pk_le 8 s (fun hm => ?_) (fun hm => ?_)
    · have e : s = 8 := by omega
      rw [e] at H
      exact K tl th H
    · refine ek_if (bz_oc (by omega)) (fun hb => ?_) (fun hb => ?_)
      · refine nm_r (nI_1 s) (IH (s + 1) tl th (by omega) (by omega) (fun p hp => ?_))
        rw [H p hp, zz_all_s]
        have e : zz_bad mask al ar el eh p s = false := by unfold zz_bad; rw [hb, Bool.false_and, Bool.false_and]
        rw [e, Bool.not_false, Bool.and_true]
      · have hb2 := ts_nf hb
        obtain ⟨va, vb⟩ := hA s hm hb2
        rw [nI_clamp (n := s) (by omega)]
        have V : vp_in (nI s) 8 := vp_in_nI (by omega) (by decide)
        refine ⟨V, nm_e ⟨V, nm_e ⟨va, vb, nm_e ⟨va, vb, nm_e (nm_r (nI_1 s) (IH (s + 1) _ _ (by omega) (by omega) (fun p hp => ?_)))⟩⟩⟩⟩
        rw [bz_and, bz_or, bz_not _ _ hp, H p hp, zz_all_s]
        unfold zz_bad
        rw [hb2, Bool.true_and, Bool.and_assoc, Bool.not_and, Bool.not_not]
        rfl
theorem xc_startTrial {post : SX → Prop} {mask : Int32} (hP : N + M ≤ 7) (hA : ∀ s, s < 8 → bt mask s = true → vp_in (al s) 48 ∧ vp_in (ar s) 48) (K : ∀ tl th : Int64, bz_b tl th = zz_s0 (2 ^ (N + M)) mask al ar el eh → post (nI N, nI R, nI Q, nI C, nI Z, nI M, sm, lf, gf, gl, gh, tl, th, nI L, ul, uh, kd, fa, sb, el, eh, mr, nl, nh, il, ih, al, ar, ll, lh, wv, wr, wd, wl, wh)) : wpX_startTrial post (nI N, nI R, nI Q, nI C, nI Z, nI M, sm, lf, gf, gl, gh, tl, th, nI L, ul, uh, kd, fa, sb, el, eh, mr, nl, nh, il, ih, al, ar, ll, lh, wv, wr, wd, wl, wh) mask := by
  have hP2 := bz_p7 hP
  have K2 : ∀ tl th : Int64, (∀ p, p < 128 → bz_b tl th p = (decide (p < 2 ^ (N + M)) && zz_d (∀ s, s < 8 → zz_bad mask al ar el eh p s = false))) → post (nI N, nI R, nI Q, nI C, nI Z, nI M, sm, lf, gf, gl, gh, tl, th, nI L, ul, uh, kd, fa, sb, el, eh, mr, nl, nh, il, ih, al, ar, ll, lh, wv, wr, wd, wl, wh) := by
    intro tl th H
    refine K tl th (funext fun p => ?_)
    rcases Nat.lt_or_ge p 128 with z | z
    · exact H p z
    · rw [bz_big z, zz_s0e, decide_eq_false (by omega), Bool.false_and]
  have D0 : ∀ x : Bool, ∀ f : Nat → Bool, x = (x && zz_d (∀ j, j < 0 → f j = false)) := fun x f => by
    rw [zz_dt.mpr (fun j hj => absurd hj (Nat.not_lt_zero j)), Bool.and_true]
  have GO : ∀ lo hi : Int64, (∀ p, p < 128 → bz_b lo hi p = decide (p < 2 ^ (N + M))) → ∃ n46 : Nat, wX_startTrial_46 post mask (nI N) (nI R) (nI Q) (nI C) (nI Z) (nI M) sm lf gf gl gh (nI L) ul uh kd fa sb el eh mr nl nh il ih al ar ll lh wv wr wd wl wh n46 0 lo hi := fun lo hi H =>
    Exists.intro 9 (xc_st46 hA K2 9 0 lo hi (by omega) (by omega) (fun p hp => by rw [H p hp]; exact D0 _ _))
  unfold wpX_startTrial
  refine xc_pc (N := N) (M := M) (by omega) ?_
  have h6 : N + M < 6 ∨ N + M = 6 ∨ N + M = 7 := by omega
  rcases h6 with h | h | h
  · have h2 : 2 ^ (N + M) ≤ 32 := Nat.le_trans (Nat.pow_le_pow_right (by decide) (show N + M ≤ 5 by omega)) (by decide)
    refine br_t (nI_lt (b := 64) (by omega) (by decide)) ?_
    refine br_t (nI_lt (b := 128) (by omega) (by decide)) (GO _ _ (fun p hp => ?_))
    rcases Nat.lt_or_ge p 64 with z | z
    · rw [bz_lo _ _ z]
      exact bz_st _ h p z
    · rw [bz_hi _ _ z, bz_l0, decide_eq_false (by omega)]
  · rw [h] at GO ⊢
    refine br_f (nI_nlt (b := 64) (by decide) (by decide)) ?_
    refine br_t (nI_lt (b := 128) (by decide) (by decide)) (GO _ _ (fun p hp => ?_))
    rcases Nat.lt_or_ge p 64 with z | z
    · rw [bz_lo _ _ z, bz_lm1 z, decide_eq_true (by omega)]
    · rw [bz_hi _ _ z, bz_l0, decide_eq_false (by omega)]
  · rw [h] at GO ⊢
    refine br_f (nI_nlt (b := 64) (by decide) (by decide)) ?_
    refine br_f (nI_nlt (b := 128) (by decide) (by decide)) (GO _ _ (fun p hp => ?_))
    rw [bz_m1 hp, decide_eq_true (by omega)]
theorem xc_wt2 {post : Int32 → Prop} {P p : Nat} (hp : p < P) (hP : P ≤ 128) (hM : M ≤ 7) (hR : R ≤ 2) (hQ : ∀ m, m < M → ∃ q, q < 2 * R ∧ mr m = nI q) (HL : zz_lo R P M mr nl nh il ih ll lh) (h1 : zz_wt M mr (zz_T nl nh) (zz_T il ih) (bz_b tl th) p → post 1) (h0 : ¬ zz_wt M mr (zz_T nl nh) (zz_T il ih) (bz_b tl th) p → post 0) : ∀ n m : Nat, m ≤ M → M - m < n → (∀ j, j < m → zz_T nl nh j p = true → ∃ o, o < 128 ∧ bz_b tl th o = true ∧ zz_T il ih j o = true ∧ zz_lk M mr (zz_T nl nh) (zz_T il ih) (mr j) p o) → wX_witnessed_2 post (nI p) (nI N) (nI R) (nI Q) (nI C) (nI Z) (nI M) sm lf gf gl gh tl th (nI L) ul uh kd fa sb el eh mr nl nh il ih al ar ll lh wv wr wd wl wh n (nI m) := by
  intro n
  induction n with
  | zero => intro m a b; exact absurd b (Nat.not_lt_zero _)
  | succ n IH =>
    intro m a b H
    refine pk_le M m (fun hm => ?_) (fun hm => ?_)
    · exact h1 (fun j hj => H j (by omega))
    · rw [nI_clamp (n := m) (by omega)]
      have V : vp_in (nI m) 7 := vp_in_nI (by omega) (by decide)
      refine ⟨V, V, xc_con (by omega) (fun hb => ?_) (fun hb => ?_)⟩
      · refine br_t rfl (nm_r (nI_1 m) (IH (m + 1) (by omega) (by omega) (fun j hj => ?_)))
        rcases Nat.lt_or_ge j m with z | z
        · exact H j z
        · have e : j = m := by omega
          rw [e]
          intro w
          exact absurd (hb.symm.trans w) (by decide)
      · obtain ⟨q, hq, eq⟩ := hQ m hm
        have V2 : vp_in (nI (q * 128 + p)) 512 := vp_in_nI (by omega) (by decide)
        refine br_f (by decide) ⟨V, nm_r (e' := nI (q * 128 + p)) (by rw [eq]; exact xc_ix q p) ?_⟩
        rw [nI_clamp (n := q * 128 + p) (by omega)]
        refine ⟨V2, V, nm_e ⟨V2, V, nm_e (br_c (fun z => ?_) (fun z => ?_))⟩⟩
        · refine h0 (fun w => ?_)
          obtain ⟨o, ho, w1, w2, w3⟩ := w m hm hb
          have t := bz_zero.mp z o ho
          rw [bz_and, bz_and, w1, Bool.and_true] at t
          rw [eq] at w3
          rw [(HL q p hq hp o ho).mpr w3, Bool.true_and] at t
          exact absurd (t.symm.trans w2) (by decide)
        · refine nm_r (nI_1 m) (IH (m + 1) (by omega) (by omega) (fun j hj => ?_))
          rcases Nat.lt_or_ge j m with y | y
          · exact H j y
          · have e : j = m := by omega
            rw [e]
            intro _
            obtain ⟨o, ho, t⟩ := bz_nz.mp z
            rw [bz_and, bz_and, Bool.and_eq_true, Bool.and_eq_true] at t
            refine ⟨o, ho, t.1.2, t.2, ?_⟩
            rw [eq]
            exact (HL q p hq hp o ho).mp t.1.1
theorem xc_witnessed {post : Int32 → Prop} {P p : Nat} (hp : p < P) (hP : P ≤ 128) (hM : M ≤ 7) (hR : R ≤ 2) (hQ : ∀ m, m < M → ∃ q, q < 2 * R ∧ mr m = nI q) (HL : zz_lo R P M mr nl nh il ih ll lh) (h1 : zz_wt M mr (zz_T nl nh) (zz_T il ih) (bz_b tl th) p → post 1) (h0 : ¬ zz_wt M mr (zz_T nl nh) (zz_T il ih) (bz_b tl th) p → post 0) : wpX_witnessed post (nI N, nI R, nI Q, nI C, nI Z, nI M, sm, lf, gf, gl, gh, tl, th, nI L, ul, uh, kd, fa, sb, el, eh, mr, nl, nh, il, ih, al, ar, ll, lh, wv, wr, wd, wl, wh) (nI p) :=
  Exists.intro (M + 1) (xc_wt2 hp hP hM hR hQ HL h1 h0 (M + 1) 0 (by omega) (by omega) (fun j hj => absurd hj (Nat.not_lt_zero _)))
theorem xc_drop {post : SX → Prop} {p : Nat} (hp : p < 128) (K : ∀ tl' th' : Int64, (∀ o, bz_b tl' th' o = (bz_b tl th o && !decide (o = p))) → post (nI N, nI R, nI Q, nI C, nI Z, nI M, sm, lf, gf, gl, gh, tl', th', nI L, ul, uh, kd, fa, sb, el, eh, mr, nl, nh, il, ih, al, ar, ll, lh, wv, wr, wd, wl, wh)) : wpX_drop post (nI N, nI R, nI Q, nI C, nI Z, nI M, sm, lf, gf, gl, gh, tl, th, nI L, ul, uh, kd, fa, sb, el, eh, mr, nl, nh, il, ih, al, ar, ll, lh, wv, wr, wd, wl, wh) (nI p) := by
  refine nm_e (pk_le 64 p (fun h => nm_e (K _ _ (fun o => ?_))) (fun h => nm_e (K _ _ (fun o => ?_))))
  · rcases Nat.lt_or_ge o 64 with z | z
    · rw [bz_lo _ _ z, bz_lo _ _ z, decide_eq_false (by omega), Bool.not_false, Bool.and_true]
    · rw [bz_hi _ _ z, bz_hi _ _ z, bz_land, bz_lxor, bz_one2 hp]
      rcases Nat.lt_or_ge o 128 with y | y
      · rw [bz_lm1 (by omega), Bool.xor_true]
        have e : (o - 64 = p % 64) = (o = p) := propext ⟨fun _ => by omega, fun _ => by omega⟩
        simp only [e]
      · rw [bz_lbig (by omega), Bool.false_and, Bool.false_and]
  · rcases Nat.lt_or_ge o 64 with z | z
    · rw [bz_lo _ _ z, bz_lo _ _ z, bz_land, bz_lxor, bz_one2 hp, bz_lm1 z, Bool.xor_true]
      have e : (o = p % 64) = (o = p) := propext ⟨fun _ => by omega, fun _ => by omega⟩
      simp only [e]
    · rw [bz_hi _ _ z, bz_hi _ _ z, decide_eq_false (by omega), Bool.not_false, Bool.and_true]
end
/-! ===== one step of a pass ===== -/
section
variable {M : Nat} {mr : Nat → Int32} {nd fl : Nat → Nat → Bool} {S : Nat → Bool} {k : Nat}
theorem zz_skip (h : zz_ps M mr nd fl S k k = false) : zz_ps M mr nd fl S (k + 1) = zz_ps M mr nd fl S k ∧ zz_cg M mr nd fl S (k + 1) = zz_cg M mr nd fl S k := by
  constructor
  · show zz_st M mr nd fl (zz_ps M mr nd fl S k) k = _
    funext o
    unfold zz_st
    by_cases e : o = k
    · rw [e, h, Bool.false_and]
    · rw [decide_eq_false e, Bool.not_false, Bool.true_or, Bool.and_true]
  · show (zz_cg M mr nd fl S k || (zz_ps M mr nd fl S k k && _)) = _
    rw [h, Bool.false_and, Bool.or_false]
theorem zz_keep (h : zz_wt M mr nd fl (zz_ps M mr nd fl S k) k) : zz_ps M mr nd fl S (k + 1) = zz_ps M mr nd fl S k ∧ zz_cg M mr nd fl S (k + 1) = zz_cg M mr nd fl S k := by
  constructor
  · show zz_st M mr nd fl (zz_ps M mr nd fl S k) k = _
    funext o
    unfold zz_st
    rw [zz_dt.mpr h, Bool.or_true, Bool.and_true]
  · show (zz_cg M mr nd fl S k || (zz_ps M mr nd fl S k k && !zz_d (zz_wt M mr nd fl (zz_ps M mr nd fl S k) k))) = _
    rw [zz_dt.mpr h, Bool.not_true, Bool.and_false, Bool.or_false]
theorem zz_drop (h0 : zz_ps M mr nd fl S k k = true) (h : ¬ zz_wt M mr nd fl (zz_ps M mr nd fl S k) k) : (∀ o, zz_ps M mr nd fl S (k + 1) o = (zz_ps M mr nd fl S k o && !decide (o = k))) ∧ zz_cg M mr nd fl S (k + 1) = true := by
  constructor
  · intro o
    show zz_st M mr nd fl (zz_ps M mr nd fl S k) k o = _
    unfold zz_st
    rw [zz_df.mpr h, Bool.or_false]
  · show (zz_cg M mr nd fl S k || (zz_ps M mr nd fl S k k && !zz_d (zz_wt M mr nd fl (zz_ps M mr nd fl S k) k))) = _
    rw [zz_df.mpr h, h0, Bool.not_false, Bool.and_true, Bool.or_true]
end
end
section
/-! ===== the component: the rounds, the good set ===== -/
section
variable {N R Q C Z M L : Nat} {sm lf gf : Int32} {gl gh tl th ul uh : Int64} {kd fa sb mr al ar wv wr : Nat → Int32} {el eh nl nh il ih ll lh wd wl wh : Nat → Int64}
theorem xc_el36 {post : SX → Prop} {P r : Nat} {S : Nat → Bool} {J : Int32 → Int32 → Int32 → Int32 → Int32 → Int32 → Int32 → Int32 → Int32 → Int32 → Int32 → Int64 → Int64 → Int64 → Int64 → Int32 → Int64 → Int64 → (Nat → Int32) → (Nat → Int32) → (Nat → Int32) → (Nat → Int64) → (Nat → Int64) → (Nat → Int32) → (Nat → Int64) → (Nat → Int64) → (Nat → Int64) → (Nat → Int64) → (Nat → Int32) → (Nat → Int32) → (Nat → Int64) → (Nat → Int64) → (Nat → Int32) → (Nat → Int32) → (Nat → Int64) → (Nat → Int64) → (Nat → Int64) → Prop} (hP : P ≤ 128) (hM : M ≤ 7) (hR : R ≤ 2) (hQ : ∀ m, m < M → ∃ q, q < 2 * R ∧ mr m = nI q) (HL : zz_lo R P M mr nl nh il ih ll lh) (K : ∀ tl th : Int64, bz_b tl th = zz_ps M mr (zz_T nl nh) (zz_T il ih) S P → J (zz_i (zz_cg M mr (zz_T nl nh) (zz_T il ih) S P)) (nI (r + 1)) (nI N) (nI R) (nI Q) (nI C) (nI Z) (nI M) sm lf gf gl gh tl th (nI L) ul uh kd fa sb el eh mr nl nh il ih al ar ll lh wv wr wd wl wh) : ∀ (n p : Nat) (tl th : Int64), p ≤ P → P - p < n → bz_b tl th = zz_ps M mr (zz_T nl nh) (zz_T il ih) S p → wX_eliminate_36 post J (nI P) (nI r) n (zz_i (zz_cg M mr (zz_T nl nh) (zz_T il ih) S p)) (nI p) (nI N) (nI R) (nI Q) (nI C) (nI Z) (nI M) sm lf gf gl gh tl th (nI L) ul uh kd fa sb el eh mr nl nh il ih al ar ll lh wv wr wd wl wh := by
  intro n
  induction n with
  | zero => intro p tl th h1 h2; exact absurd h2 (Nat.not_lt_zero _)
  | succ n IH =>
    intro p tl th h1 h2 H
    refine pk_le P p (fun hm => ?_) (fun hm => ?_)
    · have e : p = P := by omega
      rw [e] at H ⊢
      exact nm_r (nI_1 r) (K tl th H)
    · refine xc_con (by omega) (fun hb => ?_) (fun hb => ?_)
      · rw [H] at hb
        obtain ⟨e1, e2⟩ := zz_skip hb
        rw [← e2]
        exact br_t rfl (nm_r (nI_1 p) (IH (p + 1) tl th (by omega) (by omega) (by rw [e1]; exact H)))
      · refine br_f (by decide) ?_
        rw [H] at hb
        refine xc_witnessed hm hP hM hR hQ HL (fun w => ?_) (fun w => ?_)
        · rw [H] at w
          obtain ⟨e1, e2⟩ := zz_keep w
          rw [← e2]
          exact br_f (by decide) (nm_r (nI_1 p) (IH (p + 1) tl th (by omega) (by omega) (by rw [e1]; exact H)))
        · rw [H] at w
          obtain ⟨e1, e2⟩ := zz_drop hb w
          refine br_t rfl (xc_drop (by omega) (fun tl' th' H' => nm_r (nI_1 p) ?_))
          have t := IH (p + 1) tl' th' (by omega) (by omega) (funext fun o => by rw [H' o, e1 o, H])
          rw [e2] at t
          exact t
theorem xc_el19 {post : SX → Prop} {P : Nat} {G : Nat → Bool} (hP : P ≤ 128) (hM : M ≤ 7) (hR : R ≤ 2) (hQ : ∀ m, m < M → ∃ q, q < 2 * R ∧ mr m = nI q) (HL : zz_lo R P M mr nl nh il ih ll lh) (K : ∀ tl th : Int64, bz_b tl th = G → post (nI N, nI R, nI Q, nI C, nI Z, nI M, sm, lf, gf, gl, gh, tl, th, nI L, ul, uh, kd, fa, sb, el, eh, mr, nl, nh, il, ih, al, ar, ll, lh, wv, wr, wd, wl, wh)) : ∀ (n r : Nat) (c : Bool) (tl th : Int64), r ≤ 129 → 129 - r < n → (∀ o, bz_b tl th o = true → o < P) → zz_rd M mr (zz_T nl nh) (zz_T il ih) (129 - r) c (bz_b tl th) = G → wX_eliminate_19 post (nI P) n (zz_i c) (nI r) (nI N) (nI R) (nI Q) (nI C) (nI Z) (nI M) sm lf gf gl gh tl th (nI L) ul uh kd fa sb el eh mr nl nh il ih al ar ll lh wv wr wd wl wh := by
  intro n
  induction n with
  | zero => intro r c tl th h1 h2; exact absurd h2 (Nat.not_lt_zero _)
  | succ n IH =>
    intro r c tl th h1 h2 HS H
    refine pk_lt 128 r (fun hm => ?_) (fun hm => ?_)
    · have e : 129 - r = 0 := by omega
      rw [e] at H
      exact K tl th H
    · obtain ⟨d, e⟩ : ∃ d, 129 - r = d + 1 := ⟨128 - r, by omega⟩
      rw [e] at H
      cases c with
      | false => exact br_t rfl (K tl th H)
      | true =>
        refine br_f (by decide) (Exists.intro (P + 1) (xc_el36 (S := bz_b tl th) hP hM hR hQ HL (fun tl' th' H' => ?_) (P + 1) 0 tl th (by omega) (by omega) rfl))
        refine IH (r + 1) _ tl' th' (by omega) (by omega) (fun o ho => ?_) ?_
        · rw [H'] at ho
          exact HS o (zz_ps_le _ _ ho)
        · obtain ⟨e1, e2⟩ := zz_ps_P (M := M) (mr := mr) (nd := zz_T nl nh) (fl := zz_T il ih) HS hP
          rw [show 129 - (r + 1) = d by omega, H', ← e1, ← e2]
          exact H
theorem xc_eliminate {post : SX → Prop} {mask : Int32} (hR : R ≤ 2) (hP : N + M ≤ 7) (hQ : ∀ m, m < M → ∃ q, q < 2 * R ∧ mr m = nI q) (hA : ∀ s, s < 8 → bt mask s = true → vp_in (al s) 48 ∧ vp_in (ar s) 48) (F : lf = 0 ∨ (lf = 1 ∧ zz_lo R (2 ^ (N + M)) M mr nl nh il ih ll lh)) (K : ∀ (ll lh : Nat → Int64) (tl th : Int64), zz_lo R (2 ^ (N + M)) M mr nl nh il ih ll lh → bz_b tl th = zz_gg N M mr nl nh il ih al ar el eh mask → post (nI N, nI R, nI Q, nI C, nI Z, nI M, sm, 1, gf, gl, gh, tl, th, nI L, ul, uh, kd, fa, sb, el, eh, mr, nl, nh, il, ih, al, ar, ll, lh, wv, wr, wd, wl, wh)) : wpX_eliminate post (nI N, nI R, nI Q, nI C, nI Z, nI M, sm, lf, gf, gl, gh, tl, th, nI L, ul, uh, kd, fa, sb, el, eh, mr, nl, nh, il, ih, al, ar, ll, lh, wv, wr, wd, wl, wh) mask := by
  refine xc_refreshLinks hR hP F (fun ll lh HL => ?_)
  refine xc_startTrial hP hA (fun tl th HT => ?_)
  refine xc_pc (by omega) ?_
  refine Exists.intro 130 (xc_el19 (bz_p7 hP) (by omega) hR hQ HL (fun tl' th' H => K ll lh tl' th' HL H) 130 0 true tl th (by omega) (by omega) (fun o ho => ?_) ?_)
  · rw [HT, zz_s0e, Bool.and_eq_true] at ho
    exact of_decide_eq_true ho.1
  · rw [HT]
    rfl
/-- what the fresh flags promise -/
def zz_fresh (N R M : Nat) (sm lf gf : Int32) (gl gh : Int64) (mr : Nat → Int32) (nl nh il ih : Nat → Int64) (al ar : Nat → Int32) (el eh ll lh : Nat → Int64) : Prop :=
  (lf = 0 ∧ gf = 0) ∨ (lf = 1 ∧ zz_lo R (2 ^ (N + M)) M mr nl nh il ih ll lh ∧ (gf = 0 ∨ (gf = 1 ∧ bz_b gl gh = zz_gg N M mr nl nh il ih al ar el eh sm)))
theorem zz_fresh1 (F : zz_fresh N R M sm lf gf gl gh mr nl nh il ih al ar el eh ll lh) : lf = 0 ∨ (lf = 1 ∧ zz_lo R (2 ^ (N + M)) M mr nl nh il ih ll lh) := by
  rcases F with ⟨h, -⟩ | ⟨h, g, -⟩
  · exact Or.inl h
  · exact Or.inr ⟨h, g⟩
theorem xc_refreshGood {post : SX → Prop} (hR : R ≤ 2) (hP : N + M ≤ 7) (hQ : ∀ m, m < M → ∃ q, q < 2 * R ∧ mr m = nI q) (hA : ∀ s, s < 8 → bt sm s = true → vp_in (al s) 48 ∧ vp_in (ar s) 48) (F : zz_fresh N R M sm lf gf gl gh mr nl nh il ih al ar el eh ll lh) (K : ∀ (ll lh : Nat → Int64) (gl gh tl th : Int64), zz_lo R (2 ^ (N + M)) M mr nl nh il ih ll lh → bz_b gl gh = zz_gg N M mr nl nh il ih al ar el eh sm → post (nI N, nI R, nI Q, nI C, nI Z, nI M, sm, 1, 1, gl, gh, tl, th, nI L, ul, uh, kd, fa, sb, el, eh, mr, nl, nh, il, ih, al, ar, ll, lh, wv, wr, wd, wl, wh)) : wpX_refreshGood post (nI N, nI R, nI Q, nI C, nI Z, nI M, sm, lf, gf, gl, gh, tl, th, nI L, ul, uh, kd, fa, sb, el, eh, mr, nl, nh, il, ih, al, ar, ll, lh, wv, wr, wd, wl, wh) := by
  by_cases hg : gf = 0
  · exact br_t hg (xc_eliminate hR hP hQ hA (zz_fresh1 F) (fun ll lh tl th HL HG => K ll lh tl th tl th HL HG))
  · refine br_f hg ?_
    rcases F with ⟨-, h⟩ | ⟨h1, h2, h3⟩
    · exact absurd h hg
    · rcases h3 with h | ⟨h4, h5⟩
      · exact absurd h hg
      · subst h1
        subst h4
        exact K ll lh gl gh tl th h2 h5
end
end
section
/-! ===== the component: values, positions, the walk ===== -/
theorem zz_16 {N : Nat} (hN : N ≤ 4) : 2 ^ N ≤ 16 := Nat.pow_le_pow_right (by decide) hN
theorem zz_modlt (p N : Nat) : p % 2 ^ N < 2 ^ N := Nat.mod_lt _ (Nat.two_pow_pos N)
theorem zz_nmv {N p v : Nat} (hv : v < 2 ^ N) : zz_d (∀ j, j < N → (p.testBit j ^^ v.testBit j) = false) = decide (p % 2 ^ N = v) := by
  apply zz_be
  rw [zz_dt, decide_eq_true_iff]
  constructor
  · intro h
    apply Nat.eq_of_testBit_eq
    intro i
    rw [Nat.testBit_mod_two_pow]
    rcases Nat.lt_or_ge i N with z | z
    · have t := h i z
      rw [decide_eq_true z, Bool.true_and]
      revert t
      cases p.testBit i <;> cases v.testBit i <;> simp
    · rw [decide_eq_false (by omega), Bool.false_and]
      exact (Nat.testBit_lt_two_pow (Nat.lt_of_lt_of_le hv (Nat.pow_le_pow_right (by decide) z))).symm
  · intro h j hj
    rw [← h, Nat.testBit_mod_two_pow, decide_eq_true hj, Bool.true_and, Bool.xor_self]
def zz_vf (N : Nat) (S : Nat → Bool) : Nat → Int32
  | 0 => 0
  | k + 1 => cond (S k) (zz_vf N S k ||| ((1 : Int32) <<< (nI (k % 2 ^ N) &&& 31))) (zz_vf N S k)
theorem zz_vft {N : Nat} {S : Nat → Bool} {k : Nat} (h : S k = true) : zz_vf N S (k + 1) = zz_vf N S k ||| ((1 : Int32) <<< (nI (k % 2 ^ N) &&& 31)) := by
  show cond (S k) _ _ = _
  rw [h]
  rfl
theorem zz_vff {N : Nat} {S : Nat → Bool} {k : Nat} (h : S k = false) : zz_vf N S (k + 1) = zz_vf N S k := by
  show cond (S k) _ _ = _
  rw [h]
  rfl
theorem zz_vfb {N : Nat} {S : Nat → Bool} (hN : N ≤ 4) : ∀ k v, (bt (zz_vf N S k) v = true ↔ ∃ p, p < k ∧ S p = true ∧ p % 2 ^ N = v)
  | 0, v => by
    show bt 0 v = true ↔ _
    rw [b_0]
    exact ⟨fun h => absurd h (by decide), fun ⟨p, h, _⟩ => absurd h (Nat.not_lt_zero p)⟩
  | k + 1, v => by
    have IH := zz_vfb (S := S) hN k v
    have h16 := zz_16 hN
    have hm := zz_modlt k N
    cases hb : S k with
    | false =>
      rw [zz_vff hb, IH]
      constructor
      · intro ⟨p, a, b⟩
        exact ⟨p, by omega, b⟩
      · intro ⟨p, a, b, c⟩
        rcases Nat.lt_or_ge p k with z | z
        · exact ⟨p, z, b, c⟩
        · have e : p = k := by omega
          rw [e, hb] at b
          exact absurd b (by decide)
    | true =>
      rw [zz_vft hb, bz_set (by omega), Bool.or_eq_true, IH, decide_eq_true_iff]
      constructor
      · rintro (⟨p, a, b⟩ | e)
        · exact ⟨p, by omega, b⟩
        · exact ⟨k, by omega, hb, e.symm⟩
      · intro ⟨p, a, b, c⟩
        rcases Nat.lt_or_ge p k with z | z
        · exact Or.inl ⟨p, z, b, c⟩
        · have e : p = k := by omega
          rw [e] at c
          exact Or.inr c.symm
section
variable {N R Q C Z M L : Nat} {sm lf gf : Int32} {gl gh tl th ul uh : Int64} {kd fa sb mr al ar wv wr : Nat → Int32} {el eh nl nh il ih ll lh wd wl wh : Nat → Int64}
theorem xc_lv17 {post : Int32 → Prop} {lo hi : Int64} (hN : N ≤ 4) (h0 : (∀ p, p < 128 → bz_b lo hi p = false) → post (-4)) (h1 : ∀ v, v < 2 ^ N → (∃ p, p < 128 ∧ bz_b lo hi p = true ∧ p % 2 ^ N = v) → (∀ p, p < 128 → bz_b lo hi p = true → v ≤ p % 2 ^ N) → post (nI v)) : ∀ (n p : Nat) (x : Int32), p ≤ 128 → 128 - p < n → ((x = -4 ∧ ∀ j, j < p → bz_b lo hi j = false) ∨ (∃ v, v < 2 ^ N ∧ x = nI v ∧ (∃ j, j < p ∧ bz_b lo hi j = true ∧ j % 2 ^ N = v) ∧ ∀ j, j < p → bz_b lo hi j = true → v ≤ j % 2 ^ N)) → wX_leastValue_17 post lo hi (((1 : Int32) <<< (nI N &&& 31)) - 1) (nI N) (nI R) (nI Q) (nI C) (nI Z) (nI M) sm lf gf gl gh tl th (nI L) ul uh kd fa sb el eh mr nl nh il ih al ar ll lh wv wr wd wl wh n x (nI p) := by
  intro n
  induction n with
  | zero => intro p x a b; exact absurd b (Nat.not_lt_zero _)
  | succ n IH =>
    intro p x a b H
    have h16 := zz_16 hN
    refine pk_le 128 p (fun hm => ?_) (fun hm => ?_)
    · have e : p = 128 := by omega
      rw [e] at H
      rcases H with ⟨rfl, H⟩ | ⟨v, hv, rfl, H1, H2⟩
      · exact h0 H
      · exact h1 v hv H1 H2
    · refine xc_con hm (fun hb => ?_) (fun hb => ?_)
      · refine br_t rfl (nm_r (nI_1 p) (IH (p + 1) x (by omega) (by omega) ?_))
        rcases H with ⟨e, H⟩ | ⟨v, hv, e, ⟨j, j1, j2⟩, H2⟩
        · refine Or.inl ⟨e, fun j hj => ?_⟩
          rcases Nat.lt_or_ge j p with z | z
          · exact H j z
          · rw [show j = p by omega]; exact hb
        · refine Or.inr ⟨v, hv, e, ⟨j, by omega, j2⟩, fun i hi w => ?_⟩
          rcases Nat.lt_or_ge i p with z | z
          · exact H2 i z w
          · rw [show i = p by omega, hb] at w
            exact absurd w (by decide)
      · have hml := zz_modlt p N
        refine br_f (by decide) (nm_r (bz_nm hN hm) ?_)
        rcases H with ⟨e, H⟩ | ⟨v, hv, e, ⟨j, j1, j2⟩, H2⟩
        · rw [e]
          refine br_t (by decide) (nm_r (nI_1 p) (IH (p + 1) _ (by omega) (by omega) (Or.inr ⟨p % 2 ^ N, hml, rfl, ⟨p, by omega, hb, rfl⟩, fun i hi w => ?_⟩)))
          rcases Nat.lt_or_ge i p with z | z
          · rw [H i z] at w
            exact absurd w (by decide)
          · rw [show i = p by omega]
            exact Nat.le_refl _
        · rw [e]
          refine br_f (nI_pos (by omega)) (pk_le v (p % 2 ^ N) (fun hle => ?_) (fun hlt => ?_))
          · refine nm_r (nI_1 p) (IH (p + 1) _ (by omega) (by omega) (Or.inr ⟨v, hv, rfl, ⟨j, by omega, j2⟩, fun i hi w => ?_⟩))
            rcases Nat.lt_or_ge i p with z | z
            · exact H2 i z w
            · rw [show i = p by omega]
              exact hle
          · refine nm_r (nI_1 p) (IH (p + 1) _ (by omega) (by omega) (Or.inr ⟨p % 2 ^ N, hml, rfl, ⟨p, by omega, hb, rfl⟩, fun i hi w => ?_⟩))
            rcases Nat.lt_or_ge i p with z | z
            · exact Nat.le_trans (Nat.le_of_lt hlt) (H2 i z w)
            · rw [show i = p by omega]
              exact Nat.le_refl _
theorem xc_leastValue {post : Int32 → Prop} {lo hi : Int64} (hN : N ≤ 4) (h0 : (∀ p, p < 128 → bz_b lo hi p = false) → post (-4)) (h1 : ∀ v, v < 2 ^ N → (∃ p, p < 128 ∧ bz_b lo hi p = true ∧ p % 2 ^ N = v) → (∀ p, p < 128 → bz_b lo hi p = true → v ≤ p % 2 ^ N) → post (nI v)) : wpX_leastValue post (nI N, nI R, nI Q, nI C, nI Z, nI M, sm, lf, gf, gl, gh, tl, th, nI L, ul, uh, kd, fa, sb, el, eh, mr, nl, nh, il, ih, al, ar, ll, lh, wv, wr, wd, wl, wh) lo hi :=
  nm_e (Exists.intro 129 (xc_lv17 hN h0 h1 129 0 (-4) (by omega) (by omega) (Or.inl ⟨rfl, fun j hj => absurd hj (Nat.not_lt_zero _)⟩)))
theorem xc_va55 {post : Int32 → SX → Prop} {lo hi : Int64} (hN : N ≤ 4) (K : post (zz_vf N (bz_b lo hi) 128) (nI N, nI R, nI Q, nI C, nI Z, nI M, sm, lf, gf, gl, gh, tl, th, nI L, ul, uh, kd, fa, sb, el, eh, mr, nl, nh, il, ih, al, ar, ll, lh, wv, wr, wd, wl, wh)) : ∀ n p : Nat, p ≤ 128 → 128 - p < n → wX_valuations_55 post lo hi (((1 : Int32) <<< (nI N &&& 31)) - 1) (nI N) (nI R) (nI Q) (nI C) (nI Z) (nI M) sm lf gf gl gh tl th (nI L) ul uh kd fa sb el eh mr nl nh il ih al ar ll lh wv wr wd wl wh n (zz_vf N (bz_b lo hi) p) (nI p) := by
  intro n
  induction n with
  | zero => intro p a b; exact absurd b (Nat.not_lt_zero _)
  | succ n IH =>
    intro p a b
    refine pk_le 128 p (fun hm => ?_) (fun hm => ?_)
    · rw [show p = 128 by omega]
      exact K
    · refine xc_con hm (fun hb => ?_) (fun hb => ?_)
      · rw [← zz_vff hb]
        exact br_t rfl (nm_r (nI_1 p) (IH (p + 1) (by omega) (by omega)))
      · refine br_f (by decide) (nm_r (e' := zz_vf N (bz_b lo hi) (p + 1)) ?_ (nm_r (nI_1 p) (IH (p + 1) (by omega) (by omega))))
        rw [bz_nm hN hm, zz_vft hb]
theorem xc_ap25 {post : SX → Prop} {role : Int32} {v c : Nat} (hN : N ≤ 4) (hL : L < 8) (hv : v < 2 ^ N) (HN : ∀ j p, j < N → p < 128 → zz_T el eh (2 + j) p = p.testBit j) (K : ∀ lo hi : Int64, (∀ p, p < 128 → bz_b lo hi p = (zz_T el eh c p && decide (p % 2 ^ N = v))) → post (nI N, nI R, nI Q, nI C, nI Z, nI M, sm, lf, gf, gl, gh, tl, th, nI (L + 1), ul, uh, kd, fa, sb, el, eh, mr, nl, nh, il, ih, al, ar, ll, lh, upd wv L (nI v), upd wr L role, vp_updL wd L ((1 : Int64) <<< ((nI c).toInt64 &&& 63)), vp_updL wl L lo, vp_updL wh L hi)) : ∀ (n k : Nat) (lo hi : Int64), k ≤ N → N - k < n → (∀ p, p < 128 → bz_b lo hi p = (zz_T el eh c p && zz_d (∀ j, j < k → (p.testBit j ^^ v.testBit j) = false))) → wX_addPosition_25 post role (nI v) (nI c) (nI L) (nI N) (nI R) (nI Q) (nI C) (nI Z) (nI M) sm lf gf gl gh tl th (nI L) ul uh kd fa sb el eh mr nl nh il ih al ar ll lh wv wr wd wl wh n lo hi (nI k) := by
  intro n
  induction n with
  | zero => intro k lo hi a b; exact absurd b (Nat.not_lt_zero _)
  | succ n IH =>
    intro k lo hi a b H
    have h16 := zz_16 hN
    refine pk_le N k (fun hm => ?_) (fun hm => ?_)
    · have e : k = N := by omega
      rw [e] at H
      rw [nI_clamp (n := L) (by omega)]
      have V : vp_in (nI L) 8 := vp_in_nI (by omega) (by decide)
      exact ⟨V, nm_e ⟨V, nm_e ⟨V, nm_e ⟨V, nm_e ⟨V, nm_e (nm_r (nI_1 L) (K lo hi (fun p hp => by rw [H p hp, zz_nmv hv])))⟩⟩⟩⟩⟩
    · have e2 : (2 : Int32) + nI k = nI (2 + k) := nI_add 2 k
      have V : vp_in (nI (2 + k)) 48 := vp_in_nI (by omega) (by decide)
      refine ek_if (nx_bit (by omega) (by omega)) (fun hb => ?_) (fun hb => ?_)
      · unfold wX_addPosition_50
        rw [e2, nI_clamp (n := 2 + k) (by omega)]
        refine ⟨V, nm_e ⟨V, nm_e (nm_r (nI_1 k) (IH (k + 1) _ _ (by omega) (by omega) (fun p hp => ?_)))⟩⟩
        rw [bz_and, bz_not _ _ hp, H p hp, zz_all_s, hb, Bool.xor_false, Bool.and_assoc]
        exact congrArg (fun z => zz_T el eh c p && (zz_d (∀ j, j < k → (p.testBit j ^^ v.testBit j) = false) && !z)) (HN k p hm hp)
      · unfold wX_addPosition_50
        rw [e2, nI_clamp (n := 2 + k) (by omega)]
        refine ⟨V, nm_e ⟨V, nm_e (nm_r (nI_1 k) (IH (k + 1) _ _ (by omega) (by omega) (fun p hp => ?_)))⟩⟩
        rw [bz_and, bz_x0, H p hp, zz_all_s, ts_nf hb, Bool.xor_true, Bool.not_not, Bool.and_assoc]
        exact congrArg (fun z => zz_T el eh c p && (zz_d (∀ j, j < k → (p.testBit j ^^ v.testBit j) = false) && z)) (HN k p hm hp)
theorem xc_addPosition {post : SX → Prop} {role : Int32} {v c : Nat} (hN : N ≤ 4) (hL : L < 8) (hc : c < 48) (hv : v < 2 ^ N) (HN : ∀ j p, j < N → p < 128 → zz_T el eh (2 + j) p = p.testBit j) (K : ∀ lo hi : Int64, (∀ p, p < 128 → bz_b lo hi p = (zz_T el eh c p && decide (p % 2 ^ N = v))) → post (nI N, nI R, nI Q, nI C, nI Z, nI M, sm, lf, gf, gl, gh, tl, th, nI (L + 1), ul, uh, kd, fa, sb, el, eh, mr, nl, nh, il, ih, al, ar, ll, lh, upd wv L (nI v), upd wr L role, vp_updL wd L ((1 : Int64) <<< ((nI c).toInt64 &&& 63)), vp_updL wl L lo, vp_updL wh L hi)) : wpX_addPosition post (nI N, nI R, nI Q, nI C, nI Z, nI M, sm, lf, gf, gl, gh, tl, th, nI L, ul, uh, kd, fa, sb, el, eh, mr, nl, nh, il, ih, al, ar, ll, lh, wv, wr, wd, wl, wh) role (nI v) (nI c) := by
  have V : vp_in (nI c) 48 := vp_in_nI hc (by decide)
  unfold wpX_addPosition
  dsimp only
  rw [nI_clamp (n := c) (by omega)]
  refine ⟨V, nm_e ⟨V, nm_e (Exists.intro (N + 1) (xc_ap25 hN hL hv HN K (N + 1) 0 _ _ (by omega) (by omega) (fun p hp => ?_)))⟩⟩
  rw [zz_dt.mpr (fun j hj => absurd hj (Nat.not_lt_zero j)), Bool.and_true]
  rfl
theorem xc_ad13 {post : SX → Prop} {q P : Nat} (hq : q < 2 * R) (hR : R ≤ 2) (hP : P ≤ 128) (HL : zz_lo R P M mr nl nh il ih ll lh) (K : ∀ lo hi : Int64, (∀ o, o < 128 → (bz_b lo hi o = true ↔ ∃ p, p < P ∧ bz_b ul uh p = true ∧ zz_lk M mr (zz_T nl nh) (zz_T il ih) (nI q) p o)) → post (nI N, nI R, nI Q, nI C, nI Z, nI M, sm, lf, gf, gl, gh, tl, th, nI L, lo &&& gl, hi &&& gh, kd, fa, sb, el, eh, mr, nl, nh, il, ih, al, ar, ll, lh, wv, wr, wd, wl, wh)) : ∀ (n p : Nat) (lo hi : Int64), p ≤ P → P - p < n → (∀ o, o < 128 → (bz_b lo hi o = true ↔ ∃ j, j < p ∧ bz_b ul uh j = true ∧ zz_lk M mr (zz_T nl nh) (zz_T il ih) (nI q) j o)) → wX_advance_13 post (nI q) (nI P) (nI N) (nI R) (nI Q) (nI C) (nI Z) (nI M) sm lf gf gl gh tl th (nI L) ul uh kd fa sb el eh mr nl nh il ih al ar ll lh wv wr wd wl wh n lo hi (nI p) := by
  intro n
  induction n with
  | zero => intro p lo hi a b; exact absurd b (Nat.not_lt_zero _)
  | succ n IH =>
    intro p lo hi a b H
    refine pk_le P p (fun hm => ?_) (fun hm => ?_)
    · rw [show p = P by omega] at H
      exact nm_e (nm_e (K lo hi H))
    · refine xc_con (by omega) (fun hb => ?_) (fun hb => ?_)
      · refine br_t rfl (nm_r (nI_1 p) (IH (p + 1) lo hi (by omega) (by omega) (fun o ho => ?_)))
        rw [H o ho]
        constructor
        · intro ⟨j, j1, j2⟩
          exact ⟨j, by omega, j2⟩
        · intro ⟨j, j1, j2, j3⟩
          rcases Nat.lt_or_ge j p with z | z
          · exact ⟨j, z, j2, j3⟩
          · rw [show j = p by omega, hb] at j2
            exact absurd j2 (by decide)
      · refine br_f (by decide) ?_
        rw [xc_ix, nI_clamp (n := q * 128 + p) (by omega)]
        have V : vp_in (nI (q * 128 + p)) 512 := vp_in_nI (by omega) (by decide)
        refine ⟨V, nm_e ⟨V, nm_e (nm_r (nI_1 p) (IH (p + 1) _ _ (by omega) (by omega) (fun o ho => ?_)))⟩⟩
        rw [bz_or, Bool.or_eq_true, H o ho, HL q p hq hm o ho]
        constructor
        · rintro (⟨j, j1, j2⟩ | h)
          · exact ⟨j, by omega, j2⟩
          · exact ⟨p, by omega, hb, h⟩
        · intro ⟨j, j1, j2, j3⟩
          rcases Nat.lt_or_ge j p with z | z
          · exact Or.inl ⟨j, z, j2, j3⟩
          · rw [show j = p by omega] at j3
            exact Or.inr j3
theorem xc_advance {post : SX → Prop} {q : Nat} (hq : q < 2 * R) (hR : R ≤ 2) (hP : N + M ≤ 7) (HL : zz_lo R (2 ^ (N + M)) M mr nl nh il ih ll lh) (HU : ∀ p, bz_b ul uh p = true → p < 2 ^ (N + M)) (K : ∀ ul' uh' : Int64, (∀ o, bz_b ul' uh' o = (bz_b gl gh o && zz_d (∃ p, p < 128 ∧ bz_b ul uh p = true ∧ zz_lk M mr (zz_T nl nh) (zz_T il ih) (nI q) p o))) → post (nI N, nI R, nI Q, nI C, nI Z, nI M, sm, lf, gf, gl, gh, tl, th, nI L, ul', uh', kd, fa, sb, el, eh, mr, nl, nh, il, ih, al, ar, ll, lh, wv, wr, wd, wl, wh)) : wpX_advance post (nI N, nI R, nI Q, nI C, nI Z, nI M, sm, lf, gf, gl, gh, tl, th, nI L, ul, uh, kd, fa, sb, el, eh, mr, nl, nh, il, ih, al, ar, ll, lh, wv, wr, wd, wl, wh) (nI q) := by
  have h7 := bz_p7 hP
  unfold wpX_advance
  refine xc_pc (N := N) (M := M) (by omega) (Exists.intro (2 ^ (N + M) + 1) (xc_ad13 hq hR h7 HL (fun lo hi H => K _ _ (fun o => ?_)) (2 ^ (N + M) + 1) 0 0 0 (Nat.zero_le _) (Nat.lt_succ_self _) (fun o ho => ?_)))
  · rw [bz_and, Bool.and_comm]
    rcases Nat.lt_or_ge o 128 with z | z
    · refine congrArg (fun w => bz_b gl gh o && w) (zz_be ?_)
      rw [H o z, zz_dt]
      constructor
      · intro ⟨p, p1, p2⟩
        exact ⟨p, by omega, p2⟩
      · intro ⟨p, p1, p2, p3⟩
        exact ⟨p, HU p p2, p2, p3⟩
    · rw [bz_big z, Bool.false_and, Bool.false_and]
  · rw [bz_0]
    exact ⟨fun h => absurd h (by decide), fun ⟨j, h, _⟩ => absurd h (Nat.not_lt_zero j)⟩
/-- what stands at position i: the kept set and the extra set -/
def zz_wx (wl wh : Nat → Int64) (pos : Int32) (e1 e2 : Int64) (i p : Nat) : Bool := zz_T wl wh i p && (!(decide (nI i = pos)) || bz_b e1 e2 p)
theorem xc_rw48 {post : SX → Prop} {J : Int32 → Int32 → Int32 → Int32 → Int32 → Int32 → Int32 → Int32 → Int32 → Int32 → Int64 → Int64 → Int64 → Int64 → Int32 → Int64 → Int64 → (Nat → Int32) → (Nat → Int32) → (Nat → Int32) → (Nat → Int64) → (Nat → Int64) → (Nat → Int32) → (Nat → Int64) → (Nat → Int64) → (Nat → Int64) → (Nat → Int64) → (Nat → Int32) → (Nat → Int32) → (Nat → Int64) → (Nat → Int64) → (Nat → Int32) → (Nat → Int32) → (Nat → Int64) → (Nat → Int64) → (Nat → Int64) → Prop} {pos : Int32} {e1 e2 : Int64} {i : Nat} (hi : i < 8) (K : ∀ ul' uh' : Int64, (∀ p, bz_b ul' uh' p = (bz_b ul uh p && zz_wx wl wh pos e1 e2 i p)) → J (nI (i + 1)) (nI N) (nI R) (nI Q) (nI C) (nI Z) (nI M) sm lf gf gl gh tl th (nI L) ul' uh' kd fa sb el eh mr nl nh il ih al ar ll lh wv wr wd wl wh) : wX_runWalk_48 post J pos e1 e2 (nI i) (nI N) (nI R) (nI Q) (nI C) (nI Z) (nI M) sm lf gf gl gh tl th (nI L) ul uh kd fa sb el eh mr nl nh il ih al ar ll lh wv wr wd wl wh := by
  unfold wX_runWalk_48
  rw [nI_clamp (n := i) (by omega)]
  have V : vp_in (nI i) 8 := vp_in_nI hi (by decide)
  refine ⟨V, nm_e ⟨V, nm_e (br_c (fun z => nm_e (nm_e (nm_r (nI_1 i) (K _ _ (fun p => ?_))))) (fun z => nm_r (nI_1 i) (K _ _ (fun p => ?_))))⟩⟩
  · unfold zz_wx
    rw [bz_and, bz_and, decide_eq_true z, Bool.not_true, Bool.false_or, Bool.and_assoc]
    rfl
  · unfold zz_wx
    rw [bz_and, decide_eq_false z, Bool.not_false, Bool.true_or, Bool.and_true]
    rfl
theorem xc_rw23 {post : SX → Prop} {pos : Int32} {e1 e2 : Int64} (hR : R ≤ 2) (hP : N + M ≤ 7) (hL : L ≤ 8) (hL0 : 0 < L) (HL : zz_lo R (2 ^ (N + M)) M mr nl nh il ih ll lh) (HG : ∀ p, bz_b gl gh p = true → p < 2 ^ (N + M)) (HW : ∀ i, i < L → ∃ q, q < 2 * R ∧ wr i = nI q) (K : ∀ ul uh : Int64, bz_b ul uh = zz_fr M mr (zz_T nl nh) (zz_T il ih) (bz_b gl gh) wr (zz_wx wl wh pos e1 e2) (L - 1) → post (nI N, nI R, nI Q, nI C, nI Z, nI M, sm, lf, gf, gl, gh, tl, th, nI L, ul, uh, kd, fa, sb, el, eh, mr, nl, nh, il, ih, al, ar, ll, lh, wv, wr, wd, wl, wh)) : ∀ (n i : Nat) (ul uh : Int64), i ≤ L → L - i < n → (i = 0 → bz_b ul uh = bz_b gl gh) → (∀ j, i = j + 1 → bz_b ul uh = zz_fr M mr (zz_T nl nh) (zz_T il ih) (bz_b gl gh) wr (zz_wx wl wh pos e1 e2) j) → wX_runWalk_23 post pos e1 e2 n (nI i) (nI N) (nI R) (nI Q) (nI C) (nI Z) (nI M) sm lf gf gl gh tl th (nI L) ul uh kd fa sb el eh mr nl nh il ih al ar ll lh wv wr wd wl wh := by
  intro n
  induction n with
  | zero => intro i ul uh a b; exact absurd b (Nat.not_lt_zero _)
  | succ n IH =>
    intro i ul uh a b H0 H1
    refine pk_le L i (fun hm => ?_) (fun hm => ?_)
    · exact K ul uh (H1 (L - 1) (by omega))
    · refine pk_le i 0 (fun hz => ?_) (fun hz => ?_)
      · have e : i = 0 := by omega
        subst e
        refine xc_rw48 (by omega) (fun ul' uh' H => IH 1 ul' uh' (by omega) (by omega) (fun h => absurd h (by decide)) (fun j hj => ?_))
        have ej : j = 0 := by omega
        rw [ej]
        funext p
        rw [H p, H0 rfl]
        rfl
      · obtain ⟨j, rfl⟩ : ∃ j, i = j + 1 := ⟨i - 1, by omega⟩
        have HJ := H1 j rfl
        obtain ⟨q, hq, eq⟩ := HW (j + 1) hm
        rw [nI_clamp (n := j + 1) (by omega)]
        refine ⟨vp_in_nI (by omega) (by decide), ?_⟩
        rw [eq]
        refine xc_advance hq hR hP HL (fun p hp => ?_) (fun ul1 uh1 HA => ?_)
        · rw [HJ] at hp
          exact HG p (zz_frG hp)
        · refine xc_rw48 (by omega) (fun ul' uh' H => IH (j + 1 + 1) ul' uh' (by omega) (by omega) (fun h => absurd h (by omega)) (fun k hk => ?_))
          have ek : k = j + 1 := by omega
          rw [ek]
          funext p
          rw [H p, HA p, HJ, ← eq]
          rfl
theorem xc_runWalk {post : SX → Prop} {pos : Int32} {e1 e2 : Int64} (hR : R ≤ 2) (hP : N + M ≤ 7) (hQ : ∀ m, m < M → ∃ q, q < 2 * R ∧ mr m = nI q) (hA : ∀ s, s < 8 → bt sm s = true → vp_in (al s) 48 ∧ vp_in (ar s) 48) (F : zz_fresh N R M sm lf gf gl gh mr nl nh il ih al ar el eh ll lh) (hL : L ≤ 8) (hL0 : 0 < L) (HW : ∀ i, i < L → ∃ q, q < 2 * R ∧ wr i = nI q) (K : ∀ (ll lh : Nat → Int64) (gl gh tl th ul uh : Int64), zz_lo R (2 ^ (N + M)) M mr nl nh il ih ll lh → bz_b gl gh = zz_gg N M mr nl nh il ih al ar el eh sm → bz_b ul uh = zz_fr M mr (zz_T nl nh) (zz_T il ih) (zz_gg N M mr nl nh il ih al ar el eh sm) wr (zz_wx wl wh pos e1 e2) (L - 1) → post (nI N, nI R, nI Q, nI C, nI Z, nI M, sm, 1, 1, gl, gh, tl, th, nI L, ul, uh, kd, fa, sb, el, eh, mr, nl, nh, il, ih, al, ar, ll, lh, wv, wr, wd, wl, wh)) : wpX_runWalk post (nI N, nI R, nI Q, nI C, nI Z, nI M, sm, lf, gf, gl, gh, tl, th, nI L, ul, uh, kd, fa, sb, el, eh, mr, nl, nh, il, ih, al, ar, ll, lh, wv, wr, wd, wl, wh) pos e1 e2 := by
  unfold wpX_runWalk
  refine xc_refreshGood hR hP hQ hA F (fun ll lh gl gh tl th HL HG => ?_)
  refine Exists.intro (L + 1) (xc_rw23 hR hP hL hL0 HL (fun p hp => ?_) HW (fun ul uh H => K ll lh gl gh tl th ul uh HL HG ?_) (L + 1) 0 gl gh (by omega) (by omega) (fun _ => rfl) (fun j h => absurd h (by omega)))
  · rw [HG] at hp
    exact zz_gg_lt hp
  · rw [← HG]
    exact H
end
end
section
/-! ===== the node table, and the reference's evaluation of a pattern ===== -/
def zz_mc (kd : Nat → Int32) : Nat → Nat
  | 0 => 0
  | h + 1 => if kd h = 6 ∨ kd h = 7 then zz_mc kd h + 1 else zz_mc kd h
theorem zz_mct {kd : Nat → Int32} {h : Nat} (e : kd h = 6 ∨ kd h = 7) : zz_mc kd (h + 1) = zz_mc kd h + 1 := if_pos e
theorem zz_mcf {kd : Nat → Int32} {h : Nat} (e : ¬ (kd h = 6 ∨ kd h = 7)) : zz_mc kd (h + 1) = zz_mc kd h := if_neg e
theorem zz_mcm {kd : Nat → Int32} {a : Nat} : ∀ {b : Nat}, a ≤ b → zz_mc kd a ≤ zz_mc kd b := by
  intro b
  induction b with
  | zero => intro h; rw [show a = 0 by omega]; exact Nat.le_refl _
  | succ b IH =>
    intro h
    rcases Nat.lt_or_ge b a with z | z
    · rw [show a = b + 1 by omega]; exact Nat.le_refl _
    · have t := IH z
      by_cases e : kd b = 6 ∨ kd b = 7
      · rw [zz_mct e]; omega
      · rw [zz_mcf e]; exact t
theorem zz_mcl {kd : Nat → Int32} {a b : Nat} (h : a < b) (e : kd a = 6 ∨ kd a = 7) : zz_mc kd a < zz_mc kd b := by
  have t := zz_mcm (kd := kd) (show a + 1 ≤ b from h)
  rw [zz_mct e] at t
  exact t
theorem zz_mcx {kd : Nat → Int32} {j : Nat} : ∀ {z : Nat}, j < zz_mc kd z → ∃ h, h < z ∧ (kd h = 6 ∨ kd h = 7) ∧ zz_mc kd h = j := by
  intro z
  induction z with
  | zero => intro h; exact absurd h (Nat.not_lt_zero _)
  | succ z IH =>
    intro h
    by_cases e : kd z = 6 ∨ kd z = 7
    · rw [zz_mct e] at h
      rcases Nat.lt_or_ge j (zz_mc kd z) with y | y
      · obtain ⟨a, b, c⟩ := IH y
        exact ⟨a, by omega, c⟩
      · exact ⟨z, by omega, e, by omega⟩
    · rw [zz_mcf e] at h
      obtain ⟨a, b, c⟩ := IH h
      exact ⟨a, by omega, c⟩
theorem zz_mcg {kd kd' : Nat → Int32} : ∀ {z : Nat}, (∀ h, h < z → kd' h = kd h) → zz_mc kd' z = zz_mc kd z := by
  intro z
  induction z with
  | zero => intro _; rfl
  | succ z IH =>
    intro h
    have t := IH (fun i hi => h i (by omega))
    show (if kd' z = 6 ∨ kd' z = 7 then zz_mc kd' z + 1 else zz_mc kd' z) = (if kd z = 6 ∨ kd z = 7 then zz_mc kd z + 1 else zz_mc kd z)
    rw [h z (by omega), t]
/-- node h of the table is as its kind says -/
def zz_no (N R : Nat) (kd fa sb : Nat → Int32) (el eh : Nat → Int64) (mr : Nat → Int32) (nl nh il ih : Nat → Int64) (h : Nat) : Prop :=
  (kd h = 0 ∧ ∀ p, p < 128 → zz_T el eh h p = true) ∨
  (kd h = 1 ∧ ∀ p, p < 128 → zz_T el eh h p = false) ∨
  (kd h = 2 ∧ ∃ a, a < N ∧ fa h = nI a ∧ ∀ p, p < 128 → zz_T el eh h p = p.testBit a) ∨
  (kd h = 3 ∧ ∃ a, a < h ∧ fa h = nI a ∧ ∀ p, p < 128 → zz_T el eh h p = !zz_T el eh a p) ∨
  (kd h = 4 ∧ ∃ a b, a < h ∧ b < h ∧ fa h = nI a ∧ sb h = nI b ∧ ∀ p, p < 128 → zz_T el eh h p = (zz_T el eh a p && zz_T el eh b p)) ∨
  (kd h = 5 ∧ ∃ a b, a < h ∧ b < h ∧ fa h = nI a ∧ sb h = nI b ∧ ∀ p, p < 128 → zz_T el eh h p = (zz_T el eh a p || zz_T el eh b p)) ∨
  ((kd h = 6 ∨ kd h = 7) ∧ ∃ a b, a < 2 * R ∧ b < h ∧ fa h = nI a ∧ sb h = nI b ∧ mr (zz_mc kd h) = nI a ∧ ∀ p, p < 128 → zz_T el eh h p = p.testBit (N + zz_mc kd h) ∧ zz_T nl nh (zz_mc kd h) p = (zz_T el eh h p ^^ decide (kd h = 7)) ∧ zz_T il ih (zz_mc kd h) p = (zz_T el eh b p ^^ decide (kd h = 7)))
section
variable {N R Q C Z L : Nat} {ms : Int32} {kd fa sb us al ar vl rc ak md hs gd cu nx : Nat → Int32}
variable {post : SY → Prop} {J : Int32 → Int32 → (Nat → Int32) → (Nat → Int32) → (Nat → Int32) → (Nat → Int32) → (Nat → Int32) → (Nat → Int32) → (Nat → Int32) → (Nat → Int32) → (Nat → Int32) → (Nat → Int32) → (Nat → Int32) → (Nat → Int32) → (Nat → Int32) → (Nat → Int32) → Prop} {p h : Nat} {x3 : Int32}
theorem ye_ix (p h : Nat) : nI p * 48 + nI h = nI (p * 48 + h) := by
  rw [show (48 : Int32) = nI 48 from rfl, pk_mul, nI_add]
theorem ye_227 (b : Bool) (hp : p < 128) (hh : h < 48) (KJ : J x3 (nI (h + 1)) kd fa sb us al ar vl rc ak md (upd hs (p * 48 + h) (zz_i b)) gd cu nx) : wY_evaluate_227 post J (nI p) (nI (p * 48)) x3 (nI h) (zz_i b) (nI N) (nI R) (nI Q) (nI C) (nI Z) (nI L) ms kd fa sb us al ar vl rc ak md hs gd cu nx := by
  unfold wY_evaluate_227
  rw [nI_add, nI_clamp (n := p * 48 + h) (by omega), zz_inar]
  exact ⟨vp_in_nI (by omega) (by decide), nm_e (nm_r (nI_1 h) KJ)⟩
theorem ye_0 (hp : p < 128) (hh : h < 48) (KJ : J x3 (nI (h + 1)) kd fa sb us al ar vl rc ak md (upd hs (p * 48 + h) (zz_i true)) gd cu nx) : wY_evaluate_42 post J (nI p) (nI (p * 48)) x3 (nI h) 0 1 (nI N) (nI R) (nI Q) (nI C) (nI Z) (nI L) ms kd fa sb us al ar vl rc ak md hs gd cu nx :=
  br_f (by decide) (br_f (by decide) (br_f (by decide) (br_f (by decide) (br_f (by decide) (br_f (by decide) (ye_227 true hp hh KJ))))))
theorem ye_1 (hp : p < 128) (hh : h < 48) (KJ : J x3 (nI (h + 1)) kd fa sb us al ar vl rc ak md (upd hs (p * 48 + h) (zz_i false)) gd cu nx) : wY_evaluate_42 post J (nI p) (nI (p * 48)) x3 (nI h) 1 0 (nI N) (nI R) (nI Q) (nI C) (nI Z) (nI L) ms kd fa sb us al ar vl rc ak md hs gd cu nx :=
  br_f (by decide) (br_f (by decide) (br_f (by decide) (br_f (by decide) (br_f (by decide) (br_f (by decide) (ye_227 false hp hh KJ))))))
theorem ye_2 {a : Nat} (hp : p < 128) (hh : h < 48) (ha : a < 32) (ea : fa h = nI a) (KJ : J x3 (nI (h + 1)) kd fa sb us al ar vl rc ak md (upd hs (p * 48 + h) (zz_i (p.testBit a))) gd cu nx) : wY_evaluate_42 post J (nI p) (nI (p * 48)) x3 (nI h) 2 0 (nI N) (nI R) (nI Q) (nI C) (nI Z) (nI L) ms kd fa sb us al ar vl rc ak md hs gd cu nx := by
  unfold wY_evaluate_42
  rw [nI_clamp (n := h) (by omega), ea]
  refine br_t rfl ⟨vp_in_nI hh (by decide), ek_if (bz_srn ha) (fun z => ?_) (fun z => ?_)⟩
  · rw [z] at KJ
    exact br_f (by decide) (br_f (by decide) (br_f (by decide) (br_f (by decide) (br_f (by decide) (ye_227 true hp hh KJ)))))
  · rw [ts_nt z] at KJ
    exact br_f (by decide) (br_f (by decide) (br_f (by decide) (br_f (by decide) (br_f (by decide) (ye_227 false hp hh KJ)))))
theorem ye_3 {a : Nat} {ta : Bool} (hp : p < 128) (hh : h < 48) (ha : a < 48) (ea : fa h = nI a) (Ha : hs (p * 48 + a) = zz_i ta) (KJ : J x3 (nI (h + 1)) kd fa sb us al ar vl rc ak md (upd hs (p * 48 + h) (zz_i (!ta))) gd cu nx) : wY_evaluate_42 post J (nI p) (nI (p * 48)) x3 (nI h) 3 0 (nI N) (nI R) (nI Q) (nI C) (nI Z) (nI L) ms kd fa sb us al ar vl rc ak md hs gd cu nx := by
  refine br_f (by decide) ?_
  unfold wY_evaluate_70
  rw [nI_clamp (n := h) (by omega), ea, nI_add, nI_clamp (n := p * 48 + a) (by omega), Ha]
  refine br_t rfl ⟨vp_in_nI hh (by decide), vp_in_nI (by omega) (by decide), ek_if zz_i0 (fun z => ?_) (fun z => ?_)⟩
  · rw [z] at KJ
    exact br_f (by decide) (br_f (by decide) (br_f (by decide) (br_f (by decide) (ye_227 true hp hh KJ))))
  · rw [ts_nf z] at KJ
    exact br_f (by decide) (br_f (by decide) (br_f (by decide) (br_f (by decide) (ye_227 false hp hh KJ))))
theorem ye_4 {a b : Nat} {ta tb : Bool} (hp : p < 128) (hh : h < 48) (ha : a < 48) (hb : b < 48) (ea : fa h = nI a) (eb : sb h = nI b) (Ha : hs (p * 48 + a) = zz_i ta) (Hb : hs (p * 48 + b) = zz_i tb) (KJ : J x3 (nI (h + 1)) kd fa sb us al ar vl rc ak md (upd hs (p * 48 + h) (zz_i (ta && tb))) gd cu nx) : wY_evaluate_42 post J (nI p) (nI (p * 48)) x3 (nI h) 4 0 (nI N) (nI R) (nI Q) (nI C) (nI Z) (nI L) ms kd fa sb us al ar vl rc ak md hs gd cu nx := by
  refine br_f (by decide) (br_f (by decide) ?_)
  unfold wY_evaluate_100
  rw [nI_clamp (n := h) (by omega), ea, eb, nI_add, nI_add, nI_clamp (n := p * 48 + a) (by omega), nI_clamp (n := p * 48 + b) (by omega), Ha, Hb]
  refine br_t rfl ⟨vp_in_nI hh (by decide), vp_in_nI (by omega) (by decide), ek_if zz_i0 (fun z => ?_) (fun z => ⟨vp_in_nI hh (by decide), vp_in_nI (by omega) (by decide), ek_if zz_i0 (fun y => ?_) (fun y => ?_)⟩)⟩
  · rw [z, Bool.false_and] at KJ
    exact br_f (by decide) (br_f (by decide) (br_f (by decide) (ye_227 false hp hh KJ)))
  · rw [y, Bool.and_false] at KJ
    exact br_f (by decide) (br_f (by decide) (br_f (by decide) (ye_227 false hp hh KJ)))
  · rw [ts_nf z, ts_nf y, Bool.and_true] at KJ
    exact br_f (by decide) (br_f (by decide) (br_f (by decide) (ye_227 true hp hh KJ)))
theorem ye_5 {a b : Nat} {ta tb : Bool} (hp : p < 128) (hh : h < 48) (ha : a < 48) (hb : b < 48) (ea : fa h = nI a) (eb : sb h = nI b) (Ha : hs (p * 48 + a) = zz_i ta) (Hb : hs (p * 48 + b) = zz_i tb) (KJ : J x3 (nI (h + 1)) kd fa sb us al ar vl rc ak md (upd hs (p * 48 + h) (zz_i (ta || tb))) gd cu nx) : wY_evaluate_42 post J (nI p) (nI (p * 48)) x3 (nI h) 5 0 (nI N) (nI R) (nI Q) (nI C) (nI Z) (nI L) ms kd fa sb us al ar vl rc ak md hs gd cu nx := by
  refine br_f (by decide) (br_f (by decide) (br_f (by decide) ?_))
  unfold wY_evaluate_147
  rw [nI_clamp (n := h) (by omega), ea, eb, nI_add, nI_add, nI_clamp (n := p * 48 + a) (by omega), nI_clamp (n := p * 48 + b) (by omega), Ha, Hb]
  refine br_t rfl ⟨vp_in_nI hh (by decide), vp_in_nI (by omega) (by decide), ek_if zz_i0 (fun z => ⟨vp_in_nI hh (by decide), vp_in_nI (by omega) (by decide), ek_if zz_i0 (fun y => ?_) (fun y => ?_)⟩) (fun z => ?_)⟩
  · rw [z, y, Bool.or_false] at KJ
    exact br_f (by decide) (br_f (by decide) (ye_227 false hp hh KJ))
  · rw [ts_nf y, Bool.or_true] at KJ
    exact br_f (by decide) (br_f (by decide) (ye_227 true hp hh KJ))
  · rw [ts_nf z, Bool.true_or] at KJ
    exact br_f (by decide) (br_f (by decide) (ye_227 true hp hh KJ))
theorem ye_208 {v : Nat} (hp : p < 128) (hh : h < 48) (hv : v < 32) (KJ : J (nI (v + 1)) (nI (h + 1)) kd fa sb us al ar vl rc ak md (upd hs (p * 48 + h) (zz_i (p.testBit v))) gd cu nx) : wY_evaluate_208 post J (nI p) (nI (p * 48)) (nI v) (nI h) (nI N) (nI R) (nI Q) (nI C) (nI Z) (nI L) ms kd fa sb us al ar vl rc ak md hs gd cu nx := by
  refine ek_if (bz_srn hv) (fun z => nm_r (nI_1 v) ?_) (fun z => nm_r (nI_1 v) ?_)
  · rw [z] at KJ
    exact ye_227 true hp hh KJ
  · rw [ts_nt z] at KJ
    exact ye_227 false hp hh KJ
theorem ye_6 {v : Nat} {x5 : Int32} (hp : p < 128) (hh : h < 48) (hv : v < 32) (e5 : x5 = 6 ∨ x5 = 7) (KJ : J (nI (v + 1)) (nI (h + 1)) kd fa sb us al ar vl rc ak md (upd hs (p * 48 + h) (zz_i (p.testBit v))) gd cu nx) : wY_evaluate_42 post J (nI p) (nI (p * 48)) (nI v) (nI h) x5 0 (nI N) (nI R) (nI Q) (nI C) (nI Z) (nI L) ms kd fa sb us al ar vl rc ak md hs gd cu nx := by
  rcases e5 with rfl | rfl
  · exact br_f (by decide) (br_f (by decide) (br_f (by decide) (br_f (by decide) (br_t rfl (ye_208 hp hh hv KJ)))))
  · exact br_f (by decide) (br_f (by decide) (br_f (by decide) (br_f (by decide) (br_f (by decide) (br_t rfl (ye_208 hp hh hv KJ))))))
end
section
variable {N R Q C Z L : Nat} {ms : Int32} {kd fa sb us al ar vl rc ak md hs gd cu nx : Nat → Int32}
variable {mr : Nat → Int32} {el eh nl nh il ih : Nat → Int64}
theorem yc_ev13 {post : SY → Prop} {p : Nat} (hp : p < 128) (hZ : Z ≤ 48) (hN : N ≤ 4) (hM : N + zz_mc kd Z ≤ 7) (NO : ∀ h, h < Z → zz_no N R kd fa sb el eh mr nl nh il ih h) (K : ∀ hs' : Nat → Int32, (∀ h, h < Z → hs' (p * 48 + h) = zz_i (zz_T el eh h p)) → (∀ j, j < p * 48 ∨ p * 48 + 48 ≤ j → hs' j = hs j) → post (nI N, nI R, nI Q, nI C, nI Z, nI L, ms, kd, fa, sb, us, al, ar, vl, rc, ak, md, hs', gd, cu, nx)) : ∀ (n h : Nat) (hs' : Nat → Int32), h ≤ Z → Z - h < n → (∀ j, j < h → hs' (p * 48 + j) = zz_i (zz_T el eh j p)) → (∀ j, j < p * 48 ∨ p * 48 + 48 ≤ j → hs' j = hs j) → wY_evaluate_13 post (nI p) (nI (p * 48)) (nI N) (nI R) (nI Q) (nI C) (nI Z) (nI L) ms n (nI (N + zz_mc kd h)) (nI h) kd fa sb us al ar vl rc ak md hs' gd cu nx := by
  intro n
  induction n with
  | zero => intro h hs' a b; exact absurd b (Nat.not_lt_zero _)
  | succ n IH =>
    intro h hs' a b H1 H2
    refine pk_le Z h (fun hm => ?_) (fun hm => ?_)
    · rw [show h = Z by omega] at H1
      exact K hs' H1 H2
    · have hh : h < 48 := by omega
      have V : vp_in (nI h) 48 := vp_in_nI hh (by decide)
      have NX : ∀ (b : Bool) (c : Nat), b = zz_T el eh h p → c = N + zz_mc kd (h + 1) → wY_evaluate_13 post (nI p) (nI (p * 48)) (nI N) (nI R) (nI Q) (nI C) (nI Z) (nI L) ms n (nI c) (nI (h + 1)) kd fa sb us al ar vl rc ak md (upd hs' (p * 48 + h) (zz_i b)) gd cu nx := by
        intro b c eb ec
        rw [eb, ec]
        refine IH (h + 1) _ (by omega) (by omega) (fun j hj => ?_) (fun j hj => ?_)
        · rcases Nat.lt_or_ge j h with z | z
          · rw [pk_un (by omega)]
            exact H1 j z
          · rw [show j = h by omega, pk_us]
        · rw [pk_un (by omega)]
          exact H2 j hj
      have hmc := zz_mcm (kd := kd) (show h ≤ Z by omega)
      rw [nI_clamp (n := h) (by omega)]
      rcases NO h hm with ⟨ek, et⟩ | ⟨ek, et⟩ | ⟨ek, x, hx, ex, et⟩ | ⟨ek, x, hx, ex, et⟩ | ⟨ek, x, y, hx, hy, ex, ey, et⟩ | ⟨ek, x, y, hx, hy, ex, ey, et⟩ | ⟨ek, x, y, hx, hy, ex, ey, em, et⟩
      · have ec := zz_mcf (kd := kd) (h := h) (by rw [ek]; decide)
        exact ⟨V, nm_r ek (br_t rfl (ye_0 hp hh (NX _ _ (et p hp).symm (by rw [ec]))))⟩
      · have ec := zz_mcf (kd := kd) (h := h) (by rw [ek]; decide)
        exact ⟨V, nm_r ek (br_f (by decide) (ye_1 hp hh (NX _ _ (et p hp).symm (by rw [ec]))))⟩
      · have ec := zz_mcf (kd := kd) (h := h) (by rw [ek]; decide)
        exact ⟨V, nm_r ek (br_f (by decide) (ye_2 hp hh (by omega) ex (NX _ _ (et p hp).symm (by rw [ec]))))⟩
      · have ec := zz_mcf (kd := kd) (h := h) (by rw [ek]; decide)
        exact ⟨V, nm_r ek (br_f (by decide) (ye_3 hp hh (by omega) ex (H1 x hx) (NX _ _ (et p hp).symm (by rw [ec]))))⟩
      · have ec := zz_mcf (kd := kd) (h := h) (by rw [ek]; decide)
        exact ⟨V, nm_r ek (br_f (by decide) (ye_4 hp hh (by omega) (by omega) ex ey (H1 x hx) (H1 y hy) (NX _ _ (et p hp).symm (by rw [ec]))))⟩
      · have ec := zz_mcf (kd := kd) (h := h) (by rw [ek]; decide)
        exact ⟨V, nm_r ek (br_f (by decide) (ye_5 hp hh (by omega) (by omega) ex ey (H1 x hx) (H1 y hy) (NX _ _ (et p hp).symm (by rw [ec]))))⟩
      · have ec := zz_mct (kd := kd) (h := h) ek
        have e0 : ¬ kd h = 0 := by rcases ek with e | e <;> rw [e] <;> decide
        exact ⟨V, nm_e (br_f e0 (ye_6 hp hh (by omega) ek (NX _ _ (et p hp).1.symm (by rw [ec]; rfl))))⟩
theorem yc_evaluate {post : SY → Prop} {p : Nat} (hp : p < 128) (hZ : Z ≤ 48) (hN : N ≤ 4) (hM : N + zz_mc kd Z ≤ 7) (NO : ∀ h, h < Z → zz_no N R kd fa sb el eh mr nl nh il ih h) (K : ∀ hs' : Nat → Int32, (∀ h, h < Z → hs' (p * 48 + h) = zz_i (zz_T el eh h p)) → (∀ j, j < p * 48 ∨ p * 48 + 48 ≤ j → hs' j = hs j) → post (nI N, nI R, nI Q, nI C, nI Z, nI L, ms, kd, fa, sb, us, al, ar, vl, rc, ak, md, hs', gd, cu, nx)) : wpY_evaluate post (nI N, nI R, nI Q, nI C, nI Z, nI L, ms, kd, fa, sb, us, al, ar, vl, rc, ak, md, hs, gd, cu, nx) (nI p) :=
  nm_r (pk_mul p 48) (Exists.intro (Z + 1) (yc_ev13 hp hZ hN hM NO K (Z + 1) 0 hs (by omega) (by omega) (fun j hj => absurd hj (Nat.not_lt_zero _)) (fun _ _ => rfl)))
end
end
section
/-! ===== the reference: linked, witnessed ===== -/
/-- the list of modal nodes and the truth table say the same as the component's modal rows -/
def zz_md (P M : Nat) (kd fa sb hs md mr : Nat → Int32) (nd fl : Nat → Nat → Bool) : Prop :=
  ∀ j, j < M → ∃ h b, h < 48 ∧ b < 48 ∧ md j = nI h ∧ fa h = mr j ∧ sb h = nI b ∧
    ((kd h = 6 ∧ ∀ p, p < P → hs (p * 48 + h) = zz_i (nd j p) ∧ hs (p * 48 + b) = zz_i (fl j p)) ∨
     (kd h = 7 ∧ ∀ p, p < P → hs (p * 48 + h) = zz_i (!nd j p) ∧ hs (p * 48 + b) = zz_i (!fl j p)))
section
variable {N R Q C Z L : Nat} {ms : Int32} {kd fa sb us al ar vl rc ak md hs gd cu nx : Nat → Int32}
variable {post : Int32 → Prop} {J : Int32 → Prop} {p o h b j : Nat} {q r : Int32} {fp no np fo : Bool}
theorem yl_142s (hp : p < 128) (ho : o < 128) (hh : h < 48) (hb : b < 48) (Ha : hs (p * 48 + b) = zz_i fp) (Hb : hs (o * 48 + h) = zz_i no) (KJ : (r = q ^^^ 1 → fp = true → no = true) → J (nI (j + 1))) (K0 : ¬ (r = q ^^^ 1 → fp = true → no = true) → post 0) : wY_linked_142 post J q (nI (p * 48)) (nI (o * 48)) (nI j) (nI h) r (nI b) 1 (nI N) (nI R) (nI Q) (nI C) (nI Z) (nI L) ms kd fa sb us al ar vl rc ak md hs gd cu nx := by
  unfold wY_linked_142
  rw [nI_add (p * 48) b, nI_add (o * 48) h, nI_clamp (n := p * 48 + b) (by omega), nI_clamp (n := o * 48 + h) (by omega), Ha, Hb]
  refine br_c (fun e => br_f (by decide) ⟨vp_in_nI (by omega) (by decide), ek_if zz_i0 (fun z => ?_) (fun z => ⟨vp_in_nI (by omega) (by decide), ek_if zz_i0 (fun y => ?_) (fun y => ?_)⟩)⟩) (fun e => nm_r (nI_1 j) (KJ (fun w => absurd w e)))
  · exact br_f (by decide) (nm_r (nI_1 j) (KJ (fun _ w => absurd (z.symm.trans w) (by decide))))
  · exact K0 (fun w => absurd (y.symm.trans (w e (ts_nf z))) (by decide))
  · exact br_f (by decide) (nm_r (nI_1 j) (KJ (fun _ _ => ts_nf y)))
theorem yl_142a (hp : p < 128) (ho : o < 128) (hh : h < 48) (hb : b < 48) (Ha : hs (p * 48 + b) = zz_i (!fp)) (Hb : hs (o * 48 + h) = zz_i (!no)) (KJ : (r = q ^^^ 1 → fp = true → no = true) → J (nI (j + 1))) (K0 : ¬ (r = q ^^^ 1 → fp = true → no = true) → post 0) : wY_linked_142 post J q (nI (p * 48)) (nI (o * 48)) (nI j) (nI h) r (nI b) 0 (nI N) (nI R) (nI Q) (nI C) (nI Z) (nI L) ms kd fa sb us al ar vl rc ak md hs gd cu nx := by
  refine br_c (fun e => br_t rfl ?_) (fun e => nm_r (nI_1 j) (KJ (fun w => absurd w e)))
  unfold wY_linked_183
  rw [nI_add (p * 48) b, nI_add (o * 48) h, nI_clamp (n := p * 48 + b) (by omega), nI_clamp (n := o * 48 + h) (by omega), Ha, Hb]
  refine br_t rfl ⟨vp_in_nI (by omega) (by decide), ek_if zz_i0 (fun z => ?_) (fun z => ⟨vp_in_nI (by omega) (by decide), ek_if zz_i0 (fun y => ?_) (fun y => ?_)⟩)⟩
  · exact nm_r (nI_1 j) (KJ (fun _ _ => by rw [Bool.not_eq_false'] at z; exact z))
  · have z2 : no = false := by rw [← Bool.not_eq_true']; exact ts_nf z
    have y2 : fp = true := by rw [Bool.not_eq_false'] at y; exact y
    exact K0 (fun w => absurd (z2.symm.trans (w e y2)) (by decide))
  · have y2 : fp = false := by rw [← Bool.not_eq_true']; exact ts_nf y
    exact nm_r (nI_1 j) (KJ (fun _ w => absurd (y2.symm.trans w) (by decide)))
theorem yl_68s (hp : p < 128) (ho : o < 128) (hh : h < 48) (hb : b < 48) (Ha : hs (p * 48 + b) = zz_i fp) (Hb : hs (o * 48 + h) = zz_i no) (Hc : hs (o * 48 + b) = zz_i fo) (Hd : hs (p * 48 + h) = zz_i np) (KJ : (r = q → np = false → fo = false) ∧ (r = q ^^^ 1 → fp = true → no = true) → J (nI (j + 1))) (K0 : ¬ ((r = q → np = false → fo = false) ∧ (r = q ^^^ 1 → fp = true → no = true)) → post 0) : wY_linked_68 post J q (nI (p * 48)) (nI (o * 48)) (nI j) (nI h) r (nI b) 1 (nI N) (nI R) (nI Q) (nI C) (nI Z) (nI L) ms kd fa sb us al ar vl rc ak md hs gd cu nx := by
  have G : (r = q → np = false → fo = false) → wY_linked_142 post J q (nI (p * 48)) (nI (o * 48)) (nI j) (nI h) r (nI b) 1 (nI N) (nI R) (nI Q) (nI C) (nI Z) (nI L) ms kd fa sb us al ar vl rc ak md hs gd cu nx := fun c1 =>
    yl_142s hp ho hh hb Ha Hb (fun c2 => KJ ⟨c1, c2⟩) (fun c2 => K0 (fun w => c2 w.2))
  unfold wY_linked_68
  rw [nI_add (o * 48) b, nI_add (p * 48) h, nI_clamp (n := o * 48 + b) (by omega), nI_clamp (n := p * 48 + h) (by omega), Hc, Hd]
  refine br_c (fun e => br_f (by decide) ⟨vp_in_nI (by omega) (by decide), ek_if zz_i0 (fun z => ?_) (fun z => ⟨vp_in_nI (by omega) (by decide), ek_if zz_i0 (fun y => ?_) (fun y => ?_)⟩)⟩) (fun e => G (fun w => absurd w e))
  · exact br_f (by decide) (G (fun _ _ => z))
  · exact K0 (fun w => z (w.1 e y))
  · exact br_f (by decide) (G (fun _ w => absurd w y))
theorem yl_68a (hp : p < 128) (ho : o < 128) (hh : h < 48) (hb : b < 48) (Ha : hs (p * 48 + b) = zz_i (!fp)) (Hb : hs (o * 48 + h) = zz_i (!no)) (Hc : hs (o * 48 + b) = zz_i (!fo)) (Hd : hs (p * 48 + h) = zz_i (!np)) (KJ : (r = q → np = false → fo = false) ∧ (r = q ^^^ 1 → fp = true → no = true) → J (nI (j + 1))) (K0 : ¬ ((r = q → np = false → fo = false) ∧ (r = q ^^^ 1 → fp = true → no = true)) → post 0) : wY_linked_68 post J q (nI (p * 48)) (nI (o * 48)) (nI j) (nI h) r (nI b) 0 (nI N) (nI R) (nI Q) (nI C) (nI Z) (nI L) ms kd fa sb us al ar vl rc ak md hs gd cu nx := by
  have G : (r = q → np = false → fo = false) → wY_linked_142 post J q (nI (p * 48)) (nI (o * 48)) (nI j) (nI h) r (nI b) 0 (nI N) (nI R) (nI Q) (nI C) (nI Z) (nI L) ms kd fa sb us al ar vl rc ak md hs gd cu nx := fun c1 =>
    yl_142a hp ho hh hb Ha Hb (fun c2 => KJ ⟨c1, c2⟩) (fun c2 => K0 (fun w => c2 w.2))
  refine br_c (fun e => br_t rfl ?_) (fun e => G (fun w => absurd w e))
  unfold wY_linked_109
  rw [nI_add (o * 48) b, nI_add (p * 48) h, nI_clamp (n := o * 48 + b) (by omega), nI_clamp (n := p * 48 + h) (by omega), Hc, Hd]
  refine br_t rfl ⟨vp_in_nI (by omega) (by decide), ek_if zz_i0 (fun z => ?_) (fun z => ⟨vp_in_nI (by omega) (by decide), ek_if zz_i0 (fun y => ?_) (fun y => ?_)⟩)⟩
  · have z2 : np = true := by rw [Bool.not_eq_false'] at z; exact z
    exact G (fun _ w => absurd (w.symm.trans z2) (by decide))
  · have z2 : np = false := by rw [← Bool.not_eq_true']; exact ts_nf z
    have y2 : fo = true := by rw [Bool.not_eq_false'] at y; exact y
    exact K0 (fun w => absurd ((w.1 e z2).symm.trans y2) (by decide))
  · have y2 : fo = false := by rw [← Bool.not_eq_true']; exact ts_nf y
    exact G (fun _ _ => y2)
end
section
variable {N R Q C Z L : Nat} {ms : Int32} {kd fa sb us al ar vl rc ak md hs gd cu nx : Nat → Int32}
variable {mr : Nat → Int32} {nd fl : Nat → Nat → Bool} {P M : Nat}
theorem yc_lk15 {post : Int32 → Prop} {q : Int32} {p o : Nat} (hp : p < P) (ho : o < P) (hP : P ≤ 128) (hM : M ≤ 6) (D : zz_md P M kd fa sb hs md mr nd fl) (h1 : zz_lk M mr nd fl q p o → post 1) (h0 : ¬ zz_lk M mr nd fl q p o → post 0) : ∀ n j : Nat, j ≤ M → M - j < n → zz_lk j mr nd fl q p o → wY_linked_15 post q (nI (p * 48)) (nI (o * 48)) (nI N) (nI R) (nI Q) (nI C) (nI Z) (nI L) (nI M) kd fa sb us al ar vl rc ak md hs gd cu nx n (nI j) := by
  intro n
  induction n with
  | zero => intro j a b; exact absurd b (Nat.not_lt_zero _)
  | succ n IH =>
    intro j a b H
    refine pk_le M j (fun hm => ?_) (fun hm => ?_)
    · rw [show j = M by omega] at H
      exact h1 H
    · obtain ⟨h, b, hh, hb, e1, e2, e3, e4⟩ := D j hm
      have V : vp_in (nI h) 48 := vp_in_nI hh (by decide)
      have KJ : (mr j = q → nd j p = false → fl j o = false) ∧ (mr j = q ^^^ 1 → fl j p = true → nd j o = true) → wY_linked_15 post q (nI (p * 48)) (nI (o * 48)) (nI N) (nI R) (nI Q) (nI C) (nI Z) (nI L) (nI M) kd fa sb us al ar vl rc ak md hs gd cu nx n (nI (j + 1)) := fun w => IH (j + 1) (by omega) (by omega) (zz_lks.mpr ⟨H, w⟩)
      have K0 : ¬ ((mr j = q → nd j p = false → fl j o = false) ∧ (mr j = q ^^^ 1 → fl j p = true → nd j o = true)) → post 0 := fun w => h0 (fun y => w (y j hm))
      rw [nI_clamp (n := j) (by omega)]
      refine ⟨vp_in_nI (by omega) (by decide), nm_r e1 ?_⟩
      rw [nI_clamp (n := h) (by omega)]
      refine ⟨V, nm_r e2 ⟨V, nm_r e3 ⟨V, ?_⟩⟩⟩
      rcases e4 with ⟨ek, e4⟩ | ⟨ek, e4⟩
      · exact br_t ek (yl_68s (by omega) (by omega) hh hb (e4 p hp).2 (e4 o ho).1 (e4 o ho).2 (e4 p hp).1 KJ K0)
      · exact br_f (by rw [ek]; decide) (yl_68a (by omega) (by omega) hh hb (e4 p hp).2 (e4 o ho).1 (e4 o ho).2 (e4 p hp).1 KJ K0)
theorem yc_linked {post : Int32 → Prop} {q : Int32} {p o : Nat} (hp : p < P) (ho : o < P) (hP : P ≤ 128) (hM : M ≤ 6) (D : zz_md P M kd fa sb hs md mr nd fl) (h1 : zz_lk M mr nd fl q p o → post 1) (h0 : ¬ zz_lk M mr nd fl q p o → post 0) : wpY_linked post (nI N, nI R, nI Q, nI C, nI Z, nI L, nI M, kd, fa, sb, us, al, ar, vl, rc, ak, md, hs, gd, cu, nx) (nI p) (nI o) q :=
  nm_r (pk_mul p 48) (nm_r (pk_mul o 48) (Exists.intro (M + 1) (yc_lk15 hp ho hP hM D h1 h0 (M + 1) 0 (by omega) (by omega) (zz_lk0 _ _ _ _ _ _))))
theorem yc_w57f {post : Int32 → Prop} {J : Int32 → Prop} {p j : Nat} {x3 z0 x6 : Int32} {n : Nat} (KJ : J (nI (j + 1))) : wY_witnessed_57 post J (nI p) (nI j) x3 z0 (nI N) (nI R) (nI Q) (nI C) (nI Z) (nI L) ms kd fa sb us al ar vl rc ak md hs gd cu nx (n + 1) 1 x6 :=
  br_c (fun _ => br_f (by decide) (nm_r (nI_1 j) KJ)) (fun _ => br_f (by decide) (br_f (by decide) (nm_r (nI_1 j) KJ)))
theorem yc_w57 {post : Int32 → Prop} {J : Int32 → Prop} {S : Nat → Bool} {p j h b : Nat} {z0 : Int32} (hp : p < P) (hP : P ≤ 128) (hM : M ≤ 6) (hh : h < 48) (hb : b < 48) (D : zz_md P M kd fa sb hs md mr nd fl) (e2 : fa h = mr j) (e3 : sb h = nI b) (e4 : ∀ o, o < P → (hs (o * 48 + b) = z0 ↔ fl j o = true)) (HS : ∀ o, o < 128 → gd o = zz_i (S o)) (HP : ∀ o, S o = true → o < P) (h1 : (∃ o, o < 128 ∧ S o = true ∧ fl j o = true ∧ zz_lk M mr nd fl (mr j) p o) → J (nI (j + 1))) (h0 : ¬ (∃ o, o < 128 ∧ S o = true ∧ fl j o = true ∧ zz_lk M mr nd fl (mr j) p o) → post 0) : ∀ n o : Nat, o ≤ 128 → 128 - o < n → (∀ i, i < o → ¬ (S i = true ∧ fl j i = true ∧ zz_lk M mr nd fl (mr j) p i)) → wY_witnessed_57 post J (nI p) (nI j) (nI h) z0 (nI N) (nI R) (nI Q) (nI C) (nI Z) (nI L) (nI M) kd fa sb us al ar vl rc ak md hs gd cu nx n 0 (nI o) := by
  intro n
  induction n with
  | zero => intro o a b; exact absurd b (Nat.not_lt_zero _)
  | succ n IH =>
    intro o a c H
    refine pk_le 128 o (fun hm => ?_) (fun hm => ?_)
    · refine br_t rfl (h0 (fun ⟨i, i1, i2⟩ => H i (by omega) i2))
    · have NX : ¬ (S o = true ∧ fl j o = true ∧ zz_lk M mr nd fl (mr j) p o) → ∀ x : Int32, x = nI o + 1 → wY_witnessed_57 post J (nI p) (nI j) (nI h) z0 (nI N) (nI R) (nI Q) (nI C) (nI Z) (nI L) (nI M) kd fa sb us al ar vl rc ak md hs gd cu nx n 0 x := by
        intro w
        refine nm_r (nI_1 o) (IH (o + 1) (by omega) (by omega) (fun i hi => ?_))
        rcases Nat.lt_or_ge i o with z | z
        · exact H i z
        · rw [show i = o by omega]
          exact w
      have V : vp_in (nI h) 48 := vp_in_nI hh (by decide)
      refine br_t rfl ?_
      rw [nI_clamp (n := o) (by omega), nI_clamp (n := h) (by omega), e3, ye_ix, nI_clamp (n := o * 48 + b) (by omega), HS o hm]
      refine ⟨vp_in_nI hm (by decide), ek_if zz_i0 (fun z => ?_) (fun z => ?_)⟩
      · exact NX (fun w => absurd (z.symm.trans w.1) (by decide))
      · have hoP := HP o (ts_nf z)
        refine ⟨V, vp_in_nI (by omega) (by decide), ek_if (e4 o hoP) (fun y => ⟨V, ?_⟩) (fun y => ?_)⟩
        · rw [e2]
          refine yc_linked hp hoP hP hM D (fun w => ?_) (fun w => ?_)
          · obtain ⟨n', rfl⟩ : ∃ n', n = n' + 1 := ⟨n - 1, by omega⟩
            exact nm_e (yc_w57f (h1 ⟨o, hm, ts_nf z, y, w⟩))
          · exact NX (fun v => w v.2.2)
        · exact NX (fun w => y w.2.1)
theorem yc_w33 {post : Int32 → Prop} {J : Int32 → Prop} {S : Nat → Bool} {p j h b : Nat} {z0 : Int32} (hp : p < P) (hP : P ≤ 128) (hM : M ≤ 6) (hh : h < 48) (hb : b < 48) (D : zz_md P M kd fa sb hs md mr nd fl) (e2 : fa h = mr j) (e3 : sb h = nI b) (e5 : hs (p * 48 + h) = z0 ↔ nd j p = true) (e4 : ∀ o, o < P → (hs (o * 48 + b) = z0 ↔ fl j o = true)) (HS : ∀ o, o < 128 → gd o = zz_i (S o)) (HP : ∀ o, S o = true → o < P) (h1 : (nd j p = true → ∃ o, o < 128 ∧ S o = true ∧ fl j o = true ∧ zz_lk M mr nd fl (mr j) p o) → J (nI (j + 1))) (h0 : ¬ (nd j p = true → ∃ o, o < 128 ∧ S o = true ∧ fl j o = true ∧ zz_lk M mr nd fl (mr j) p o) → post 0) : wY_witnessed_33 post J (nI p) (nI j) (nI h) z0 (nI N) (nI R) (nI Q) (nI C) (nI Z) (nI L) (nI M) kd fa sb us al ar vl rc ak md hs gd cu nx := by
  unfold wY_witnessed_33
  rw [ye_ix, nI_clamp (n := p * 48 + h) (by omega)]
  refine ⟨vp_in_nI (by omega) (by decide), ek_if e5 (fun z => ?_) (fun z => ?_)⟩
  · exact Exists.intro 129 (yc_w57 hp hP hM hh hb D e2 e3 e4 HS HP (fun w => h1 (fun _ => w)) (fun w => h0 (fun v => w (v z))) 129 0 (by omega) (by omega) (fun i hi => absurd hi (Nat.not_lt_zero _)))
  · exact nm_r (nI_1 j) (h1 (fun w => absurd w z))
theorem yc_wt2 {post : Int32 → Prop} {S : Nat → Bool} {p : Nat} (hp : p < P) (hP : P ≤ 128) (hM : M ≤ 6) (D : zz_md P M kd fa sb hs md mr nd fl) (HS : ∀ o, o < 128 → gd o = zz_i (S o)) (HP : ∀ o, S o = true → o < P) (h1 : zz_wt M mr nd fl S p → post 1) (h0 : ¬ zz_wt M mr nd fl S p → post 0) : ∀ n j : Nat, j ≤ M → M - j < n → (∀ i, i < j → nd i p = true → ∃ o, o < 128 ∧ S o = true ∧ fl i o = true ∧ zz_lk M mr nd fl (mr i) p o) → wY_witnessed_2 post (nI p) (nI N) (nI R) (nI Q) (nI C) (nI Z) (nI L) (nI M) kd fa sb us al ar vl rc ak md hs gd cu nx n (nI j) := by
  intro n
  induction n with
  | zero => intro j a b; exact absurd b (Nat.not_lt_zero _)
  | succ n IH =>
    intro j a c H
    refine pk_le M j (fun hm => ?_) (fun hm => ?_)
    · exact h1 (fun i hi => H i (by omega))
    · obtain ⟨h, b, hh, hb, e1, e2, e3, e4⟩ := D j hm
      have K1 : (nd j p = true → ∃ o, o < 128 ∧ S o = true ∧ fl j o = true ∧ zz_lk M mr nd fl (mr j) p o) → wY_witnessed_2 post (nI p) (nI N) (nI R) (nI Q) (nI C) (nI Z) (nI L) (nI M) kd fa sb us al ar vl rc ak md hs gd cu nx n (nI (j + 1)) := by
        intro w
        refine IH (j + 1) (by omega) (by omega) (fun i hi => ?_)
        rcases Nat.lt_or_ge i j with z | z
        · exact H i z
        · rw [show i = j by omega]
          exact w
      have K0 : ¬ (nd j p = true → ∃ o, o < 128 ∧ S o = true ∧ fl j o = true ∧ zz_lk M mr nd fl (mr j) p o) → post 0 := fun w => h0 (fun y => w (y j hm))
      rw [nI_clamp (n := j) (by omega)]
      refine ⟨vp_in_nI (by omega) (by decide), nm_r e1 ?_⟩
      rw [nI_clamp (n := h) (by omega)]
      refine ⟨vp_in_nI hh (by decide), ?_⟩
      rcases e4 with ⟨ek, e4⟩ | ⟨ek, e4⟩
      · refine br_t ek (yc_w33 hp hP hM hh hb D e2 e3 ?_ (fun o ho => ?_) HS HP K1 K0)
        · rw [(e4 p hp).1]; exact zz_i1
        · rw [(e4 o ho).2]; exact zz_i1
      · refine br_f (by rw [ek]; decide) (yc_w33 hp hP hM hh hb D e2 e3 ?_ (fun o ho => ?_) HS HP K1 K0)
        · rw [(e4 p hp).1, zz_i0, Bool.not_eq_false']
        · rw [(e4 o ho).2, zz_i0, Bool.not_eq_false']
theorem yc_witnessed {post : Int32 → Prop} {S : Nat → Bool} {p : Nat} (hp : p < P) (hP : P ≤ 128) (hM : M ≤ 6) (D : zz_md P M kd fa sb hs md mr nd fl) (HS : ∀ o, o < 128 → gd o = zz_i (S o)) (HP : ∀ o, S o = true → o < P) (h1 : zz_wt M mr nd fl S p → post 1) (h0 : ¬ zz_wt M mr nd fl S p → post 0) : wpY_witnessed post (nI N, nI R, nI Q, nI C, nI Z, nI L, nI M, kd, fa, sb, us, al, ar, vl, rc, ak, md, hs, gd, cu, nx) (nI p) :=
  Exists.intro (M + 1) (yc_wt2 hp hP hM D HS HP h1 h0 (M + 1) 0 (by omega) (by omega) (fun i hi => absurd hi (Nat.not_lt_zero _)))
end
end
section
/-! ===== the reference: the good set ===== -/
section
variable {N R Q C Z L : Nat} {ms : Int32} {kd fa sb us al ar vl rc ak md hs gd cu nx : Nat → Int32}
variable {mr : Nat → Int32} {el eh nl nh il ih : Nat → Int64} {M : Nat}
theorem yc_f224 {post : SY → Prop} {nd fl : Nat → Nat → Bool} {P r : Nat} {S : Nat → Bool} {J : Int32 → Int32 → (Nat → Int32) → (Nat → Int32) → (Nat → Int32) → (Nat → Int32) → (Nat → Int32) → (Nat → Int32) → (Nat → Int32) → (Nat → Int32) → (Nat → Int32) → (Nat → Int32) → (Nat → Int32) → (Nat → Int32) → (Nat → Int32) → (Nat → Int32) → Prop} (hP : P ≤ 128) (hM : M ≤ 6) (D : zz_md P M kd fa sb hs md mr nd fl) (HP : ∀ o, S o = true → o < P) (K : ∀ gd : Nat → Int32, (∀ o, o < 128 → gd o = zz_i (zz_ps M mr nd fl S 128 o)) → J (zz_i (zz_cg M mr nd fl S 128)) (nI (r + 1)) kd fa sb us al ar vl rc ak md hs gd cu nx) : ∀ (n p : Nat) (gd : Nat → Int32), p ≤ 128 → 128 - p < n → (∀ o, o < 128 → gd o = zz_i (zz_ps M mr nd fl S p o)) → wY_fillGood_224 post J (nI r) (nI N) (nI R) (nI Q) (nI C) (nI Z) (nI L) (nI M) n (zz_i (zz_cg M mr nd fl S p)) (nI p) kd fa sb us al ar vl rc ak md hs gd cu nx := by
  intro n
  induction n with
  | zero => intro p gd h1 h2; exact absurd h2 (Nat.not_lt_zero _)
  | succ n IH =>
    intro p gd h1 h2 H
    refine pk_le 128 p (fun hm => ?_) (fun hm => ?_)
    · have e : p = 128 := by omega
      rw [e] at H ⊢
      exact nm_r (nI_1 r) (K gd H)
    · rw [nI_clamp (n := p) (by omega), H p hm]
      have V : vp_in (nI p) 128 := vp_in_nI hm (by decide)
      refine ⟨V, ek_if zz_i0 (fun hb => ?_) (fun hb => ?_)⟩
      · obtain ⟨e1, e2⟩ := zz_skip hb
        rw [← e2]
        exact nm_r (nI_1 p) (IH (p + 1) gd (by omega) (by omega) (by rw [e1]; exact H))
      · have hb2 := ts_nf hb
        have hpP := HP p (zz_ps_le _ _ hb2)
        refine yc_witnessed hpP hP hM D H (fun o ho => HP o (zz_ps_le _ _ ho)) (fun w => ?_) (fun w => ?_)
        · obtain ⟨e1, e2⟩ := zz_keep w
          rw [← e2]
          exact br_f (by decide) (nm_r (nI_1 p) (IH (p + 1) gd (by omega) (by omega) (by rw [e1]; exact H)))
        · obtain ⟨e1, e2⟩ := zz_drop hb2 w
          refine br_t rfl ⟨V, nm_e (nm_r (nI_1 p) ?_)⟩
          have t := IH (p + 1) (upd gd p (vp_nar .boolean 0)) (by omega) (by omega) (fun o ho => by
            rw [e1 o]
            by_cases e : o = p
            · rw [e, pk_us, decide_eq_true rfl, Bool.not_true, Bool.and_false]; rfl
            · rw [pk_un e, decide_eq_false e, Bool.not_false, Bool.and_true]; exact H o ho)
          rw [e2] at t
          exact t
theorem yc_f207 {post : SY → Prop} {nd fl : Nat → Nat → Bool} {P : Nat} {G : Nat → Bool} (hP : P ≤ 128) (hM : M ≤ 6) (D : zz_md P M kd fa sb hs md mr nd fl) (K : ∀ gd : Nat → Int32, (∀ o, o < 128 → gd o = zz_i (G o)) → post (nI N, nI R, nI Q, nI C, nI Z, nI L, nI M, kd, fa, sb, us, al, ar, vl, rc, ak, md, hs, gd, cu, nx)) : ∀ (n r : Nat) (c : Bool) (S : Nat → Bool) (gd : Nat → Int32), r ≤ 129 → 129 - r < n → (∀ o, S o = true → o < P) → (∀ o, o < 128 → gd o = zz_i (S o)) → zz_rd M mr nd fl (129 - r) c S = G → wY_fillGood_207 post (nI N) (nI R) (nI Q) (nI C) (nI Z) (nI L) (nI M) n (zz_i c) (nI r) kd fa sb us al ar vl rc ak md hs gd cu nx := by
  intro n
  induction n with
  | zero => intro r c S gd h1 h2; exact absurd h2 (Nat.not_lt_zero _)
  | succ n IH =>
    intro r c S gd h1 h2 HS HD H
    refine pk_lt 128 r (fun hm => ?_) (fun hm => ?_)
    · have e : 129 - r = 0 := by omega
      rw [e] at H
      rw [show S = G from H] at HD
      exact K gd HD
    · obtain ⟨d, e⟩ : ∃ d, 129 - r = d + 1 := ⟨128 - r, by omega⟩
      rw [e] at H
      cases c with
      | false =>
        rw [show S = G from H] at HD
        exact br_t rfl (K gd HD)
      | true =>
        refine br_f (by decide) (Exists.intro 129 (yc_f224 (S := S) hP hM D HS (fun gd' H' => ?_) 129 0 gd (by omega) (by omega) HD))
        refine IH (r + 1) _ _ gd' (by omega) (by omega) (fun o ho => HS o (zz_ps_le _ _ ho)) H' ?_
        rw [show 129 - (r + 1) = d by omega]
        exact H
theorem yc_f126 {post : SY → Prop} {P2 mask : Int32} {p : Nat} {J : Int32 → Int32 → Int32 → Int32 → Int32 → Int32 → Int32 → Int32 → (Nat → Int32) → (Nat → Int32) → (Nat → Int32) → (Nat → Int32) → (Nat → Int32) → (Nat → Int32) → (Nat → Int32) → (Nat → Int32) → (Nat → Int32) → (Nat → Int32) → (Nat → Int32) → (Nat → Int32) → (Nat → Int32) → (Nat → Int32) → Prop} (hp : p < 128) (hZ : Z ≤ 48) (hA : ∀ s, s < 8 → bt mask s = true → ∃ a b, a < Z ∧ b < Z ∧ al s = nI a ∧ ar s = nI b) (HH : ∀ h, h < Z → hs (p * 48 + h) = zz_i (zz_T el eh h p)) (g0 : Nat → Int32) (K : ∀ gd : Nat → Int32, gd p = zz_i (zz_d (∀ s, s < 8 → zz_bad mask al ar el eh p s = false)) → (∀ o, o ≠ p → gd o = g0 o) → J (nI (p + 1)) (nI N) (nI R) (nI Q) (nI C) (nI Z) (nI L) ms kd fa sb us al ar vl rc ak md hs gd cu nx) : ∀ (n s : Nat) (gd : Nat → Int32), s ≤ 8 → 8 - s < n → gd p = zz_i (zz_d (∀ j, j < s → zz_bad mask al ar el eh p j = false)) → (∀ o, o ≠ p → gd o = g0 o) → wY_fillGood_126 post J mask P2 (nI p) (nI N) (nI R) (nI Q) (nI C) (nI Z) (nI L) ms n (nI s) kd fa sb us al ar vl rc ak md hs gd cu nx := by
  intro n
  induction n with
  | zero => intro s gd h1 h2; exact absurd h2 (Nat.not_lt_zero _)
  | succ n IH =>
    intro s gd h1 h2 H1 H2
    refine pk_le 8 s (fun hm => ?_) (fun hm => ?_)
    · have e : s = 8 := by omega
      rw [e] at H1
      exact nm_r (nI_1 p) (K gd H1 H2)
    · have NX : zz_bad mask al ar el eh p s = false → ∀ x : Int32, x = nI s + 1 → wY_fillGood_126 post J mask P2 (nI p) (nI N) (nI R) (nI Q) (nI C) (nI Z) (nI L) ms n x kd fa sb us al ar vl rc ak md hs gd cu nx := fun w =>
        nm_r (nI_1 s) (IH (s + 1) gd (by omega) (by omega) (by rw [zz_all_s, w, Bool.not_false, Bool.and_true]; exact H1) H2)
      refine ek_if (bz_sr (by omega)) (fun hb => ?_) (fun hb => ?_)
      · obtain ⟨a, b, ha, hb', ea, eb⟩ := hA s hm hb
        have V : vp_in (nI s) 8 := vp_in_nI hm (by decide)
        have eB : zz_bad mask al ar el eh p s = (zz_T el eh a p && !zz_T el eh b p) := by
          unfold zz_bad
          rw [hb, ea, eb, nI_clamp (n := a) (by omega), nI_clamp (n := b) (by omega), Bool.true_and]
        rw [nI_clamp (n := s) (by omega), nI_clamp (n := p) (by omega), ea, eb, ye_ix, ye_ix, nI_clamp (n := p * 48 + a) (by omega), nI_clamp (n := p * 48 + b) (by omega), HH a ha, HH b hb']
        refine ⟨V, vp_in_nI (by omega) (by decide), ek_if zz_i0 (fun z => ?_) (fun z => ⟨V, vp_in_nI (by omega) (by decide), ek_if zz_i0 (fun y => ?_) (fun y => ?_)⟩)⟩
        · exact NX (by rw [eB, z, Bool.false_and])
        · refine ⟨vp_in_nI hp (by decide), nm_e (nm_r (nI_1 s) (IH (s + 1) _ (by omega) (by omega) ?_ (fun o ho => ?_)))⟩
          · rw [pk_us, zz_all_s, eB, ts_nf z, y, Bool.not_false, Bool.and_true, Bool.not_true, Bool.and_false]
            rfl
          · rw [pk_un ho]
            exact H2 o ho
        · exact NX (by rw [eB, ts_nf y, Bool.not_true, Bool.and_false])
      · refine NX ?_
        unfold zz_bad
        rw [ts_nt hb, Bool.false_and, Bool.false_and]
/-- the truth table of the patterns below P -/
def zz_has (P Z : Nat) (hs : Nat → Int32) (el eh : Nat → Int64) : Prop := ∀ p h, p < P → h < Z → hs (p * 48 + h) = zz_i (zz_T el eh h p)
theorem yc_f86 {post : SY → Prop} {mask : Int32} {P : Nat} (hP : P ≤ 128) (hZ : Z ≤ 48) (hN : N ≤ 4) (hM : N + zz_mc kd Z ≤ 7) (NO : ∀ h, h < Z → zz_no N R kd fa sb el eh mr nl nh il ih h) (hA : ∀ s, s < 8 → bt mask s = true → ∃ a b, a < Z ∧ b < Z ∧ al s = nI a ∧ ar s = nI b) (K : ∀ hs gd : Nat → Int32, zz_has P Z hs el eh → (∀ o, o < 128 → gd o = zz_i (zz_s0 P mask al ar el eh o)) → ∃ n207 : Nat, wY_fillGood_207 post (nI N) (nI R) (nI Q) (nI C) (nI Z) (nI L) ms n207 1 0 kd fa sb us al ar vl rc ak md hs gd cu nx) : ∀ (n p : Nat) (hs gd : Nat → Int32), p ≤ 128 → 128 - p < n → (∀ i h, i < p → i < P → h < Z → hs (i * 48 + h) = zz_i (zz_T el eh h i)) → (∀ o, o < p → gd o = zz_i (zz_s0 P mask al ar el eh o)) → wY_fillGood_86 post mask (nI P) n (nI p) (nI N) (nI R) (nI Q) (nI C) (nI Z) (nI L) ms kd fa sb us al ar vl rc ak md hs gd cu nx := by
  intro n
  induction n with
  | zero => intro p hs gd h1 h2; exact absurd h2 (Nat.not_lt_zero _)
  | succ n IH =>
    intro p hs gd h1 h2 H1 H2
    refine pk_le 128 p (fun hm => ?_) (fun hm => ?_)
    · exact K hs gd (fun i h a b => H1 i h (by omega) a b) (fun o ho => H2 o (by omega))
    · have V : vp_in (nI p) 128 := vp_in_nI hm (by decide)
      refine pk_le P p (fun hg => ?_) (fun hg => ?_)
      · unfold wY_fillGood_108
        rw [nI_clamp (n := p) (by omega)]
        refine ⟨V, nm_e ⟨V, br_t pk_us (nm_r (nI_1 p) (IH (p + 1) hs _ (by omega) (by omega) (fun i h a b c => H1 i h (by omega) b c) (fun o ho => ?_)))⟩⟩
        rcases Nat.lt_or_ge o p with z | z
        · rw [pk_un (by omega)]
          exact H2 o z
        · rw [show o = p by omega, pk_us, zz_s0e, decide_eq_false (by omega), Bool.false_and]
          rfl
      · unfold wY_fillGood_108
        rw [nI_clamp (n := p) (by omega)]
        refine ⟨V, nm_e ⟨V, br_f (by rw [pk_us]; decide) (yc_evaluate hm hZ hN hM NO (fun hs' A1 A2 => ?_))⟩⟩
        refine Exists.intro 9 (yc_f126 hm hZ hA A1 gd (fun gd' B1 B2 => ?_) 9 0 _ (by omega) (by omega) ?_ (fun o ho => pk_un ho))
        · refine IH (p + 1) hs' gd' (by omega) (by omega) (fun i h a b c => ?_) (fun o ho => ?_)
          · rcases Nat.lt_or_ge i p with z | z
            · rw [A2 _ (by omega)]
              exact H1 i h z b c
            · rw [show i = p by omega]
              exact A1 h c
          · rcases Nat.lt_or_ge o p with z | z
            · rw [B2 o (by omega)]
              exact H2 o z
            · rw [show o = p by omega, B1, zz_s0e, decide_eq_true hg, Bool.true_and]
        · rw [pk_us, zz_dt.mpr (fun j hj => absurd hj (Nat.not_lt_zero j))]
          rfl
theorem zz_mdok {P : Nat} (hZ : Z ≤ 48) (NO : ∀ h, h < Z → zz_no N R kd fa sb el eh mr nl nh il ih h) (HM : ∀ i, i < Z → (kd i = 6 ∨ kd i = 7) → md (zz_mc kd i) = nI i) (HH : zz_has P Z hs el eh) (hP : P ≤ 128) : zz_md P (zz_mc kd Z) kd fa sb hs md mr (zz_T nl nh) (zz_T il ih) := by
  intro j hj
  obtain ⟨h, hz, ek, ej⟩ := zz_mcx hj
  have t := NO h hz
  have e0 : kd h ≠ 0 ∧ kd h ≠ 1 ∧ kd h ≠ 2 ∧ kd h ≠ 3 ∧ kd h ≠ 4 ∧ kd h ≠ 5 := by rcases ek with e | e <;> rw [e] <;> decide
  rcases t with ⟨e, -⟩ | ⟨e, -⟩ | ⟨e, -⟩ | ⟨e, -⟩ | ⟨e, -⟩ | ⟨e, -⟩ | ⟨-, a, b, ha, hb, ea, eb, em, et⟩
  · exact absurd e e0.1
  · exact absurd e e0.2.1
  · exact absurd e e0.2.2.1
  · exact absurd e e0.2.2.2.1
  · exact absurd e e0.2.2.2.2.1
  · exact absurd e e0.2.2.2.2.2
  · refine ⟨h, b, by omega, by omega, ?_, ?_, eb, ?_⟩
    · rw [← ej]; exact HM h hz ek
    · rw [ea, ← ej, em]
    · rw [ej] at et
      rcases ek with e | e
      · refine Or.inl ⟨e, fun p hp => ?_⟩
        obtain ⟨t1, t2, t3⟩ := et p (by omega)
        rw [decide_eq_false (by rw [e]; decide), Bool.xor_false] at t2 t3
        rw [HH p h hp hz, HH p b hp (by omega), t2, t3]
        exact ⟨rfl, rfl⟩
      · refine Or.inr ⟨e, fun p hp => ?_⟩
        obtain ⟨t1, t2, t3⟩ := et p (by omega)
        rw [decide_eq_true e, Bool.xor_true] at t2 t3
        rw [HH p h hp hz, HH p b hp (by omega), t2, t3, Bool.not_not, Bool.not_not]
        exact ⟨rfl, rfl⟩
theorem yc_f7 {post : SY → Prop} {mask : Int32} (hZ : Z ≤ 48) (hM : zz_mc kd Z ≤ 6) (K : ∀ md : Nat → Int32, (∀ i, i < Z → (kd i = 6 ∨ kd i = 7) → md (zz_mc kd i) = nI i) → ∀ x : Int32, x = (1 : Int32) <<< ((nI N + nI (zz_mc kd Z)) &&& 31) → ∃ n86 : Nat, wY_fillGood_86 post mask x n86 0 (nI N) (nI R) (nI Q) (nI C) (nI Z) (nI L) (nI (zz_mc kd Z)) kd fa sb us al ar vl rc ak md hs gd cu nx) : ∀ (n h : Nat) (md : Nat → Int32), h ≤ Z → Z - h < n → (∀ i, i < h → (kd i = 6 ∨ kd i = 7) → md (zz_mc kd i) = nI i) → wY_fillGood_7 post mask (nI N) (nI R) (nI Q) (nI C) (nI Z) (nI L) n (nI h) (nI (zz_mc kd h)) kd fa sb us al ar vl rc ak md hs gd cu nx := by
  intro n
  induction n with
  | zero => intro h md h1 h2; exact absurd h2 (Nat.not_lt_zero _)
  | succ n IH =>
    intro h md h1 h2 H
    refine pk_le Z h (fun hm => ?_) (fun hm => ?_)
    · have e : h = Z := by omega
      rw [e] at H ⊢
      exact K md H
    · have V : vp_in (nI h) 48 := vp_in_nI (by omega) (by decide)
      have ST : (kd h = 6 ∨ kd h = 7) → wY_fillGood_37 post (wY_fillGood_7 post mask (nI N) (nI R) (nI Q) (nI C) (nI Z) (nI L) n) mask (nI h) (nI N) (nI R) (nI Q) (nI C) (nI Z) (nI L) (nI (zz_mc kd h)) kd fa sb us al ar vl rc ak md hs gd cu nx := by
        intro ek
        have hc := zz_mcl hm ek
        refine br_f (nI_ge (b := 6) (by omega) (by decide)) ⟨vp_in_nI (by omega) (by decide), ?_⟩
        rw [nI_clamp (n := zz_mc kd h) (by omega)]
        refine nm_e (nm_r (nI_1 _) (nm_r (nI_1 h) ?_))
        have t := IH (h + 1) (upd md (zz_mc kd h) (nI h)) (by omega) (by omega) (fun i hi e => by
          rcases Nat.lt_or_ge i h with z | z
          · have hl := zz_mcl z e
            rw [pk_un (by omega)]
            exact H i z e
          · rw [show i = h by omega, pk_us])
        rw [zz_mct ek] at t
        exact t
      rw [nI_clamp (n := h) (by omega)]
      refine ⟨V, br_c (fun e6 => ST (Or.inl e6)) (fun e6 => ⟨V, br_c (fun e7 => ST (Or.inr e7)) (fun e7 => nm_r (nI_1 h) ?_)⟩)⟩
      have ek : ¬ (kd h = 6 ∨ kd h = 7) := fun w => w.elim e6 e7
      have t := IH (h + 1) md (by omega) (by omega) (fun i hi e => by
          rcases Nat.lt_or_ge i h with z | z
          · exact H i z e
          · rw [show i = h by omega] at e
            exact absurd e ek)
      rw [zz_mcf ek] at t
      exact t
/-- what a filled table gives -/
theorem yc_fillGood {post : SY → Prop} {mask : Int32} (hZ : Z ≤ 48) (hN : N ≤ 4) (hN1 : 1 ≤ N) (eM : zz_mc kd Z = M) (hM : N + M ≤ 7) (NO : ∀ h, h < Z → zz_no N R kd fa sb el eh mr nl nh il ih h) (hA : ∀ s, s < 8 → bt mask s = true → ∃ a b, a < Z ∧ b < Z ∧ al s = nI a ∧ ar s = nI b) (K : ∀ md hs gd : Nat → Int32, zz_md (2 ^ (N + M)) M kd fa sb hs md mr (zz_T nl nh) (zz_T il ih) → zz_has (2 ^ (N + M)) Z hs el eh → (∀ o, o < 128 → gd o = zz_i (zz_gg N M mr nl nh il ih al ar el eh mask o)) → post (nI N, nI R, nI Q, nI C, nI Z, nI L, nI M, kd, fa, sb, us, al, ar, vl, rc, ak, md, hs, gd, cu, nx)) : wpY_fillGood post (nI N, nI R, nI Q, nI C, nI Z, nI L, ms, kd, fa, sb, us, al, ar, vl, rc, ak, md, hs, gd, cu, nx) mask := by
  subst eM
  have hP := bz_p7 hM
  refine Exists.intro (Z + 1) (yc_f7 hZ (by omega) (fun md' HM => nm_r (bz_pc (by omega)) ?_) (Z + 1) 0 md (by omega) (by omega) (fun i hi => absurd hi (Nat.not_lt_zero _)))
  refine Exists.intro 129 (yc_f86 hP hZ hN hM NO hA (fun hs' gd' HH HG => ?_) 129 0 hs gd (by omega) (by omega) (fun i h a => absurd a (Nat.not_lt_zero _)) (fun o a => absurd a (Nat.not_lt_zero _)))
  have D := zz_mdok hZ NO HM HH hP
  exact Exists.intro 130 (yc_f207 hP (by omega) D (fun gd'' HD => K md' hs' gd'' D HH HD) 130 0 true _ gd' (by omega) (by omega) (fun o ho => by
    rw [zz_s0e, Bool.and_eq_true] at ho
    exact of_decide_eq_true ho.1) HG rfl)
end
end
section
/-! ===== the reference: questions over the good set ===== -/
section
variable {N R Q C Z L : Nat} {ms : Int32} {kd fa sb us al ar vl rc ak md hs gd cu nx : Nat → Int32}
variable {mr : Nat → Int32} {el eh nl nh il ih : Nat → Int64} {M P : Nat}
theorem yc_oc4 {post : Int32 → Prop} {sm : Int32} (HU : ∀ s, s < 8 → us s = zz_i (bt sm s)) (HB : ∀ s, 8 ≤ s → bt sm s = false) (K : post sm) : ∀ (n s : Nat) (x : Int32), s ≤ 8 → 8 - s < n → (∀ i, bt x i = (bt sm i && decide (i < s))) → wY_occupied_4 post (nI N) (nI R) (nI Q) (nI C) (nI Z) (nI L) ms kd fa sb us al ar vl rc ak md hs gd cu nx n x (nI s) := by
  intro n
  induction n with
  | zero => intro s x a b; exact absurd b (Nat.not_lt_zero _)
  | succ n IH =>
    intro s x a b H
    refine pk_le 8 s (fun hm => ?_) (fun hm => ?_)
    · have e : x = sm := by
        apply b_ext
        intro i hi
        rw [H i]
        rcases Nat.lt_or_ge i s with z | z
        · rw [decide_eq_true z, Bool.and_true]
        · rw [HB i (by omega), Bool.false_and]
      rw [e]
      exact K
    · rw [nI_clamp (n := s) (by omega), HU s hm]
      refine ⟨vp_in_nI hm (by decide), ek_if zz_i0 (fun z => ?_) (fun z => ?_)⟩
      · refine nm_r (nI_1 s) (IH (s + 1) x (by omega) (by omega) (fun i => ?_))
        rw [H i]
        by_cases e : i = s
        · rw [e, z, Bool.false_and, Bool.false_and]
        · have e2 : (i < s) = (i < s + 1) := propext ⟨fun _ => by omega, fun _ => by omega⟩
          simp only [e2]
      · refine nm_e (nm_r (nI_1 s) (IH (s + 1) _ (by omega) (by omega) (fun i => ?_)))
        rw [bz_set (by omega), H i]
        by_cases e : i = s
        · rw [e, ts_nf z, decide_eq_true rfl, Bool.or_true, decide_eq_true (by omega)]
          rfl
        · rw [decide_eq_false e, Bool.or_false]
          have e2 : (i < s) = (i < s + 1) := propext ⟨fun _ => by omega, fun _ => by omega⟩
          simp only [e2]
theorem yc_occupied {post : Int32 → Prop} {sm : Int32} (HU : ∀ s, s < 8 → us s = zz_i (bt sm s)) (HB : ∀ s, 8 ≤ s → bt sm s = false) (K : post sm) : wpY_occupied post (nI N, nI R, nI Q, nI C, nI Z, nI L, ms, kd, fa, sb, us, al, ar, vl, rc, ak, md, hs, gd, cu, nx) :=
  Exists.intro 9 (yc_oc4 HU HB K 9 0 0 (by omega) (by omega) (fun i => by rw [b_0, decide_eq_false (Nat.not_lt_zero i), Bool.and_false]))
theorem yc_p7 {post : Int32 → SY → Prop} {S : Nat → Bool} {c : Nat} (hP : P ≤ 128) (hZ : Z ≤ 48) (hc : c < Z) (HS : ∀ o, o < 128 → gd o = zz_i (S o)) (HP : ∀ o, S o = true → o < P) (HH : zz_has P Z hs el eh) (h1 : (∃ p, p < 128 ∧ S p = true ∧ zz_T el eh c p = true) → post 1 (nI N, nI R, nI Q, nI C, nI Z, nI L, ms, kd, fa, sb, us, al, ar, vl, rc, ak, md, hs, gd, cu, nx)) (h0 : ¬ (∃ p, p < 128 ∧ S p = true ∧ zz_T el eh c p = true) → post 0 (nI N, nI R, nI Q, nI C, nI Z, nI L, ms, kd, fa, sb, us, al, ar, vl, rc, ak, md, hs, gd, cu, nx)) : ∀ n p : Nat, p ≤ 128 → 128 - p < n → (∀ i, i < p → ¬ (S i = true ∧ zz_T el eh c i = true)) → wY_possible_7 post (nI c) (nI N) (nI R) (nI Q) (nI C) (nI Z) (nI L) ms kd fa sb us al ar vl rc ak md hs gd cu nx n (nI p) := by
  intro n
  induction n with
  | zero => intro p a b; exact absurd b (Nat.not_lt_zero _)
  | succ n IH =>
    intro p a b H
    refine pk_le 128 p (fun hm => ?_) (fun hm => ?_)
    · exact h0 (fun ⟨i, i1, i2⟩ => H i (by omega) i2)
    · have NX : ¬ (S p = true ∧ zz_T el eh c p = true) → ∀ x : Int32, x = nI p + 1 → wY_possible_7 post (nI c) (nI N) (nI R) (nI Q) (nI C) (nI Z) (nI L) ms kd fa sb us al ar vl rc ak md hs gd cu nx n x := by
        intro w
        refine nm_r (nI_1 p) (IH (p + 1) (by omega) (by omega) (fun i hi => ?_))
        rcases Nat.lt_or_ge i p with z | z
        · exact H i z
        · rw [show i = p by omega]
          exact w
      rw [nI_clamp (n := p) (by omega), HS p hm]
      refine ⟨vp_in_nI hm (by decide), ek_if zz_i0 (fun z => ?_) (fun z => ?_)⟩
      · exact NX (fun w => absurd (z.symm.trans w.1) (by decide))
      · rw [ye_ix, nI_clamp (n := p * 48 + c) (by omega), HH p c (HP p (ts_nf z)) hc]
        refine ⟨vp_in_nI (by omega) (by decide), ek_if zz_i0 (fun y => ?_) (fun y => ?_)⟩
        · exact NX (fun w => absurd (y.symm.trans w.2) (by decide))
        · exact h1 ⟨p, hm, ts_nf z, ts_nf y⟩
theorem yc_s31 {post : Int32 → SY → Prop} {S : Nat → Bool} {c d : Nat} (hP : P ≤ 128) (hZ : Z ≤ 48) (hc : c < Z) (hd : d < Z) (HS : ∀ o, o < 128 → gd o = zz_i (S o)) (HP : ∀ o, S o = true → o < P) (HH : zz_has P Z hs el eh) (h1 : (∃ p, p < 128 ∧ (S p = true ∧ zz_T el eh c p = true) ∧ zz_T el eh d p = false) → post 0 (nI N, nI R, nI Q, nI C, nI Z, nI L, ms, kd, fa, sb, us, al, ar, vl, rc, ak, md, hs, gd, cu, nx)) (h0 : ¬ (∃ p, p < 128 ∧ (S p = true ∧ zz_T el eh c p = true) ∧ zz_T el eh d p = false) → post 1 (nI N, nI R, nI Q, nI C, nI Z, nI L, ms, kd, fa, sb, us, al, ar, vl, rc, ak, md, hs, gd, cu, nx)) : ∀ n p : Nat, p ≤ 128 → 128 - p < n → (∀ i, i < p → ¬ ((S i = true ∧ zz_T el eh c i = true) ∧ zz_T el eh d i = false)) → wY_subsumed_31 post (nI c) (nI d) (nI N) (nI R) (nI Q) (nI C) (nI Z) (nI L) ms kd fa sb us al ar vl rc ak md hs gd cu nx n (nI p) := by
  intro n
  induction n with
  | zero => intro p a b; exact absurd b (Nat.not_lt_zero _)
  | succ n IH =>
    intro p a b H
    refine pk_le 128 p (fun hm => ?_) (fun hm => ?_)
    · exact h0 (fun ⟨i, i1, i2⟩ => H i (by omega) i2)
    · have NX : ¬ ((S p = true ∧ zz_T el eh c p = true) ∧ zz_T el eh d p = false) → ∀ x : Int32, x = nI p + 1 → wY_subsumed_31 post (nI c) (nI d) (nI N) (nI R) (nI Q) (nI C) (nI Z) (nI L) ms kd fa sb us al ar vl rc ak md hs gd cu nx n x := by
        intro w
        refine nm_r (nI_1 p) (IH (p + 1) (by omega) (by omega) (fun i hi => ?_))
        rcases Nat.lt_or_ge i p with z | z
        · exact H i z
        · rw [show i = p by omega]
          exact w
      rw [nI_clamp (n := p) (by omega), HS p hm]
      refine ⟨vp_in_nI hm (by decide), ek_if zz_i0 (fun z => ?_) (fun z => ?_)⟩
      · exact NX (fun w => absurd (z.symm.trans w.1.1) (by decide))
      · rw [ye_ix, ye_ix, nI_clamp (n := p * 48 + c) (by omega), nI_clamp (n := p * 48 + d) (by omega), HH p c (HP p (ts_nf z)) hc, HH p d (HP p (ts_nf z)) hd]
        refine ⟨vp_in_nI (by omega) (by decide), ek_if zz_i0 (fun y => ?_) (fun y => ?_)⟩
        · exact NX (fun w => absurd (y.symm.trans w.1.2) (by decide))
        · refine ⟨vp_in_nI (by omega) (by decide), ek_if zz_i0 (fun x => ?_) (fun x => ?_)⟩
          · exact h1 ⟨p, hm, ⟨ts_nf z, ts_nf y⟩, x⟩
          · exact NX (fun w => x w.2)
theorem yc_v25 {post : Int32 → SY → Prop} {S : Nat → Bool} {c : Nat} (hP : P ≤ 128) (hZ : Z ≤ 48) (hN : N ≤ 4) (hc : c < Z) (HS : ∀ o, o < 128 → gd o = zz_i (S o)) (HP : ∀ o, S o = true → o < P) (HH : zz_has P Z hs el eh) (K : post (zz_vf N (fun p => S p && zz_T el eh c p) 128) (nI N, nI R, nI Q, nI C, nI Z, nI L, ms, kd, fa, sb, us, al, ar, vl, rc, ak, md, hs, gd, cu, nx)) : ∀ n p : Nat, p ≤ 128 → 128 - p < n → wY_valuations_25 post (nI c) (nI N) (nI R) (nI Q) (nI C) (nI Z) (nI L) ms kd fa sb us al ar vl rc ak md hs gd cu nx n (zz_vf N (fun p => S p && zz_T el eh c p) p) (nI p) := by
  intro n
  induction n with
  | zero => intro p a b; exact absurd b (Nat.not_lt_zero _)
  | succ n IH =>
    intro p a b
    refine pk_le 128 p (fun hm => ?_) (fun hm => ?_)
    · rw [show p = 128 by omega]
      exact K
    · have NX : (S p && zz_T el eh c p) = false → ∀ x : Int32, x = nI p + 1 → wY_valuations_25 post (nI c) (nI N) (nI R) (nI Q) (nI C) (nI Z) (nI L) ms kd fa sb us al ar vl rc ak md hs gd cu nx n (zz_vf N (fun p => S p && zz_T el eh c p) p) x := by
        intro w
        have t := IH (p + 1) (by omega) (by omega)
        rw [zz_vff (S := fun p => S p && zz_T el eh c p) w] at t
        exact nm_r (nI_1 p) t
      rw [nI_clamp (n := p) (by omega), HS p hm]
      refine ⟨vp_in_nI hm (by decide), ek_if zz_i0 (fun z => ?_) (fun z => ?_)⟩
      · exact NX (by rw [z, Bool.false_and])
      · rw [ye_ix, nI_clamp (n := p * 48 + c) (by omega), HH p c (HP p (ts_nf z)) hc]
        refine ⟨vp_in_nI (by omega) (by decide), ek_if zz_i0 (fun y => ?_) (fun y => ?_)⟩
        · exact NX (by rw [y, Bool.and_false])
        · have w : (fun p => S p && zz_T el eh c p) p = true := by
            show (S p && zz_T el eh c p) = true
            rw [ts_nf z, ts_nf y]
            rfl
          have t := IH (p + 1) (by omega) (by omega)
          rw [zz_vft (S := fun p => S p && zz_T el eh c p) w, ← bz_nm hN hm] at t
          exact nm_e (nm_r (nI_1 p) t)
/-! ===== the reference: the walk ===== -/
theorem yc_pl17 {post : SY → Prop} {i c : Nat} (hi : i < 8) (hc : c < 48) (K : ∀ ak' : Nat → Int32, (∀ h, h < 48 → ak' (i * 48 + h) = zz_i (decide (h = c))) → (∀ j, j < i * 48 ∨ i * 48 + 48 ≤ j → ak' j = ak j) → post (nI N, nI R, nI Q, nI C, nI Z, nI L, ms, kd, fa, sb, us, al, ar, vl, rc, ak', md, hs, gd, cu, nx)) : ∀ (n h : Nat) (ak' : Nat → Int32), h ≤ 48 → 48 - h < n → (∀ j, j < h → ak' (i * 48 + j) = zz_i (decide (j = c))) → (∀ j, j < i * 48 ∨ i * 48 + 48 ≤ j → ak' j = ak j) → wY_place_17 post (nI i) (nI c) (nI N) (nI R) (nI Q) (nI C) (nI Z) (nI L) ms n (nI h) kd fa sb us al ar vl rc ak' md hs gd cu nx := by
  intro n
  induction n with
  | zero => intro h ak' a b; exact absurd b (Nat.not_lt_zero _)
  | succ n IH =>
    intro h ak' a b H1 H2
    refine pk_le 48 h (fun hm => ?_) (fun hm => ?_)
    · rw [show h = 48 by omega] at H1
      exact K ak' H1 H2
    · have NX : ∀ b : Bool, b = decide (h = c) → wY_place_17 post (nI i) (nI c) (nI N) (nI R) (nI Q) (nI C) (nI Z) (nI L) ms n (nI (h + 1)) kd fa sb us al ar vl rc (upd ak' (i * 48 + h) (zz_i b)) md hs gd cu nx := by
        intro b eb
        rw [eb]
        refine IH (h + 1) _ (by omega) (by omega) (fun j hj => ?_) (fun j hj => ?_)
        · rcases Nat.lt_or_ge j h with z | z
          · rw [pk_un (by omega)]
            exact H1 j z
          · rw [show j = h by omega, pk_us]
        · rw [pk_un (by omega)]
          exact H2 j hj
      rw [ye_ix, nI_clamp (n := i * 48 + h) (by omega)]
      refine pk_eq h c (fun e => ?_) (fun e => ?_)
      · exact ⟨vp_in_nI (by omega) (by decide), nm_e (nm_r (nI_1 h) (NX true (decide_eq_true e).symm))⟩
      · exact ⟨vp_in_nI (by omega) (by decide), nm_e (nm_r (nI_1 h) (NX false (decide_eq_false e).symm))⟩
theorem yc_place {post : SY → Prop} {i c : Nat} {role v : Int32} (hi : i < 8) (hc : c < 48) (K : ∀ ak' : Nat → Int32, (∀ h, h < 48 → ak' (i * 48 + h) = zz_i (decide (h = c))) → (∀ j, j < i * 48 ∨ i * 48 + 48 ≤ j → ak' j = ak j) → post (nI N, nI R, nI Q, nI C, nI Z, nI L, ms, kd, fa, sb, us, al, ar, upd vl i v, upd rc i role, ak', md, hs, gd, cu, nx)) : wpY_place post (nI N, nI R, nI Q, nI C, nI Z, nI L, ms, kd, fa, sb, us, al, ar, vl, rc, ak, md, hs, gd, cu, nx) (nI i) role v (nI c) := by
  have V : vp_in (nI i) 8 := vp_in_nI hi (by decide)
  unfold wpY_place
  dsimp only
  rw [nI_clamp (n := i) (by omega)]
  exact ⟨V, nm_e ⟨V, nm_e (Exists.intro 49 (yc_pl17 hi hc K 49 0 ak (by omega) (by omega) (fun j hj => absurd hj (Nat.not_lt_zero _)) (fun _ _ => rfl)))⟩⟩
/-- position i of the walk keeps the patterns w -/
def zz_po (N Z : Nat) (el eh : Nat → Int64) (vl ak : Nat → Int32) (w : Nat → Bool) (i : Nat) : Prop :=
  ∃ (v : Nat) (dem : Nat → Bool), v < 2 ^ N ∧ vl i = nI v ∧ (∀ h, h < Z → ak (i * 48 + h) = zz_i (dem h)) ∧ ∀ p, p < 128 → (w p = true ↔ (p % 2 ^ N = v ∧ ∀ h, h < Z → dem h = true → zz_T el eh h p = true))
theorem yc_ft32 {post : Int32 → Prop} {p i : Nat} {dem : Nat → Bool} (hp : p < P) (hP : P ≤ 128) (hZ : Z ≤ 48) (hi : i < 8) (HH : zz_has P Z hs el eh) (HD : ∀ h, h < Z → ak (i * 48 + h) = zz_i (dem h)) (h1 : (∀ h, h < Z → dem h = true → zz_T el eh h p = true) → post 1) (h0 : ¬ (∀ h, h < Z → dem h = true → zz_T el eh h p = true) → post 0) : ∀ n h : Nat, h ≤ Z → Z - h < n → (∀ j, j < h → dem j = true → zz_T el eh j p = true) → wY_fits_32 post (nI p) (nI i) (nI N) (nI R) (nI Q) (nI C) (nI Z) (nI L) ms kd fa sb us al ar vl rc ak md hs gd cu nx n (nI h) := by
  intro n
  induction n with
  | zero => intro h a b; exact absurd b (Nat.not_lt_zero _)
  | succ n IH =>
    intro h a b H
    refine pk_le Z h (fun hm => ?_) (fun hm => ?_)
    · exact h1 (fun j hj => H j (by omega))
    · have NX : (dem h = true → zz_T el eh h p = true) → ∀ x : Int32, x = nI h + 1 → wY_fits_32 post (nI p) (nI i) (nI N) (nI R) (nI Q) (nI C) (nI Z) (nI L) ms kd fa sb us al ar vl rc ak md hs gd cu nx n x := by
        intro w
        refine nm_r (nI_1 h) (IH (h + 1) (by omega) (by omega) (fun j hj => ?_))
        rcases Nat.lt_or_ge j h with z | z
        · exact H j z
        · rw [show j = h by omega]
          exact w
      rw [ye_ix, ye_ix, nI_clamp (n := i * 48 + h) (by omega), nI_clamp (n := p * 48 + h) (by omega), HD h hm, HH p h hp hm]
      refine ⟨vp_in_nI (by omega) (by decide), ek_if zz_i0 (fun z => ?_) (fun z => ?_)⟩
      · exact NX (fun w => absurd (z.symm.trans w) (by decide))
      · refine ⟨vp_in_nI (by omega) (by decide), ek_if zz_i0 (fun y => ?_) (fun y => ?_)⟩
        · exact h0 (fun w => absurd (y.symm.trans (w h hm (ts_nf z))) (by decide))
        · exact NX (fun _ => ts_nf y)
theorem yc_fits {post : Int32 → Prop} {S w : Nat → Bool} {p i : Nat} (hp : p < 128) (hP : P ≤ 128) (hZ : Z ≤ 48) (hN : N ≤ 4) (hi : i < 8) (HS : ∀ o, o < 128 → gd o = zz_i (S o)) (HP : ∀ o, S o = true → o < P) (HH : zz_has P Z hs el eh) (W : zz_po N Z el eh vl ak w i) (K : post (zz_i (S p && w p))) : wpY_fits post (nI N, nI R, nI Q, nI C, nI Z, nI L, ms, kd, fa, sb, us, al, ar, vl, rc, ak, md, hs, gd, cu, nx) (nI p) (nI i) := by
  obtain ⟨v, dem, hv, ev, HD, HW⟩ := W
  have h16 := zz_16 hN
  have hm := zz_modlt p N
  unfold wpY_fits
  dsimp only
  rw [nI_clamp (n := p) (by omega), nI_clamp (n := i) (by omega), HS p hp, ev]
  refine ⟨vp_in_nI hp (by decide), ek_if zz_i0 (fun z => ?_) (fun z => ?_)⟩
  · rw [z, Bool.false_and] at K
    exact K
  · rw [ts_nf z, Bool.true_and] at K
    have K1 : w p = true → post 1 := fun e => by rw [e] at K; exact K
    have K0 : ¬ w p = true → post 0 := fun e => by rw [ts_nt e] at K; exact K
    refine ek_v (P := fun r => vp_in (nI i) 8 ∧ ((r = nI v → _) ∧ (¬ r = nI v → _))) (bz_nm hN hp) ⟨vp_in_nI hi (by decide), ?_⟩
    refine pk_eq (p % 2 ^ N) v (fun e => ?_) (fun e => ?_)
    · exact Exists.intro (Z + 1) (yc_ft32 (HP p (ts_nf z)) hP hZ hi HH HD (fun y => K1 ((HW p hp).mpr ⟨e, y⟩)) (fun y => K0 (fun x => y ((HW p hp).mp x).2)) (Z + 1) 0 (by omega) (by omega) (fun j hj => absurd hj (Nat.not_lt_zero _)))
    · exact K0 (fun x => e ((HW p hp).mp x).1)
end
end
section
/-! ===== the reference: realizable ===== -/
section
variable {N R Q C Z L : Nat} {ms : Int32} {kd fa sb us al ar vl rc ak md hs gd cu nx : Nat → Int32}
variable {mr : Nat → Int32} {el eh nl nh il ih : Nat → Int64} {nd fl : Nat → Nat → Bool} {M P : Nat}
variable {post : Int32 → SY → Prop} {J3 J19 : Int32 → (Nat → Int32) → (Nat → Int32) → (Nat → Int32) → (Nat → Int32) → (Nat → Int32) → (Nat → Int32) → (Nat → Int32) → (Nat → Int32) → (Nat → Int32) → (Nat → Int32) → (Nat → Int32) → (Nat → Int32) → (Nat → Int32) → (Nat → Int32) → Prop} {x1 x2 x3 x4 : Int32}
theorem yc_r107 {i p : Nat} {q : Int32} {CC : Nat → Bool} (hp : p < P) (hP : P ≤ 128) (hM : M ≤ 6) (hi : i < 8) (D : zz_md P M kd fa sb hs md mr nd fl) (eq : rc i = q) (HC : ∀ o, o < 128 → cu o = zz_i (CC o)) (HCP : ∀ o, CC o = true → o < P) (g0 : Nat → Int32) (K : ∀ nx : Nat → Int32, nx p = zz_i (zz_d (∃ o, o < 128 ∧ CC o = true ∧ zz_lk M mr nd fl q o p)) → (∀ j, j ≠ p → nx j = g0 j) → J19 (nI (p + 1)) kd fa sb us al ar vl rc ak md hs gd cu nx) : ∀ (n o : Nat) (nx : Nat → Int32), o ≤ 128 → 128 - o < n → nx p = zz_i (zz_d (∃ j, j < o ∧ CC j = true ∧ zz_lk M mr nd fl q j p)) → (∀ j, j ≠ p → nx j = g0 j) → wY_realizable_107 post J3 J19 x1 x2 x3 x4 (nI i) (nI p) (nI N) (nI R) (nI Q) (nI C) (nI Z) (nI L) (nI M) n (nI o) kd fa sb us al ar vl rc ak md hs gd cu nx := by
  intro n
  induction n with
  | zero => intro o nx a b; exact absurd b (Nat.not_lt_zero _)
  | succ n IH =>
    intro o nx a b H1 H2
    refine pk_le 128 o (fun hm => ?_) (fun hm => ?_)
    · rw [show o = 128 by omega] at H1
      exact nm_r (nI_1 p) (K nx H1 H2)
    · have NX : ¬ (CC o = true ∧ zz_lk M mr nd fl q o p) → ∀ x : Int32, x = nI o + 1 → wY_realizable_107 post J3 J19 x1 x2 x3 x4 (nI i) (nI p) (nI N) (nI R) (nI Q) (nI C) (nI Z) (nI L) (nI M) n x kd fa sb us al ar vl rc ak md hs gd cu nx := by
        intro w
        refine nm_r (nI_1 o) (IH (o + 1) nx (by omega) (by omega) ?_ H2)
        rw [H1]
        refine congrArg zz_i (zz_dc ⟨fun ⟨j, j1, j2⟩ => ⟨j, by omega, j2⟩, fun ⟨j, j1, j2⟩ => ?_⟩)
        rcases Nat.lt_or_ge j o with z | z
        · exact ⟨j, z, j2⟩
        · rw [show j = o by omega] at j2
          exact absurd j2 w
      rw [nI_clamp (n := o) (by omega), HC o hm]
      refine ⟨vp_in_nI hm (by decide), ek_if zz_i0 (fun z => ?_) (fun z => ?_)⟩
      · exact NX (fun w => absurd (z.symm.trans w.1) (by decide))
      · rw [nI_clamp (n := i) (by omega), eq]
        refine ⟨vp_in_nI hi (by decide), yc_linked (HCP o (ts_nf z)) hp hP hM D (fun w => ?_) (fun w => ?_)⟩
        · rw [nI_clamp (n := p) (by omega)]
          refine br_f (by decide) ⟨vp_in_nI (by omega) (by decide), nm_e (nm_r (nI_1 o) (IH (o + 1) _ (by omega) (by omega) ?_ (fun j hj => ?_)))⟩
          · rw [pk_us, zz_dt.mpr ⟨o, by omega, ts_nf z, w⟩]
            rfl
          · rw [pk_un hj]
            exact H2 j hj
        · exact br_t rfl (NX (fun v => w v.2))
theorem yc_r76 {i p : Nat} {CC : Nat → Bool} {b : Bool} (hp : p < 128) (hb : b = true → p < P) (hP : P ≤ 128) (hM : M ≤ 6) (hi : i < 8) (D : zz_md P M kd fa sb hs md mr nd fl) (HC : i ≠ 0 → ∀ o, o < 128 → cu o = zz_i (CC o)) (HCP : ∀ o, CC o = true → o < P) (g0 : Nat → Int32) (H1 : nx p = 0) (H2 : ∀ j, j ≠ p → nx j = g0 j) (K : ∀ nx : Nat → Int32, nx p = zz_i (b && (decide (i = 0) || zz_d (∃ o, o < 128 ∧ CC o = true ∧ zz_lk M mr nd fl (rc i) o p))) → (∀ j, j ≠ p → nx j = g0 j) → J19 (nI (p + 1)) kd fa sb us al ar vl rc ak md hs gd cu nx) : wY_realizable_76 post J3 J19 x1 x2 x3 x4 (nI i) (nI p) (zz_i b) (nI N) (nI R) (nI Q) (nI C) (nI Z) (nI L) (nI M) kd fa sb us al ar vl rc ak md hs gd cu nx := by
  cases b with
  | false =>
    exact br_t rfl (br_t rfl (nm_r (nI_1 p) (K nx H1 H2)))
  | true =>
    have hpP := hb rfl
    refine br_f (by decide) (pk_eq i 0 (fun e => ?_) (fun e => ?_))
    · subst e
      rw [nI_clamp (n := p) (by omega)]
      refine ⟨vp_in_nI hp (by decide), nm_e (br_f (by decide) (br_t (by decide) (nm_r (nI_1 p) (K _ ?_ (fun j hj => ?_)))))⟩
      · rw [pk_us]
        rfl
      · rw [pk_un hj]
        exact H2 j hj
    · refine br_f (by decide) (br_f (nI_nle (by omega) (by omega)) (Exists.intro 129 (yc_r107 hpP hP hM hi D rfl (HC e) HCP g0 (fun nx' A1 A2 => K nx' ?_ A2) 129 0 nx (by omega) (by omega) ?_ H2)))
      · rw [A1, decide_eq_false e, Bool.false_or, Bool.true_and]
      · rw [H1, zz_df.mpr (fun ⟨j, j1, _⟩ => absurd j1 (Nat.not_lt_zero j))]
        rfl
theorem yc_r166 {i : Nat} {F : Nat → Bool} (HF : ∀ p, p < 128 → nx p = zz_i (F p)) (K : ∀ cu : Nat → Int32, (∀ p, p < 128 → cu p = zz_i (F p)) → J3 (nI (i + 1)) kd fa sb us al ar vl rc ak md hs gd cu nx) : ∀ (n p : Nat) (cu : Nat → Int32), p ≤ 128 → 128 - p < n → (∀ j, j < p → cu j = zz_i (F j)) → wY_realizable_166 post J3 x1 x2 x3 x4 (nI i) (nI N) (nI R) (nI Q) (nI C) (nI Z) (nI L) ms n (nI p) kd fa sb us al ar vl rc ak md hs gd cu nx := by
  intro n
  induction n with
  | zero => intro p cu a b; exact absurd b (Nat.not_lt_zero _)
  | succ n IH =>
    intro p cu a b H
    refine pk_le 128 p (fun hm => ?_) (fun hm => ?_)
    · exact nm_r (nI_1 i) (K cu (fun j hj => H j (by omega)))
    · rw [nI_clamp (n := p) (by omega), HF p hm, zz_inar]
      refine ⟨vp_in_nI hm (by decide), vp_in_nI hm (by decide), nm_e (nm_r (nI_1 p) (IH (p + 1) _ (by omega) (by omega) (fun j hj => ?_)))⟩
      rcases Nat.lt_or_ge j p with z | z
      · rw [pk_un (by omega)]
        exact H j z
      · rw [show j = p by omega, pk_us]
theorem yc_r203 {F : Nat → Bool} (HF : ∀ p, p < 128 → cu p = zz_i (F p)) (h1 : (∃ p, p < 128 ∧ F p = true) → post 1 (nI N, nI R, nI Q, nI C, nI Z, nI L, ms, kd, fa, sb, us, al, ar, vl, rc, ak, md, hs, gd, cu, nx)) (h0 : ¬ (∃ p, p < 128 ∧ F p = true) → post 0 (nI N, nI R, nI Q, nI C, nI Z, nI L, ms, kd, fa, sb, us, al, ar, vl, rc, ak, md, hs, gd, cu, nx)) : ∀ n p : Nat, p ≤ 128 → 128 - p < n → (∀ j, j < p → ¬ F j = true) → wY_realizable_203 post (nI N) (nI R) (nI Q) (nI C) (nI Z) (nI L) ms kd fa sb us al ar vl rc ak md hs gd cu nx n (nI p) := by
  intro n
  induction n with
  | zero => intro p a b; exact absurd b (Nat.not_lt_zero _)
  | succ n IH =>
    intro p a b H
    refine pk_le 128 p (fun hm => ?_) (fun hm => ?_)
    · exact h0 (fun ⟨i, i1, i2⟩ => H i (by omega) i2)
    · rw [nI_clamp (n := p) (by omega), HF p hm]
      refine ⟨vp_in_nI hm (by decide), ek_if zz_i0 (fun z => nm_r (nI_1 p) (IH (p + 1) (by omega) (by omega) (fun j hj => ?_))) (fun z => h1 ⟨p, hm, ts_nf z⟩)⟩
      rcases Nat.lt_or_ge j p with y | y
      · exact H j y
      · rw [show j = p by omega, z]
        decide
/-- the extra condition of a run along the walk -/
def zz_ex (el eh : Nat → Int64) (x c : Nat) (b : Bool) (i p : Nat) : Bool := !(decide (i = x)) || (zz_T el eh c p == b)
theorem yc_r19 {i x c : Nat} {bb : Bool} {S w : Nat → Bool} {CC : Nat → Bool} (hP : P ≤ 128) (hZ : Z ≤ 48) (hN : N ≤ 4) (hM : M ≤ 6) (hi : i < 8) (hx : x < 8) (hc : c < Z) (D : zz_md P M kd fa sb hs md mr nd fl) (HS : ∀ o, o < 128 → gd o = zz_i (S o)) (HP : ∀ o, S o = true → o < P) (HH : zz_has P Z hs el eh) (W : zz_po N Z el eh vl ak w i) (HC : i ≠ 0 → ∀ o, o < 128 → cu o = zz_i (CC o)) (HCP : ∀ o, CC o = true → o < P) (K : ∀ cu nx : Nat → Int32, (∀ p, p < 128 → cu p = zz_i (((S p && w p) && zz_ex el eh x c bb i p) && (decide (i = 0) || zz_d (∃ o, o < 128 ∧ CC o = true ∧ zz_lk M mr nd fl (rc i) o p)))) → J3 (nI (i + 1)) kd fa sb us al ar vl rc ak md hs gd cu nx) : ∀ (n p : Nat) (nx : Nat → Int32), p ≤ 128 → 128 - p < n → (∀ j, j < p → nx j = zz_i (((S j && w j) && zz_ex el eh x c bb i j) && (decide (i = 0) || zz_d (∃ o, o < 128 ∧ CC o = true ∧ zz_lk M mr nd fl (rc i) o j)))) → wY_realizable_19 post J3 x1 (nI x) (nI c) (zz_i bb) (nI i) (nI N) (nI R) (nI Q) (nI C) (nI Z) (nI L) (nI M) n (nI p) kd fa sb us al ar vl rc ak md hs gd cu nx := by
  intro n
  induction n with
  | zero => intro p nx a b; exact absurd b (Nat.not_lt_zero _)
  | succ n IH =>
    intro p nx a b H
    refine pk_le 128 p (fun hm => ?_) (fun hm => ?_)
    · rw [show p = 128 by omega] at H
      exact Exists.intro 129 (yc_r166 H (fun cu' A => K cu' nx A) 129 0 cu (by omega) (by omega) (fun j hj => absurd hj (Nat.not_lt_zero _)))
    · have G : ∀ b : Bool, b = ((S p && w p) && zz_ex el eh x c bb i p) → wY_realizable_76 post J3 (wY_realizable_19 post J3 x1 (nI x) (nI c) (zz_i bb) (nI i) (nI N) (nI R) (nI Q) (nI C) (nI Z) (nI L) (nI M) n) x1 (nI x) (nI c) (zz_i bb) (nI i) (nI p) (zz_i b) (nI N) (nI R) (nI Q) (nI C) (nI Z) (nI L) (nI M) kd fa sb us al ar vl rc ak md hs gd cu (upd nx p (vp_nar .boolean 0)) := by
        intro b eb
        refine yc_r76 hm (fun e => ?_) hP hM hi D HC HCP nx pk_us (fun j hj => pk_un hj) (fun nx' A1 A2 => IH (p + 1) nx' (by omega) (by omega) (fun j hj => ?_))
        · rw [e] at eb
          have t := eb.symm
          rw [Bool.and_eq_true, Bool.and_eq_true] at t
          exact HP p t.1.1
        · rcases Nat.lt_or_ge j p with z | z
          · rw [A2 j (by omega)]
            exact H j z
          · rw [show j = p by omega, A1, eb]
      rw [nI_clamp (n := p) (by omega)]
      refine ⟨vp_in_nI hm (by decide), nm_e (yc_fits hm hP hZ hN hi HS HP HH W ?_)⟩
      cases hb : (S p && w p) with
      | false =>
        exact br_t rfl (G false (by rw [hb, Bool.false_and]))
      | true =>
        have hpP : p < P := by
          rw [Bool.and_eq_true] at hb
          exact HP p hb.1
        refine br_f (by decide) (pk_eq i x (fun e => ?_) (fun e => ?_))
        · rw [ye_ix, nI_clamp (n := p * 48 + c) (by omega), HH p c hpP hc]
          have e2 : zz_ex el eh x c bb i p = (zz_T el eh c p == bb) := by
            unfold zz_ex
            rw [decide_eq_true e, Bool.not_true, Bool.false_or]
          refine ⟨vp_in_nI (by omega) (by decide), ek_if zz_inj (fun z => ?_) (fun z => ?_)⟩
          · exact G true (by rw [hb, e2, z, Bool.true_and, beq_self_eq_true])
          · exact G false (by rw [hb, e2, Bool.true_and]; exact (beq_eq_false_iff_ne.mpr z).symm)
        · have e2 : zz_ex el eh x c bb i p = true := by
            unfold zz_ex
            rw [decide_eq_false e, Bool.not_false, Bool.true_or]
          exact G true (by rw [hb, e2, Bool.true_and])
theorem yc_r3 {k x c : Nat} {bb : Bool} {S : Nat → Bool} {w wx : Nat → Nat → Bool} (hP : P ≤ 128) (hZ : Z ≤ 48) (hN : N ≤ 4) (hM : M ≤ 6) (hk : k ≤ 8) (hk1 : 1 ≤ k) (hx : x < 8) (hc : c < Z) (D : zz_md P M kd fa sb hs md mr nd fl) (HS : ∀ o, o < 128 → gd o = zz_i (S o)) (HP : ∀ o, S o = true → o < P) (HH : zz_has P Z hs el eh) (W : ∀ i, i < k → zz_po N Z el eh vl ak (w i) i) (EX : ∀ i p, i < k → p < 128 → wx i p = (w i p && zz_ex el eh x c bb i p)) (h1 : ∀ cu nx : Nat → Int32, (∃ p, p < 128 ∧ zz_fr M mr nd fl S rc wx (k - 1) p = true) → post 1 (nI N, nI R, nI Q, nI C, nI Z, nI L, nI M, kd, fa, sb, us, al, ar, vl, rc, ak, md, hs, gd, cu, nx)) (h0 : ∀ cu nx : Nat → Int32, ¬ (∃ p, p < 128 ∧ zz_fr M mr nd fl S rc wx (k - 1) p = true) → post 0 (nI N, nI R, nI Q, nI C, nI Z, nI L, nI M, kd, fa, sb, us, al, ar, vl, rc, ak, md, hs, gd, cu, nx)) : ∀ (n i : Nat) (cu nx : Nat → Int32), i ≤ k → k - i < n → (∀ j, i = j + 1 → ∀ o, o < 128 → cu o = zz_i (zz_fr M mr nd fl S rc wx j o)) → wY_realizable_3 post (nI k) (nI x) (nI c) (zz_i bb) (nI N) (nI R) (nI Q) (nI C) (nI Z) (nI L) (nI M) n (nI i) kd fa sb us al ar vl rc ak md hs gd cu nx := by
  intro n
  induction n with
  | zero => intro i cu nx a b; exact absurd b (Nat.not_lt_zero _)
  | succ n IH =>
    intro i cu nx a b H
    refine pk_le k i (fun hm => ?_) (fun hm => ?_)
    · exact Exists.intro 129 (yc_r203 (H (k - 1) (by omega)) (h1 cu nx) (h0 cu nx) 129 0 (by omega) (by omega) (fun j hj => absurd hj (Nat.not_lt_zero _)))
    · refine br_f (nI_ge (b := 8) (by omega) (by decide)) ?_
      cases i with
      | zero =>
        refine Exists.intro 129 (yc_r19 (CC := fun _ => false) hP hZ hN hM (by omega) hx hc D HS HP HH (W 0 hm) (fun e => absurd rfl e) (fun o ho => absurd ho (by decide)) (fun cu' nx' A => IH 1 cu' nx' (by omega) (by omega) (fun j hj o ho => ?_)) 129 0 nx (by omega) (by omega) (fun j hj => absurd hj (Nat.not_lt_zero _)))
        rw [A o ho, show j = 0 by omega]
        refine congrArg zz_i ?_
        show _ = (S o && wx 0 o)
        rw [EX 0 o hm ho, decide_eq_true rfl, Bool.true_or, Bool.and_true, Bool.and_assoc]
      | succ i =>
        have HI := H i rfl
        refine Exists.intro 129 (yc_r19 (CC := zz_fr M mr nd fl S rc wx i) hP hZ hN hM (by omega) hx hc D HS HP HH (W (i + 1) hm) (fun _ => HI) (fun o ho => HP o (zz_frG ho)) (fun cu' nx' A => IH (i + 1 + 1) cu' nx' (by omega) (by omega) (fun j hj o ho => ?_)) 129 0 nx (by omega) (by omega) (fun j hj => absurd hj (Nat.not_lt_zero _)))
        rw [A o ho, show j = i + 1 by omega]
        refine congrArg zz_i ?_
        show _ = ((S o && zz_d (∃ p, p < 128 ∧ zz_fr M mr nd fl S rc wx i p = true ∧ zz_lk M mr nd fl (rc (i + 1)) p o)) && wx (i + 1) o)
        rw [EX (i + 1) o hm ho, decide_eq_false (by omega), Bool.false_or]
        generalize zz_d (∃ p, p < 128 ∧ zz_fr M mr nd fl S rc wx i p = true ∧ zz_lk M mr nd fl (rc (i + 1)) p o) = d1
        generalize zz_ex el eh x c bb (i + 1) o = d2
        generalize w (i + 1) o = d3
        generalize S o = d4
        cases d1 <;> cases d2 <;> cases d3 <;> cases d4 <;> rfl
theorem yc_realizable {k x c : Nat} {bb : Bool} {S : Nat → Bool} {w wx : Nat → Nat → Bool} (hP : P ≤ 128) (hZ : Z ≤ 48) (hN : N ≤ 4) (hM : M ≤ 6) (hk : k ≤ 8) (hk1 : 1 ≤ k) (hx : x < 8) (hc : c < Z) (D : zz_md P M kd fa sb hs md mr nd fl) (HS : ∀ o, o < 128 → gd o = zz_i (S o)) (HP : ∀ o, S o = true → o < P) (HH : zz_has P Z hs el eh) (W : ∀ i, i < k → zz_po N Z el eh vl ak (w i) i) (EX : ∀ i p, i < k → p < 128 → wx i p = (w i p && zz_ex el eh x c bb i p)) (h1 : ∀ cu nx : Nat → Int32, (∃ p, p < 128 ∧ zz_fr M mr nd fl S rc wx (k - 1) p = true) → post 1 (nI N, nI R, nI Q, nI C, nI Z, nI L, nI M, kd, fa, sb, us, al, ar, vl, rc, ak, md, hs, gd, cu, nx)) (h0 : ∀ cu nx : Nat → Int32, ¬ (∃ p, p < 128 ∧ zz_fr M mr nd fl S rc wx (k - 1) p = true) → post 0 (nI N, nI R, nI Q, nI C, nI Z, nI L, nI M, kd, fa, sb, us, al, ar, vl, rc, ak, md, hs, gd, cu, nx)) : wpY_realizable post (nI N, nI R, nI Q, nI C, nI Z, nI L, nI M, kd, fa, sb, us, al, ar, vl, rc, ak, md, hs, gd, cu, nx) (nI k) (nI x) (nI c) (zz_i bb) :=
  Exists.intro (k + 1) (yc_r3 hP hZ hN hM hk hk1 hx hc D HS HP HH W EX h1 h0 (k + 1) 0 cu nx (by omega) (by omega) (fun j hj => absurd hj (by omega)))
end
end
section
/-! ===== the component: a new node and its truth table ===== -/
theorem zz_bs0 {x : Int64} {p : Nat} {f : Nat → Bool} (H : ∀ i, bz_l x i = (decide (i < p) && f i)) (hf : f p = false) : ∀ i, bz_l x i = (decide (i < p + 1) && f i) := by
  intro i
  rw [H i]
  by_cases e : i = p
  · rw [e, hf, Bool.and_false, Bool.and_false]
  · have e2 : (i < p) = (i < p + 1) := propext ⟨fun _ => by omega, fun _ => by omega⟩
    simp only [e2]
theorem zz_bs1 {x : Int64} {p : Nat} {f : Nat → Bool} (hp : p < 64) (H : ∀ i, bz_l x i = (decide (i < p) && f i)) (hf : f p = true) : ∀ i, bz_l (x ||| ((1 : Int64) <<< ((nI p).toInt64 &&& 63))) i = (decide (i < p + 1) && f i) := by
  intro i
  rw [bz_lor, bz_one hp, H i]
  by_cases e : i = p
  · rw [e, hf, decide_eq_true (show p = p from rfl), Bool.or_true, decide_eq_true (show p < p + 1 by omega)]
    rfl
  · have e2 : (i < p) = (i < p + 1) := propext ⟨fun _ => by omega, fun _ => by omega⟩
    simp only [e2, decide_eq_false e, Bool.or_false]
section
variable {N R Q C Z M L : Nat} {sm lf gf : Int32} {gl gh tl th ul uh : Int64} {kd fa sb mr al ar wv wr : Nat → Int32} {el eh nl nh il ih ll lh wd wl wh : Nat → Int64}
theorem xt_31 {post : SX → Prop} {J : Int64 → Int64 → Int32 → Prop} {x1 : Int32} {v p : Nat} {lo hi : Int64} (hv : v < 16) (hp : p < 64) (H : ∀ i, bz_l hi i = (decide (i < p) && (i + 64).testBit v)) (K : ∀ hi' : Int64, (∀ i, bz_l hi' i = (decide (i < p + 1) && (i + 64).testBit v)) → J lo hi' (nI (p + 1))) : wX_tabulateVariable_31 post J x1 (nI v) lo hi (nI p) (nI N) (nI R) (nI Q) (nI C) (nI Z) (nI M) sm lf gf gl gh tl th (nI L) ul uh kd fa sb el eh mr nl nh il ih al ar ll lh wv wr wd wl wh := by
  unfold wX_tabulateVariable_31
  rw [show nI p + 64 = nI (p + 64) from nI_add p 64]
  refine ek_if (nx_bit (by omega) hv) (fun z => nm_r (nI_1 p) (K hi (zz_bs0 (f := fun i => (i + 64).testBit v) H z))) (fun z => nm_e (nm_r (nI_1 p) (K _ (zz_bs1 (f := fun i => (i + 64).testBit v) hp H (ts_nf z)))))
theorem xt_8 {post : SX → Prop} {h v : Nat} (hh : h < 48) (hv : v < 16) (K : ∀ lo hi : Int64, (∀ p, p < 128 → bz_b lo hi p = p.testBit v) → post (nI N, nI R, nI Q, nI C, nI Z, nI M, sm, lf, gf, gl, gh, tl, th, nI L, ul, uh, kd, fa, sb, vp_updL el h lo, vp_updL eh h hi, mr, nl, nh, il, ih, al, ar, ll, lh, wv, wr, wd, wl, wh)) : ∀ (n p : Nat) (lo hi : Int64), p ≤ 64 → 64 - p < n → (∀ i, bz_l lo i = (decide (i < p) && i.testBit v)) → (∀ i, bz_l hi i = (decide (i < p) && (i + 64).testBit v)) → wX_tabulateVariable_8 post (nI h) (nI v) (nI N) (nI R) (nI Q) (nI C) (nI Z) (nI M) sm lf gf gl gh tl th (nI L) ul uh kd fa sb el eh mr nl nh il ih al ar ll lh wv wr wd wl wh n lo hi (nI p) := by
  intro n
  induction n with
  | zero => intro p lo hi a b; exact absurd b (Nat.not_lt_zero _)
  | succ n IH =>
    intro p lo hi a b H1 H2
    refine pk_le 64 p (fun hm => ?_) (fun hm => ?_)
    · have V : vp_in (nI h) 48 := vp_in_nI hh (by decide)
      rw [nI_clamp (n := h) (by omega)]
      refine ⟨V, nm_e ⟨V, nm_e (K lo hi (fun i hi' => ?_))⟩⟩
      rcases Nat.lt_or_ge i 64 with z | z
      · rw [bz_lo _ _ z, H1 i, decide_eq_true (by omega), Bool.true_and]
      · rw [bz_hi _ _ z, H2 (i - 64), decide_eq_true (by omega), Bool.true_and, show i - 64 + 64 = i by omega]
    · refine ek_if (nx_bit (by omega) hv) (fun z => ?_) (fun z => nm_e ?_)
      · exact xt_31 hv hm H2 (fun hi' H => IH (p + 1) lo hi' (by omega) (by omega) (zz_bs0 (f := fun i => i.testBit v) H1 z) H)
      · exact xt_31 hv hm H2 (fun hi' H => IH (p + 1) _ hi' (by omega) (by omega) (zz_bs1 (f := fun i => i.testBit v) hm H1 (ts_nf z)) H)
theorem xt_var {post : SX → Prop} {h v : Nat} (hh : h < 48) (hv : v < 16) (K : ∀ lo hi : Int64, (∀ p, p < 128 → bz_b lo hi p = p.testBit v) → post (nI N, nI R, nI Q, nI C, nI Z, nI M, sm, lf, gf, gl, gh, tl, th, nI L, ul, uh, kd, fa, sb, vp_updL el h lo, vp_updL eh h hi, mr, nl, nh, il, ih, al, ar, ll, lh, wv, wr, wd, wl, wh)) : wpX_tabulateVariable post (nI N, nI R, nI Q, nI C, nI Z, nI M, sm, lf, gf, gl, gh, tl, th, nI L, ul, uh, kd, fa, sb, el, eh, mr, nl, nh, il, ih, al, ar, ll, lh, wv, wr, wd, wl, wh) (nI h) (nI v) :=
  Exists.intro 65 (xt_8 hh hv K 65 0 0 0 (by omega) (by omega) (fun i => by rw [bz_l0, decide_eq_false (Nat.not_lt_zero i), Bool.false_and]) (fun i => by rw [bz_l0, decide_eq_false (Nat.not_lt_zero i), Bool.false_and]))
theorem xt_reg30 {post : SX → Prop} {h b : Nat} {z0 : Int64} (hh : h < 48) (hb : b < 48) (hM : M < 7) (K : post (nI N, nI R, nI Q, nI C, nI Z, nI (M + 1), sm, 0, 0, gl, gh, tl, th, nI L, ul, uh, kd, fa, sb, el, eh, upd mr M (fa h), vp_updL nl M (el h ^^^ z0), vp_updL nh M (eh h ^^^ z0), vp_updL il M (el b ^^^ z0), vp_updL ih M (eh b ^^^ z0), al, ar, ll, lh, wv, wr, wd, wl, wh)) : wX_registerModal_30 post (nI h) (nI M) (nI b) z0 (nI N) (nI R) (nI Q) (nI C) (nI Z) (nI M) sm lf gf gl gh tl th (nI L) ul uh kd fa sb el eh mr nl nh il ih al ar ll lh wv wr wd wl wh := by
  unfold wX_registerModal_30
  rw [nI_clamp (n := h) (by omega), nI_clamp (n := b) (by omega), nI_clamp (n := M) (by omega)]
  have V : vp_in (nI h) 48 := vp_in_nI hh (by decide)
  have V2 : vp_in (nI b) 48 := vp_in_nI hb (by decide)
  have V3 : vp_in (nI M) 7 := vp_in_nI hM (by decide)
  exact ⟨V, V3, nm_e ⟨V, V3, nm_e ⟨V, V3, nm_e ⟨V2, V3, nm_e ⟨V2, V3, nm_e (nm_r (nI_1 M) K)⟩⟩⟩⟩⟩
/-- one long for both halves: what an ALL node is turned by -/
def zz_fl (b : Bool) : Int64 := cond b (-1) 0
theorem zz_flx (x y : Int64) (b : Bool) {p : Nat} (hp : p < 128) : bz_b (x ^^^ zz_fl b) (y ^^^ zz_fl b) p = (bz_b x y p ^^ b) := by
  cases b with
  | false => exact (bz_x0 x y p).trans (Bool.xor_false _).symm
  | true => exact (bz_not x y hp).trans (Bool.xor_true _).symm
theorem xt_reg {post : SX → Prop} {h b : Nat} (hh : h < 48) (hb : b < 48) (hM : M < 7) (eb : sb h = nI b) (K : post (nI N, nI R, nI Q, nI C, nI Z, nI (M + 1), sm, 0, 0, gl, gh, tl, th, nI L, ul, uh, kd, fa, sb, el, eh, upd mr M (fa h), vp_updL nl M (el h ^^^ zz_fl (decide (kd h = 7))), vp_updL nh M (eh h ^^^ zz_fl (decide (kd h = 7))), vp_updL il M (el b ^^^ zz_fl (decide (kd h = 7))), vp_updL ih M (eh b ^^^ zz_fl (decide (kd h = 7))), al, ar, ll, lh, wv, wr, wd, wl, wh)) : wpX_registerModal post (nI N, nI R, nI Q, nI C, nI Z, nI M, sm, lf, gf, gl, gh, tl, th, nI L, ul, uh, kd, fa, sb, el, eh, mr, nl, nh, il, ih, al, ar, ll, lh, wv, wr, wd, wl, wh) (nI h) := by
  have V : vp_in (nI h) 48 := vp_in_nI hh (by decide)
  unfold wpX_registerModal
  dsimp only
  rw [nI_clamp (n := h) (by omega)]
  refine ⟨V, nm_r eb ⟨V, br_c (fun e => ?_) (fun e => ?_)⟩⟩
  · rw [decide_eq_true e] at K
    exact xt_reg30 hh hb hM K
  · rw [decide_eq_false e] at K
    exact xt_reg30 hh hb hM K
theorem xt_tab {post : SX → Prop} {h : Nat} {k a b : Int32} (hh : h < 48) (ek : kd h = k) (ea : fa h = a) (eb : sb h = b)
    (K : (k < 0 ∨ 5 < k → wpX_tabulateVariable (fun u => wpX_registerModal post u (nI h)) (nI N, nI R, nI Q, nI C, nI Z, nI M, sm, lf, gf, gl, gh, tl, th, nI L, ul, uh, kd, fa, sb, el, eh, mr, nl, nh, il, ih, al, ar, ll, lh, wv, wr, wd, wl, wh) (nI h) (nI N + nI M)) ∧
      (k = 0 → post (nI N, nI R, nI Q, nI C, nI Z, nI M, sm, lf, gf, gl, gh, tl, th, nI L, ul, uh, kd, fa, sb, vp_updL el h (-1), vp_updL eh h (-1), mr, nl, nh, il, ih, al, ar, ll, lh, wv, wr, wd, wl, wh)) ∧
      (k = 1 → post (nI N, nI R, nI Q, nI C, nI Z, nI M, sm, lf, gf, gl, gh, tl, th, nI L, ul, uh, kd, fa, sb, vp_updL el h 0, vp_updL eh h 0, mr, nl, nh, il, ih, al, ar, ll, lh, wv, wr, wd, wl, wh)) ∧
      (k = 2 → wpX_tabulateVariable post (nI N, nI R, nI Q, nI C, nI Z, nI M, sm, lf, gf, gl, gh, tl, th, nI L, ul, uh, kd, fa, sb, el, eh, mr, nl, nh, il, ih, al, ar, ll, lh, wv, wr, wd, wl, wh) (nI h) a) ∧
      (k = 3 → vp_in a 48 ∧ post (nI N, nI R, nI Q, nI C, nI Z, nI M, sm, lf, gf, gl, gh, tl, th, nI L, ul, uh, kd, fa, sb, vp_updL el h (el a.toNatClampNeg ^^^ (-1)), vp_updL eh h (eh a.toNatClampNeg ^^^ (-1)), mr, nl, nh, il, ih, al, ar, ll, lh, wv, wr, wd, wl, wh)) ∧
      (k = 4 → vp_in a 48 ∧ vp_in b 48 ∧ post (nI N, nI R, nI Q, nI C, nI Z, nI M, sm, lf, gf, gl, gh, tl, th, nI L, ul, uh, kd, fa, sb, vp_updL el h (el a.toNatClampNeg &&& el b.toNatClampNeg), vp_updL eh h (eh a.toNatClampNeg &&& eh b.toNatClampNeg), mr, nl, nh, il, ih, al, ar, ll, lh, wv, wr, wd, wl, wh)) ∧
      (k = 5 → vp_in a 48 ∧ vp_in b 48 ∧ post (nI N, nI R, nI Q, nI C, nI Z, nI M, sm, lf, gf, gl, gh, tl, th, nI L, ul, uh, kd, fa, sb, vp_updL el h (el a.toNatClampNeg ||| el b.toNatClampNeg), vp_updL eh h (eh a.toNatClampNeg ||| eh b.toNatClampNeg), mr, nl, nh, il, ih, al, ar, ll, lh, wv, wr, wd, wl, wh))) : wpX_tabulate post (nI N, nI R, nI Q, nI C, nI Z, nI M, sm, lf, gf, gl, gh, tl, th, nI L, ul, uh, kd, fa, sb, el, eh, mr, nl, nh, il, ih, al, ar, ll, lh, wv, wr, wd, wl, wh) (nI h) := by
  have V : vp_in (nI h) 48 := vp_in_nI hh (by decide)
  obtain ⟨K6, K0, K1, K2, K3, K4, K5⟩ := K
  unfold wpX_tabulate
  dsimp only
  rw [nI_clamp (n := h) (by omega)]
  refine ⟨V, nm_r ea ⟨V, nm_r eb ⟨V, nm_r ek ?_⟩⟩⟩
  refine br_c (fun e => K6 (Or.inl e)) (fun _ => br_c (fun e => K6 (Or.inr e)) (fun _ => br_c (fun e => ?_) (fun _ => br_c (fun e => ?_) (fun _ => br_c (fun e => K2 e) (fun _ => br_c (fun e => ?_) (fun _ => br_c (fun e => ?_) (fun _ => br_c (fun e => ?_) (fun _ => trivial))))))))
  · exact ⟨V, nm_e ⟨V, nm_e (K0 e)⟩⟩
  · exact ⟨V, nm_e ⟨V, nm_e (K1 e)⟩⟩
  · obtain ⟨Va, K⟩ := K3 e
    exact ⟨Va, V, nm_e ⟨Va, V, nm_e K⟩⟩
  · obtain ⟨Va, Vb, K⟩ := K4 e
    exact ⟨Va, Vb, V, nm_e ⟨Va, Vb, V, nm_e K⟩⟩
  · obtain ⟨Va, Vb, K⟩ := K5 e
    exact ⟨Va, Vb, V, nm_e ⟨Va, Vb, V, nm_e K⟩⟩
end
end
section
/-! ===== the relation ===== -/
def zz_axi (Z : Nat) (sm : Int32) (us al ar : Nat → Int32) : Prop :=
  (∀ s, s < 8 → us s = zz_i (bt sm s)) ∧ (∀ s, 8 ≤ s → bt sm s = false) ∧ (∀ s, s < 8 → bt sm s = true → ∃ a b, a < Z ∧ b < Z ∧ al s = nI a ∧ ar s = nI b)
def zz_wki (N R Z : Nat) (el eh : Nat → Int64) (wv wr : Nat → Int32) (wd wl wh : Nat → Int64) (vl rc ak : Nat → Int32) (i : Nat) : Prop :=
  wv i = vl i ∧ wr i = rc i ∧ (∃ q, q < 2 * R ∧ wr i = nI q) ∧ (∀ h, h < 48 → ak (i * 48 + h) = zz_i (bz_l (wd i) h)) ∧ (∀ h, Z ≤ h → bz_l (wd i) h = false) ∧
  ∃ v, v < 2 ^ N ∧ vl i = nI v ∧ ∀ p, p < 128 → (zz_T wl wh i p = true ↔ (p % 2 ^ N = v ∧ ∀ h, h < Z → bz_l (wd i) h = true → zz_T el eh h p = true))
def zz_par (N R Q C Z M L : Nat) : Prop := 1 ≤ N ∧ N ≤ 4 ∧ 1 ≤ R ∧ R ≤ 2 ∧ 1 ≤ Q ∧ N + Q ≤ 7 ∧ 16 ≤ C ∧ C ≤ 48 ∧ N + 2 ≤ Z ∧ Z ≤ C ∧ M ≤ Q ∧ L ≤ 8
def zz_K (N R Q C Z M L : Nat) (sm lf gf : Int32) (gl gh : Int64) (kd fa sb mr al ar wv wr : Nat → Int32) (el eh nl nh il ih ll lh wd wl wh : Nat → Int64) (us vl rc ak : Nat → Int32) : Prop :=
  zz_par N R Q C Z M L ∧ zz_mc kd Z = M ∧ (∀ h, h < Z → zz_no N R kd fa sb el eh mr nl nh il ih h) ∧ (∀ j, j < N → kd (2 + j) = 2 ∧ fa (2 + j) = nI j) ∧ zz_axi Z sm us al ar ∧
  (∀ i, i < L → zz_wki N R Z el eh wv wr wd wl wh vl rc ak i) ∧ zz_fresh N R M sm lf gf gl gh mr nl nh il ih al ar el eh ll lh
/-- the relation: the counts are naturals, five arrays are the same, and zz_K -/
def i_Rel (_ : Nat) (u : SX) (v : SY) : Prop := match u, v with
  | (a1, a2, a3, a4, a5, a6, sm, lf, gf, gl, gh, _, _, a14, _, _, kd, fa, sb, el, eh, mr, nl, nh, il, ih, al, ar, ll, lh, wv, wr, wd, wl, wh), (b1, b2, b3, b4, b5, b6, _, kd', fa', sb', us, al', ar', vl, rc, ak, _, _, _, _, _) =>
    ∃ N R Q C Z M L : Nat, a1 = nI N ∧ a2 = nI R ∧ a3 = nI Q ∧ a4 = nI C ∧ a5 = nI Z ∧ a6 = nI M ∧ a14 = nI L ∧ b1 = nI N ∧ b2 = nI R ∧ b3 = nI Q ∧ b4 = nI C ∧ b5 = nI Z ∧ b6 = nI L ∧ kd' = kd ∧ fa' = fa ∧ sb' = sb ∧ al' = al ∧ ar' = ar ∧
      zz_K N R Q C Z M L sm lf gf gl gh kd fa sb mr al ar wv wr el eh nl nh il ih ll lh wd wl wh us vl rc ak
theorem i_up {k : Nat} {u : SX} {v : SY} (h : i_Rel k u v) : i_Rel (k + 3) u v := h
section
variable {N R Q C Z M L : Nat} {sm lf gf : Int32} {gl gh tl th ul uh : Int64} {kd fa sb mr al ar wv wr : Nat → Int32} {el eh nl nh il ih ll lh wd wl wh : Nat → Int64}
variable {ms : Int32} {us vl rc ak md hs gd cu nx : Nat → Int32}
theorem zz_in {k : Nat} (K : zz_K N R Q C Z M L sm lf gf gl gh kd fa sb mr al ar wv wr el eh nl nh il ih ll lh wd wl wh us vl rc ak) : i_Rel k (nI N, nI R, nI Q, nI C, nI Z, nI M, sm, lf, gf, gl, gh, tl, th, nI L, ul, uh, kd, fa, sb, el, eh, mr, nl, nh, il, ih, al, ar, ll, lh, wv, wr, wd, wl, wh) (nI N, nI R, nI Q, nI C, nI Z, nI L, ms, kd, fa, sb, us, al, ar, vl, rc, ak, md, hs, gd, cu, nx) :=
  ⟨N, R, Q, C, Z, M, L, rfl, rfl, rfl, rfl, rfl, rfl, rfl, rfl, rfl, rfl, rfl, rfl, rfl, rfl, rfl, rfl, rfl, rfl, K⟩
end
theorem zz_el {P : SX → SY → Prop} (H : ∀ (N R Q C Z M L : Nat) (sm lf gf : Int32) (gl gh tl th ul uh : Int64) (kd fa sb mr al ar wv wr : Nat → Int32) (el eh nl nh il ih ll lh wd wl wh : Nat → Int64) (ms : Int32) (us vl rc ak md hs gd cu nx : Nat → Int32), zz_K N R Q C Z M L sm lf gf gl gh kd fa sb mr al ar wv wr el eh nl nh il ih ll lh wd wl wh us vl rc ak → P (nI N, nI R, nI Q, nI C, nI Z, nI M, sm, lf, gf, gl, gh, tl, th, nI L, ul, uh, kd, fa, sb, el, eh, mr, nl, nh, il, ih, al, ar, ll, lh, wv, wr, wd, wl, wh) (nI N, nI R, nI Q, nI C, nI Z, nI L, ms, kd, fa, sb, us, al, ar, vl, rc, ak, md, hs, gd, cu, nx)) {k : Nat} {u : SX} {v : SY} (I : i_Rel k u v) : P u v := by
  obtain ⟨a1, a2, a3, a4, a5, a6, sm, lf, gf, gl, gh, tl, th, a14, ul, uh, kd, fa, sb, el, eh, mr, nl, nh, il, ih, al, ar, ll, lh, wv, wr, wd, wl, wh⟩ := u
  obtain ⟨b1, b2, b3, b4, b5, b6, ms, kd', fa', sb', us, al', ar', vl, rc, ak, md, hs, gd, cu, nx⟩ := v
  obtain ⟨N, R, Q, C, Z, M, L, e1, e2, e3, e4, e5, e6, e7, e8, e9, e10, e11, e12, e13, e14, e15, e16, e17, e18, K⟩ := I
  subst e1 e2 e3 e4 e5 e6 e7 e8 e9 e10 e11 e12 e13 e14 e15 e16 e17 e18
  exact H N R Q C Z M L sm lf gf gl gh tl th ul uh _ _ _ mr _ _ wv wr el eh nl nh il ih ll lh wd wl wh ms us vl rc ak md hs gd cu nx K
/-! ===== small facts out of the relation ===== -/
section
variable {N R Q C Z M L : Nat} {sm lf gf : Int32} {gl gh tl th ul uh : Int64} {kd fa sb mr al ar wv wr : Nat → Int32} {el eh nl nh il ih ll lh wd wl wh : Nat → Int64}
variable {ms : Int32} {us vl rc ak md hs gd cu nx : Nat → Int32}
theorem zz_mrq (NO : ∀ h, h < Z → zz_no N R kd fa sb el eh mr nl nh il ih h) : ∀ m, m < zz_mc kd Z → ∃ q, q < 2 * R ∧ mr m = nI q := by
  intro m hm
  obtain ⟨h, hz, ek, ej⟩ := zz_mcx hm
  have e0 : kd h ≠ 0 ∧ kd h ≠ 1 ∧ kd h ≠ 2 ∧ kd h ≠ 3 ∧ kd h ≠ 4 ∧ kd h ≠ 5 := by rcases ek with e | e <;> rw [e] <;> decide
  rcases NO h hz with ⟨e, -⟩ | ⟨e, -⟩ | ⟨e, -⟩ | ⟨e, -⟩ | ⟨e, -⟩ | ⟨e, -⟩ | ⟨-, a, b, ha, hb, ea, eb, em, et⟩
  · exact absurd e e0.1
  · exact absurd e e0.2.1
  · exact absurd e e0.2.2.1
  · exact absurd e e0.2.2.2.1
  · exact absurd e e0.2.2.2.2.1
  · exact absurd e e0.2.2.2.2.2
  · exact ⟨a, ha, by rw [← ej]; exact em⟩
theorem zz_axv (hZ : Z ≤ 48) (A : zz_axi Z sm us al ar) : ∀ s, s < 8 → bt sm s = true → vp_in (al s) 48 ∧ vp_in (ar s) 48 := by
  intro s hs' hb
  obtain ⟨a, b, ha, hb', ea, eb⟩ := A.2.2 s hs' hb
  rw [ea, eb]
  exact ⟨vp_in_nI (by omega) (by decide), vp_in_nI (by omega) (by decide)⟩
theorem zz_namT (hZ : N + 2 ≤ Z) (NO : ∀ h, h < Z → zz_no N R kd fa sb el eh mr nl nh il ih h) (NM : ∀ j, j < N → kd (2 + j) = 2 ∧ fa (2 + j) = nI j) (hN : N ≤ 4) : ∀ j p, j < N → p < 128 → zz_T el eh (2 + j) p = p.testBit j := by
  intro j p hj hp
  obtain ⟨n1, n2⟩ := NM j hj
  rcases NO (2 + j) (by omega) with ⟨e, -⟩ | ⟨e, -⟩ | ⟨-, a, ha, ea, et⟩ | ⟨e, -⟩ | ⟨e, -⟩ | ⟨e, -⟩ | ⟨e, -⟩
  · exact absurd (n1.symm.trans e) (by decide)
  · exact absurd (n1.symm.trans e) (by decide)
  · have e : a = j := (nI_eq (by omega) (by omega)).mp (ea.symm.trans n2)
    rw [et p hp, e]
  · exact absurd (n1.symm.trans e) (by decide)
  · exact absurd (n1.symm.trans e) (by decide)
  · exact absurd (n1.symm.trans e) (by decide)
  · rcases e with e | e <;> exact absurd (n1.symm.trans e) (by decide)
theorem zz_wkpo {i : Nat} (hZ : Z ≤ 48) (W : zz_wki N R Z el eh wv wr wd wl wh vl rc ak i) : zz_po N Z el eh vl ak (zz_T wl wh i) i := by
  obtain ⟨w1, w2, w3, w4, w5, v, hv, ev, w6⟩ := W
  exact ⟨v, bz_l (wd i), hv, ev, fun h hh => w4 h (by omega), w6⟩
/-- the good set does not feel a node that no slot names -/
theorem zz_gg_c {el' eh' : Nat → Int64} (A : zz_axi Z sm us al ar) (hZ : Z ≤ 48) (E : ∀ h, h < Z → el' h = el h ∧ eh' h = eh h) : zz_gg N M mr nl nh il ih al ar el' eh' sm = zz_gg N M mr nl nh il ih al ar el eh sm := by
  unfold zz_gg
  refine congrArg (fun z => zz_rd M mr (zz_T nl nh) (zz_T il ih) 129 true z) ?_
  funext p
  rw [zz_s0e, zz_s0e]
  refine congrArg (fun z => decide (p < 2 ^ (N + M)) && z) ?_
  refine zz_dc ?_
  have t : ∀ s, s < 8 → zz_bad sm al ar el' eh' p s = zz_bad sm al ar el eh p s := by
    intro s h8
    unfold zz_bad
    cases hb : bt sm s with
    | false => rw [Bool.false_and, Bool.false_and, Bool.false_and, Bool.false_and]
    | true =>
      obtain ⟨a, b, ha, hb', ea, eb⟩ := A.2.2 s h8 hb
      rw [ea, eb, nI_clamp (n := a) (by omega), nI_clamp (n := b) (by omega)]
      unfold zz_T
      rw [(E a ha).1, (E a ha).2, (E b hb').1, (E b hb').2]
  exact ⟨fun h s h8 => by rw [← t s h8]; exact h s h8, fun h s h8 => by rw [t s h8]; exact h s h8⟩
theorem zz_fresh_c {el' eh' : Nat → Int64} (A : zz_axi Z sm us al ar) (hZ : Z ≤ 48) (E : ∀ h, h < Z → el' h = el h ∧ eh' h = eh h) (F : zz_fresh N R M sm lf gf gl gh mr nl nh il ih al ar el eh ll lh) : zz_fresh N R M sm lf gf gl gh mr nl nh il ih al ar el' eh' ll lh := by
  rcases F with h | ⟨h1, h2, h3⟩
  · exact Or.inl h
  · refine Or.inr ⟨h1, h2, ?_⟩
    rcases h3 with h | ⟨h4, h5⟩
    · exact Or.inl h
    · refine Or.inr ⟨h4, ?_⟩
      rw [h5]
      exact (zz_gg_c A hZ E).symm
/-- a node keeps what it is when nothing below changes -/
theorem zz_no_c {kd' fa' sb' mr' : Nat → Int32} {el' eh' nl' nh' il' ih' : Nat → Int64} {h : Nat} (hz : h < Z) (E1 : ∀ j, j < Z → kd' j = kd j ∧ fa' j = fa j ∧ sb' j = sb j ∧ el' j = el j ∧ eh' j = eh j) (E2 : ∀ m, m < zz_mc kd Z → mr' m = mr m ∧ nl' m = nl m ∧ nh' m = nh m ∧ il' m = il m ∧ ih' m = ih m) (NO : zz_no N R kd fa sb el eh mr nl nh il ih h) : zz_no N R kd' fa' sb' el' eh' mr' nl' nh' il' ih' h := by
  have T : ∀ j p, j < Z → zz_T el' eh' j p = zz_T el eh j p := fun j p hj => by
    unfold zz_T
    rw [(E1 j hj).2.2.2.1, (E1 j hj).2.2.2.2]
  obtain ⟨k1, k2, k3, -, -⟩ := E1 h hz
  unfold zz_no
  rw [k1, k2, k3]
  rcases NO with ⟨e, et⟩ | ⟨e, et⟩ | ⟨e, a, ha, ea, et⟩ | ⟨e, a, ha, ea, et⟩ | ⟨e, a, b, ha, hb, ea, eb, et⟩ | ⟨e, a, b, ha, hb, ea, eb, et⟩ | ⟨e, a, b, ha, hb, ea, eb, em, et⟩
  · exact Or.inl ⟨e, fun p hp => by rw [T h p hz]; exact et p hp⟩
  · exact Or.inr (Or.inl ⟨e, fun p hp => by rw [T h p hz]; exact et p hp⟩)
  · exact Or.inr (Or.inr (Or.inl ⟨e, a, ha, ea, fun p hp => by rw [T h p hz]; exact et p hp⟩))
  · exact Or.inr (Or.inr (Or.inr (Or.inl ⟨e, a, ha, ea, fun p hp => by rw [T h p hz, T a p (by omega)]; exact et p hp⟩)))
  · exact Or.inr (Or.inr (Or.inr (Or.inr (Or.inl ⟨e, a, b, ha, hb, ea, eb, fun p hp => by rw [T h p hz, T a p (by omega), T b p (by omega)]; exact et p hp⟩))))
  · exact Or.inr (Or.inr (Or.inr (Or.inr (Or.inr (Or.inl ⟨e, a, b, ha, hb, ea, eb, fun p hp => by rw [T h p hz, T a p (by omega), T b p (by omega)]; exact et p hp⟩)))))
  · have ec : zz_mc kd' h = zz_mc kd h := zz_mcg (fun j hj => (E1 j (by omega)).1)
    obtain ⟨m1, m2, m3, m4, m5⟩ := E2 (zz_mc kd h) (zz_mcl hz e)
    refine Or.inr (Or.inr (Or.inr (Or.inr (Or.inr (Or.inr ⟨e, a, b, ha, hb, ea, eb, ?_, fun p hp => ?_⟩)))))
    · rw [ec, m1]; exact em
    · rw [ec, T h p hz, T b p (by omega)]
      unfold zz_T at et ⊢
      rw [m2, m3, m4, m5]
      exact et p hp
theorem zz_wki_c {el' eh' : Nat → Int64} {i : Nat} (hi : i < 8) (E : ∀ h, h < Z → el' h = el h ∧ eh' h = eh h) (W : zz_wki N R Z el eh wv wr wd wl wh vl rc ak i) : zz_wki N R (Z + 1) el' eh' wv wr wd wl wh vl rc ak i := by
  obtain ⟨w1, w2, w3, w4, w5, v, hv, ev, w6⟩ := W
  refine ⟨w1, w2, w3, w4, fun h hh => w5 h (by omega), v, hv, ev, fun p hp => ?_⟩
  rw [w6 p hp]
  constructor
  · intro ⟨x, y⟩
    refine ⟨x, fun h hh d => ?_⟩
    rcases Nat.lt_or_ge h Z with z | z
    · unfold zz_T
      rw [(E h z).1, (E h z).2]
      exact y h z d
    · rw [w5 h z] at d
      exact absurd d (by decide)
  · intro ⟨x, y⟩
    refine ⟨x, fun h hh d => ?_⟩
    have t := y h (by omega) d
    unfold zz_T at t
    rw [(E h hh).1, (E h hh).2] at t
    exact t
theorem zz_axi_c (A : zz_axi Z sm us al ar) : zz_axi (Z + 1) sm us al ar := by
  refine ⟨A.1, A.2.1, fun s h8 hb => ?_⟩
  obtain ⟨a, b, ha, hb', ea, eb⟩ := A.2.2 s h8 hb
  exact ⟨a, b, by omega, by omega, ea, eb⟩
end
end
section
/-! ===== new nodes on both sides ===== -/
def zz_va (N Z : Nat) (k a b : Int32) : Prop :=
  k = 0 ∨ k = 1 ∨ (k = 2 ∧ ∃ x, x < N ∧ a = nI x) ∨ (k = 3 ∧ ∃ x, x < Z ∧ a = nI x) ∨ (k = 4 ∧ ∃ x y, x < Z ∧ y < Z ∧ a = nI x ∧ b = nI y) ∨ (k = 5 ∧ ∃ x y, x < Z ∧ y < Z ∧ a = nI x ∧ b = nI y)
def zz_vm (R Z : Nat) (k a b : Int32) : Prop := (k = 6 ∨ k = 7) ∧ ∃ x y, x < 2 * R ∧ y < Z ∧ a = nI x ∧ b = nI y
section
variable {N R Q C Z M L : Nat} {sm lf gf : Int32} {gl gh tl th ul uh : Int64} {kd fa sb mr al ar wv wr : Nat → Int32} {el eh nl nh il ih ll lh wd wl wh : Nat → Int64}
theorem zz_Ts {h p : Nat} {lo hi : Int64} : zz_T (vp_updL el h lo) (vp_updL eh h hi) h p = bz_b lo hi p := by
  unfold zz_T
  rw [pk_uLs, pk_uLs]
theorem zz_Tn {h j p : Nat} {lo hi : Int64} (e : j ≠ h) : zz_T (vp_updL el h lo) (vp_updL eh h hi) j p = zz_T el eh j p := by
  unfold zz_T
  rw [pk_uLn e, pk_uLn e]
theorem xa_app {post : Int32 → SX → Prop} {k a b : Int32} (hZ : Z < 48) (K : wpX_tabulate (fun u => post (nI Z) u) (nI N, nI R, nI Q, nI C, nI (Z + 1), nI M, sm, lf, gf, gl, gh, tl, th, nI L, ul, uh, upd kd Z k, upd fa Z a, upd sb Z b, el, eh, mr, nl, nh, il, ih, al, ar, ll, lh, wv, wr, wd, wl, wh) (nI Z)) : wpX_append post (nI N, nI R, nI Q, nI C, nI Z, nI M, sm, lf, gf, gl, gh, tl, th, nI L, ul, uh, kd, fa, sb, el, eh, mr, nl, nh, il, ih, al, ar, ll, lh, wv, wr, wd, wl, wh) k a b := by
  have V : vp_in (nI Z) 48 := vp_in_nI hZ (by decide)
  unfold wpX_append
  dsimp only
  rw [nI_clamp (n := Z) (by omega)]
  exact ⟨V, nm_e ⟨V, nm_e ⟨V, nm_e (nm_r (nI_1 Z) K)⟩⟩⟩
theorem xa_n {post : Int32 → SX → Prop} {k a b : Int32} (hZ : Z < 48) (hN : N ≤ 4) (VA : zz_va N Z k a b) (K : ∀ lo hi : Int64, zz_no N R (upd kd Z k) (upd fa Z a) (upd sb Z b) (vp_updL el Z lo) (vp_updL eh Z hi) mr nl nh il ih Z → post (nI Z) (nI N, nI R, nI Q, nI C, nI (Z + 1), nI M, sm, lf, gf, gl, gh, tl, th, nI L, ul, uh, upd kd Z k, upd fa Z a, upd sb Z b, vp_updL el Z lo, vp_updL eh Z hi, mr, nl, nh, il, ih, al, ar, ll, lh, wv, wr, wd, wl, wh)) : wpX_append post (nI N, nI R, nI Q, nI C, nI Z, nI M, sm, lf, gf, gl, gh, tl, th, nI L, ul, uh, kd, fa, sb, el, eh, mr, nl, nh, il, ih, al, ar, ll, lh, wv, wr, wd, wl, wh) k a b := by
  refine xa_app hZ (xt_tab hZ pk_us pk_us pk_us ?_)
  rcases VA with rfl | rfl | ⟨rfl, x, hx, rfl⟩ | ⟨rfl, x, hx, rfl⟩ | ⟨rfl, x, y, hx, hy, rfl, rfl⟩ | ⟨rfl, x, y, hx, hy, rfl, rfl⟩
  · refine ⟨fun e => absurd e (by decide), fun _ => K _ _ (Or.inl ⟨pk_us, fun p hp => ?_⟩), fun e => absurd e (by decide), fun e => absurd e (by decide), fun e => absurd e (by decide), fun e => absurd e (by decide), fun e => absurd e (by decide)⟩
    rw [zz_Ts, bz_m1 hp]
  · refine ⟨fun e => absurd e (by decide), fun e => absurd e (by decide), fun _ => K _ _ (Or.inr (Or.inl ⟨pk_us, fun p hp => ?_⟩)), fun e => absurd e (by decide), fun e => absurd e (by decide), fun e => absurd e (by decide), fun e => absurd e (by decide)⟩
    rw [zz_Ts, bz_0]
  · refine ⟨fun e => absurd e (by decide), fun e => absurd e (by decide), fun e => absurd e (by decide), fun _ => xt_var hZ (by omega) (fun lo hi H => K lo hi (Or.inr (Or.inr (Or.inl ⟨pk_us, x, hx, pk_us, fun p hp => ?_⟩)))), fun e => absurd e (by decide), fun e => absurd e (by decide), fun e => absurd e (by decide)⟩
    rw [zz_Ts, H p hp]
  · refine ⟨fun e => absurd e (by decide), fun e => absurd e (by decide), fun e => absurd e (by decide), fun e => absurd e (by decide), fun _ => ⟨vp_in_nI (by omega) (by decide), ?_⟩, fun e => absurd e (by decide), fun e => absurd e (by decide)⟩
    rw [nI_clamp (n := x) (by omega)]
    refine K _ _ (Or.inr (Or.inr (Or.inr (Or.inl ⟨pk_us, x, hx, pk_us, fun p hp => ?_⟩))))
    rw [zz_Ts, zz_Tn (by omega), bz_not _ _ hp]
    rfl
  · refine ⟨fun e => absurd e (by decide), fun e => absurd e (by decide), fun e => absurd e (by decide), fun e => absurd e (by decide), fun e => absurd e (by decide), fun _ => ⟨vp_in_nI (by omega) (by decide), vp_in_nI (by omega) (by decide), ?_⟩, fun e => absurd e (by decide)⟩
    rw [nI_clamp (n := x) (by omega), nI_clamp (n := y) (by omega)]
    refine K _ _ (Or.inr (Or.inr (Or.inr (Or.inr (Or.inl ⟨pk_us, x, y, hx, hy, pk_us, pk_us, fun p hp => ?_⟩)))))
    rw [zz_Ts, zz_Tn (by omega), zz_Tn (by omega), bz_and]
    rfl
  · refine ⟨fun e => absurd e (by decide), fun e => absurd e (by decide), fun e => absurd e (by decide), fun e => absurd e (by decide), fun e => absurd e (by decide), fun e => absurd e (by decide), fun _ => ⟨vp_in_nI (by omega) (by decide), vp_in_nI (by omega) (by decide), ?_⟩⟩
    rw [nI_clamp (n := x) (by omega), nI_clamp (n := y) (by omega)]
    refine K _ _ (Or.inr (Or.inr (Or.inr (Or.inr (Or.inr (Or.inl ⟨pk_us, x, y, hx, hy, pk_us, pk_us, fun p hp => ?_⟩))))))
    rw [zz_Ts, zz_Tn (by omega), zz_Tn (by omega), bz_or]
    rfl
theorem xa_m {post : Int32 → SX → Prop} {k a b : Int32} (hZ : Z < 48) (hM : N + M < 7) (eM : zz_mc kd Z = M) (VM : zz_vm R Z k a b) (K : ∀ (lo hi : Int64) (mr' : Nat → Int32) (nl' nh' il' ih' : Nat → Int64), (∀ m, m < M → mr' m = mr m ∧ nl' m = nl m ∧ nh' m = nh m ∧ il' m = il m ∧ ih' m = ih m) → zz_no N R (upd kd Z k) (upd fa Z a) (upd sb Z b) (vp_updL el Z lo) (vp_updL eh Z hi) mr' nl' nh' il' ih' Z → post (nI Z) (nI N, nI R, nI Q, nI C, nI (Z + 1), nI (M + 1), sm, 0, 0, gl, gh, tl, th, nI L, ul, uh, upd kd Z k, upd fa Z a, upd sb Z b, vp_updL el Z lo, vp_updL eh Z hi, mr', nl', nh', il', ih', al, ar, ll, lh, wv, wr, wd, wl, wh)) : wpX_append post (nI N, nI R, nI Q, nI C, nI Z, nI M, sm, lf, gf, gl, gh, tl, th, nI L, ul, uh, kd, fa, sb, el, eh, mr, nl, nh, il, ih, al, ar, ll, lh, wv, wr, wd, wl, wh) k a b := by
  obtain ⟨ek, x, y, hx, hy, rfl, rfl⟩ := VM
  have n0 : k ≠ 0 ∧ k ≠ 1 ∧ k ≠ 2 ∧ k ≠ 3 ∧ k ≠ 4 ∧ k ≠ 5 := by rcases ek with e | e <;> rw [e] <;> decide
  refine xa_app hZ (xt_tab hZ pk_us pk_us pk_us ⟨fun _ => ?_, fun e => absurd e n0.1, fun e => absurd e n0.2.1, fun e => absurd e n0.2.2.1, fun e => absurd e n0.2.2.2.1, fun e => absurd e n0.2.2.2.2.1, fun e => absurd e n0.2.2.2.2.2⟩)
  rw [nI_add]
  refine xt_var hZ (by omega) (fun lo hi H => ?_)
  refine xt_reg hZ (b := y) (by omega) (by omega) pk_us ?_
  refine K lo hi _ _ _ _ _ (fun m hm => ⟨pk_un (by omega), pk_uLn (by omega), pk_uLn (by omega), pk_uLn (by omega), pk_uLn (by omega)⟩) ?_
  have ec : zz_mc (upd kd Z k) Z = M := by rw [← eM]; exact zz_mcg (fun h hh => pk_un (by omega))
  refine Or.inr (Or.inr (Or.inr (Or.inr (Or.inr (Or.inr ⟨by rw [pk_us]; exact ek, x, y, hx, hy, pk_us, pk_us, ?_, fun p hp => ?_⟩)))))
  · rw [ec, pk_us, pk_us]
  · rw [ec, zz_Ts (el := el) (eh := eh) (h := Z), zz_Tn (el := el) (eh := eh) (h := Z) (j := y) (by omega), H p hp]
    refine ⟨rfl, ?_, ?_⟩
    · unfold zz_T
      rw [pk_uLs, pk_uLs, pk_uLs, pk_uLs, zz_flx _ _ _ hp, H p hp]
    · unfold zz_T
      rw [pk_uLs, pk_uLs, zz_flx _ _ _ hp, pk_uLn (by omega), pk_uLn (by omega)]
def zz_mt (kd fa sb : Nat → Int32) (k a b : Int32) (h : Nat) : Prop := kd h = k ∧ fa h = a ∧ sb h = b
theorem xa_find3 {post : Int32 → Prop} {k a b : Int32} (hZ : Z ≤ 48) (h1 : ∀ h, h < Z → zz_mt kd fa sb k a b h → (∀ j, j < h → ¬ zz_mt kd fa sb k a b j) → post (nI h)) (h0 : (∀ j, j < Z → ¬ zz_mt kd fa sb k a b j) → post (-1)) : ∀ n i : Nat, i ≤ Z → Z - i < n → (∀ j, j < i → ¬ zz_mt kd fa sb k a b j) → wX_find_3 post k a b (nI N) (nI R) (nI Q) (nI C) (nI Z) (nI M) sm lf gf gl gh tl th (nI L) ul uh kd fa sb el eh mr nl nh il ih al ar ll lh wv wr wd wl wh n (nI i) := by
  intro n
  induction n with
  | zero => intro i c d; exact absurd d (Nat.not_lt_zero _)
  | succ n IH =>
    intro i c d H
    refine pk_le Z i (fun hm => ?_) (fun hm => ?_)
    · exact h0 (fun j hj => H j (by omega))
    · have V : vp_in (nI i) 48 := vp_in_nI (by omega) (by decide)
      have NX : ¬ zz_mt kd fa sb k a b i → ∀ x : Int32, x = nI i + 1 → wX_find_3 post k a b (nI N) (nI R) (nI Q) (nI C) (nI Z) (nI M) sm lf gf gl gh tl th (nI L) ul uh kd fa sb el eh mr nl nh il ih al ar ll lh wv wr wd wl wh n x := by
        intro w
        refine nm_r (nI_1 i) (IH (i + 1) (by omega) (by omega) (fun j hj => ?_))
        rcases Nat.lt_or_ge j i with z | z
        · exact H j z
        · rw [show j = i by omega]
          exact w
      rw [nI_clamp (n := i) (by omega)]
      exact ⟨V, br_c (fun e1 => ⟨V, br_c (fun e2 => ⟨V, br_c (fun e3 => h1 i hm ⟨e1, e2, e3⟩ H) (fun e3 => NX (fun w => e3 w.2.2))⟩) (fun e2 => NX (fun w => e2 w.2.1))⟩) (fun e1 => NX (fun w => e1 w.1))⟩
theorem xa_find {post : Int32 → Prop} {k a b : Int32} (hZ : Z ≤ 48) (h1 : ∀ h, h < Z → zz_mt kd fa sb k a b h → (∀ j, j < h → ¬ zz_mt kd fa sb k a b j) → post (nI h)) (h0 : (∀ j, j < Z → ¬ zz_mt kd fa sb k a b j) → post (-1)) : wpX_find post (nI N, nI R, nI Q, nI C, nI Z, nI M, sm, lf, gf, gl, gh, tl, th, nI L, ul, uh, kd, fa, sb, el, eh, mr, nl, nh, il, ih, al, ar, ll, lh, wv, wr, wd, wl, wh) k a b :=
  Exists.intro (Z + 1) (xa_find3 hZ h1 h0 (Z + 1) 0 (by omega) (by omega) (fun j hj => absurd hj (Nat.not_lt_zero _)))
end
section
variable {N R Q C Z L : Nat} {ms : Int32} {kd fa sb us al ar vl rc ak md hs gd cu nx : Nat → Int32}
theorem ya_c18 {post : Int32 → Prop} (hZ : Z ≤ 48) (K : post (nI (zz_mc kd Z))) : ∀ n h : Nat, h ≤ Z → Z - h < n → wY_count_18 post (nI N) (nI R) (nI Q) (nI C) (nI Z) (nI L) ms kd fa sb us al ar vl rc ak md hs gd cu nx n (nI (zz_mc kd h)) (nI h) := by
  intro n
  induction n with
  | zero => intro h c d; exact absurd d (Nat.not_lt_zero _)
  | succ n IH =>
    intro h c d
    refine pk_le Z h (fun hm => ?_) (fun hm => ?_)
    · rw [show h = Z by omega]
      exact K
    · have V : vp_in (nI h) 48 := vp_in_nI (by omega) (by decide)
      have IH1 := IH (h + 1) (by omega) (by omega)
      rw [nI_clamp (n := h) (by omega)]
      refine ⟨V, br_c (fun e => ?_) (fun e => ⟨V, br_c (fun e2 => ?_) (fun e2 => ?_)⟩)⟩
      · rw [zz_mct (Or.inl e)] at IH1
        exact nm_r (nI_1 _) (nm_r (nI_1 h) IH1)
      · rw [zz_mct (Or.inr e2)] at IH1
        exact nm_r (nI_1 _) (nm_r (nI_1 h) IH1)
      · rw [zz_mcf (fun w => w.elim e e2)] at IH1
        exact nm_r (nI_1 h) IH1
theorem ya_count1 {post : Int32 → Prop} (hZ : Z ≤ 48) (K : post (nI (zz_mc kd Z))) : wpY_count post (nI N, nI R, nI Q, nI C, nI Z, nI L, ms, kd, fa, sb, us, al, ar, vl, rc, ak, md, hs, gd, cu, nx) 1 :=
  br_f (by decide) (br_t rfl (Exists.intro (Z + 1) (ya_c18 hZ K (Z + 1) 0 (by omega) (by omega))))
theorem ya_put {post : SY → Prop} {k a b : Int32} (hZ : Z < 48) (K : post (nI N, nI R, nI Q, nI C, nI (Z + 1), nI L, ms, upd kd Z k, upd fa Z a, upd sb Z b, us, al, ar, vl, rc, ak, md, hs, gd, cu, nx)) : wpY_put post (nI N, nI R, nI Q, nI C, nI Z, nI L, ms, kd, fa, sb, us, al, ar, vl, rc, ak, md, hs, gd, cu, nx) k a b := by
  have V : vp_in (nI Z) 48 := vp_in_nI hZ (by decide)
  unfold wpY_put
  dsimp only
  rw [nI_clamp (n := Z) (by omega)]
  exact br_t (nI_lt (b := 48) hZ (by decide)) ⟨V, nm_e ⟨V, nm_e ⟨V, nm_e (nm_r (nI_1 Z) K)⟩⟩⟩
theorem ya_make3 {post : Int32 → SY → Prop} {k a b : Int32} (hZ : Z ≤ 48) (h1 : ∀ h, h < Z → zz_mt kd fa sb k a b h → (∀ j, j < h → ¬ zz_mt kd fa sb k a b j) → post (nI h) (nI N, nI R, nI Q, nI C, nI Z, nI L, ms, kd, fa, sb, us, al, ar, vl, rc, ak, md, hs, gd, cu, nx)) (h0 : (∀ j, j < Z → ¬ zz_mt kd fa sb k a b j) → ((nI Z = nI C → post (-2) (nI N, nI R, nI Q, nI C, nI Z, nI L, ms, kd, fa, sb, us, al, ar, vl, rc, ak, md, hs, gd, cu, nx)) ∧ (¬ nI Z = nI C → ((k = 6 → wY_make_80 post k a b (nI N) (nI R) (nI Q) (nI C) (nI Z) (nI L) ms kd fa sb us al ar vl rc ak md hs gd cu nx) ∧ (¬ k = 6 → ((k = 7 → wY_make_80 post k a b (nI N) (nI R) (nI Q) (nI C) (nI Z) (nI L) ms kd fa sb us al ar vl rc ak md hs gd cu nx) ∧ (¬ k = 7 → wY_make_99 post k a b (nI N) (nI R) (nI Q) (nI C) (nI Z) (nI L) ms kd fa sb us al ar vl rc ak md hs gd cu nx))))))) : ∀ n i : Nat, i ≤ Z → Z - i < n → (∀ j, j < i → ¬ zz_mt kd fa sb k a b j) → wY_make_3 post k a b (nI N) (nI R) (nI Q) (nI C) (nI Z) (nI L) ms kd fa sb us al ar vl rc ak md hs gd cu nx n (nI i) := by
  intro n
  induction n with
  | zero => intro i c d; exact absurd d (Nat.not_lt_zero _)
  | succ n IH =>
    intro i c d H
    refine pk_le Z i (fun hm => ?_) (fun hm => ?_)
    · exact h0 (fun j hj => H j (by omega))
    · have V : vp_in (nI i) 48 := vp_in_nI (by omega) (by decide)
      have NX : ¬ zz_mt kd fa sb k a b i → ∀ x : Int32, x = nI i + 1 → wY_make_3 post k a b (nI N) (nI R) (nI Q) (nI C) (nI Z) (nI L) ms kd fa sb us al ar vl rc ak md hs gd cu nx n x := by
        intro w
        refine nm_r (nI_1 i) (IH (i + 1) (by omega) (by omega) (fun j hj => ?_))
        rcases Nat.lt_or_ge j i with z | z
        · exact H j z
        · rw [show j = i by omega]
          exact w
      rw [nI_clamp (n := i) (by omega)]
      exact ⟨V, br_c (fun e1 => ⟨V, br_c (fun e2 => ⟨V, br_c (fun e3 => h1 i hm ⟨e1, e2, e3⟩ H) (fun e3 => NX (fun w => e3 w.2.2))⟩) (fun e2 => NX (fun w => e2 w.2.1))⟩) (fun e1 => NX (fun w => e1 w.1))⟩
theorem ya_make {post : Int32 → SY → Prop} {k a b : Int32} (hZ : Z ≤ 48) (h1 : ∀ h, h < Z → zz_mt kd fa sb k a b h → (∀ j, j < h → ¬ zz_mt kd fa sb k a b j) → post (nI h) (nI N, nI R, nI Q, nI C, nI Z, nI L, ms, kd, fa, sb, us, al, ar, vl, rc, ak, md, hs, gd, cu, nx)) (h0 : (∀ j, j < Z → ¬ zz_mt kd fa sb k a b j) → ((nI Z = nI C → post (-2) (nI N, nI R, nI Q, nI C, nI Z, nI L, ms, kd, fa, sb, us, al, ar, vl, rc, ak, md, hs, gd, cu, nx)) ∧ (¬ nI Z = nI C → ((k = 6 → wY_make_80 post k a b (nI N) (nI R) (nI Q) (nI C) (nI Z) (nI L) ms kd fa sb us al ar vl rc ak md hs gd cu nx) ∧ (¬ k = 6 → ((k = 7 → wY_make_80 post k a b (nI N) (nI R) (nI Q) (nI C) (nI Z) (nI L) ms kd fa sb us al ar vl rc ak md hs gd cu nx) ∧ (¬ k = 7 → wY_make_99 post k a b (nI N) (nI R) (nI Q) (nI C) (nI Z) (nI L) ms kd fa sb us al ar vl rc ak md hs gd cu nx))))))) : wpY_make post (nI N, nI R, nI Q, nI C, nI Z, nI L, ms, kd, fa, sb, us, al, ar, vl, rc, ak, md, hs, gd, cu, nx) k a b :=
  Exists.intro (Z + 1) (ya_make3 hZ h1 h0 (Z + 1) 0 (by omega) (by omega) (fun j hj => absurd hj (Nat.not_lt_zero _)))
theorem ya_m99 {post : Int32 → SY → Prop} {k a b : Int32} (hZ : Z < 48) (K : post (nI Z) (nI N, nI R, nI Q, nI C, nI (Z + 1), nI L, ms, upd kd Z k, upd fa Z a, upd sb Z b, us, al, ar, vl, rc, ak, md, hs, gd, cu, nx)) : wY_make_99 post k a b (nI N) (nI R) (nI Q) (nI C) (nI Z) (nI L) ms kd fa sb us al ar vl rc ak md hs gd cu nx := by
  unfold wY_make_99
  refine ya_put hZ ?_
  show post (nI (Z + 1) - 1) _
  rw [nI_pred]
  exact K
theorem ya_m80 {post : Int32 → SY → Prop} {k a b : Int32} (hZ : Z ≤ 48) (h0 : zz_mc kd Z = Q → post (-3) (nI N, nI R, nI Q, nI C, nI Z, nI L, ms, kd, fa, sb, us, al, ar, vl, rc, ak, md, hs, gd, cu, nx)) (h1 : zz_mc kd Z ≠ Q → wY_make_99 post k a b (nI N) (nI R) (nI Q) (nI C) (nI Z) (nI L) ms kd fa sb us al ar vl rc ak md hs gd cu nx) (hQ : Q ≤ 7) (hM : zz_mc kd Z ≤ 7) : wY_make_80 post k a b (nI N) (nI R) (nI Q) (nI C) (nI Z) (nI L) ms kd fa sb us al ar vl rc ak md hs gd cu nx := by
  unfold wY_make_80
  exact ya_count1 hZ (pk_eq (zz_mc kd Z) Q h0 h1)
end
end
section
/-! ===== make on both sides ===== -/
section
variable {N R Q C Z M L : Nat} {sm lf gf : Int32} {gl gh tl th ul uh : Int64} {kd fa sb mr al ar wv wr : Nat → Int32} {el eh nl nh il ih ll lh wd wl wh : Nat → Int64}
variable {ms : Int32} {us vl rc ak md hs gd cu nx : Nat → Int32}
theorem zz_K_n {k a b : Int32} {lo hi : Int64} (K : zz_K N R Q C Z M L sm lf gf gl gh kd fa sb mr al ar wv wr el eh nl nh il ih ll lh wd wl wh us vl rc ak) (hC : Z < C) (hk : ¬ (k = 6 ∨ k = 7)) (NZ : zz_no N R (upd kd Z k) (upd fa Z a) (upd sb Z b) (vp_updL el Z lo) (vp_updL eh Z hi) mr nl nh il ih Z) : zz_K N R Q C (Z + 1) M L sm lf gf gl gh (upd kd Z k) (upd fa Z a) (upd sb Z b) mr al ar wv wr (vp_updL el Z lo) (vp_updL eh Z hi) nl nh il ih ll lh wd wl wh us vl rc ak := by
  obtain ⟨⟨p1, p2, p3, p4, p5, p6, p7, p8, p9, p10, p11, p12⟩, eM, NO, NM, A, W, F⟩ := K
  have E : ∀ h, h < Z → vp_updL el Z lo h = el h ∧ vp_updL eh Z hi h = eh h := fun h hh => ⟨pk_uLn (by omega), pk_uLn (by omega)⟩
  refine ⟨⟨p1, p2, p3, p4, p5, p6, p7, p8, by omega, by omega, p11, p12⟩, ?_, fun h hh => ?_, fun j hj => ?_, zz_axi_c A, fun i hi' => zz_wki_c (by omega) E (W i hi'), zz_fresh_c A (by omega) E F⟩
  · rw [zz_mcf (by rw [pk_us]; exact hk), ← eM]
    exact zz_mcg (fun h hh => pk_un (by omega))
  · rcases Nat.lt_or_ge h Z with z | z
    · exact zz_no_c z (fun j hj => ⟨pk_un (by omega), pk_un (by omega), pk_un (by omega), (E j hj).1, (E j hj).2⟩) (fun m hm => ⟨rfl, rfl, rfl, rfl, rfl⟩) (NO h z)
    · rw [show h = Z by omega]
      exact NZ
  · rw [pk_un (by omega), pk_un (by omega)]
    exact NM j hj
theorem zz_K_m {k a b : Int32} {lo hi : Int64} {mr' : Nat → Int32} {nl' nh' il' ih' : Nat → Int64} (K : zz_K N R Q C Z M L sm lf gf gl gh kd fa sb mr al ar wv wr el eh nl nh il ih ll lh wd wl wh us vl rc ak) (hC : Z < C) (hQ : M < Q) (hk : k = 6 ∨ k = 7) (EM : ∀ m, m < M → mr' m = mr m ∧ nl' m = nl m ∧ nh' m = nh m ∧ il' m = il m ∧ ih' m = ih m) (NZ : zz_no N R (upd kd Z k) (upd fa Z a) (upd sb Z b) (vp_updL el Z lo) (vp_updL eh Z hi) mr' nl' nh' il' ih' Z) : zz_K N R Q C (Z + 1) (M + 1) L sm 0 0 gl gh (upd kd Z k) (upd fa Z a) (upd sb Z b) mr' al ar wv wr (vp_updL el Z lo) (vp_updL eh Z hi) nl' nh' il' ih' ll lh wd wl wh us vl rc ak := by
  obtain ⟨⟨p1, p2, p3, p4, p5, p6, p7, p8, p9, p10, p11, p12⟩, eM, NO, NM, A, W, F⟩ := K
  have E : ∀ h, h < Z → vp_updL el Z lo h = el h ∧ vp_updL eh Z hi h = eh h := fun h hh => ⟨pk_uLn (by omega), pk_uLn (by omega)⟩
  refine ⟨⟨p1, p2, p3, p4, p5, p6, p7, p8, by omega, by omega, by omega, p12⟩, ?_, fun h hh => ?_, fun j hj => ?_, zz_axi_c A, fun i hi' => zz_wki_c (by omega) E (W i hi'), Or.inl ⟨rfl, rfl⟩⟩
  · rw [zz_mct (by rw [pk_us]; exact hk), ← eM]
    exact congrArg (fun z => z + 1) (zz_mcg (fun h hh => pk_un (by omega)))
  · rcases Nat.lt_or_ge h Z with z | z
    · exact zz_no_c z (fun j hj => ⟨pk_un (by omega), pk_un (by omega), pk_un (by omega), (E j hj).1, (E j hj).2⟩) (fun m hm => EM m (by omega)) (NO h z)
    · rw [show h = Z by omega]
      exact NZ
  · rw [pk_un (by omega), pk_un (by omega)]
    exact NM j hj
theorem zz_make {post : Int32 → SX → Prop} {k a b : Int32} (K : zz_K N R Q C Z M L sm lf gf gl gh kd fa sb mr al ar wv wr el eh nl nh il ih ll lh wd wl wh us vl rc ak) (VA : zz_va N Z k a b ∨ zz_vm R Z k a b) (KK : ∀ (r : Int32) (Z' M' : Nat) (lf' gf' : Int32) (kd' fa' sb' mr' : Nat → Int32) (el' eh' nl' nh' il' ih' : Nat → Int64), (∀ postY : Int32 → SY → Prop, postY r (nI N, nI R, nI Q, nI C, nI Z', nI L, ms, kd', fa', sb', us, al, ar, vl, rc, ak, md, hs, gd, cu, nx) → wpY_make postY (nI N, nI R, nI Q, nI C, nI Z, nI L, ms, kd, fa, sb, us, al, ar, vl, rc, ak, md, hs, gd, cu, nx) k a b) → zz_K N R Q C Z' M' L sm lf' gf' gl gh kd' fa' sb' mr' al ar wv wr el' eh' nl' nh' il' ih' ll lh wd wl wh us vl rc ak → post r (nI N, nI R, nI Q, nI C, nI Z', nI M', sm, lf', gf', gl, gh, tl, th, nI L, ul, uh, kd', fa', sb', el', eh', mr', nl', nh', il', ih', al, ar, ll, lh, wv, wr, wd, wl, wh)) : wpX_make post (nI N, nI R, nI Q, nI C, nI Z, nI M, sm, lf, gf, gl, gh, tl, th, nI L, ul, uh, kd, fa, sb, el, eh, mr, nl, nh, il, ih, al, ar, ll, lh, wv, wr, wd, wl, wh) k a b := by
  have K0 := K
  obtain ⟨⟨p1, p2, p3, p4, p5, p6, p7, p8, p9, p10, p11, p12⟩, eM, NO, NM, A, W, F⟩ := K
  unfold wpX_make
  refine xa_find (by omega) (fun h hh hm hn => ?_) (fun hn => ?_)
  · refine br_f (nI_pos (by omega)) (KK (nI h) Z M lf gf kd fa sb mr el eh nl nh il ih (fun postY HY => ya_make (by omega) (fun h' hh' hm' hn' => ?_) (fun hn' => absurd hm (hn' h hh))) K0)
    rcases Nat.lt_trichotomy h h' with z | z | z
    · exact absurd hm (hn' h z)
    · rw [← z]
      exact HY
    · exact absurd hm' (hn h' z)
  · refine br_t (by decide) (pk_lt Z C (fun hC => ?_) (fun hC => ?_))
    · have hCZ : ¬ nI Z = nI C := fun e => absurd ((nI_eq (by omega) (by omega)).mp e) (by omega)
      rcases VA with VA | VM
      · have hk : ¬ (k = 6 ∨ k = 7) := by
          rcases VA with e | e | ⟨e, _⟩ | ⟨e, _⟩ | ⟨e, _⟩ | ⟨e, _⟩ <;> rw [e] <;> decide
        refine br_f (fun e => hk (Or.inl e)) (br_f (fun e => hk (Or.inr e)) (br_t rfl ?_))
        unfold wX_make_69
        refine xa_n (by omega) p2 VA (fun lo hi NZ => ?_)
        refine KK (nI Z) (Z + 1) M lf gf _ _ _ mr _ _ nl nh il ih (fun postY HY => ya_make (by omega) (fun h' hh' hm' hn' => absurd hm' (hn h' hh')) (fun _ => br_f hCZ (br_f (fun e => hk (Or.inl e)) (br_f (fun e => hk (Or.inr e)) (ya_m99 (by omega) HY))))) (zz_K_n K0 hC hk NZ)
      · have hk := VM.1
        have G : wX_make_43 post k a b (nI N) (nI R) (nI Q) (nI C) (nI Z) (nI M) sm lf gf gl gh tl th (nI L) ul uh kd fa sb el eh mr nl nh il ih al ar ll lh wv wr wd wl wh := by
          refine br_f (by decide) (pk_lt M Q (fun hQ => ?_) (fun hQ => ?_))
          · unfold wX_make_69
            refine xa_m (by omega) (by omega) eM VM (fun lo hi mr' nl' nh' il' ih' EM NZ => ?_)
            refine KK (nI Z) (Z + 1) (M + 1) 0 0 _ _ _ mr' _ _ nl' nh' il' ih' (fun postY HY => ya_make (by omega) (fun h' hh' hm' hn' => absurd hm' (hn h' hh')) (fun _ => br_f hCZ ?_)) (zz_K_m K0 hC hQ hk EM NZ)
            have t : wY_make_80 postY k a b (nI N) (nI R) (nI Q) (nI C) (nI Z) (nI L) ms kd fa sb us al ar vl rc ak md hs gd cu nx := ya_m80 (by omega) (fun e => absurd e (by omega)) (fun _ => ya_m99 (by omega) HY) (by omega) (by omega)
            exact br_c (fun _ => t) (fun e6 => br_c (fun _ => t) (fun e7 => absurd hk (fun w => w.elim e6 e7)))
          · refine KK (-3) Z M lf gf kd fa sb mr el eh nl nh il ih (fun postY HY => ya_make (by omega) (fun h' hh' hm' hn' => absurd hm' (hn h' hh')) (fun _ => br_f hCZ ?_)) K0
            have t : wY_make_80 postY k a b (nI N) (nI R) (nI Q) (nI C) (nI Z) (nI L) ms kd fa sb us al ar vl rc ak md hs gd cu nx := ya_m80 (by omega) (fun _ => HY) (fun e => absurd (show zz_mc kd Z = Q by omega) e) (by omega) (by omega)
            exact br_c (fun _ => t) (fun e6 => br_c (fun _ => t) (fun e7 => absurd hk (fun w => w.elim e6 e7)))
        exact br_c (fun _ => G) (fun e6 => br_c (fun _ => G) (fun e7 => absurd hk (fun w => w.elim e6 e7)))
    · refine KK (-2) Z M lf gf kd fa sb mr el eh nl nh il ih (fun postY HY => ya_make (by omega) (fun h' hh' hm' hn' => absurd hm' (hn h' hh')) (fun _ => br_t (congrArg nI (show Z = C by omega)) HY)) K0
/-! ===== what is asked of the arguments ===== -/
theorem xv_v0 {post : Int32 → Prop} {x : Int32} (h : x < 0 ∨ nI Z ≤ x) (H : post 0) : wpX_valid post (nI N, nI R, nI Q, nI C, nI Z, nI M, sm, lf, gf, gl, gh, tl, th, nI L, ul, uh, kd, fa, sb, el, eh, mr, nl, nh, il, ih, al, ar, ll, lh, wv, wr, wd, wl, wh) x :=
  br_c (fun _ => H) (fun e => br_t (h.elim (fun w => absurd w e) id) H)
theorem xv_v1 {post : Int32 → Prop} {c : Nat} (hZ : Z ≤ 48) (hc : c < Z) (H : post 1) : wpX_valid post (nI N, nI R, nI Q, nI C, nI Z, nI M, sm, lf, gf, gl, gh, tl, th, nI L, ul, uh, kd, fa, sb, el, eh, mr, nl, nh, il, ih, al, ar, ll, lh, wv, wr, wd, wl, wh) (nI c) :=
  br_f (nI_pos (by omega)) (br_f (nI_ge hc (by omega)) H)
theorem yv_v0 {post : Int32 → Prop} {x : Int32} (h : x < 0 ∨ nI Z ≤ x) (H : post 0) : wpY_valid post (nI N, nI R, nI Q, nI C, nI Z, nI L, ms, kd, fa, sb, us, al, ar, vl, rc, ak, md, hs, gd, cu, nx) x :=
  br_c (fun _ => H) (fun e => br_t (h.elim (fun w => absurd w e) id) H)
theorem yv_v1 {post : Int32 → Prop} {c : Nat} (hZ : Z ≤ 48) (hc : c < Z) (H : post 1) : wpY_valid post (nI N, nI R, nI Q, nI C, nI Z, nI L, ms, kd, fa, sb, us, al, ar, vl, rc, ak, md, hs, gd, cu, nx) (nI c) :=
  br_f (nI_pos (by omega)) (br_f (nI_ge hc (by omega)) H)
theorem zz_2R : (2 : Int32) * nI R = nI (2 * R) := pk_mul 2 R
theorem xv_r0 {post : Int32 → Prop} {x : Int32} (h : x < 0 ∨ nI (2 * R) ≤ x) (H : post 0) : wpX_validRole post (nI N, nI R, nI Q, nI C, nI Z, nI M, sm, lf, gf, gl, gh, tl, th, nI L, ul, uh, kd, fa, sb, el, eh, mr, nl, nh, il, ih, al, ar, ll, lh, wv, wr, wd, wl, wh) x :=
  br_c (fun _ => H) (fun e => br_t (by rw [zz_2R]; exact h.elim (fun w => absurd w e) id) H)
theorem xv_r1 {post : Int32 → Prop} {c : Nat} (hR : R ≤ 2) (hc : c < 2 * R) (H : post 1) : wpX_validRole post (nI N, nI R, nI Q, nI C, nI Z, nI M, sm, lf, gf, gl, gh, tl, th, nI L, ul, uh, kd, fa, sb, el, eh, mr, nl, nh, il, ih, al, ar, ll, lh, wv, wr, wd, wl, wh) (nI c) :=
  br_f (nI_pos (by omega)) (br_f (by rw [zz_2R]; exact nI_ge hc (by omega)) H)
theorem yv_r0 {post : Int32 → Prop} {x : Int32} (h : x < 0 ∨ nI (2 * R) ≤ x) (H : post 0) : wpY_validRole post (nI N, nI R, nI Q, nI C, nI Z, nI L, ms, kd, fa, sb, us, al, ar, vl, rc, ak, md, hs, gd, cu, nx) x :=
  br_c (fun _ => H) (fun e => br_t (by rw [zz_2R]; exact h.elim (fun w => absurd w e) id) H)
theorem yv_r1 {post : Int32 → Prop} {c : Nat} (hR : R ≤ 2) (hc : c < 2 * R) (H : post 1) : wpY_validRole post (nI N, nI R, nI Q, nI C, nI Z, nI L, ms, kd, fa, sb, us, al, ar, vl, rc, ak, md, hs, gd, cu, nx) (nI c) :=
  br_f (nI_pos (by omega)) (br_f (by rw [zz_2R]; exact nI_ge hc (by omega)) H)
theorem xv_p0 {post : Int32 → Prop} {x : Int32} (h : x < 0 ∨ nI L ≤ x) (H : post 0) : wpX_validPosition post (nI N, nI R, nI Q, nI C, nI Z, nI M, sm, lf, gf, gl, gh, tl, th, nI L, ul, uh, kd, fa, sb, el, eh, mr, nl, nh, il, ih, al, ar, ll, lh, wv, wr, wd, wl, wh) x :=
  br_c (fun _ => H) (fun e => br_t (h.elim (fun w => absurd w e) id) H)
theorem xv_p1 {post : Int32 → Prop} {c : Nat} (hL : L ≤ 8) (hc : c < L) (H : post 1) : wpX_validPosition post (nI N, nI R, nI Q, nI C, nI Z, nI M, sm, lf, gf, gl, gh, tl, th, nI L, ul, uh, kd, fa, sb, el, eh, mr, nl, nh, il, ih, al, ar, ll, lh, wv, wr, wd, wl, wh) (nI c) :=
  br_f (nI_pos (by omega)) (br_f (nI_ge hc (by omega)) H)
theorem yv_p0 {post : Int32 → Prop} {x : Int32} (h : x < 0 ∨ nI L ≤ x) (H : post 0) : wpY_validPosition post (nI N, nI R, nI Q, nI C, nI Z, nI L, ms, kd, fa, sb, us, al, ar, vl, rc, ak, md, hs, gd, cu, nx) x :=
  br_c (fun _ => H) (fun e => br_t (h.elim (fun w => absurd w e) id) H)
theorem yv_p1 {post : Int32 → Prop} {c : Nat} (hL : L ≤ 8) (hc : c < L) (H : post 1) : wpY_validPosition post (nI N, nI R, nI Q, nI C, nI Z, nI L, ms, kd, fa, sb, us, al, ar, vl, rc, ak, md, hs, gd, cu, nx) (nI c) :=
  br_f (nI_pos (by omega)) (br_f (nI_ge hc (by omega)) H)
theorem zz_cas (x : Int32) {n : Nat} (hn : n < 2 ^ 31) : (x < 0 ∨ nI n ≤ x) ∨ ∃ j : Nat, j < n ∧ x = nI j := by
  rcases pk_ix x hn with h | h | h
  · exact Or.inl (Or.inl h)
  · exact Or.inl (Or.inr h)
  · exact Or.inr h
end
end
section
/-! ===== the calls that make nodes ===== -/
theorem i_vc_negate {k : Nat} {u : SX} {v : SY} (I : i_Rel k u v) (hk : k + 3 ≤ 1540) (v1 : Int32) : wpX_negate (fun r u' => wpY_negate (fun r' v' => r' = r ∧ i_Rel (k + 3) u' v') v v1) u v1 := by
  refine zz_el (P := fun u v => wpX_negate (fun r u2 => wpY_negate (fun r2 v2 => r2 = r ∧ i_Rel (k + 3) u2 v2) v v1) u v1) ?_ I
  intro N R Q C Z M L sm lf gf gl gh tl th ul uh kd fa sb mr al ar wv wr el eh nl nh il ih ll lh wd wl wh ms us vl rc ak md hs gd cu nx K
  obtain ⟨p1, p2, p3, p4, p5, p6, p7, p8, p9, p10, p11, p12⟩ := K.1
  rcases zz_cas v1 (n := Z) (by omega) with h1 | ⟨c, hc, rfl⟩
  · unfold wpX_negate
    refine xv_v0 h1 (br_t rfl ?_)
    unfold wpY_negate
    exact yv_v0 h1 (br_t rfl ⟨rfl, zz_in K⟩)
  · unfold wpX_negate
    refine xv_v1 (by omega) hc (br_f (by decide) ?_)
    refine zz_make (ms := ms) (md := md) (hs := hs) (gd := gd) (cu := cu) (nx := nx) K (Or.inl (Or.inr (Or.inr (Or.inr (Or.inl ⟨rfl, c, hc, rfl⟩))))) (fun r Z' M' lf' gf' kd' fa' sb' mr' el' eh' nl' nh' il' ih' HY K' => ?_)
    unfold wpY_negate
    exact yv_v1 (by omega) hc (br_f (by decide) (HY _ ⟨rfl, zz_in K'⟩))
theorem i_vc_and {k : Nat} {u : SX} {v : SY} (I : i_Rel k u v) (hk : k + 3 ≤ 1540) (v1 : Int32) (v2 : Int32) : wpX_and (fun r u' => wpY_and (fun r' v' => r' = r ∧ i_Rel (k + 3) u' v') v v1 v2) u v1 v2 := by
  refine zz_el (P := fun u v => wpX_and (fun r u2 => wpY_and (fun r2 v2 => r2 = r ∧ i_Rel (k + 3) u2 v2) v v1 v2) u v1 v2) ?_ I
  intro N R Q C Z M L sm lf gf gl gh tl th ul uh kd fa sb mr al ar wv wr el eh nl nh il ih ll lh wd wl wh ms us vl rc ak md hs gd cu nx K
  obtain ⟨p1, p2, p3, p4, p5, p6, p7, p8, p9, p10, p11, p12⟩ := K.1
  rcases zz_cas v1 (n := Z) (by omega) with h1 | ⟨c, hc, rfl⟩
  · unfold wpX_and
    refine xv_v0 h1 (br_t rfl ?_)
    unfold wpY_and
    exact yv_v0 h1 (br_t rfl ⟨rfl, zz_in K⟩)
  · rcases zz_cas v2 (n := Z) (by omega) with h2 | ⟨d, hd, rfl⟩
    · unfold wpX_and
      refine xv_v1 (by omega) hc (br_f (by decide) (xv_v0 h2 (br_t rfl ?_)))
      unfold wpY_and
      exact yv_v1 (by omega) hc (br_f (by decide) (yv_v0 h2 (br_t rfl ⟨rfl, zz_in K⟩)))
    · unfold wpX_and
      refine xv_v1 (by omega) hc (br_f (by decide) (xv_v1 (by omega) hd (br_f (by decide) ?_)))
      refine zz_make (ms := ms) (md := md) (hs := hs) (gd := gd) (cu := cu) (nx := nx) K (Or.inl (Or.inr (Or.inr (Or.inr (Or.inr (Or.inl ⟨rfl, c, d, hc, hd, rfl, rfl⟩)))))) (fun r Z' M' lf' gf' kd' fa' sb' mr' el' eh' nl' nh' il' ih' HY K' => ?_)
      unfold wpY_and
      exact yv_v1 (by omega) hc (br_f (by decide) (yv_v1 (by omega) hd (br_f (by decide) (HY _ ⟨rfl, zz_in K'⟩))))
theorem i_vc_or {k : Nat} {u : SX} {v : SY} (I : i_Rel k u v) (hk : k + 3 ≤ 1540) (v1 : Int32) (v2 : Int32) : wpX_or (fun r u' => wpY_or (fun r' v' => r' = r ∧ i_Rel (k + 3) u' v') v v1 v2) u v1 v2 := by
  refine zz_el (P := fun u v => wpX_or (fun r u2 => wpY_or (fun r2 v2 => r2 = r ∧ i_Rel (k + 3) u2 v2) v v1 v2) u v1 v2) ?_ I
  intro N R Q C Z M L sm lf gf gl gh tl th ul uh kd fa sb mr al ar wv wr el eh nl nh il ih ll lh wd wl wh ms us vl rc ak md hs gd cu nx K
  obtain ⟨p1, p2, p3, p4, p5, p6, p7, p8, p9, p10, p11, p12⟩ := K.1
  rcases zz_cas v1 (n := Z) (by omega) with h1 | ⟨c, hc, rfl⟩
  · unfold wpX_or
    refine xv_v0 h1 (br_t rfl ?_)
    unfold wpY_or
    exact yv_v0 h1 (br_t rfl ⟨rfl, zz_in K⟩)
  · rcases zz_cas v2 (n := Z) (by omega) with h2 | ⟨d, hd, rfl⟩
    · unfold wpX_or
      refine xv_v1 (by omega) hc (br_f (by decide) (xv_v0 h2 (br_t rfl ?_)))
      unfold wpY_or
      exact yv_v1 (by omega) hc (br_f (by decide) (yv_v0 h2 (br_t rfl ⟨rfl, zz_in K⟩)))
    · unfold wpX_or
      refine xv_v1 (by omega) hc (br_f (by decide) (xv_v1 (by omega) hd (br_f (by decide) ?_)))
      refine zz_make (ms := ms) (md := md) (hs := hs) (gd := gd) (cu := cu) (nx := nx) K (Or.inl (Or.inr (Or.inr (Or.inr (Or.inr (Or.inr ⟨rfl, c, d, hc, hd, rfl, rfl⟩)))))) (fun r Z' M' lf' gf' kd' fa' sb' mr' el' eh' nl' nh' il' ih' HY K' => ?_)
      unfold wpY_or
      exact yv_v1 (by omega) hc (br_f (by decide) (yv_v1 (by omega) hd (br_f (by decide) (HY _ ⟨rfl, zz_in K'⟩))))
theorem i_vc_some {k : Nat} {u : SX} {v : SY} (I : i_Rel k u v) (hk : k + 3 ≤ 1540) (v1 : Int32) (v2 : Int32) : wpX_some (fun r u' => wpY_some (fun r' v' => r' = r ∧ i_Rel (k + 3) u' v') v v1 v2) u v1 v2 := by
  refine zz_el (P := fun u v => wpX_some (fun r u2 => wpY_some (fun r2 v2 => r2 = r ∧ i_Rel (k + 3) u2 v2) v v1 v2) u v1 v2) ?_ I
  intro N R Q C Z M L sm lf gf gl gh tl th ul uh kd fa sb mr al ar wv wr el eh nl nh il ih ll lh wd wl wh ms us vl rc ak md hs gd cu nx K
  obtain ⟨p1, p2, p3, p4, p5, p6, p7, p8, p9, p10, p11, p12⟩ := K.1
  rcases zz_cas v1 (n := 2 * R) (by omega) with h1 | ⟨c, hc, rfl⟩
  · unfold wpX_some
    refine xv_r0 h1 (br_t rfl ?_)
    unfold wpY_some
    exact yv_r0 h1 (br_t rfl ⟨rfl, zz_in K⟩)
  · rcases zz_cas v2 (n := Z) (by omega) with h2 | ⟨d, hd, rfl⟩
    · unfold wpX_some
      refine xv_r1 p4 hc (br_f (by decide) (xv_v0 h2 (br_t rfl ?_)))
      unfold wpY_some
      exact yv_r1 p4 hc (br_f (by decide) (yv_v0 h2 (br_t rfl ⟨rfl, zz_in K⟩)))
    · unfold wpX_some
      refine xv_r1 p4 hc (br_f (by decide) (xv_v1 (by omega) hd (br_f (by decide) ?_)))
      refine zz_make (ms := ms) (md := md) (hs := hs) (gd := gd) (cu := cu) (nx := nx) K (Or.inr ⟨Or.inl rfl, c, d, hc, hd, rfl, rfl⟩) (fun r Z' M' lf' gf' kd' fa' sb' mr' el' eh' nl' nh' il' ih' HY K' => ?_)
      unfold wpY_some
      exact yv_r1 p4 hc (br_f (by decide) (yv_v1 (by omega) hd (br_f (by decide) (HY _ ⟨rfl, zz_in K'⟩))))
theorem i_vc_all {k : Nat} {u : SX} {v : SY} (I : i_Rel k u v) (hk : k + 3 ≤ 1540) (v1 : Int32) (v2 : Int32) : wpX_all (fun r u' => wpY_all (fun r' v' => r' = r ∧ i_Rel (k + 3) u' v') v v1 v2) u v1 v2 := by
  refine zz_el (P := fun u v => wpX_all (fun r u2 => wpY_all (fun r2 v2 => r2 = r ∧ i_Rel (k + 3) u2 v2) v v1 v2) u v1 v2) ?_ I
  intro N R Q C Z M L sm lf gf gl gh tl th ul uh kd fa sb mr al ar wv wr el eh nl nh il ih ll lh wd wl wh ms us vl rc ak md hs gd cu nx K
  obtain ⟨p1, p2, p3, p4, p5, p6, p7, p8, p9, p10, p11, p12⟩ := K.1
  rcases zz_cas v1 (n := 2 * R) (by omega) with h1 | ⟨c, hc, rfl⟩
  · unfold wpX_all
    refine xv_r0 h1 (br_t rfl ?_)
    unfold wpY_all
    exact yv_r0 h1 (br_t rfl ⟨rfl, zz_in K⟩)
  · rcases zz_cas v2 (n := Z) (by omega) with h2 | ⟨d, hd, rfl⟩
    · unfold wpX_all
      refine xv_r1 p4 hc (br_f (by decide) (xv_v0 h2 (br_t rfl ?_)))
      unfold wpY_all
      exact yv_r1 p4 hc (br_f (by decide) (yv_v0 h2 (br_t rfl ⟨rfl, zz_in K⟩)))
    · unfold wpX_all
      refine xv_r1 p4 hc (br_f (by decide) (xv_v1 (by omega) hd (br_f (by decide) ?_)))
      refine zz_make (ms := ms) (md := md) (hs := hs) (gd := gd) (cu := cu) (nx := nx) K (Or.inr ⟨Or.inr rfl, c, d, hc, hd, rfl, rfl⟩) (fun r Z' M' lf' gf' kd' fa' sb' mr' el' eh' nl' nh' il' ih' HY K' => ?_)
      unfold wpY_all
      exact yv_r1 p4 hc (br_f (by decide) (yv_v1 (by omega) hd (br_f (by decide) (HY _ ⟨rfl, zz_in K'⟩))))
end
section
/-! ===== the calls that only look, and the slots ===== -/
theorem i_vc_node {k : Nat} {u : SX} {v : SY} (I : i_Rel k u v) (hk : k + 3 ≤ 1540) (v1 : Int32) (v2 : Int32) : wpX_node (fun r => wpY_node (fun r' => r' = r ∧ i_Rel (k + 3) u v) v v1 v2) u v1 v2 := by
  refine zz_el (P := fun u v => wpX_node (fun r => wpY_node (fun r2 => r2 = r ∧ i_Rel (k + 3) u v) v v1 v2) u v1 v2) ?_ I
  intro N R Q C Z M L sm lf gf gl gh tl th ul uh kd fa sb mr al ar wv wr el eh nl nh il ih ll lh wd wl wh ms us vl rc ak md hs gd cu nx K
  obtain ⟨p1, p2, p3, p4, p5, p6, p7, p8, p9, p10, p11, p12⟩ := K.1
  rcases zz_cas v1 (n := Z) (by omega) with h1 | ⟨c, hc, rfl⟩
  · unfold wpX_node wpY_node
    exact xv_v0 h1 (br_t rfl (yv_v0 h1 (br_t rfl ⟨rfl, zz_in K⟩)))
  · have V : vp_in (nI c) 48 := vp_in_nI (by omega) (by decide)
    have hZ : Z ≤ 48 := by omega
    unfold wpX_node wpY_node
    exact xv_v1 hZ hc (br_f (by decide) (br_c (fun e0 => ⟨V, yv_v1 hZ hc (br_f (by decide) (br_t e0 ⟨V, rfl, zz_in K⟩))⟩) (fun e0 => br_c (fun e1 => ⟨V, yv_v1 hZ hc (br_f (by decide) (br_f e0 (br_t e1 ⟨V, rfl, zz_in K⟩)))⟩) (fun e1 => br_c (fun e2 => ⟨V, yv_v1 hZ hc (br_f (by decide) (br_f e0 (br_f e1 (br_t e2 ⟨V, rfl, zz_in K⟩))))⟩) (fun e2 => yv_v1 hZ hc (br_f (by decide) (br_f e0 (br_f e1 (br_f e2 ⟨rfl, zz_in K⟩)))))))))
def zz_oc (sm : Int32) : Nat → Nat
  | 0 => 0
  | s + 1 => cond (bt sm s) (zz_oc sm s + 1) (zz_oc sm s)
theorem zz_oct {sm : Int32} {s : Nat} (h : bt sm s = true) : zz_oc sm (s + 1) = zz_oc sm s + 1 := by
  show cond (bt sm s) _ _ = _
  rw [h]
  rfl
theorem zz_ocf {sm : Int32} {s : Nat} (h : bt sm s = false) : zz_oc sm (s + 1) = zz_oc sm s := by
  show cond (bt sm s) _ _ = _
  rw [h]
  rfl
section
variable {N R Q C Z M L : Nat} {sm lf gf : Int32} {gl gh tl th ul uh : Int64} {kd fa sb mr al ar wv wr : Nat → Int32} {el eh nl nh il ih ll lh wd wl wh : Nat → Int64}
variable {ms : Int32} {us vl rc ak md hs gd cu nx : Nat → Int32}
theorem xo_oc {post : Int32 → Prop} {s : Nat} (hs8 : s < 8) (h0 : bt sm s = false → post 0) (h1 : bt sm s = true → post 1) : wpX_occupied post (nI N, nI R, nI Q, nI C, nI Z, nI M, sm, lf, gf, gl, gh, tl, th, nI L, ul, uh, kd, fa, sb, el, eh, mr, nl, nh, il, ih, al, ar, ll, lh, wv, wr, wd, wl, wh) (nI s) :=
  ek_if (bz_oc (by omega)) h0 (fun z => h1 (ts_nf z))
theorem xo_os4 {post : Int32 → Prop} (K : post (nI (zz_oc sm 8))) : ∀ n s : Nat, s ≤ 8 → 8 - s < n → wX_occupiedSlots_4 post (nI N) (nI R) (nI Q) (nI C) (nI Z) (nI M) sm lf gf gl gh tl th (nI L) ul uh kd fa sb el eh mr nl nh il ih al ar ll lh wv wr wd wl wh n (nI (zz_oc sm s)) (nI s) := by
  intro n
  induction n with
  | zero => intro s a b; exact absurd b (Nat.not_lt_zero _)
  | succ n IH =>
    intro s a b
    refine pk_le 8 s (fun hm => ?_) (fun hm => ?_)
    · rw [show s = 8 by omega]
      exact K
    · have IH1 := IH (s + 1) (by omega) (by omega)
      refine xo_oc hm (fun z => ?_) (fun z => ?_)
      · rw [zz_ocf z] at IH1
        exact br_t rfl (nm_r (nI_1 s) IH1)
      · rw [zz_oct z] at IH1
        exact br_f (by decide) (nm_r (nI_1 _) (nm_r (nI_1 s) IH1))
theorem yo_c66 {post : Int32 → Prop} (HU : ∀ s, s < 8 → us s = zz_i (bt sm s)) (K : post (nI (zz_oc sm 8))) : ∀ n s : Nat, s ≤ 8 → 8 - s < n → wY_count_66 post (nI N) (nI R) (nI Q) (nI C) (nI Z) (nI L) ms kd fa sb us al ar vl rc ak md hs gd cu nx n (nI (zz_oc sm s)) (nI s) := by
  intro n
  induction n with
  | zero => intro s a b; exact absurd b (Nat.not_lt_zero _)
  | succ n IH =>
    intro s a b
    refine pk_le 8 s (fun hm => ?_) (fun hm => ?_)
    · rw [show s = 8 by omega]
      exact K
    · have IH1 := IH (s + 1) (by omega) (by omega)
      rw [nI_clamp (n := s) (by omega), HU s hm]
      refine ⟨vp_in_nI hm (by decide), ek_if zz_i0 (fun z => ?_) (fun z => ?_)⟩
      · rw [zz_ocf z] at IH1
        exact nm_r (nI_1 s) IH1
      · rw [zz_oct (ts_nf z)] at IH1
        exact nm_r (nI_1 _) (nm_r (nI_1 s) IH1)
theorem xo_inc {post : Int32 → SX → Prop} {c d : Int32} (h1 : ∀ s, s < 8 → bt sm s = false → (∀ j, j < s → bt sm j = true) → post (nI s) (nI N, nI R, nI Q, nI C, nI Z, nI M, sm ||| ((1 : Int32) <<< (nI s &&& 31)), lf, 0, gl, gh, tl, th, 0, ul, uh, kd, fa, sb, el, eh, mr, nl, nh, il, ih, upd al s c, upd ar s d, ll, lh, wv, wr, wd, wl, wh)) (h0 : (∀ j, j < 8 → bt sm j = true) → post (-2) (nI N, nI R, nI Q, nI C, nI Z, nI M, sm, lf, gf, gl, gh, tl, th, nI L, ul, uh, kd, fa, sb, el, eh, mr, nl, nh, il, ih, al, ar, ll, lh, wv, wr, wd, wl, wh)) : ∀ n s : Nat, s ≤ 8 → 8 - s < n → (∀ j, j < s → bt sm j = true) → wX_include_20 post c d (nI N) (nI R) (nI Q) (nI C) (nI Z) (nI M) sm lf gf gl gh tl th (nI L) ul uh kd fa sb el eh mr nl nh il ih al ar ll lh wv wr wd wl wh n (nI s) := by
  intro n
  induction n with
  | zero => intro s a b; exact absurd b (Nat.not_lt_zero _)
  | succ n IH =>
    intro s a b H
    refine pk_le 8 s (fun hm => ?_) (fun hm => ?_)
    · exact h0 (fun j hj => H j (by omega))
    · have V : vp_in (nI s) 8 := vp_in_nI hm (by decide)
      refine xo_oc hm (fun z => ?_) (fun z => ?_)
      · rw [nI_clamp (n := s) (by omega)]
        exact br_t rfl ⟨V, nm_e ⟨V, nm_e (nm_e (h1 s hm z H))⟩⟩
      · refine br_f (by decide) (nm_r (nI_1 s) (IH (s + 1) (by omega) (by omega) (fun j hj => ?_)))
        rcases Nat.lt_or_ge j s with y | y
        · exact H j y
        · rw [show j = s by omega]
          exact z
theorem yo_inc {post : Int32 → SY → Prop} {c d : Int32} (HU : ∀ s, s < 8 → us s = zz_i (bt sm s)) (h1 : ∀ s, s < 8 → bt sm s = false → (∀ j, j < s → bt sm j = true) → post (nI s) (nI N, nI R, nI Q, nI C, nI Z, 0, ms, kd, fa, sb, upd us s (vp_nar .boolean 1), upd al s c, upd ar s d, vl, rc, ak, md, hs, gd, cu, nx)) (h0 : (∀ j, j < 8 → bt sm j = true) → post (-2) (nI N, nI R, nI Q, nI C, nI Z, nI L, ms, kd, fa, sb, us, al, ar, vl, rc, ak, md, hs, gd, cu, nx)) : ∀ n s : Nat, s ≤ 8 → 8 - s < n → (∀ j, j < s → bt sm j = true) → wY_include_20 post c d (nI N) (nI R) (nI Q) (nI C) (nI Z) (nI L) ms kd fa sb us al ar vl rc ak md hs gd cu nx n (nI s) := by
  intro n
  induction n with
  | zero => intro s a b; exact absurd b (Nat.not_lt_zero _)
  | succ n IH =>
    intro s a b H
    refine pk_le 8 s (fun hm => ?_) (fun hm => ?_)
    · exact h0 (fun j hj => H j (by omega))
    · have V : vp_in (nI s) 8 := vp_in_nI hm (by decide)
      rw [nI_clamp (n := s) (by omega), HU s hm]
      refine ⟨V, ek_if zz_i0 (fun z => ?_) (fun z => ?_)⟩
      · exact ⟨V, nm_e ⟨V, nm_e ⟨V, nm_e (h1 s hm z H)⟩⟩⟩
      · refine nm_r (nI_1 s) (IH (s + 1) (by omega) (by omega) (fun j hj => ?_))
        rcases Nat.lt_or_ge j s with y | y
        · exact H j y
        · rw [show j = s by omega]
          exact ts_nf z
theorem zz_fresh_g {al' ar' : Nat → Int32} {sm' : Int32} (F : zz_fresh N R M sm lf gf gl gh mr nl nh il ih al ar el eh ll lh) : zz_fresh N R M sm' lf 0 gl gh mr nl nh il ih al' ar' el eh ll lh := by
  rcases F with ⟨h1, h2⟩ | ⟨h1, h2, h3⟩
  · exact Or.inl ⟨h1, rfl⟩
  · exact Or.inr ⟨h1, h2, Or.inl rfl⟩
theorem zz_K_inc {s c d : Nat} (K : zz_K N R Q C Z M L sm lf gf gl gh kd fa sb mr al ar wv wr el eh nl nh il ih ll lh wd wl wh us vl rc ak) (hs8 : s < 8) (hc : c < Z) (hd : d < Z) : zz_K N R Q C Z M 0 (sm ||| ((1 : Int32) <<< (nI s &&& 31))) lf 0 gl gh kd fa sb mr (upd al s (nI c)) (upd ar s (nI d)) wv wr el eh nl nh il ih ll lh wd wl wh (upd us s (vp_nar .boolean 1)) vl rc ak := by
  obtain ⟨⟨p1, p2, p3, p4, p5, p6, p7, p8, p9, p10, p11, p12⟩, eM, NO, NM, ⟨A1, A2, A3⟩, W, F⟩ := K
  refine ⟨⟨p1, p2, p3, p4, p5, p6, p7, p8, p9, p10, p11, by omega⟩, eM, NO, NM, ⟨fun j hj => ?_, fun j hj => ?_, fun j hj hb => ?_⟩, fun i hi => absurd hi (Nat.not_lt_zero _), zz_fresh_g F⟩
  · rw [bz_set (by omega)]
    by_cases e : j = s
    · rw [e, pk_us, decide_eq_true rfl, Bool.or_true]
      rfl
    · rw [pk_un e, decide_eq_false e, Bool.or_false]
      exact A1 j hj
  · rw [bz_set (by omega), A2 j hj, decide_eq_false (by omega)]
    rfl
  · by_cases e : j = s
    · rw [e, pk_us, pk_us]
      exact ⟨c, d, hc, hd, rfl, rfl⟩
    · rw [bz_set (by omega), decide_eq_false e, Bool.or_false] at hb
      rw [pk_un e, pk_un e]
      exact A3 j hj hb
theorem zz_K_ret {s : Nat} (K : zz_K N R Q C Z M L sm lf gf gl gh kd fa sb mr al ar wv wr el eh nl nh il ih ll lh wd wl wh us vl rc ak) (hs8 : s < 8) : zz_K N R Q C Z M 0 (sm &&& (((1 : Int32) <<< (nI s &&& 31)) ^^^ (-1))) lf 0 gl gh kd fa sb mr al ar wv wr el eh nl nh il ih ll lh wd wl wh (upd us s (vp_nar .boolean 0)) vl rc ak := by
  obtain ⟨⟨p1, p2, p3, p4, p5, p6, p7, p8, p9, p10, p11, p12⟩, eM, NO, NM, ⟨A1, A2, A3⟩, W, F⟩ := K
  refine ⟨⟨p1, p2, p3, p4, p5, p6, p7, p8, p9, p10, p11, by omega⟩, eM, NO, NM, ⟨fun j hj => ?_, fun j hj => ?_, fun j hj hb => ?_⟩, fun i hi => absurd hi (Nat.not_lt_zero _), zz_fresh_g F⟩
  · rw [bz_clr (by omega)]
    by_cases e : j = s
    · rw [e, pk_us, decide_eq_true rfl, Bool.not_true, Bool.and_false]
      rfl
    · rw [pk_un e, decide_eq_false e, Bool.not_false, Bool.and_true]
      exact A1 j hj
  · rw [bz_clr (by omega), A2 j hj, Bool.false_and]
  · rw [bz_clr (by omega), Bool.and_eq_true] at hb
    exact A3 j hj hb.1
end
theorem i_vc_count {k : Nat} {u : SX} {v : SY} (I : i_Rel k u v) (hk : k + 3 ≤ 1540) (v1 : Int32) : wpX_count (fun r => wpY_count (fun r' => r' = r ∧ i_Rel (k + 3) u v) v v1) u v1 := by
  refine zz_el (P := fun u v => wpX_count (fun r => wpY_count (fun r2 => r2 = r ∧ i_Rel (k + 3) u v) v v1) u v1) ?_ I
  intro N R Q C Z M L sm lf gf gl gh tl th ul uh kd fa sb mr al ar wv wr el eh nl nh il ih ll lh wd wl wh ms us vl rc ak md hs gd cu nx K
  obtain ⟨p1, p2, p3, p4, p5, p6, p7, p8, p9, p10, p11, p12⟩ := K.1
  rcases zz_cas v1 (n := 8) (by omega) with h1 | ⟨j, hj, rfl⟩
  · have ne : ∀ j, j < 8 → ¬ v1 = nI j := by
      intro j hj e
      rw [e] at h1
      rcases h1 with w | w
      · exact absurd w (nI_pos (by omega))
      · exact absurd w (nI_ge hj (by omega))
    unfold wpX_count wpY_count
    have G : ∀ A : Prop, A → ((v1 = 0 → False) ∧ (v1 = 1 → False) ∧ (v1 = 2 → False) ∧ (v1 = 3 → False) ∧ (v1 = 4 → False) ∧ (v1 = 5 → False) ∧ (v1 = 6 → False) ∧ (v1 = 7 → False)) := fun _ _ => ⟨ne 0 (by decide), ne 1 (by decide), ne 2 (by decide), ne 3 (by decide), ne 4 (by decide), ne 5 (by decide), ne 6 (by decide), ne 7 (by decide)⟩
    obtain ⟨n0, n1, n2, n3, n4, n5, n6, n7⟩ := G True trivial
    exact br_c (fun _ => br_f n0 (br_f n1 (br_f n2 (br_f n3 (br_f n4 (br_f n5 (br_f n6 (br_f n7 ⟨rfl, zz_in K⟩)))))))) (fun e => br_t (Int32.lt_of_lt_of_le (by decide) (h1.elim (fun w => absurd w e) id)) (br_f n0 (br_f n1 (br_f n2 (br_f n3 (br_f n4 (br_f n5 (br_f n6 (br_f n7 ⟨rfl, zz_in K⟩)))))))))
  · have K1 := K
    obtain ⟨-, eM, NO, NM, A, W, F⟩ := K
    have hj2 : j = 0 ∨ j = 1 ∨ j = 2 ∨ j = 3 ∨ j = 4 ∨ j = 5 ∨ j = 6 ∨ j = 7 := by omega
    unfold wpX_count
    rcases hj2 with rfl | rfl | rfl | rfl | rfl | rfl | rfl | rfl
    · exact br_f (by decide) (br_f (by decide) (br_t rfl (br_t rfl ⟨rfl, zz_in K1⟩)))
    · refine br_f (by decide) (br_f (by decide) (br_f (by decide) (br_t rfl ?_)))
      refine ya_count1 (by omega) ⟨?_, zz_in K1⟩
      rw [eM]
    · refine br_f (by decide) (br_f (by decide) (br_f (by decide) (br_f (by decide) (br_t rfl ?_))))
      refine Exists.intro 9 (xo_os4 ?_ 9 0 (by omega) (by omega))
      exact br_f (by decide) (br_f (by decide) (br_t rfl (Exists.intro 9 (yo_c66 A.1 ⟨rfl, zz_in K1⟩ 9 0 (by omega) (by omega)))))
    · exact br_f (by decide) (br_f (by decide) (br_f (by decide) (br_f (by decide) (br_f (by decide) (br_t rfl (br_f (by decide) (br_f (by decide) (br_f (by decide) (br_t rfl ⟨rfl, zz_in K1⟩)))))))))
    · exact br_f (by decide) (br_f (by decide) (br_f (by decide) (br_f (by decide) (br_f (by decide) (br_f (by decide) (br_t rfl (br_f (by decide) (br_f (by decide) (br_f (by decide) (br_f (by decide) (br_t rfl ⟨rfl, zz_in K1⟩)))))))))))
    · exact br_f (by decide) (br_f (by decide) (br_f (by decide) (br_f (by decide) (br_f (by decide) (br_f (by decide) (br_f (by decide) (br_t rfl (br_f (by decide) (br_f (by decide) (br_f (by decide) (br_f (by decide) (br_f (by decide) (br_t rfl ⟨rfl, zz_in K1⟩)))))))))))))
    · exact br_f (by decide) (br_f (by decide) (br_f (by decide) (br_f (by decide) (br_f (by decide) (br_f (by decide) (br_f (by decide) (br_f (by decide) (br_t rfl (br_f (by decide) (br_f (by decide) (br_f (by decide) (br_f (by decide) (br_f (by decide) (br_f (by decide) (br_t rfl ⟨rfl, zz_in K1⟩)))))))))))))))
    · exact br_f (by decide) (br_f (by decide) (br_f (by decide) (br_f (by decide) (br_f (by decide) (br_f (by decide) (br_f (by decide) (br_f (by decide) (br_f (by decide) (br_t rfl (br_f (by decide) (br_f (by decide) (br_f (by decide) (br_f (by decide) (br_f (by decide) (br_f (by decide) (br_f (by decide) (br_t rfl ⟨rfl, zz_in K1⟩)))))))))))))))))
theorem i_vc_include {k : Nat} {u : SX} {v : SY} (I : i_Rel k u v) (hk : k + 3 ≤ 1540) (v1 : Int32) (v2 : Int32) : wpX_include (fun r u' => wpY_include (fun r' v' => r' = r ∧ i_Rel (k + 3) u' v') v v1 v2) u v1 v2 := by
  refine zz_el (P := fun u v => wpX_include (fun r u2 => wpY_include (fun r2 v2 => r2 = r ∧ i_Rel (k + 3) u2 v2) v v1 v2) u v1 v2) ?_ I
  intro N R Q C Z M L sm lf gf gl gh tl th ul uh kd fa sb mr al ar wv wr el eh nl nh il ih ll lh wd wl wh ms us vl rc ak md hs gd cu nx K
  obtain ⟨p1, p2, p3, p4, p5, p6, p7, p8, p9, p10, p11, p12⟩ := K.1
  have A := K.2.2.2.2.1
  rcases zz_cas v1 (n := Z) (by omega) with h1 | ⟨c, hc, rfl⟩
  · unfold wpX_include wpY_include
    exact xv_v0 h1 (br_t rfl (yv_v0 h1 (br_t rfl ⟨rfl, zz_in K⟩)))
  · rcases zz_cas v2 (n := Z) (by omega) with h2 | ⟨d, hd, rfl⟩
    · unfold wpX_include wpY_include
      exact xv_v1 (by omega) hc (br_f (by decide) (xv_v0 h2 (br_t rfl (yv_v1 (by omega) hc (br_f (by decide) (yv_v0 h2 (br_t rfl ⟨rfl, zz_in K⟩)))))))
    · unfold wpX_include wpY_include
      refine xv_v1 (by omega) hc (br_f (by decide) (xv_v1 (by omega) hd (br_f (by decide) (Exists.intro 9 (xo_inc (fun s h8 hb hn => ?_) (fun hn => ?_) 9 0 (by omega) (by omega) (fun j hj => absurd hj (Nat.not_lt_zero _)))))))
      · refine yv_v1 (by omega) hc (br_f (by decide) (yv_v1 (by omega) hd (br_f (by decide) (Exists.intro 9 (yo_inc A.1 (fun s' h8' hb' hn' => ?_) (fun hn' => ?_) 9 0 (by omega) (by omega) (fun j hj => absurd hj (Nat.not_lt_zero _)))))))
        · have e : s' = s := by
            rcases Nat.lt_trichotomy s s' with z | z | z
            · exact absurd (hb.symm.trans (hn' s z)) (by decide)
            · exact z.symm
            · exact absurd (hb'.symm.trans (hn s' z)) (by decide)
          rw [e]
          exact ⟨rfl, zz_in (zz_K_inc K h8 hc hd)⟩
        · exact absurd (hb.symm.trans (hn' s h8)) (by decide)
      · refine yv_v1 (by omega) hc (br_f (by decide) (yv_v1 (by omega) hd (br_f (by decide) (Exists.intro 9 (yo_inc A.1 (fun s' h8' hb' hn' => absurd (hb'.symm.trans (hn s' h8')) (by decide)) (fun hn' => ⟨rfl, zz_in K⟩) 9 0 (by omega) (by omega) (fun j hj => absurd hj (Nat.not_lt_zero _)))))))
theorem i_vc_retract {k : Nat} {u : SX} {v : SY} (I : i_Rel k u v) (hk : k + 3 ≤ 1540) (v1 : Int32) : wpX_retract (fun r u' => wpY_retract (fun r' v' => r' = r ∧ i_Rel (k + 3) u' v') v v1) u v1 := by
  refine zz_el (P := fun u v => wpX_retract (fun r u2 => wpY_retract (fun r2 v2 => r2 = r ∧ i_Rel (k + 3) u2 v2) v v1) u v1) ?_ I
  intro N R Q C Z M L sm lf gf gl gh tl th ul uh kd fa sb mr al ar wv wr el eh nl nh il ih ll lh wd wl wh ms us vl rc ak md hs gd cu nx K
  obtain ⟨p1, p2, p3, p4, p5, p6, p7, p8, p9, p10, p11, p12⟩ := K.1
  have A := K.2.2.2.2.1
  rcases zz_cas v1 (n := 8) (by omega) with h1 | ⟨s, h8, rfl⟩
  · have n8 : ¬ v1 < 0 → ¬ v1 < 8 := fun e => Int32.not_lt.mpr (h1.elim (fun w => absurd w e) id)
    unfold wpX_retract wpY_retract
    exact br_c (fun e => br_t e ⟨rfl, zz_in K⟩) (fun e => br_f (n8 e) (br_f e (br_f (n8 e) ⟨rfl, zz_in K⟩)))
  · have V : vp_in (nI s) 8 := vp_in_nI h8 (by decide)
    have n0 : ¬ nI s < 0 := nI_pos (by omega)
    have n8 : nI s < 8 := nI_lt (b := 8) h8 (by decide)
    unfold wpX_retract wpY_retract
    dsimp only
    rw [nI_clamp (n := s) (by omega), A.1 s h8]
    refine br_f n0 (br_t n8 (xo_oc h8 (fun z => ?_) (fun z => ?_)))
    · exact br_t rfl (br_f n0 (br_t n8 ⟨V, br_t (zz_i0.mpr z) ⟨rfl, zz_in K⟩⟩))
    · exact br_f (by decide) (nm_e (br_f n0 (br_t n8 ⟨V, br_f (zz_n0.mpr z) ⟨V, nm_e ⟨rfl, zz_in (zz_K_ret K h8)⟩⟩⟩)))
theorem i_vc_axiom {k : Nat} {u : SX} {v : SY} (I : i_Rel k u v) (hk : k + 3 ≤ 1540) (v1 : Int32) (v2 : Int32) : wpX_axiom (fun r => wpY_axiom (fun r' => r' = r ∧ i_Rel (k + 3) u v) v v1 v2) u v1 v2 := by
  refine zz_el (P := fun u v => wpX_axiom (fun r => wpY_axiom (fun r2 => r2 = r ∧ i_Rel (k + 3) u v) v v1 v2) u v1 v2) ?_ I
  intro N R Q C Z M L sm lf gf gl gh tl th ul uh kd fa sb mr al ar wv wr el eh nl nh il ih ll lh wd wl wh ms us vl rc ak md hs gd cu nx K
  obtain ⟨p1, p2, p3, p4, p5, p6, p7, p8, p9, p10, p11, p12⟩ := K.1
  have A := K.2.2.2.2.1
  rcases zz_cas v1 (n := 8) (by omega) with h1 | ⟨s, h8, rfl⟩
  · have n8 : ¬ v1 < 0 → 8 ≤ v1 := fun e => h1.elim (fun w => absurd w e) id
    unfold wpX_axiom wpY_axiom
    exact br_c (fun e => br_t e ⟨rfl, zz_in K⟩) (fun e => br_t (n8 e) (br_f e (br_t (n8 e) ⟨rfl, zz_in K⟩)))
  · have V : vp_in (nI s) 8 := vp_in_nI h8 (by decide)
    have n0 : ¬ nI s < 0 := nI_pos (by omega)
    have n8 : ¬ 8 ≤ nI s := nI_ge (b := 8) h8 (by decide)
    unfold wpX_axiom wpY_axiom
    dsimp only
    rw [nI_clamp (n := s) (by omega), A.1 s h8]
    refine br_f n0 (br_f n8 (br_c (fun e0 => br_f n0 (br_f n8 (br_t e0 ⟨rfl, zz_in K⟩))) (fun e0 => br_c (fun e1 => xo_oc h8 (fun z => ?_) (fun z => ?_)) (fun e1 => br_f n0 (br_f n8 (br_f e0 (br_f e1 ⟨rfl, zz_in K⟩)))))))
    · exact br_t rfl (br_f n0 (br_f n8 (br_f e0 (br_t e1 ⟨V, br_t (zz_i0.mpr z) ⟨rfl, zz_in K⟩⟩))))
    · exact br_f (by decide) (br_c (fun e2 => ⟨V, br_f n0 (br_f n8 (br_f e0 (br_t e1 ⟨V, br_f (zz_n0.mpr z) (br_t e2 ⟨V, rfl, zz_in K⟩)⟩)))⟩) (fun e2 => ⟨V, br_f n0 (br_f n8 (br_f e0 (br_t e1 ⟨V, br_f (zz_n0.mpr z) (br_f e2 ⟨V, rfl, zz_in K⟩)⟩)))⟩))
theorem i_vc_walk {k : Nat} {u : SX} {v : SY} (I : i_Rel k u v) (hk : k + 3 ≤ 1540) (v1 : Int32) (v2 : Int32) : wpX_walk (fun r => wpY_walk (fun r' => r' = r ∧ i_Rel (k + 3) u v) v v1 v2) u v1 v2 := by
  refine zz_el (P := fun u v => wpX_walk (fun r => wpY_walk (fun r2 => r2 = r ∧ i_Rel (k + 3) u v) v v1 v2) u v1 v2) ?_ I
  intro N R Q C Z M L sm lf gf gl gh tl th ul uh kd fa sb mr al ar wv wr el eh nl nh il ih ll lh wd wl wh ms us vl rc ak md hs gd cu nx K
  obtain ⟨p1, p2, p3, p4, p5, p6, p7, p8, p9, p10, p11, p12⟩ := K.1
  have W := K.2.2.2.2.2.1
  rcases zz_cas v1 (n := L) (by omega) with h1 | ⟨i, hi, rfl⟩
  · unfold wpX_walk wpY_walk
    exact xv_p0 h1 (br_t rfl (yv_p0 h1 (br_t rfl ⟨rfl, zz_in K⟩)))
  · have V : vp_in (nI i) 8 := vp_in_nI (by omega) (by decide)
    obtain ⟨w1, w2, -⟩ := W i hi
    unfold wpX_walk wpY_walk
    dsimp only
    rw [nI_clamp (n := i) (by omega), w1, w2]
    exact xv_p1 p12 hi (br_f (by decide) (br_c (fun e0 => yv_p1 p12 hi (br_f (by decide) (br_t e0 ⟨rfl, zz_in K⟩))) (fun e0 => br_c (fun e1 => br_c (fun e2 => ⟨V, yv_p1 p12 hi (br_f (by decide) (br_f e0 (br_t e1 (br_t e2 ⟨V, rfl, zz_in K⟩))))⟩) (fun e2 => br_c (fun e3 => yv_p1 p12 hi (br_f (by decide) (br_f e0 (br_t e1 (br_f e2 (br_t e3 ⟨rfl, zz_in K⟩)))))) (fun e3 => ⟨V, yv_p1 p12 hi (br_f (by decide) (br_f e0 (br_t e1 (br_f e2 (br_f e3 ⟨V, rfl, zz_in K⟩)))))⟩))) (fun e1 => yv_p1 p12 hi (br_f (by decide) (br_f e0 (br_f e1 ⟨rfl, zz_in K⟩)))))))
theorem zz_inarr (b : Bool) : narrow .boolean (.int (zz_i b)) = .int (zz_i b) := by cases b <;> rfl
theorem i_vc_demanded {k : Nat} {u : SX} {v : SY} (I : i_Rel k u v) (hk : k + 3 ≤ 1540) (v1 : Int32) (v2 : Int32) : wpX_demanded (fun r => wpY_demanded (fun r' => r' = r ∧ i_Rel (k + 3) u v) v v1 v2) u v1 v2 := by
  refine zz_el (P := fun u v => wpX_demanded (fun r => wpY_demanded (fun r2 => r2 = r ∧ i_Rel (k + 3) u v) v v1 v2) u v1 v2) ?_ I
  intro N R Q C Z M L sm lf gf gl gh tl th ul uh kd fa sb mr al ar wv wr el eh nl nh il ih ll lh wd wl wh ms us vl rc ak md hs gd cu nx K
  obtain ⟨p1, p2, p3, p4, p5, p6, p7, p8, p9, p10, p11, p12⟩ := K.1
  have W := K.2.2.2.2.2.1
  rcases zz_cas v1 (n := L) (by omega) with h1 | ⟨i, hi, rfl⟩
  · unfold wpX_demanded wpY_demanded
    exact xv_p0 h1 (br_t rfl (yv_p0 h1 (br_t rfl ⟨rfl, zz_in K⟩)))
  · rcases zz_cas v2 (n := Z) (by omega) with h2 | ⟨c, hc, rfl⟩
    · unfold wpX_demanded wpY_demanded
      exact xv_p1 p12 hi (br_f (by decide) (xv_v0 h2 (br_t rfl (yv_p1 p12 hi (br_f (by decide) (yv_v0 h2 (br_t rfl ⟨rfl, zz_in K⟩)))))))
    · have V : vp_in (nI i) 8 := vp_in_nI (by omega) (by decide)
      have V2 : vp_in (nI (i * 48 + c)) 384 := vp_in_nI (by omega) (by decide)
      obtain ⟨w1, w2, w3, w4, -⟩ := W i hi
      have hZ : Z ≤ 48 := by omega
      unfold wpX_demanded wpY_demanded
      dsimp only
      rw [ye_ix, nI_clamp (n := i) (by omega), nI_clamp (n := i * 48 + c) (by omega), w4 c (by omega)]
      refine xv_p1 p12 hi (br_f (by decide) (xv_v1 hZ hc (br_f (by decide) ⟨V, ek_if (bz_ask (by omega)) (fun z => ?_) (fun z => ?_)⟩)))
      · exact yv_p1 p12 hi (br_f (by decide) (yv_v1 hZ hc (br_f (by decide) ⟨V2, zz_inarr _, zz_i0.mpr z, zz_in K⟩)))
      · exact yv_p1 p12 hi (br_f (by decide) (yv_v1 hZ hc (br_f (by decide) ⟨V2, zz_inarr _, zz_i1.mpr (ts_nf z), zz_in K⟩)))
end
section
/-! ===== clear and the constructors ===== -/
def zz_ck (kd : Nat → Int32) : Nat → Nat → Int32
  | 0 => upd (upd kd 0 0) 1 1
  | i + 1 => upd (zz_ck kd i) (2 + i) 2
def zz_cf (fa : Nat → Int32) : Nat → Nat → Int32
  | 0 => upd (upd fa 0 0) 1 0
  | i + 1 => upd (zz_cf fa i) (2 + i) (nI i)
def zz_cs (sb : Nat → Int32) : Nat → Nat → Int32
  | 0 => upd (upd sb 0 0) 1 0
  | i + 1 => upd (zz_cs sb i) (2 + i) 0
theorem zz_ck_nm {kd fa : Nat → Int32} : ∀ i j, j < i → zz_ck kd i (2 + j) = 2 ∧ zz_cf fa i (2 + j) = nI j
  | 0, j, h => absurd h (Nat.not_lt_zero j)
  | i + 1, j, h => by
    show upd (zz_ck kd i) (2 + i) 2 (2 + j) = 2 ∧ upd (zz_cf fa i) (2 + i) (nI i) (2 + j) = nI j
    rcases Nat.lt_or_ge j i with z | z
    · rw [pk_un (by omega), pk_un (by omega)]
      exact zz_ck_nm i j z
    · rw [show j = i by omega, pk_us, pk_us]
      exact ⟨rfl, rfl⟩
theorem zz_ck_mc {kd : Nat → Int32} : ∀ i, zz_mc (zz_ck kd i) (2 + i) = 0
  | 0 => by
    have a0 : zz_ck kd 0 0 = 0 := rfl
    have a1 : zz_ck kd 0 1 = 1 := rfl
    show zz_mc (zz_ck kd 0) (0 + 1 + 1) = 0
    rw [zz_mcf (by rw [show zz_ck kd 0 (0 + 1) = 1 from a1]; decide), zz_mcf (by rw [a0]; decide)]
    rfl
  | i + 1 => by
    show zz_mc (upd (zz_ck kd i) (2 + i) 2) (2 + i + 1) = 0
    rw [zz_mcf (by rw [pk_us]; decide), zz_mcg (kd := zz_ck kd i) (fun h hh => pk_un (by omega))]
    exact zz_ck_mc i
section
variable {N R Q C Z M L : Nat} {sm lf gf : Int32} {gl gh tl th ul uh : Int64} {kd fa sb mr al ar wv wr : Nat → Int32} {el eh nl nh il ih ll lh wd wl wh : Nat → Int64}
variable {ms : Int32} {us vl rc ak md hs gd cu nx : Nat → Int32}
theorem xn_cl48 {post : SX → Prop} (hN : N ≤ 4) (K : ∀ el eh : Nat → Int64, (∀ h, h < 2 + N → zz_no N R (zz_ck kd N) (zz_cf fa N) (zz_cs sb N) el eh mr nl nh il ih h) → post (nI N, nI R, nI Q, nI C, nI (2 + N), nI 0, 0, 0, 0, gl, gh, tl, th, nI 0, ul, uh, zz_ck kd N, zz_cf fa N, zz_cs sb N, el, eh, mr, nl, nh, il, ih, al, ar, ll, lh, wv, wr, wd, wl, wh)) : ∀ (n i : Nat) (el eh : Nat → Int64), i ≤ N → N - i < n → (∀ h, h < 2 + i → zz_no N R (zz_ck kd i) (zz_cf fa i) (zz_cs sb i) el eh mr nl nh il ih h) → wX_clear_48 post n (nI i) (nI N) (nI R) (nI Q) (nI C) (nI (2 + i)) (nI 0) 0 0 0 gl gh tl th (nI 0) ul uh (zz_ck kd i) (zz_cf fa i) (zz_cs sb i) el eh mr nl nh il ih al ar ll lh wv wr wd wl wh := by
  intro n
  induction n with
  | zero => intro i el eh a b; exact absurd b (Nat.not_lt_zero _)
  | succ n IH =>
    intro i el eh a b H
    refine pk_le N i (fun hm => ?_) (fun hm => ?_)
    · have e : i = N := by omega
      subst e
      exact K el eh H
    · refine xa_n (by omega) hN (Or.inr (Or.inr (Or.inl ⟨rfl, i, hm, rfl⟩))) (fun lo hi NZ => nm_r (nI_1 i) (IH (i + 1) _ _ (by omega) (by omega) (fun h hh => ?_)))
      rcases Nat.lt_or_ge h (2 + i) with z | z
      · exact zz_no_c z (fun j hj => ⟨pk_un (by omega), pk_un (by omega), pk_un (by omega), pk_uLn (by omega), pk_uLn (by omega)⟩) (fun m hm => ⟨rfl, rfl, rfl, rfl, rfl⟩) (H h z)
      · rw [show h = 2 + i by omega]
        exact NZ
theorem xn_clear {post : SX → Prop} (hN : N ≤ 4) (K : ∀ el eh : Nat → Int64, (∀ h, h < 2 + N → zz_no N R (zz_ck kd N) (zz_cf fa N) (zz_cs sb N) el eh mr nl nh il ih h) → post (nI N, nI R, nI Q, nI C, nI (2 + N), nI 0, 0, 0, 0, gl, gh, tl, th, nI 0, ul, uh, zz_ck kd N, zz_cf fa N, zz_cs sb N, el, eh, mr, nl, nh, il, ih, al, ar, ll, lh, wv, wr, wd, wl, wh)) : wpX_clear post (nI N, nI R, nI Q, nI C, nI Z, nI M, sm, lf, gf, gl, gh, tl, th, nI L, ul, uh, kd, fa, sb, el, eh, mr, nl, nh, il, ih, al, ar, ll, lh, wv, wr, wd, wl, wh) := by
  unfold wpX_clear
  refine xa_n (Z := 0) (M := 0) (L := 0) (by omega) hN (Or.inl rfl) (fun lo hi N0 => ?_)
  refine xa_n (Z := 1) (M := 0) (L := 0) (by omega) hN (Or.inr (Or.inl rfl)) (fun lo1 hi1 N1 => ?_)
  refine Exists.intro (N + 1) (xn_cl48 hN K (N + 1) 0 _ _ (by omega) (by omega) (fun h hh => ?_))
  have hh2 : h = 0 ∨ h = 1 := by omega
  rcases hh2 with rfl | rfl
  · exact zz_no_c (Z := 1) (by omega) (fun j hj => ⟨pk_un (by omega), pk_un (by omega), pk_un (by omega), pk_uLn (by omega), pk_uLn (by omega)⟩) (fun m hm => ⟨rfl, rfl, rfl, rfl, rfl⟩) N0
  · exact N1
theorem yn_cl44 {post : SY → Prop} (K : ∀ us : Nat → Int32, (∀ s, s < 8 → us s = 0) → post (nI N, nI R, nI Q, nI C, nI Z, 0, ms, kd, fa, sb, us, al, ar, vl, rc, ak, md, hs, gd, cu, nx)) : ∀ (n s : Nat) (us : Nat → Int32), s ≤ 8 → 8 - s < n → (∀ j, j < s → us j = 0) → wY_clear_44 post (nI N) (nI R) (nI Q) (nI C) (nI Z) (nI L) ms n (nI s) kd fa sb us al ar vl rc ak md hs gd cu nx := by
  intro n
  induction n with
  | zero => intro s us a b; exact absurd b (Nat.not_lt_zero _)
  | succ n IH =>
    intro s us a b H
    refine pk_le 8 s (fun hm => ?_) (fun hm => ?_)
    · exact K us (fun j hj => H j (by omega))
    · rw [nI_clamp (n := s) (by omega)]
      refine ⟨vp_in_nI hm (by decide), nm_e (nm_r (nI_1 s) (IH (s + 1) _ (by omega) (by omega) (fun j hj => ?_)))⟩
      rcases Nat.lt_or_ge j s with z | z
      · rw [pk_un (by omega)]
        exact H j z
      · rw [show j = s by omega, pk_us]
        rfl
theorem yn_cl21 {post : SY → Prop} (hN : N ≤ 4) (K : ∀ us : Nat → Int32, (∀ s, s < 8 → us s = 0) → post (nI N, nI R, nI Q, nI C, nI (2 + N), 0, ms, zz_ck kd N, zz_cf fa N, zz_cs sb N, us, al, ar, vl, rc, ak, md, hs, gd, cu, nx)) : ∀ n i : Nat, i ≤ N → N - i < n → wY_clear_21 post n (nI i) (nI N) (nI R) (nI Q) (nI C) (nI (2 + i)) (nI L) ms (zz_ck kd i) (zz_cf fa i) (zz_cs sb i) us al ar vl rc ak md hs gd cu nx := by
  intro n
  induction n with
  | zero => intro i a b; exact absurd b (Nat.not_lt_zero _)
  | succ n IH =>
    intro i a b
    refine pk_le N i (fun hm => ?_) (fun hm => ?_)
    · have e : i = N := by omega
      subst e
      exact Exists.intro 9 (yn_cl44 K 9 0 us (by omega) (by omega) (fun j hj => absurd hj (Nat.not_lt_zero _)))
    · exact ya_put (by omega) (nm_r (nI_1 i) (IH (i + 1) (by omega) (by omega)))
theorem yn_clear {post : SY → Prop} (hN : N ≤ 4) (K : ∀ us : Nat → Int32, (∀ s, s < 8 → us s = 0) → post (nI N, nI R, nI Q, nI C, nI (2 + N), 0, ms, zz_ck kd N, zz_cf fa N, zz_cs sb N, us, al, ar, vl, rc, ak, md, hs, gd, cu, nx)) : wpY_clear post (nI N, nI R, nI Q, nI C, nI Z, nI L, ms, kd, fa, sb, us, al, ar, vl, rc, ak, md, hs, gd, cu, nx) := by
  unfold wpY_clear
  refine ya_put (Z := 0) (by omega) ?_
  refine ya_put (Z := 1) (by omega) ?_
  exact Exists.intro (N + 1) (yn_cl21 hN K (N + 1) 0 (by omega) (by omega))
theorem zz_K_clear (h1 : 1 ≤ N) (h2 : N ≤ 4) (h3 : 1 ≤ R) (h4 : R ≤ 2) (h5 : 1 ≤ Q) (h6 : N + Q ≤ 7) (h7 : 16 ≤ C) (h8 : C ≤ 48) (NO : ∀ h, h < 2 + N → zz_no N R (zz_ck kd N) (zz_cf fa N) (zz_cs sb N) el eh mr nl nh il ih h) (HU : ∀ s, s < 8 → us s = 0) : zz_K N R Q C (2 + N) 0 0 0 0 0 gl gh (zz_ck kd N) (zz_cf fa N) (zz_cs sb N) mr al ar wv wr el eh nl nh il ih ll lh wd wl wh us vl rc ak := by
  refine ⟨⟨h1, h2, h3, h4, h5, h6, h7, h8, by omega, by omega, by omega, by omega⟩, zz_ck_mc N, NO, fun j hj => zz_ck_nm N j hj, ⟨fun s hs8 => ?_, fun s _ => b_0 s, fun s _ hb => ?_⟩, fun i hi => absurd hi (Nat.not_lt_zero _), Or.inl ⟨rfl, rfl⟩⟩
  · rw [HU s hs8, b_0]
    rfl
  · rw [b_0] at hb
    exact absurd hb (by decide)
end
theorem i_vc_clear {k : Nat} {u : SX} {v : SY} (I : i_Rel k u v) (hk : k + 3 ≤ 1540) : wpX_clear (fun u' => wpY_clear (fun v' => i_Rel (k + 3) u' v') v) u := by
  refine zz_el (P := fun u v => wpX_clear (fun u2 => wpY_clear (fun v2 => i_Rel (k + 3) u2 v2) v) u) ?_ I
  intro N R Q C Z M L sm lf gf gl gh tl th ul uh kd fa sb mr al ar wv wr el eh nl nh il ih ll lh wd wl wh ms us vl rc ak md hs gd cu nx K
  obtain ⟨p1, p2, p3, p4, p5, p6, p7, p8, p9, p10, p11, p12⟩ := K.1
  exact xn_clear p2 (fun el' eh' NO => yn_clear p2 (fun us' HU => zz_in (zz_K_clear p1 p2 p3 p4 p5 p6 p7 p8 NO HU)))
theorem zz_clamp (x : Int32) (lo hi : Nat) (h : lo ≤ hi) (hh : hi < 2 ^ 31) : ∃ r : Nat, lo ≤ r ∧ r ≤ hi ∧ (∀ (post : Int32 → Prop) (u : SX), post (nI r) → wpX_clamp post u x (nI lo) (nI hi)) ∧ (∀ (post : Int32 → Prop) (v : SY), post (nI r) → wpY_clamp post v x (nI lo) (nI hi)) := by
  have key : ∃ r : Nat, lo ≤ r ∧ r ≤ hi ∧ ∀ (post : Int32 → Prop), post (nI r) → ((nI lo ≤ x → ((x ≤ nI hi → post x) ∧ (¬ x ≤ nI hi → post (nI hi)))) ∧ (¬ nI lo ≤ x → post (nI lo))) := by
    by_cases e1 : nI lo ≤ x
    · have e0 : ¬ x < 0 := Int32.not_lt.mpr (Int32.le_trans (nI_pos' (by omega)) e1)
      obtain ⟨j, hj, rfl⟩ := nI_of e0
      rw [nI_leI (by omega) hj] at e1
      by_cases e2 : j ≤ hi
      · exact ⟨j, e1, e2, fun post H => br_t (nI_le e1 hj) (br_t (nI_le e2 hh) H)⟩
      · exact ⟨hi, h, Nat.le_refl _, fun post H => br_t (nI_le e1 hj) (br_f (fun w => e2 ((nI_leI hj hh).mp w)) H)⟩
    · exact ⟨lo, Nat.le_refl _, h, fun post H => br_f e1 H⟩
  obtain ⟨r, h1, h2, h3⟩ := key
  refine ⟨r, h1, h2, fun post u H => ?_, fun post v H => ?_⟩
  · obtain ⟨a1, a2, a3, a4, a5, a6, sm, lf, gf, gl, gh, tl, th, a14, ul, uh, kd, fa, sb, el, eh, mr, nl, nh, il, ih, al, ar, ll, lh, wv, wr, wd, wl, wh⟩ := u
    exact h3 post H
  · obtain ⟨b1, b2, b3, b4, b5, b6, ms, kd', fa', sb', us, al', ar', vl, rc, ak, md, hs, gd, cu, nx⟩ := v
    exact h3 post H
theorem i_vc0 (k0 : Int32) (k1 : Int32) (k2 : Int32) (k3 : Int32) : wpX_init (fun u => wpY_init (fun v => i_Rel 4 u v) k0 k1 k2 k3) k0 k1 k2 k3 := by
  obtain ⟨N, n1, n2, NX, NY⟩ := zz_clamp k0 1 4 (by omega) (by omega)
  obtain ⟨R, r1, r2, RX, RY⟩ := zz_clamp k1 1 2 (by omega) (by omega)
  obtain ⟨Q, q1, q2, QX, QY⟩ := zz_clamp k2 1 (7 - N) (by omega) (by omega)
  obtain ⟨C, c1, c2, CX, CY⟩ := zz_clamp k3 16 48 (by omega) (by omega)
  have e7 : (7 : Int32) - nI N = nI (7 - N) := pk_sub (a := 7) (by omega)
  unfold wpX_init
  refine NX _ _ (RX _ _ ?_)
  rw [e7]
  refine QX _ _ (CX _ _ ?_)
  refine xn_clear (N := N) (R := R) (Q := Q) (C := C) (Z := 0) (M := 0) (L := 0) n2 (fun el' eh' NO => ?_)
  unfold wpY_init
  refine NY _ _ (RY _ _ ?_)
  rw [e7]
  refine QY _ _ (CY _ _ ?_)
  refine yn_clear (N := N) (R := R) (Q := Q) (C := C) (Z := 0) (L := 0) n2 (fun us' HU => ?_)
  exact zz_in (zz_K_clear n1 n2 r1 r2 q1 (by omega) c1 c2 NO HU)
end
section
/-! ===== the questions over the good set ===== -/
section
variable {N R Q C Z M L : Nat} {sm lf gf : Int32} {gl gh tl th ul uh : Int64} {kd fa sb mr al ar wv wr : Nat → Int32} {el eh nl nh il ih ll lh wd wl wh : Nat → Int64}
variable {ms : Int32} {us vl rc ak md hs gd cu nx : Nat → Int32}
theorem zz_K_good {ll' lh' : Nat → Int64} {gl' gh' : Int64} (K : zz_K N R Q C Z M L sm lf gf gl gh kd fa sb mr al ar wv wr el eh nl nh il ih ll lh wd wl wh us vl rc ak) (HL : zz_lo R (2 ^ (N + M)) M mr nl nh il ih ll' lh') (HG : bz_b gl' gh' = zz_gg N M mr nl nh il ih al ar el eh sm) : zz_K N R Q C Z M L sm 1 1 gl' gh' kd fa sb mr al ar wv wr el eh nl nh il ih ll' lh' wd wl wh us vl rc ak := by
  obtain ⟨P, eM, NO, NM, A, W, F⟩ := K
  exact ⟨P, eM, NO, NM, A, W, Or.inr ⟨rfl, HL, Or.inr ⟨rfl, HG⟩⟩⟩
theorem xq_good {post : SX → Prop} (K : zz_K N R Q C Z M L sm lf gf gl gh kd fa sb mr al ar wv wr el eh nl nh il ih ll lh wd wl wh us vl rc ak) (KK : ∀ (ll lh : Nat → Int64) (gl gh tl th : Int64), zz_K N R Q C Z M L sm 1 1 gl gh kd fa sb mr al ar wv wr el eh nl nh il ih ll lh wd wl wh us vl rc ak → zz_lo R (2 ^ (N + M)) M mr nl nh il ih ll lh → bz_b gl gh = zz_gg N M mr nl nh il ih al ar el eh sm → post (nI N, nI R, nI Q, nI C, nI Z, nI M, sm, 1, 1, gl, gh, tl, th, nI L, ul, uh, kd, fa, sb, el, eh, mr, nl, nh, il, ih, al, ar, ll, lh, wv, wr, wd, wl, wh)) : wpX_refreshGood post (nI N, nI R, nI Q, nI C, nI Z, nI M, sm, lf, gf, gl, gh, tl, th, nI L, ul, uh, kd, fa, sb, el, eh, mr, nl, nh, il, ih, al, ar, ll, lh, wv, wr, wd, wl, wh) := by
  have K0 := K
  obtain ⟨⟨p1, p2, p3, p4, p5, p6, p7, p8, p9, p10, p11, p12⟩, eM, NO, NM, A, W, F⟩ := K
  refine xc_refreshGood p4 (by omega) (fun m hm => zz_mrq NO m (by omega)) (zz_axv (by omega) A) F (fun ll lh gl gh tl th HL HG => KK ll lh gl gh tl th (zz_K_good K0 HL HG) HL HG)
theorem yq_fill {post : SY → Prop} {mask : Int32} (K : zz_K N R Q C Z M L sm lf gf gl gh kd fa sb mr al ar wv wr el eh nl nh il ih ll lh wd wl wh us vl rc ak) (hA : ∀ s, s < 8 → bt mask s = true → bt sm s = true) (KK : ∀ md hs gd : Nat → Int32, zz_md (2 ^ (N + M)) M kd fa sb hs md mr (zz_T nl nh) (zz_T il ih) → zz_has (2 ^ (N + M)) Z hs el eh → (∀ o, o < 128 → gd o = zz_i (zz_gg N M mr nl nh il ih al ar el eh mask o)) → post (nI N, nI R, nI Q, nI C, nI Z, nI L, nI M, kd, fa, sb, us, al, ar, vl, rc, ak, md, hs, gd, cu, nx)) : wpY_fillGood post (nI N, nI R, nI Q, nI C, nI Z, nI L, ms, kd, fa, sb, us, al, ar, vl, rc, ak, md, hs, gd, cu, nx) mask := by
  obtain ⟨⟨p1, p2, p3, p4, p5, p6, p7, p8, p9, p10, p11, p12⟩, eM, NO, NM, A, W, F⟩ := K
  exact yc_fillGood (by omega) p2 p1 eM (by omega) NO (fun s h8 hb => A.2.2 s h8 (hA s h8 hb)) KK
theorem yq_occ {post : Int32 → Prop} (K : zz_K N R Q C Z M L sm lf gf gl gh kd fa sb mr al ar wv wr el eh nl nh il ih ll lh wd wl wh us vl rc ak) (KK : post sm) : wpY_occupied post (nI N, nI R, nI Q, nI C, nI Z, nI L, ms, kd, fa, sb, us, al, ar, vl, rc, ak, md, hs, gd, cu, nx) :=
  yc_occupied K.2.2.2.2.1.1 K.2.2.2.2.1.2.1 KK
theorem xq_possible {post : Int32 → SX → Prop} {c : Nat} (K : zz_K N R Q C Z M L sm lf gf gl gh kd fa sb mr al ar wv wr el eh nl nh il ih ll lh wd wl wh us vl rc ak) (hc : c < Z) (h1 : ∀ (ll lh : Nat → Int64) (gl gh tl th : Int64), zz_K N R Q C Z M L sm 1 1 gl gh kd fa sb mr al ar wv wr el eh nl nh il ih ll lh wd wl wh us vl rc ak → zz_lo R (2 ^ (N + M)) M mr nl nh il ih ll lh → (∃ p, p < 128 ∧ zz_gg N M mr nl nh il ih al ar el eh sm p = true ∧ zz_T el eh c p = true) → post 1 (nI N, nI R, nI Q, nI C, nI Z, nI M, sm, 1, 1, gl, gh, tl, th, nI L, ul, uh, kd, fa, sb, el, eh, mr, nl, nh, il, ih, al, ar, ll, lh, wv, wr, wd, wl, wh)) (h0 : ∀ (ll lh : Nat → Int64) (gl gh tl th : Int64), zz_K N R Q C Z M L sm 1 1 gl gh kd fa sb mr al ar wv wr el eh nl nh il ih ll lh wd wl wh us vl rc ak → zz_lo R (2 ^ (N + M)) M mr nl nh il ih ll lh → ¬ (∃ p, p < 128 ∧ zz_gg N M mr nl nh il ih al ar el eh sm p = true ∧ zz_T el eh c p = true) → post 0 (nI N, nI R, nI Q, nI C, nI Z, nI M, sm, 1, 1, gl, gh, tl, th, nI L, ul, uh, kd, fa, sb, el, eh, mr, nl, nh, il, ih, al, ar, ll, lh, wv, wr, wd, wl, wh)) : wpX_possible post (nI N, nI R, nI Q, nI C, nI Z, nI M, sm, lf, gf, gl, gh, tl, th, nI L, ul, uh, kd, fa, sb, el, eh, mr, nl, nh, il, ih, al, ar, ll, lh, wv, wr, wd, wl, wh) (nI c) := by
  have hZ : Z ≤ 48 := Nat.le_trans K.1.2.2.2.2.2.2.2.2.2.1 K.1.2.2.2.2.2.2.2.1
  have V : vp_in (nI c) 48 := vp_in_nI (by omega) (by decide)
  unfold wpX_possible
  refine xq_good K (fun ll lh gl gh tl th K1 HL HG => ?_)
  dsimp only
  rw [nI_clamp (n := c) (by omega)]
  refine ⟨V, V, br_c (fun z => h0 ll lh gl gh tl th K1 HL (fun ⟨p, hp, w1, w2⟩ => ?_)) (fun z => h1 ll lh gl gh tl th K1 HL ?_)⟩
  · have t := bz_zero.mp z p hp
    rw [bz_and, HG, w1, Bool.true_and] at t
    exact absurd (t.symm.trans w2) (by decide)
  · obtain ⟨p, hp, t⟩ := bz_nz.mp z
    rw [bz_and, HG, Bool.and_eq_true] at t
    exact ⟨p, hp, t⟩
theorem yq_possible {post : Int32 → SY → Prop} {mask : Int32} {c : Nat} (K : zz_K N R Q C Z M L sm lf gf gl gh kd fa sb mr al ar wv wr el eh nl nh il ih ll lh wd wl wh us vl rc ak) (hA : ∀ s, s < 8 → bt mask s = true → bt sm s = true) (hc : c < Z) (h1 : ∀ md hs gd : Nat → Int32, (∃ p, p < 128 ∧ zz_gg N M mr nl nh il ih al ar el eh mask p = true ∧ zz_T el eh c p = true) → post 1 (nI N, nI R, nI Q, nI C, nI Z, nI L, nI M, kd, fa, sb, us, al, ar, vl, rc, ak, md, hs, gd, cu, nx)) (h0 : ∀ md hs gd : Nat → Int32, ¬ (∃ p, p < 128 ∧ zz_gg N M mr nl nh il ih al ar el eh mask p = true ∧ zz_T el eh c p = true) → post 0 (nI N, nI R, nI Q, nI C, nI Z, nI L, nI M, kd, fa, sb, us, al, ar, vl, rc, ak, md, hs, gd, cu, nx)) : wpY_possible post (nI N, nI R, nI Q, nI C, nI Z, nI L, ms, kd, fa, sb, us, al, ar, vl, rc, ak, md, hs, gd, cu, nx) mask (nI c) := by
  have K0 := K
  obtain ⟨⟨p1, p2, p3, p4, p5, p6, p7, p8, p9, p10, p11, p12⟩, eM, NO, NM, A, W, F⟩ := K
  unfold wpY_possible
  refine yq_fill K0 hA (fun md hs gd D HH HD => ?_)
  exact Exists.intro 129 (yc_p7 (bz_p7 (show N + M ≤ 7 by omega)) (by omega) hc HD (fun o ho => zz_gg_lt ho) HH (h1 md hs gd) (h0 md hs gd) 129 0 (by omega) (by omega) (fun i hi => absurd hi (Nat.not_lt_zero _)))
end
theorem i_vc_satisfiable {k : Nat} {u : SX} {v : SY} (I : i_Rel k u v) (hk : k + 3 ≤ 1540) (v1 : Int32) : wpX_satisfiable (fun r u' => wpY_satisfiable (fun r' v' => r' = r ∧ i_Rel (k + 3) u' v') v v1) u v1 := by
  refine zz_el (P := fun u v => wpX_satisfiable (fun r u2 => wpY_satisfiable (fun r2 v2 => r2 = r ∧ i_Rel (k + 3) u2 v2) v v1) u v1) ?_ I
  intro N R Q C Z M L sm lf gf gl gh tl th ul uh kd fa sb mr al ar wv wr el eh nl nh il ih ll lh wd wl wh ms us vl rc ak md hs gd cu nx K
  obtain ⟨p1, p2, p3, p4, p5, p6, p7, p8, p9, p10, p11, p12⟩ := K.1
  rcases zz_cas v1 (n := Z) (by omega) with h1 | ⟨c, hc, rfl⟩
  · unfold wpX_satisfiable wpY_satisfiable
    exact xv_v0 h1 (br_t rfl (yv_v0 h1 (br_t rfl ⟨rfl, zz_in K⟩)))
  · have hZ : Z ≤ 48 := by omega
    unfold wpX_satisfiable wpY_satisfiable
    refine xv_v1 hZ hc (br_f (by decide) (xq_possible K hc (fun ll' lh' gl' gh' tl' th' K1 HL E => ?_) (fun ll' lh' gl' gh' tl' th' K1 HL E => ?_)))
    · refine br_f (by decide) (yv_v1 hZ hc (br_f (by decide) (yq_occ K1 (yq_possible K1 (fun s _ h => h) hc (fun md' hs' gd' E2 => ?_) (fun md' hs' gd' E2 => absurd E E2)))))
      exact br_f (by decide) ⟨rfl, zz_in K1⟩
    · refine br_t rfl (yv_v1 hZ hc (br_f (by decide) (yq_occ K1 (yq_possible K1 (fun s _ h => h) hc (fun md' hs' gd' E2 => absurd E2 E) (fun md' hs' gd' E2 => ?_)))))
      exact br_t rfl ⟨rfl, zz_in K1⟩
theorem i_vc_subsumed {k : Nat} {u : SX} {v : SY} (I : i_Rel k u v) (hk : k + 3 ≤ 1540) (v1 : Int32) (v2 : Int32) : wpX_subsumed (fun r u' => wpY_subsumed (fun r' v' => r' = r ∧ i_Rel (k + 3) u' v') v v1 v2) u v1 v2 := by
  refine zz_el (P := fun u v => wpX_subsumed (fun r u2 => wpY_subsumed (fun r2 v2 => r2 = r ∧ i_Rel (k + 3) u2 v2) v v1 v2) u v1 v2) ?_ I
  intro N R Q C Z M L sm lf gf gl gh tl th ul uh kd fa sb mr al ar wv wr el eh nl nh il ih ll lh wd wl wh ms us vl rc ak md hs gd cu nx K
  obtain ⟨p1, p2, p3, p4, p5, p6, p7, p8, p9, p10, p11, p12⟩ := K.1
  rcases zz_cas v1 (n := Z) (by omega) with h1 | ⟨c, hc, rfl⟩
  · unfold wpX_subsumed wpY_subsumed
    exact xv_v0 h1 (br_t rfl (yv_v0 h1 (br_t rfl ⟨rfl, zz_in K⟩)))
  · rcases zz_cas v2 (n := Z) (by omega) with h2 | ⟨d, hd, rfl⟩
    · unfold wpX_subsumed wpY_subsumed
      exact xv_v1 (by omega) hc (br_f (by decide) (xv_v0 h2 (br_t rfl (yv_v1 (by omega) hc (br_f (by decide) (yv_v0 h2 (br_t rfl ⟨rfl, zz_in K⟩)))))))
    · have hZ : Z ≤ 48 := by omega
      have V : vp_in (nI c) 48 := vp_in_nI (by omega) (by decide)
      have V2 : vp_in (nI d) 48 := vp_in_nI (by omega) (by decide)
      unfold wpX_subsumed
      refine xv_v1 hZ hc (br_f (by decide) (xv_v1 hZ hd (br_f (by decide) (xq_good K (fun ll' lh' gl' gh' tl' th' K1 HL HG => ?_)))))
      dsimp only
      rw [nI_clamp (n := c) (by omega), nI_clamp (n := d) (by omega)]
      have GY : ∀ (r : Int32), ((∃ p, p < 128 ∧ (zz_gg N M mr nl nh il ih al ar el eh sm p = true ∧ zz_T el eh c p = true) ∧ zz_T el eh d p = false) → r = 0) → (¬ (∃ p, p < 128 ∧ (zz_gg N M mr nl nh il ih al ar el eh sm p = true ∧ zz_T el eh c p = true) ∧ zz_T el eh d p = false) → r = 1) → wpY_subsumed (fun r' v' => r' = r ∧ i_Rel (k + 3) (nI N, nI R, nI Q, nI C, nI Z, nI M, sm, 1, 1, gl', gh', tl', th', nI L, ul, uh, kd, fa, sb, el, eh, mr, nl, nh, il, ih, al, ar, ll', lh', wv, wr, wd, wl, wh) v') (nI N, nI R, nI Q, nI C, nI Z, nI L, ms, kd, fa, sb, us, al, ar, vl, rc, ak, md, hs, gd, cu, nx) (nI c) (nI d) := by
        intro r E0 E1
        unfold wpY_subsumed
        refine yv_v1 hZ hc (br_f (by decide) (yv_v1 hZ hd (br_f (by decide) (yq_occ K1 (yq_fill K1 (fun s _ h => h) (fun md' hs' gd' D HH HD => ?_))))))
        exact Exists.intro 129 (yc_s31 (bz_p7 (show N + M ≤ 7 by omega)) hZ hc hd HD (fun o ho => zz_gg_lt ho) HH (fun w => ⟨(E0 w).symm, zz_in K1⟩) (fun w => ⟨(E1 w).symm, zz_in K1⟩) 129 0 (by omega) (by omega) (fun i hi => absurd hi (Nat.not_lt_zero _)))
      refine ⟨V, V2, nm_e ⟨V, V2, nm_e (br_c (fun z => GY 1 (fun w => ?_) (fun _ => rfl)) (fun z => GY 0 (fun _ => rfl) (fun w => ?_)))⟩⟩
      · obtain ⟨p, hp, ⟨a1, a2⟩, a3⟩ := w
        have t := bz_zero.mp z p hp
        rw [bz_and, bz_and, bz_not _ _ hp, HG, a1, Bool.true_and] at t
        rw [show bz_b (el c) (eh c) p = true from a2, show bz_b (el d) (eh d) p = false from a3] at t
        exact absurd t (by decide)
      · obtain ⟨p, hp, t⟩ := bz_nz.mp z
        rw [bz_and, bz_and, bz_not _ _ hp, HG, Bool.and_eq_true, Bool.and_eq_true, Bool.not_eq_true'] at t
        exact absurd ⟨p, hp, t⟩ w
theorem i_vc_valuations {k : Nat} {u : SX} {v : SY} (I : i_Rel k u v) (hk : k + 3 ≤ 1540) (v1 : Int32) : wpX_valuations (fun r u' => wpY_valuations (fun r' v' => r' = r ∧ i_Rel (k + 3) u' v') v v1) u v1 := by
  refine zz_el (P := fun u v => wpX_valuations (fun r u2 => wpY_valuations (fun r2 v2 => r2 = r ∧ i_Rel (k + 3) u2 v2) v v1) u v1) ?_ I
  intro N R Q C Z M L sm lf gf gl gh tl th ul uh kd fa sb mr al ar wv wr el eh nl nh il ih ll lh wd wl wh ms us vl rc ak md hs gd cu nx K
  obtain ⟨p1, p2, p3, p4, p5, p6, p7, p8, p9, p10, p11, p12⟩ := K.1
  rcases zz_cas v1 (n := Z) (by omega) with h1 | ⟨c, hc, rfl⟩
  · unfold wpX_valuations wpY_valuations
    exact xv_v0 h1 (br_t rfl (yv_v0 h1 (br_t rfl ⟨rfl, zz_in K⟩)))
  · have hZ : Z ≤ 48 := by omega
    have V : vp_in (nI c) 48 := vp_in_nI (by omega) (by decide)
    unfold wpX_valuations
    refine xv_v1 hZ hc (br_f (by decide) (xq_good K (fun ll' lh' gl' gh' tl' th' K1 HL HG => ?_)))
    dsimp only
    rw [nI_clamp (n := c) (by omega)]
    refine ⟨V, nm_e ⟨V, nm_e (nm_e (Exists.intro 129 (xc_va55 p2 ?_ 129 0 (by omega) (by omega))))⟩⟩
    unfold wpY_valuations
    refine yv_v1 hZ hc (br_f (by decide) (yq_occ K1 (yq_fill K1 (fun s _ h => h) (fun md' hs' gd' D HH HD => ?_))))
    refine Exists.intro 129 (yc_v25 (bz_p7 (show N + M ≤ 7 by omega)) hZ p2 hc HD (fun o ho => zz_gg_lt ho) HH ⟨?_, zz_in K1⟩ 129 0 (by omega) (by omega))
    refine congrArg (fun S => zz_vf N S 128) (funext fun p => ?_)
    rw [bz_and, HG]
    rfl
end
section
/-! ===== core ===== -/
noncomputable def zz_co (ps : Int32 → Prop) : Nat → Nat → Int32 → Int32
  | 0, _, k => k
  | d + 1, s, k => cond (bt k s && !zz_d (ps (k &&& (((1 : Int32) <<< (nI s &&& 31)) ^^^ (-1))))) (zz_co ps d (s + 1) (k &&& (((1 : Int32) <<< (nI s &&& 31)) ^^^ (-1)))) (zz_co ps d (s + 1) k)
theorem zz_co_k {ps : Int32 → Prop} {d s : Nat} {k : Int32} (h : bt k s = false ∨ ps (k &&& (((1 : Int32) <<< (nI s &&& 31)) ^^^ (-1)))) : zz_co ps (d + 1) s k = zz_co ps d (s + 1) k := by
  show cond (bt k s && !zz_d (ps (k &&& (((1 : Int32) <<< (nI s &&& 31)) ^^^ (-1))))) _ _ = _
  rcases h with h | h
  · rw [h, Bool.false_and]
    rfl
  · rw [zz_dt.mpr h, Bool.not_true, Bool.and_false]
    rfl
theorem zz_co_d {ps : Int32 → Prop} {d s : Nat} {k : Int32} (h : bt k s = true) (h2 : ¬ ps (k &&& (((1 : Int32) <<< (nI s &&& 31)) ^^^ (-1)))) : zz_co ps (d + 1) s k = zz_co ps d (s + 1) (k &&& (((1 : Int32) <<< (nI s &&& 31)) ^^^ (-1))) := by
  show cond (bt k s && !zz_d (ps (k &&& (((1 : Int32) <<< (nI s &&& 31)) ^^^ (-1))))) _ _ = _
  rw [h, zz_df.mpr h2]
  rfl
/-- some pattern of the good set of a mask lies in c -/
def zz_ps1 (N M : Nat) (mr : Nat → Int32) (nl nh il ih : Nat → Int64) (al ar : Nat → Int32) (el eh : Nat → Int64) (c : Nat) (mask : Int32) : Prop :=
  ∃ p, p < 128 ∧ zz_gg N M mr nl nh il ih al ar el eh mask p = true ∧ zz_T el eh c p = true
section
variable {N R Q C Z M L : Nat} {sm lf gf : Int32} {gl gh tl th ul uh : Int64} {kd fa sb mr al ar wv wr : Nat → Int32} {el eh nl nh il ih ll lh wd wl wh : Nat → Int64}
variable {ms : Int32} {us vl rc ak md hs gd cu nx : Nat → Int32}
theorem zz_K_links {ll' lh' : Nat → Int64} (K : zz_K N R Q C Z M L sm 1 1 gl gh kd fa sb mr al ar wv wr el eh nl nh il ih ll lh wd wl wh us vl rc ak) (HL : zz_lo R (2 ^ (N + M)) M mr nl nh il ih ll' lh') : zz_K N R Q C Z M L sm 1 1 gl gh kd fa sb mr al ar wv wr el eh nl nh il ih ll' lh' wd wl wh us vl rc ak := by
  obtain ⟨P, eM, NO, NM, A, W, F⟩ := K
  refine ⟨P, eM, NO, NM, A, W, ?_⟩
  rcases F with ⟨h, -⟩ | ⟨h1, h2, h3⟩
  · exact absurd h (by decide)
  · exact Or.inr ⟨h1, HL, h3⟩
theorem xq_core28 {post : Int32 → SX → Prop} {c : Nat} {G : Int32} (hc : c < Z) (KK : ∀ (ll lh : Nat → Int64) (tl th : Int64), zz_K N R Q C Z M L sm 1 1 gl gh kd fa sb mr al ar wv wr el eh nl nh il ih ll lh wd wl wh us vl rc ak → post G (nI N, nI R, nI Q, nI C, nI Z, nI M, sm, 1, 1, gl, gh, tl, th, nI L, ul, uh, kd, fa, sb, el, eh, mr, nl, nh, il, ih, al, ar, ll, lh, wv, wr, wd, wl, wh)) : ∀ (n s : Nat) (kept : Int32) (ll lh : Nat → Int64) (tl th : Int64), s ≤ 8 → 8 - s < n → (∀ j, j < 8 → bt kept j = true → bt sm j = true) → zz_co (zz_ps1 N M mr nl nh il ih al ar el eh c) (8 - s) s kept = G → zz_lo R (2 ^ (N + M)) M mr nl nh il ih ll lh → zz_K N R Q C Z M L sm 1 1 gl gh kd fa sb mr al ar wv wr el eh nl nh il ih ll lh wd wl wh us vl rc ak → wX_core_28 post (nI c) n kept (nI s) (nI N) (nI R) (nI Q) (nI C) (nI Z) (nI M) sm 1 1 gl gh tl th (nI L) ul uh kd fa sb el eh mr nl nh il ih al ar ll lh wv wr wd wl wh := by
  intro n
  induction n with
  | zero => intro s kept ll lh tl th a b; exact absurd b (Nat.not_lt_zero _)
  | succ n IH =>
    intro s kept ll lh tl th a b HS HG HL K
    refine pk_le 8 s (fun hm => ?_) (fun hm => ?_)
    · rw [show 8 - s = 0 by omega] at HG
      rw [show kept = G from HG]
      exact KK ll lh tl th K
    · have hZ : Z ≤ 48 := Nat.le_trans K.1.2.2.2.2.2.2.2.2.2.1 K.1.2.2.2.2.2.2.2.1
      have V : vp_in (nI c) 48 := vp_in_nI (by omega) (by decide)
      obtain ⟨d, ed⟩ : ∃ d, 8 - s = d + 1 := ⟨7 - s, by omega⟩
      have ed2 : 8 - (s + 1) = d := by omega
      rw [ed] at HG
      have HS2 : ∀ j, j < 8 → bt (kept &&& (((1 : Int32) <<< (nI s &&& 31)) ^^^ (-1))) j = true → bt sm j = true := by
        intro j hj w
        rw [bz_clr (by omega), Bool.and_eq_true] at w
        exact HS j hj w.1
      refine nm_e (ek_if (bz_oc (by omega)) (fun z => ?_) (fun z => ?_))
      · rw [zz_co_k (Or.inl z)] at HG
        exact nm_r (nI_1 s) (IH (s + 1) kept ll lh tl th (by omega) (by omega) HS (by rw [ed2]; exact HG) HL K)
      · have K0 := K
        obtain ⟨⟨p1, p2, p3, p4, p5, p6, p7, p8, p9, p10, p11, p12⟩, eM, NO, NM, A, W, F⟩ := K
        refine xc_eliminate p4 (by omega) (fun m hm => zz_mrq NO m (by omega)) (fun j hj w => zz_axv hZ A j hj (HS2 j hj w)) (Or.inr ⟨rfl, HL⟩) (fun ll' lh' tl' th' HL' HT => ?_)
        have K2 := zz_K_links K0 HL'
        dsimp only
        rw [nI_clamp (n := c) (by omega)]
        refine ⟨V, V, nm_e (br_c (fun y => nm_e ?_) (fun y => ?_))⟩
        · have hn : ¬ zz_ps1 N M mr nl nh il ih al ar el eh c (kept &&& (((1 : Int32) <<< (nI s &&& 31)) ^^^ (-1))) := by
            intro ⟨p, hp, w1, w2⟩
            have t := bz_zero.mp y p hp
            rw [bz_and, HT, w1, Bool.true_and] at t
            exact absurd (t.symm.trans w2) (by decide)
          rw [zz_co_d (ts_nf z) hn] at HG
          exact nm_r (nI_1 s) (IH (s + 1) _ ll' lh' tl' th' (by omega) (by omega) HS2 (by rw [ed2]; exact HG) HL' K2)
        · have hy : zz_ps1 N M mr nl nh il ih al ar el eh c (kept &&& (((1 : Int32) <<< (nI s &&& 31)) ^^^ (-1))) := by
            obtain ⟨p, hp, t⟩ := bz_nz.mp y
            rw [bz_and, HT, Bool.and_eq_true] at t
            exact ⟨p, hp, t⟩
          rw [zz_co_k (Or.inr hy)] at HG
          exact nm_r (nI_1 s) (IH (s + 1) kept ll' lh' tl' th' (by omega) (by omega) HS (by rw [ed2]; exact HG) HL' K2)
theorem yq_core29 {post : Int32 → SY → Prop} {c : Nat} {G : Int32} (K : zz_K N R Q C Z M L sm lf gf gl gh kd fa sb mr al ar wv wr el eh nl nh il ih ll lh wd wl wh us vl rc ak) (hc : c < Z) (KK : ∀ (ms : Int32) (md hs gd : Nat → Int32), post G (nI N, nI R, nI Q, nI C, nI Z, nI L, ms, kd, fa, sb, us, al, ar, vl, rc, ak, md, hs, gd, cu, nx)) : ∀ (n s : Nat) (kept ms : Int32) (md hs gd : Nat → Int32), s ≤ 8 → 8 - s < n → (∀ j, j < 8 → bt kept j = true → bt sm j = true) → zz_co (zz_ps1 N M mr nl nh il ih al ar el eh c) (8 - s) s kept = G → wY_core_29 post (nI c) n kept (nI s) (nI N) (nI R) (nI Q) (nI C) (nI Z) (nI L) ms kd fa sb us al ar vl rc ak md hs gd cu nx := by
  intro n
  induction n with
  | zero => intro s kept ms md hs gd a b; exact absurd b (Nat.not_lt_zero _)
  | succ n IH =>
    intro s kept ms md hs gd a b HS HG
    refine pk_le 8 s (fun hm => ?_) (fun hm => ?_)
    · rw [show 8 - s = 0 by omega] at HG
      rw [show kept = G from HG]
      exact KK ms md hs gd
    · obtain ⟨d, ed⟩ : ∃ d, 8 - s = d + 1 := ⟨7 - s, by omega⟩
      have ed2 : 8 - (s + 1) = d := by omega
      rw [ed] at HG
      have HS2 : ∀ j, j < 8 → bt (kept &&& (((1 : Int32) <<< (nI s &&& 31)) ^^^ (-1))) j = true → bt sm j = true := by
        intro j hj w
        rw [bz_clr (by omega), Bool.and_eq_true] at w
        exact HS j hj w.1
      refine ek_if (bz_sr (by omega)) (fun z => nm_e ?_) (fun z => ?_)
      · refine yq_possible K HS2 hc (fun md' hs' gd' w => ?_) (fun md' hs' gd' w => ?_)
        · rw [zz_co_k (Or.inr w)] at HG
          exact br_f (by decide) (nm_r (nI_1 s) (IH (s + 1) kept _ md' hs' gd' (by omega) (by omega) HS (by rw [ed2]; exact HG)))
        · rw [zz_co_d z w] at HG
          exact br_t rfl (nm_r (nI_1 s) (IH (s + 1) _ _ md' hs' gd' (by omega) (by omega) HS2 (by rw [ed2]; exact HG)))
      · rw [zz_co_k (Or.inl (ts_nt z))] at HG
        exact nm_r (nI_1 s) (IH (s + 1) kept ms md hs gd (by omega) (by omega) HS (by rw [ed2]; exact HG))
end
theorem i_vc_core {k : Nat} {u : SX} {v : SY} (I : i_Rel k u v) (hk : k + 3 ≤ 1540) (v1 : Int32) : wpX_core (fun r u' => wpY_core (fun r' v' => r' = r ∧ i_Rel (k + 3) u' v') v v1) u v1 := by
  refine zz_el (P := fun u v => wpX_core (fun r u2 => wpY_core (fun r2 v2 => r2 = r ∧ i_Rel (k + 3) u2 v2) v v1) u v1) ?_ I
  intro N R Q C Z M L sm lf gf gl gh tl th ul uh kd fa sb mr al ar wv wr el eh nl nh il ih ll lh wd wl wh ms us vl rc ak md hs gd cu nx K
  obtain ⟨p1, p2, p3, p4, p5, p6, p7, p8, p9, p10, p11, p12⟩ := K.1
  rcases zz_cas v1 (n := Z) (by omega) with h1 | ⟨c, hc, rfl⟩
  · unfold wpX_core wpY_core
    exact xv_v0 h1 (br_t rfl (yv_v0 h1 (br_t rfl ⟨rfl, zz_in K⟩)))
  · have hZ : Z ≤ 48 := by omega
    unfold wpX_core
    refine xv_v1 hZ hc (br_f (by decide) (xq_possible K hc (fun ll' lh' gl' gh' tl' th' K1 HL E => ?_) (fun ll' lh' gl' gh' tl' th' K1 HL E => ?_)))
    · unfold wpY_core
      refine br_f (by decide) (yv_v1 hZ hc (br_f (by decide) (yq_occ K1 (yq_possible K1 (fun s _ h => h) hc (fun md' hs' gd' E2 => ?_) (fun md' hs' gd' E2 => absurd E E2)))))
      exact br_f (by decide) ⟨rfl, zz_in K1⟩
    · refine br_t rfl (Exists.intro 9 (xq_core28 hc (fun ll2 lh2 tl2 th2 K2 => ?_) 9 0 sm ll' lh' tl' th' (by omega) (by omega) (fun j _ h => h) rfl HL K1))
      unfold wpY_core
      refine yv_v1 hZ hc (br_f (by decide) (yq_occ K1 (yq_possible K1 (fun s _ h => h) hc (fun md' hs' gd' E2 => absurd E2 E) (fun md' hs' gd' E2 => ?_))))
      refine br_t rfl (Exists.intro 9 (yq_core29 K2 hc (fun ms3 md3 hs3 gd3 => ⟨rfl, zz_in K2⟩) 9 0 sm _ md' hs' gd' (by omega) (by omega) (fun j _ h => h) rfl))
end
section
/-! ===== the walk: relation lemmas ===== -/
section
variable {N R Q C Z M L : Nat} {sm lf gf : Int32} {gl gh tl th ul uh : Int64} {kd fa sb mr al ar wv wr : Nat → Int32} {el eh nl nh il ih ll lh wd wl wh : Nat → Int64}
variable {ms : Int32} {us vl rc ak md hs gd cu nx : Nat → Int32}
theorem zz_K_L0 (K : zz_K N R Q C Z M L sm lf gf gl gh kd fa sb mr al ar wv wr el eh nl nh il ih ll lh wd wl wh us vl rc ak) : zz_K N R Q C Z M 0 sm lf gf gl gh kd fa sb mr al ar wv wr el eh nl nh il ih ll lh wd wl wh us vl rc ak := by
  obtain ⟨⟨p1, p2, p3, p4, p5, p6, p7, p8, p9, p10, p11, p12⟩, eM, NO, NM, A, W, F⟩ := K
  exact ⟨⟨p1, p2, p3, p4, p5, p6, p7, p8, p9, p10, p11, by omega⟩, eM, NO, NM, A, fun i hi => absurd hi (Nat.not_lt_zero _), F⟩
theorem zz_K_fr {vl' rc' ak' : Nat → Int32} (K : zz_K N R Q C Z M L sm lf gf gl gh kd fa sb mr al ar wv wr el eh nl nh il ih ll lh wd wl wh us vl rc ak) (E1 : ∀ i, i < L → vl' i = vl i ∧ rc' i = rc i) (E5 : ∀ j, j < L * 48 → ak' j = ak j) : zz_K N R Q C Z M L sm lf gf gl gh kd fa sb mr al ar wv wr el eh nl nh il ih ll lh wd wl wh us vl' rc' ak' := by
  obtain ⟨P, eM, NO, NM, A, W, F⟩ := K
  refine ⟨P, eM, NO, NM, A, fun i hi => ?_, F⟩
  obtain ⟨w1, w2, w3, w4, w5, w6⟩ := W i hi
  unfold zz_wki
  rw [(E1 i hi).1, (E1 i hi).2]
  exact ⟨w1, w2, w3, fun h hh => by rw [E5 _ (by omega)]; exact w4 h hh, w5, w6⟩
theorem zz_K_add {v c q : Nat} {lo hi : Int64} {vl' rc' ak' : Nat → Int32} (K : zz_K N R Q C Z M L sm lf gf gl gh kd fa sb mr al ar wv wr el eh nl nh il ih ll lh wd wl wh us vl rc ak) (hL : L < 8) (hc : c < Z) (hv : v < 2 ^ N) (hq : q < 2 * R) (HB : ∀ p, p < 128 → bz_b lo hi p = (zz_T el eh c p && decide (p % 2 ^ N = v))) (E1 : ∀ i, i < L → vl' i = vl i ∧ rc' i = rc i) (E2 : vl' L = nI v) (E3 : rc' L = nI q) (E4 : ∀ h, h < 48 → ak' (L * 48 + h) = zz_i (decide (h = c))) (E5 : ∀ j, j < L * 48 → ak' j = ak j) : zz_K N R Q C Z M (L + 1) sm lf gf gl gh kd fa sb mr al ar (upd wv L (nI v)) (upd wr L (nI q)) el eh nl nh il ih ll lh (vp_updL wd L ((1 : Int64) <<< ((nI c).toInt64 &&& 63))) (vp_updL wl L lo) (vp_updL wh L hi) us vl' rc' ak' := by
  obtain ⟨⟨p1, p2, p3, p4, p5, p6, p7, p8, p9, p10, p11, p12⟩, eM, NO, NM, A, W, F⟩ := K
  refine ⟨⟨p1, p2, p3, p4, p5, p6, p7, p8, p9, p10, p11, by omega⟩, eM, NO, NM, A, fun i hi' => ?_, F⟩
  rcases Nat.lt_or_ge i L with z | z
  · obtain ⟨w1, w2, w3, w4, w5, w6⟩ := W i z
    unfold zz_wki
    rw [pk_un (by omega), pk_un (by omega), pk_uLn (by omega), (E1 i z).1, (E1 i z).2]
    refine ⟨w1, w2, w3, fun h hh => by rw [E5 _ (by omega)]; exact w4 h hh, w5, ?_⟩
    obtain ⟨v0, a1, a2, a3⟩ := w6
    exact ⟨v0, a1, a2, fun p hp => by rw [zz_Tn (by omega)]; exact a3 p hp⟩
  · have e : i = L := by omega
    subst e
    unfold zz_wki
    rw [pk_us, pk_us, pk_uLs, E2, E3]
    refine ⟨rfl, rfl, ⟨q, hq, rfl⟩, fun h hh => ?_, fun h hh => ?_, v, hv, rfl, fun p hp => ?_⟩
    · rw [E4 h hh, bz_one (by omega)]
    · rw [bz_one (by omega), decide_eq_false (by omega)]
    · rw [zz_Ts, HB p hp, Bool.and_eq_true, decide_eq_true_iff]
      constructor
      · intro ⟨t1, t2⟩
        refine ⟨t2, fun h hh d => ?_⟩
        rw [bz_one (by omega), decide_eq_true_iff] at d
        rw [d]
        exact t1
      · intro ⟨t1, t2⟩
        exact ⟨t2 c hc (by rw [bz_one (by omega), decide_eq_true rfl]), t1⟩
theorem zz_K_ins {i c : Nat} (K : zz_K N R Q C Z M L sm lf gf gl gh kd fa sb mr al ar wv wr el eh nl nh il ih ll lh wd wl wh us vl rc ak) (hi : i < L) (hc : c < Z) : zz_K N R Q C Z M L sm lf gf gl gh kd fa sb mr al ar wv wr el eh nl nh il ih ll lh (vp_updL wd i (wd i ||| ((1 : Int64) <<< ((nI c).toInt64 &&& 63)))) (vp_updL wl i (wl i &&& el c)) (vp_updL wh i (wh i &&& eh c)) us vl rc (upd ak (i * 48 + c) (vp_nar .boolean 1)) := by
  obtain ⟨⟨p1, p2, p3, p4, p5, p6, p7, p8, p9, p10, p11, p12⟩, eM, NO, NM, A, W, F⟩ := K
  refine ⟨⟨p1, p2, p3, p4, p5, p6, p7, p8, p9, p10, p11, p12⟩, eM, NO, NM, A, fun j hj => ?_, F⟩
  obtain ⟨w1, w2, w3, w4, w5, v0, a1, a2, a3⟩ := W j hj
  by_cases e : j = i
  · subst e
    unfold zz_wki
    rw [pk_uLs]
    refine ⟨w1, w2, w3, fun h hh => ?_, fun h hh => ?_, v0, a1, a2, fun p hp => ?_⟩
    · rw [bz_lor, bz_one (by omega)]
      by_cases e2 : h = c
      · rw [e2, pk_us, decide_eq_true rfl, Bool.or_true]
        rfl
      · rw [pk_un (by omega), decide_eq_false e2, Bool.or_false]
        exact w4 h hh
    · rw [bz_lor, bz_one (by omega), w5 h hh, decide_eq_false (by omega)]
      rfl
    · rw [zz_Ts, bz_and, Bool.and_eq_true]
      constructor
      · intro ⟨t1, t2⟩
        obtain ⟨s1, s2⟩ := (a3 p hp).mp t1
        refine ⟨s1, fun h hh d => ?_⟩
        rw [bz_lor, bz_one (by omega), Bool.or_eq_true, decide_eq_true_iff] at d
        rcases d with d | d
        · exact s2 h hh d
        · rw [d]
          exact t2
      · intro ⟨t1, t2⟩
        refine ⟨(a3 p hp).mpr ⟨t1, fun h hh d => t2 h hh ?_⟩, t2 c hc ?_⟩
        · rw [bz_lor, d, Bool.true_or]
        · rw [bz_lor, bz_one (by omega), decide_eq_true rfl, Bool.or_true]
  · unfold zz_wki
    rw [pk_uLn e]
    refine ⟨w1, w2, w3, fun h hh => ?_, w5, v0, a1, a2, fun p hp => ?_⟩
    · rw [pk_un (by omega)]
      exact w4 h hh
    · rw [zz_Tn e]
      exact a3 p hp
/-! ===== the walk: runs on both sides ===== -/
theorem xq_run {post : SX → Prop} {pos : Int32} {e1 e2 : Int64} (K : zz_K N R Q C Z M L sm lf gf gl gh kd fa sb mr al ar wv wr el eh nl nh il ih ll lh wd wl wh us vl rc ak) (hL0 : 0 < L) (KK : ∀ (ll lh : Nat → Int64) (gl gh tl th ul uh : Int64), zz_K N R Q C Z M L sm 1 1 gl gh kd fa sb mr al ar wv wr el eh nl nh il ih ll lh wd wl wh us vl rc ak → zz_lo R (2 ^ (N + M)) M mr nl nh il ih ll lh → bz_b gl gh = zz_gg N M mr nl nh il ih al ar el eh sm → bz_b ul uh = zz_fr M mr (zz_T nl nh) (zz_T il ih) (zz_gg N M mr nl nh il ih al ar el eh sm) wr (zz_wx wl wh pos e1 e2) (L - 1) → post (nI N, nI R, nI Q, nI C, nI Z, nI M, sm, 1, 1, gl, gh, tl, th, nI L, ul, uh, kd, fa, sb, el, eh, mr, nl, nh, il, ih, al, ar, ll, lh, wv, wr, wd, wl, wh)) : wpX_runWalk post (nI N, nI R, nI Q, nI C, nI Z, nI M, sm, lf, gf, gl, gh, tl, th, nI L, ul, uh, kd, fa, sb, el, eh, mr, nl, nh, il, ih, al, ar, ll, lh, wv, wr, wd, wl, wh) pos e1 e2 := by
  have K0 := K
  obtain ⟨⟨p1, p2, p3, p4, p5, p6, p7, p8, p9, p10, p11, p12⟩, eM, NO, NM, A, W, F⟩ := K
  exact xc_runWalk p4 (by omega) (fun m hm => zz_mrq NO m (by omega)) (zz_axv (by omega) A) F p12 hL0 (fun i hi => (W i hi).2.2.1) (fun ll lh gl gh tl th ul uh HL HG HU => KK ll lh gl gh tl th ul uh (zz_K_good K0 HL HG) HL HG HU)
theorem yq_real {post : Int32 → SY → Prop} {i c : Nat} {bb : Bool} {wx : Nat → Nat → Bool} (K : zz_K N R Q C Z M L sm lf gf gl gh kd fa sb mr al ar wv wr el eh nl nh il ih ll lh wd wl wh us vl rc ak) (hi : i < L) (hc : c < Z) (D : zz_md (2 ^ (N + M)) M kd fa sb hs md mr (zz_T nl nh) (zz_T il ih)) (HH : zz_has (2 ^ (N + M)) Z hs el eh) (HD : ∀ o, o < 128 → gd o = zz_i (zz_gg N M mr nl nh il ih al ar el eh sm o)) (EX : ∀ j p, j < L → p < 128 → wx j p = (zz_T wl wh j p && zz_ex el eh i c bb j p)) (h1 : ∀ cu nx : Nat → Int32, (∃ p, p < 128 ∧ zz_fr M mr (zz_T nl nh) (zz_T il ih) (zz_gg N M mr nl nh il ih al ar el eh sm) wr wx (L - 1) p = true) → post 1 (nI N, nI R, nI Q, nI C, nI Z, nI L, nI M, kd, fa, sb, us, al, ar, vl, rc, ak, md, hs, gd, cu, nx)) (h0 : ∀ cu nx : Nat → Int32, ¬ (∃ p, p < 128 ∧ zz_fr M mr (zz_T nl nh) (zz_T il ih) (zz_gg N M mr nl nh il ih al ar el eh sm) wr wx (L - 1) p = true) → post 0 (nI N, nI R, nI Q, nI C, nI Z, nI L, nI M, kd, fa, sb, us, al, ar, vl, rc, ak, md, hs, gd, cu, nx)) : wpY_realizable post (nI N, nI R, nI Q, nI C, nI Z, nI L, nI M, kd, fa, sb, us, al, ar, vl, rc, ak, md, hs, gd, cu, nx) (nI L) (nI i) (nI c) (zz_i bb) := by
  obtain ⟨⟨p1, p2, p3, p4, p5, p6, p7, p8, p9, p10, p11, p12⟩, eM, NO, NM, A, W, F⟩ := K
  have E : ∀ p, p < 128 → zz_fr M mr (zz_T nl nh) (zz_T il ih) (zz_gg N M mr nl nh il ih al ar el eh sm) rc wx (L - 1) p = zz_fr M mr (zz_T nl nh) (zz_T il ih) (zz_gg N M mr nl nh il ih al ar el eh sm) wr wx (L - 1) p := zz_fr_congr (L - 1) (fun j hj => ⟨(W j (by omega)).2.1.symm, fun _ _ => rfl⟩)
  have E2 : (∃ p, p < 128 ∧ zz_fr M mr (zz_T nl nh) (zz_T il ih) (zz_gg N M mr nl nh il ih al ar el eh sm) rc wx (L - 1) p = true) ↔ (∃ p, p < 128 ∧ zz_fr M mr (zz_T nl nh) (zz_T il ih) (zz_gg N M mr nl nh il ih al ar el eh sm) wr wx (L - 1) p = true) :=
    ⟨fun ⟨p, hp, t⟩ => ⟨p, hp, by rw [← E p hp]; exact t⟩, fun ⟨p, hp, t⟩ => ⟨p, hp, by rw [E p hp]; exact t⟩⟩
  exact yc_realizable (w := fun j => zz_T wl wh j) (bz_p7 (show N + M ≤ 7 by omega)) (by omega) p2 (by omega) p12 (by omega) (by omega) hc D HD (fun o ho => zz_gg_lt ho) HH (fun j hj => zz_wkpo (by omega) (W j hj)) EX (fun cu nx t => h1 cu nx (E2.mp t)) (fun cu nx t => h0 cu nx (fun s => t (E2.mpr s)))
theorem zz_nid {i j : Nat} (hi : i < 8) (hj : j < 8) : decide (nI j = nI i) = decide (j = i) := by
  have e : (nI j = nI i) = (j = i) := propext (nI_eq (by omega) (by omega))
  simp only [e]
theorem zz_EXt {i c : Nat} (hi : i < L) (hL : L ≤ 8) : ∀ j p, j < L → p < 128 → zz_wx wl wh (nI i) (el c) (eh c) j p = (zz_T wl wh j p && zz_ex el eh i c true j p) := by
  intro j p hj hp
  unfold zz_wx zz_ex
  rw [zz_nid (by omega) (by omega), show bz_b (el c) (eh c) p = zz_T el eh c p from rfl]
  cases zz_T el eh c p <;> rfl
theorem zz_EXf {i c : Nat} (hi : i < L) (hL : L ≤ 8) : ∀ j p, j < L → p < 128 → zz_wx wl wh (nI i) (el c ^^^ (-1)) (eh c ^^^ (-1)) j p = (zz_T wl wh j p && zz_ex el eh i c false j p) := by
  intro j p hj hp
  unfold zz_wx zz_ex
  rw [zz_nid (by omega) (by omega), bz_not _ _ hp, show bz_b (el c) (eh c) p = zz_T el eh c p from rfl]
  cases zz_T el eh c p <;> rfl
theorem zz_emp {S : Nat → Bool} {a b : Int64} (H : bz_b a b = S) : ((a ||| b) = 0 ↔ ¬ ∃ p, p < 128 ∧ S p = true) := by
  rw [bz_zero, H]
  constructor
  · intro h ⟨p, hp, t⟩
    rw [h p hp] at t
    exact absurd t (by decide)
  · intro h p hp
    exact ts_nt (fun t => h ⟨p, hp, t⟩)
end
theorem i_vc_insist {k : Nat} {u : SX} {v : SY} (I : i_Rel k u v) (hk : k + 3 ≤ 1540) (v1 : Int32) (v2 : Int32) : wpX_insist (fun r u' => wpY_insist (fun r' v' => r' = r ∧ i_Rel (k + 3) u' v') v v1 v2) u v1 v2 := by
  refine zz_el (P := fun u v => wpX_insist (fun r u2 => wpY_insist (fun r2 v2 => r2 = r ∧ i_Rel (k + 3) u2 v2) v v1 v2) u v1 v2) ?_ I
  intro N R Q C Z M L sm lf gf gl gh tl th ul uh kd fa sb mr al ar wv wr el eh nl nh il ih ll lh wd wl wh ms us vl rc ak md hs gd cu nx K
  obtain ⟨p1, p2, p3, p4, p5, p6, p7, p8, p9, p10, p11, p12⟩ := K.1
  have W := K.2.2.2.2.2.1
  rcases zz_cas v1 (n := L) (by omega) with h1 | ⟨i, hi, rfl⟩
  · unfold wpX_insist wpY_insist
    exact xv_p0 h1 (br_t rfl (yv_p0 h1 (br_t rfl ⟨rfl, zz_in K⟩)))
  · rcases zz_cas v2 (n := Z) (by omega) with h2 | ⟨c, hc, rfl⟩
    · unfold wpX_insist wpY_insist
      exact xv_p1 p12 hi (br_f (by decide) (xv_v0 h2 (br_t rfl (yv_p1 p12 hi (br_f (by decide) (yv_v0 h2 (br_t rfl ⟨rfl, zz_in K⟩)))))))
    · have V : vp_in (nI i) 8 := vp_in_nI (by omega) (by decide)
      have Vc : vp_in (nI c) 48 := vp_in_nI (by omega) (by decide)
      have V2 : vp_in (nI (i * 48 + c)) 384 := vp_in_nI (by omega) (by decide)
      have hZ : Z ≤ 48 := by omega
      have w4 := (W i hi).2.2.2.1 c (by omega)
      unfold wpX_insist
      refine xv_p1 p12 hi (br_f (by decide) (xv_v1 hZ hc (br_f (by decide) (nm_e ⟨V, ?_⟩))))
      rw [nI_clamp (n := i) (by omega), nI_clamp (n := c) (by omega)]
      refine ek_if (bz_ask (by omega)) (fun z => ⟨Vc, Vc, xq_run K (by omega) (fun ll' lh' gl' gh' tl' th' ul' uh' K1 HL HG HU => ?_)⟩) (fun z => ?_)
      · dsimp only
        rw [z] at w4
        have GY : ∀ (post : Int32 → SY → Prop), (∀ (md hs gd cu nx : Nat → Int32), (∃ p, p < 128 ∧ zz_fr M mr (zz_T nl nh) (zz_T il ih) (zz_gg N M mr nl nh il ih al ar el eh sm) wr (zz_wx wl wh (nI i) (el c) (eh c)) (L - 1) p = true) → post 1 (nI N, nI R, nI Q, nI C, nI Z, nI L, nI M, kd, fa, sb, us, al, ar, vl, rc, upd ak (i * 48 + c) (vp_nar .boolean 1), md, hs, gd, cu, nx)) → (∀ (md hs gd cu nx : Nat → Int32), ¬ (∃ p, p < 128 ∧ zz_fr M mr (zz_T nl nh) (zz_T il ih) (zz_gg N M mr nl nh il ih al ar el eh sm) wr (zz_wx wl wh (nI i) (el c) (eh c)) (L - 1) p = true) → post 0 (nI N, nI R, nI Q, nI C, nI Z, nI L, nI M, kd, fa, sb, us, al, ar, vl, rc, ak, md, hs, gd, cu, nx)) → wpY_insist post (nI N, nI R, nI Q, nI C, nI Z, nI L, ms, kd, fa, sb, us, al, ar, vl, rc, ak, md, hs, gd, cu, nx) (nI i) (nI c) := by
          intro post g1 g0
          unfold wpY_insist
          refine yv_p1 p12 hi (br_f (by decide) (yv_v1 hZ hc (br_f (by decide) ?_)))
          rw [ye_ix, nI_clamp (n := i * 48 + c) (by omega)]
          refine ⟨V2, br_t w4 (yq_occ K1 (yq_fill K1 (fun s _ h => h) (fun md' hs' gd' D HH HD => ?_)))⟩
          refine yq_real (bb := true) K1 hi hc D HH HD (zz_EXt hi p12) (fun cu' nx' t => ?_) (fun cu' nx' t => ?_)
          · exact br_f (by decide) ⟨V2, nm_e (g1 md' hs' gd' cu' nx' t)⟩
          · exact br_t rfl (g0 md' hs' gd' cu' nx' t)
        refine ek_if (zz_emp HU) (fun y => ?_) (fun y => ?_)
        · exact GY _ (fun md' hs' gd' cu' nx' t => absurd t y) (fun md' hs' gd' cu' nx' t => ⟨rfl, zz_in K1⟩)
        · refine ⟨V, V, nm_e ⟨V, Vc, V, nm_e ⟨V, Vc, V, nm_e ?_⟩⟩⟩
          exact GY _ (fun md' hs' gd' cu' nx' t => ⟨rfl, zz_in (zz_K_ins K1 hi hc)⟩) (fun md' hs' gd' cu' nx' t => absurd t y)
      · rw [ts_nf z] at w4
        unfold wpY_insist
        refine yv_p1 p12 hi (br_f (by decide) (yv_v1 hZ hc (br_f (by decide) ?_)))
        rw [ye_ix, nI_clamp (n := i * 48 + c) (by omega)]
        exact ⟨V2, br_f (by rw [w4]; decide) ⟨rfl, zz_in K⟩⟩
theorem i_vc_knows {k : Nat} {u : SX} {v : SY} (I : i_Rel k u v) (hk : k + 3 ≤ 1540) (v1 : Int32) (v2 : Int32) : wpX_knows (fun r u' => wpY_knows (fun r' v' => r' = r ∧ i_Rel (k + 3) u' v') v v1 v2) u v1 v2 := by
  refine zz_el (P := fun u v => wpX_knows (fun r u2 => wpY_knows (fun r2 v2 => r2 = r ∧ i_Rel (k + 3) u2 v2) v v1 v2) u v1 v2) ?_ I
  intro N R Q C Z M L sm lf gf gl gh tl th ul uh kd fa sb mr al ar wv wr el eh nl nh il ih ll lh wd wl wh ms us vl rc ak md hs gd cu nx K
  obtain ⟨p1, p2, p3, p4, p5, p6, p7, p8, p9, p10, p11, p12⟩ := K.1
  rcases zz_cas v1 (n := L) (by omega) with h1 | ⟨i, hi, rfl⟩
  · unfold wpX_knows wpY_knows
    exact xv_p0 h1 (br_t rfl (yv_p0 h1 (br_t rfl ⟨rfl, zz_in K⟩)))
  · rcases zz_cas v2 (n := Z) (by omega) with h2 | ⟨c, hc, rfl⟩
    · unfold wpX_knows wpY_knows
      exact xv_p1 p12 hi (br_f (by decide) (xv_v0 h2 (br_t rfl (yv_p1 p12 hi (br_f (by decide) (yv_v0 h2 (br_t rfl ⟨rfl, zz_in K⟩)))))))
    · have Vc : vp_in (nI c) 48 := vp_in_nI (by omega) (by decide)
      have hZ : Z ≤ 48 := by omega
      unfold wpX_knows
      refine xv_p1 p12 hi (br_f (by decide) (xv_v1 hZ hc (br_f (by decide) ⟨Vc, Vc, ?_⟩)))
      rw [nI_clamp (n := c) (by omega)]
      refine xq_run K (by omega) (fun ll' lh' gl' gh' tl' th' ul' uh' K1 HL HG HU => ?_)
      refine ek_if (zz_emp HU) (fun y => ?_) (fun y => ⟨Vc, Vc, ?_⟩)
      · unfold wpY_knows
        refine yv_p1 p12 hi (br_f (by decide) (yv_v1 hZ hc (br_f (by decide) (yq_occ K1 (yq_fill K1 (fun s _ h => h) (fun md' hs' gd' D HH HD => ?_))))))
        refine yq_real (bb := false) K1 hi hc D HH HD (zz_EXf hi p12) (fun cu' nx' t => absurd t y) (fun cu' nx' t => br_t rfl ⟨rfl, zz_in K1⟩)
      · refine xq_run K1 (by omega) (fun ll2 lh2 gl2 gh2 tl2 th2 ul2 uh2 K2 HL2 HG2 HU2 => ?_)
        have GY : ∀ (post : Int32 → SY → Prop), (∀ (md hs gd cu nx : Nat → Int32), (∃ p, p < 128 ∧ zz_fr M mr (zz_T nl nh) (zz_T il ih) (zz_gg N M mr nl nh il ih al ar el eh sm) wr (zz_wx wl wh (nI i) (el c) (eh c)) (L - 1) p = true) → post 2 (nI N, nI R, nI Q, nI C, nI Z, nI L, nI M, kd, fa, sb, us, al, ar, vl, rc, ak, md, hs, gd, cu, nx)) → (∀ (md hs gd cu nx : Nat → Int32), ¬ (∃ p, p < 128 ∧ zz_fr M mr (zz_T nl nh) (zz_T il ih) (zz_gg N M mr nl nh il ih al ar el eh sm) wr (zz_wx wl wh (nI i) (el c) (eh c)) (L - 1) p = true) → post 0 (nI N, nI R, nI Q, nI C, nI Z, nI L, nI M, kd, fa, sb, us, al, ar, vl, rc, ak, md, hs, gd, cu, nx)) → wpY_knows post (nI N, nI R, nI Q, nI C, nI Z, nI L, ms, kd, fa, sb, us, al, ar, vl, rc, ak, md, hs, gd, cu, nx) (nI i) (nI c) := by
          intro post g1 g0
          unfold wpY_knows
          refine yv_p1 p12 hi (br_f (by decide) (yv_v1 hZ hc (br_f (by decide) (yq_occ K1 (yq_fill K1 (fun s _ h => h) (fun md' hs' gd' D HH HD => ?_))))))
          refine yq_real (bb := false) K1 hi hc D HH HD (zz_EXf hi p12) (fun cu' nx' t => br_f (by decide) ?_) (fun cu' nx' t => absurd (Classical.not_not.mp y) t)
          refine yq_real (bb := true) K1 hi hc D HH HD (zz_EXt hi p12) (fun cu2 nx2 t => ?_) (fun cu2 nx2 t => ?_)
          · exact br_f (by decide) (g1 md' hs' gd' cu2 nx2 t)
          · exact br_t rfl (g0 md' hs' gd' cu2 nx2 t)
        refine ek_if (zz_emp HU2) (fun x => ?_) (fun x => ?_)
        · exact GY _ (fun md' hs' gd' cu' nx' t => absurd t x) (fun md' hs' gd' cu' nx' t => ⟨rfl, zz_in K2⟩)
        · exact GY _ (fun md' hs' gd' cu' nx' t => ⟨rfl, zz_in K2⟩) (fun md' hs' gd' cu' nx' t => absurd t x)
end
section
/-! ===== begin and step ===== -/
section
variable {N R Q C Z M L : Nat} {sm lf gf : Int32} {gl gh tl th ul uh : Int64} {kd fa sb mr al ar wv wr : Nat → Int32} {el eh nl nh il ih ll lh wd wl wh : Nat → Int64}
variable {ms : Int32} {us vl rc ak md hs gd cu nx : Nat → Int32}
theorem yq_valuations {post : Int32 → SY → Prop} {c : Nat} (K : zz_K N R Q C Z M L sm lf gf gl gh kd fa sb mr al ar wv wr el eh nl nh il ih ll lh wd wl wh us vl rc ak) (hc : c < Z) (KK : ∀ md hs gd : Nat → Int32, post (zz_vf N (fun p => zz_gg N M mr nl nh il ih al ar el eh sm p && zz_T el eh c p) 128) (nI N, nI R, nI Q, nI C, nI Z, nI L, nI M, kd, fa, sb, us, al, ar, vl, rc, ak, md, hs, gd, cu, nx)) : wpY_valuations post (nI N, nI R, nI Q, nI C, nI Z, nI L, ms, kd, fa, sb, us, al, ar, vl, rc, ak, md, hs, gd, cu, nx) (nI c) := by
  have K0 := K
  obtain ⟨⟨p1, p2, p3, p4, p5, p6, p7, p8, p9, p10, p11, p12⟩, eM, NO, NM, A, W, F⟩ := K
  unfold wpY_valuations
  refine yv_v1 (by omega) hc (br_f (by decide) (yq_occ K0 (yq_fill K0 (fun s _ h => h) (fun md' hs' gd' D HH HD => ?_))))
  exact Exists.intro 129 (yc_v25 (bz_p7 (show N + M ≤ 7 by omega)) (by omega) p2 hc HD (fun o ho => zz_gg_lt ho) HH (KK md' hs' gd') 129 0 (by omega) (by omega))
theorem yq_b18 {post : Int32 → SY → Prop} {c : Nat} {set : Int32} (hc : c < 48) (h0 : (∀ j, j < 16 → bt set j = false) → post (-4) (nI N, nI R, nI Q, nI C, nI Z, nI L, ms, kd, fa, sb, us, al, ar, vl, rc, ak, md, hs, gd, cu, nx)) (h1 : ∀ (v : Nat) (ak' : Nat → Int32), v < 16 → bt set v = true → (∀ j, j < v → bt set j = false) → (∀ h, h < 48 → ak' (0 * 48 + h) = zz_i (decide (h = c))) → post (nI v) (nI N, nI R, nI Q, nI C, nI Z, 1, ms, kd, fa, sb, us, al, ar, upd vl 0 (nI v), upd rc 0 0, ak', md, hs, gd, cu, nx)) : ∀ n v : Nat, v ≤ 16 → 16 - v < n → (∀ j, j < v → bt set j = false) → wY_begin_18 post (nI c) set (nI N) (nI R) (nI Q) (nI C) (nI Z) (nI L) ms kd fa sb us al ar vl rc ak md hs gd cu nx n (nI v) := by
  intro n
  induction n with
  | zero => intro v a b; exact absurd b (Nat.not_lt_zero _)
  | succ n IH =>
    intro v a b H
    refine pk_le 16 v (fun hm => ?_) (fun hm => ?_)
    · exact h0 (fun j hj => H j (by omega))
    · refine ek_if (bz_sr (by omega)) (fun z => ?_) (fun z => ?_)
      · exact yc_place (i := 0) (by omega) hc (fun ak' A1 A2 => h1 v ak' hm z H A1)
      · refine nm_r (nI_1 v) (IH (v + 1) (by omega) (by omega) (fun j hj => ?_))
        rcases Nat.lt_or_ge j v with y | y
        · exact H j y
        · rw [show j = v by omega]
          exact ts_nt z
end
theorem i_vc_begin {k : Nat} {u : SX} {v : SY} (I : i_Rel k u v) (hk : k + 3 ≤ 1540) (v1 : Int32) : wpX_begin (fun r u' => wpY_begin (fun r' v' => r' = r ∧ i_Rel (k + 3) u' v') v v1) u v1 := by
  refine zz_el (P := fun u v => wpX_begin (fun r u2 => wpY_begin (fun r2 v2 => r2 = r ∧ i_Rel (k + 3) u2 v2) v v1) u v1) ?_ I
  intro N R Q C Z M L sm lf gf gl gh tl th ul uh kd fa sb mr al ar wv wr el eh nl nh il ih ll lh wd wl wh ms us vl rc ak md hs gd cu nx K
  obtain ⟨p1, p2, p3, p4, p5, p6, p7, p8, p9, p10, p11, p12⟩ := K.1
  rcases zz_cas v1 (n := Z) (by omega) with h1 | ⟨c, hc, rfl⟩
  · unfold wpX_begin wpY_begin
    exact xv_v0 h1 (br_t rfl (yv_v0 h1 (br_t rfl ⟨rfl, zz_in K⟩)))
  · have hZ : Z ≤ 48 := by omega
    have V : vp_in (nI c) 48 := vp_in_nI (by omega) (by decide)
    have h16 := zz_16 p2
    unfold wpX_begin
    refine xv_v1 hZ hc (br_f (by decide) (xq_good K (fun ll' lh' gl' gh' tl' th' K1 HL HG => ?_)))
    dsimp only
    rw [nI_clamp (n := c) (by omega)]
    have B : ∀ p, bz_b (gl' &&& el c) (gh' &&& eh c) p = (zz_gg N M mr nl nh il ih al ar el eh sm p && zz_T el eh c p) := by
      intro p
      rw [bz_and, HG]
      rfl
    have BV : ∀ v, (bt (zz_vf N (fun p => zz_gg N M mr nl nh il ih al ar el eh sm p && zz_T el eh c p) 128) v = true ↔ ∃ p, p < 128 ∧ bz_b (gl' &&& el c) (gh' &&& eh c) p = true ∧ p % 2 ^ N = v) := by
      intro v
      rw [zz_vfb p2]
      exact ⟨fun ⟨p, a, b, d⟩ => ⟨p, a, by rw [B p]; exact b, d⟩, fun ⟨p, a, b, d⟩ => ⟨p, a, by rw [← B p]; exact b, d⟩⟩
    refine ⟨V, V, xc_leastValue p2 (fun E => br_f (by decide) ?_) (fun v hv E1 E2 => br_t (nI_pos' (by omega)) ?_)⟩
    · unfold wpY_begin
      refine yv_v1 hZ hc (br_f (by decide) (yq_valuations K1 hc (fun md' hs' gd' => ?_)))
      refine Exists.intro 17 (yq_b18 (by omega) (fun _ => ⟨rfl, zz_in K1⟩) (fun v' ak' a b d e => ?_) 17 0 (by omega) (by omega) (fun j hj => absurd hj (Nat.not_lt_zero _)))
      obtain ⟨p, hp, t, _⟩ := (BV v').mp b
      rw [E p hp] at t
      exact absurd t (by decide)
    · have K2 := zz_K_L0 K1
      refine xc_addPosition (L := 0) p2 (by omega) (by omega) hv (zz_namT p9 K1.2.2.1 K1.2.2.2.1 p2) (fun lo hi HB => ?_)
      unfold wpY_begin
      refine yv_v1 hZ hc (br_f (by decide) (yq_valuations K1 hc (fun md' hs' gd' => ?_)))
      refine Exists.intro 17 (yq_b18 (by omega) (fun E => ?_) (fun v' ak' a b d e => ?_) 17 0 (by omega) (by omega) (fun j hj => absurd hj (Nat.not_lt_zero _)))
      · have t := (BV v).mpr E1
        rw [E v (by omega)] at t
        exact absurd t (by decide)
      · have ev : v' = v := by
          obtain ⟨p, hp, t1, t2⟩ := (BV v').mp b
          have l1 := E2 p hp t1
          rcases Nat.lt_or_ge v v' with z | z
          · have t := (BV v).mpr E1
            rw [d v z] at t
            exact absurd t (by decide)
          · omega
        rw [ev]
        exact ⟨rfl, zz_in (zz_K_add (q := 0) K2 (by omega) hc hv (by omega) HB (fun i hi => absurd hi (Nat.not_lt_zero _)) pk_us pk_us e (fun j hj => absurd hj (by omega)))⟩
section
variable {N R Q C Z M L : Nat} {sm lf gf : Int32} {gl gh tl th ul uh : Int64} {kd fa sb mr al ar wv wr : Nat → Int32} {el eh nl nh il ih ll lh wd wl wh : Nat → Int64}
variable {ms : Int32} {us vl rc ak md hs gd cu nx : Nat → Int32}
/-- what a step of the walk may reach -/
noncomputable def zz_A (M : Nat) (mr : Nat → Int32) (nd fl : Nat → Nat → Bool) (G : Nat → Bool) (rl : Nat → Int32) (w : Nat → Nat → Bool) (T : Nat → Nat → Bool) (L q c p : Nat) : Bool :=
  (G p && zz_d (∃ o, o < 128 ∧ zz_fr M mr nd fl G rl w (L - 1) o = true ∧ zz_lk M mr nd fl (nI q) o p)) && T c p
/-- the walk's positions with one more behind them -/
def zz_w1 (N : Nat) (el eh wl wh : Nat → Int64) (L c v i p : Nat) : Bool := cond (decide (i = L)) (decide (p % 2 ^ N = v) && zz_T el eh c p) (zz_T wl wh i p)
theorem zz_frA {q c v : Nat} {G : Nat → Bool} {nd fl : Nat → Nat → Bool} {rc' : Nat → Int32} (hL0 : 0 < L) (E1 : ∀ i, i < L → rc' i = wr i) (E2 : rc' L = nI q) {p : Nat} (hp : p < 128) : zz_fr M mr nd fl G rc' (fun i p => zz_w1 N el eh wl wh L c v i p && zz_ex el eh L c true i p) (L + 1 - 1) p = true ↔ (zz_A M mr nd fl G wr (zz_T wl wh) (zz_T el eh) L q c p = true ∧ p % 2 ^ N = v) := by
  obtain ⟨l, rfl⟩ : ∃ l, L = l + 1 := ⟨L - 1, by omega⟩
  have C : ∀ o, o < 128 → zz_fr M mr nd fl G rc' (fun i p => zz_w1 N el eh wl wh (l + 1) c v i p && zz_ex el eh (l + 1) c true i p) l o = zz_fr M mr nd fl G wr (zz_T wl wh) l o := by
    refine zz_fr_congr l (fun j hj => ⟨E1 j (by omega), fun p hp => ?_⟩)
    show (zz_w1 N el eh wl wh (l + 1) c v j p && zz_ex el eh (l + 1) c true j p) = _
    unfold zz_w1 zz_ex
    rw [decide_eq_false (show ¬ j = l + 1 by omega)]
    show (zz_T wl wh j p && (!false || _)) = _
    rw [Bool.not_false, Bool.true_or, Bool.and_true]
  have D : (∃ o, o < 128 ∧ zz_fr M mr nd fl G rc' (fun i p => zz_w1 N el eh wl wh (l + 1) c v i p && zz_ex el eh (l + 1) c true i p) l o = true ∧ zz_lk M mr nd fl (nI q) o p) ↔ (∃ o, o < 128 ∧ zz_fr M mr nd fl G wr (zz_T wl wh) l o = true ∧ zz_lk M mr nd fl (nI q) o p) :=
    ⟨fun ⟨o, a, b, d⟩ => ⟨o, a, by rw [← C o a]; exact b, d⟩, fun ⟨o, a, b, d⟩ => ⟨o, a, by rw [C o a]; exact b, d⟩⟩
  show ((G p && zz_d (∃ o, o < 128 ∧ zz_fr M mr nd fl G rc' (fun i p => zz_w1 N el eh wl wh (l + 1) c v i p && zz_ex el eh (l + 1) c true i p) l o = true ∧ zz_lk M mr nd fl (rc' (l + 1)) o p)) && (zz_w1 N el eh wl wh (l + 1) c v (l + 1) p && zz_ex el eh (l + 1) c true (l + 1) p)) = true ↔ _
  rw [E2, zz_dc D]
  unfold zz_A zz_w1 zz_ex
  rw [decide_eq_true (show l + 1 = l + 1 from rfl)]
  show ((G p && zz_d (∃ o, o < 128 ∧ zz_fr M mr nd fl G wr (zz_T wl wh) l o = true ∧ zz_lk M mr nd fl (nI q) o p)) && ((decide (p % 2 ^ N = v) && zz_T el eh c p) && (!true || (zz_T el eh c p == true)))) = true ↔ ((G p && zz_d (∃ o, o < 128 ∧ zz_fr M mr nd fl G wr (zz_T wl wh) l o = true ∧ zz_lk M mr nd fl (nI q) o p)) && zz_T el eh c p) = true ∧ p % 2 ^ N = v
  generalize (G p && zz_d (∃ o, o < 128 ∧ zz_fr M mr nd fl G wr (zz_T wl wh) l o = true ∧ zz_lk M mr nd fl (nI q) o p)) = b1
  generalize zz_T el eh c p = b3
  by_cases e : p % 2 ^ N = v
  · rw [decide_eq_true e]
    refine ⟨fun h => ⟨?_, e⟩, fun h => ?_⟩
    · revert h
      cases b1 <;> cases b3 <;> decide
    · have h1 := h.1
      revert h1
      cases b1 <;> cases b3 <;> decide
  · rw [decide_eq_false e]
    exact ⟨fun h => absurd h (by cases b1 <;> cases b3 <;> decide), fun h => absurd h.2 e⟩
theorem yq_s61 {post : Int32 → SY → Prop} {q c : Nat} (K : zz_K N R Q C Z M L sm lf gf gl gh kd fa sb mr al ar wv wr el eh nl nh il ih ll lh wd wl wh us vl rc ak) (hc : c < Z) (hL0 : 0 < L) (hL : L < 8) (D : zz_md (2 ^ (N + M)) M kd fa sb hs md mr (zz_T nl nh) (zz_T il ih)) (HH : zz_has (2 ^ (N + M)) Z hs el eh) (HD : ∀ o, o < 128 → gd o = zz_i (zz_gg N M mr nl nh il ih al ar el eh sm o))
    (h0 : ∀ vl' rc' ak' cu nx : Nat → Int32, (∀ i, i < L → vl' i = vl i ∧ rc' i = rc i) → (∀ j, j < L * 48 → ak' j = ak j) → (∀ w, w < 2 ^ N → ¬ ∃ p, p < 128 ∧ zz_A M mr (zz_T nl nh) (zz_T il ih) (zz_gg N M mr nl nh il ih al ar el eh sm) wr (zz_T wl wh) (zz_T el eh) L q c p = true ∧ p % 2 ^ N = w) → post (-4) (nI N, nI R, nI Q, nI C, nI Z, nI L, nI M, kd, fa, sb, us, al, ar, vl', rc', ak', md, hs, gd, cu, nx))
    (h1 : ∀ (v : Nat) (vl' rc' ak' cu nx : Nat → Int32), v < 2 ^ N → (∃ p, p < 128 ∧ zz_A M mr (zz_T nl nh) (zz_T il ih) (zz_gg N M mr nl nh il ih al ar el eh sm) wr (zz_T wl wh) (zz_T el eh) L q c p = true ∧ p % 2 ^ N = v) → (∀ w, w < v → ¬ ∃ p, p < 128 ∧ zz_A M mr (zz_T nl nh) (zz_T il ih) (zz_gg N M mr nl nh il ih al ar el eh sm) wr (zz_T wl wh) (zz_T el eh) L q c p = true ∧ p % 2 ^ N = w) → (∀ i, i < L → vl' i = vl i ∧ rc' i = rc i) → (∀ j, j < L * 48 → ak' j = ak j) → vl' L = nI v → rc' L = nI q → (∀ h, h < 48 → ak' (L * 48 + h) = zz_i (decide (h = c))) → post (nI v) (nI N, nI R, nI Q, nI C, nI Z, nI (L + 1), nI M, kd, fa, sb, us, al, ar, vl', rc', ak', md, hs, gd, cu, nx)) :
    ∀ (n v : Nat) (vl' rc' ak' cu nx : Nat → Int32), v ≤ 2 ^ N → 2 ^ N - v < n → (∀ i, i < L → vl' i = vl i ∧ rc' i = rc i) → (∀ j, j < L * 48 → ak' j = ak j) → (∀ w, w < v → ¬ ∃ p, p < 128 ∧ zz_A M mr (zz_T nl nh) (zz_T il ih) (zz_gg N M mr nl nh il ih al ar el eh sm) wr (zz_T wl wh) (zz_T el eh) L q c p = true ∧ p % 2 ^ N = w) → wY_step_61 post (nI q) (nI c) (nI (2 ^ N)) n (nI v) (nI N) (nI R) (nI Q) (nI C) (nI Z) (nI L) (nI M) kd fa sb us al ar vl' rc' ak' md hs gd cu nx := by
  intro n
  obtain ⟨⟨p1, p2, p3, p4, p5, p6, p7, p8, p9, p10, p11, p12⟩, eM, NO, NM, A, W, F⟩ := K
  have h16 := zz_16 p2
  have hZ : Z ≤ 48 := by omega
  induction n with
  | zero => intro v vl' rc' ak' cu nx a b; exact absurd b (Nat.not_lt_zero _)
  | succ n IH =>
    intro v vl' rc' ak' cu nx a b F1 F2 H
    refine pk_le (2 ^ N) v (fun hm => ?_) (fun hm => ?_)
    · exact h0 vl' rc' ak' cu nx F1 F2 (fun w hw => H w (by omega))
    · refine yc_place hL (by omega) (fun ak2 A1 A2 => ?_)
      dsimp only
      rw [nI_1 L]
      have G1 : ∀ i, i < L → upd vl' L (nI v) i = vl i ∧ upd rc' L (nI q) i = rc i := fun i hi => by
        rw [pk_un (by omega), pk_un (by omega)]
        exact F1 i hi
      have G2 : ∀ j, j < L * 48 → ak2 j = ak j := fun j hj => by
        rw [A2 j (Or.inl hj)]
        exact F2 j hj
      have RA : ∀ p, p < 128 → (zz_fr M mr (zz_T nl nh) (zz_T il ih) (zz_gg N M mr nl nh il ih al ar el eh sm) (upd rc' L (nI q)) (fun i p => zz_w1 N el eh wl wh L c v i p && zz_ex el eh L c true i p) (L + 1 - 1) p = true ↔ (zz_A M mr (zz_T nl nh) (zz_T il ih) (zz_gg N M mr nl nh il ih al ar el eh sm) wr (zz_T wl wh) (zz_T el eh) L q c p = true ∧ p % 2 ^ N = v)) := fun p hp =>
        zz_frA hL0 (fun i hi => by rw [(G1 i hi).2]; exact (W i hi).2.1.symm) pk_us hp
      refine yc_realizable (w := zz_w1 N el eh wl wh L c v) (wx := fun i p => zz_w1 N el eh wl wh L c v i p && zz_ex el eh L c true i p) (bb := true) (bz_p7 (show N + M ≤ 7 by omega)) hZ p2 (by omega) (by omega) (by omega) hL hc D HD (fun o ho => zz_gg_lt ho) HH (fun i hi => ?_) (fun i p _ _ => rfl) (fun cu2 nx2 t => ?_) (fun cu2 nx2 t => ?_)
      · by_cases e : i = L
        · subst e
          refine ⟨v, fun h => decide (h = c), hm, pk_us, fun h hh => A1 h (by omega), fun p hp => ?_⟩
          unfold zz_w1
          rw [decide_eq_true (show i = i from rfl)]
          show (decide (p % 2 ^ N = v) && zz_T el eh c p) = true ↔ _
          rw [Bool.and_eq_true, decide_eq_true_iff]
          constructor
          · intro ⟨t1, t2⟩
            refine ⟨t1, fun h hh d => ?_⟩
            rw [of_decide_eq_true d]
            exact t2
          · intro ⟨t1, t2⟩
            exact ⟨t1, t2 c hc (decide_eq_true rfl)⟩
        · obtain ⟨v0, dem, a1, a2, a3, a4⟩ := zz_wkpo hZ (W i (by omega))
          refine ⟨v0, dem, a1, ?_, fun h hh => ?_, fun p hp => ?_⟩
          · rw [(G1 i (by omega)).1]
            exact a2
          · rw [G2 _ (by omega)]
            exact a3 h hh
          · unfold zz_w1
            rw [decide_eq_false e]
            exact a4 p hp
      · obtain ⟨p, hp, t⟩ := t
        exact br_f (by decide) (nm_r (nI_1 L) (h1 v _ _ ak2 cu2 nx2 hm ⟨p, hp, (RA p hp).mp t⟩ H G1 G2 pk_us pk_us A1))
      · refine br_t rfl (nm_r (nI_1 v) (IH (v + 1) _ _ ak2 cu2 nx2 (by omega) (by omega) G1 G2 (fun w hw => ?_)))
        rcases Nat.lt_or_ge w v with y | y
        · exact H w y
        · rw [show w = v by omega]
          intro ⟨p, hp, s⟩
          exact t ⟨p, hp, (RA p hp).mpr s⟩
theorem zz_wxm1 (hL : L ≤ 8) {G : Nat → Bool} {nd fl : Nat → Nat → Bool} (hL0 : 0 < L) : ∀ p, p < 128 → zz_fr M mr nd fl G wr (zz_wx wl wh (-1) (-1) (-1)) (L - 1) p = zz_fr M mr nd fl G wr (zz_T wl wh) (L - 1) p := by
  refine zz_fr_congr (L - 1) (fun j hj => ⟨rfl, fun p hp => ?_⟩)
  unfold zz_wx
  rw [bz_m1 hp, Bool.or_true, Bool.and_true]
end
end
section
/-! ===== step ===== -/
theorem i_vc_step {k : Nat} {u : SX} {v : SY} (I : i_Rel k u v) (hk : k + 3 ≤ 1540) (v1 : Int32) (v2 : Int32) : wpX_step (fun r u' => wpY_step (fun r' v' => r' = r ∧ i_Rel (k + 3) u' v') v v1 v2) u v1 v2 := by
  refine zz_el (P := fun u v => wpX_step (fun r u2 => wpY_step (fun r2 v2 => r2 = r ∧ i_Rel (k + 3) u2 v2) v v1 v2) u v1 v2) ?_ I
  intro N R Q C Z M L sm lf gf gl gh tl th ul uh kd fa sb mr al ar wv wr el eh nl nh il ih ll lh wd wl wh ms us vl rc ak md hs gd cu nx K
  obtain ⟨p1, p2, p3, p4, p5, p6, p7, p8, p9, p10, p11, p12⟩ := K.1
  rcases zz_cas v1 (n := 2 * R) (by omega) with h1 | ⟨q, hq, rfl⟩
  · unfold wpX_step wpY_step
    exact xv_r0 h1 (br_t rfl (yv_r0 h1 (br_t rfl ⟨rfl, zz_in K⟩)))
  · rcases zz_cas v2 (n := Z) (by omega) with h2 | ⟨c, hc, rfl⟩
    · unfold wpX_step wpY_step
      exact xv_r1 p4 hq (br_f (by decide) (xv_v0 h2 (br_t rfl (yv_r1 p4 hq (br_f (by decide) (yv_v0 h2 (br_t rfl ⟨rfl, zz_in K⟩)))))))
    · have hZ : Z ≤ 48 := by omega
      have V : vp_in (nI c) 48 := vp_in_nI (by omega) (by decide)
      have h16 := zz_16 p2
      unfold wpX_step
      refine xv_r1 p4 hq (br_f (by decide) (xv_v1 hZ hc (br_f (by decide) (pk_eq L 0 (fun e0 => ?_) (fun e0 => pk_lt L 8 (fun e8 => ?_) (fun e8 => ?_))))))
      · unfold wpY_step
        exact yv_r1 p4 hq (br_f (by decide) (yv_v1 hZ hc (br_f (by decide) (br_t (congrArg nI e0) ⟨rfl, zz_in K⟩))))
      · refine xq_run K (by omega) (fun ll' lh' gl' gh' tl' th' ul' uh' K1 HL HG HU => ?_)
        refine xc_advance hq p4 (by omega) HL (fun p hp => ?_) (fun ul2 uh2 HA => ?_)
        · rw [HU] at hp
          exact zz_gg_lt (zz_frG hp)
        · dsimp only
          rw [nI_clamp (n := c) (by omega)]
          have B : ∀ p, bz_b (ul2 &&& el c) (uh2 &&& eh c) p = zz_A M mr (zz_T nl nh) (zz_T il ih) (zz_gg N M mr nl nh il ih al ar el eh sm) wr (zz_T wl wh) (zz_T el eh) L q c p := by
            intro p
            rw [bz_and, HA p, HG, HU]
            unfold zz_A
            have D : (∃ o, o < 128 ∧ zz_fr M mr (zz_T nl nh) (zz_T il ih) (zz_gg N M mr nl nh il ih al ar el eh sm) wr (zz_wx wl wh (-1) (-1) (-1)) (L - 1) o = true ∧ zz_lk M mr (zz_T nl nh) (zz_T il ih) (nI q) o p) ↔ (∃ o, o < 128 ∧ zz_fr M mr (zz_T nl nh) (zz_T il ih) (zz_gg N M mr nl nh il ih al ar el eh sm) wr (zz_T wl wh) (L - 1) o = true ∧ zz_lk M mr (zz_T nl nh) (zz_T il ih) (nI q) o p) :=
              ⟨fun ⟨o, a, b, d⟩ => ⟨o, a, by rw [← zz_wxm1 p12 (by omega) o a]; exact b, d⟩, fun ⟨o, a, b, d⟩ => ⟨o, a, by rw [zz_wxm1 p12 (by omega) o a]; exact b, d⟩⟩
            rw [zz_dc D]
            rfl
          have GY : ∀ (post : Int32 → SY → Prop), (∀ (md hs gd vl' rc' ak' cu nx : Nat → Int32), (∀ i, i < L → vl' i = vl i ∧ rc' i = rc i) → (∀ j, j < L * 48 → ak' j = ak j) → (∀ w, w < 2 ^ N → ¬ ∃ p, p < 128 ∧ bz_b (ul2 &&& el c) (uh2 &&& eh c) p = true ∧ p % 2 ^ N = w) → post (-4) (nI N, nI R, nI Q, nI C, nI Z, nI L, nI M, kd, fa, sb, us, al, ar, vl', rc', ak', md, hs, gd, cu, nx)) → (∀ (v : Nat) (md hs gd vl' rc' ak' cu nx : Nat → Int32), v < 2 ^ N → (∃ p, p < 128 ∧ bz_b (ul2 &&& el c) (uh2 &&& eh c) p = true ∧ p % 2 ^ N = v) → (∀ w, w < v → ¬ ∃ p, p < 128 ∧ bz_b (ul2 &&& el c) (uh2 &&& eh c) p = true ∧ p % 2 ^ N = w) → (∀ i, i < L → vl' i = vl i ∧ rc' i = rc i) → (∀ j, j < L * 48 → ak' j = ak j) → vl' L = nI v → rc' L = nI q → (∀ h, h < 48 → ak' (L * 48 + h) = zz_i (decide (h = c))) → post (nI v) (nI N, nI R, nI Q, nI C, nI Z, nI (L + 1), nI M, kd, fa, sb, us, al, ar, vl', rc', ak', md, hs, gd, cu, nx)) → wpY_step post (nI N, nI R, nI Q, nI C, nI Z, nI L, ms, kd, fa, sb, us, al, ar, vl, rc, ak, md, hs, gd, cu, nx) (nI q) (nI c) := by
            intro post g0 g1
            have EW : ∀ w, (∃ p, p < 128 ∧ zz_A M mr (zz_T nl nh) (zz_T il ih) (zz_gg N M mr nl nh il ih al ar el eh sm) wr (zz_T wl wh) (zz_T el eh) L q c p = true ∧ p % 2 ^ N = w) ↔ (∃ p, p < 128 ∧ bz_b (ul2 &&& el c) (uh2 &&& eh c) p = true ∧ p % 2 ^ N = w) := fun w =>
              ⟨fun ⟨p, a, b, d⟩ => ⟨p, a, by rw [B p]; exact b, d⟩, fun ⟨p, a, b, d⟩ => ⟨p, a, by rw [← B p]; exact b, d⟩⟩
            unfold wpY_step
            refine yv_r1 p4 hq (br_f (by decide) (yv_v1 hZ hc (br_f (by decide) (br_f (nI_ne0 (by omega) (by omega)) (br_t (nI_lt (b := 8) e8 (by decide)) (yq_occ K1 (yq_fill K1 (fun s _ h => h) (fun md' hs' gd' D HH HD => ?_))))))))
            refine nm_r (bz_p2 N (by omega)) (Exists.intro (2 ^ N + 1) (yq_s61 K1 hc (by omega) e8 D HH HD (fun vl' rc' ak' cu' nx' F1 F2 E => ?_) (fun v vl' rc' ak' cu' nx' hv E1 E2 F1 F2 F3 F4 F5 => ?_) (2 ^ N + 1) 0 vl rc ak cu nx (Nat.zero_le _) (Nat.lt_succ_self _) (fun i hi => ⟨rfl, rfl⟩) (fun j hj => rfl) (fun w hw => absurd hw (Nat.not_lt_zero _))))
            · exact g0 md' hs' gd' vl' rc' ak' cu' nx' F1 F2 (fun w hw y => E w hw ((EW w).mpr y))
            · exact g1 v md' hs' gd' vl' rc' ak' cu' nx' hv ((EW v).mp E1) (fun w hw y => E2 w hw ((EW w).mpr y)) F1 F2 F3 F4 F5
          refine ⟨V, V, xc_leastValue p2 (fun E => br_f (by decide) ?_) (fun v hv E1 E2 => br_t (nI_pos' (by omega)) ?_)⟩
          · refine GY _ (fun md' hs' gd' vl' rc' ak' cu' nx' F1 F2 y => ⟨rfl, zz_in (zz_K_fr K1 F1 F2)⟩) (fun v' md' hs' gd' vl' rc' ak' cu' nx' hv y => ?_)
            obtain ⟨p, hp, t, _⟩ := y
            rw [E p hp] at t
            exact absurd t (by decide)
          · refine xc_addPosition p2 e8 (by omega) hv (zz_namT p9 K1.2.2.1 K1.2.2.2.1 p2) (fun lo hi HB => ?_)
            refine GY _ (fun md' hs' gd' vl' rc' ak' cu' nx' F1 F2 y => absurd E1 (y v hv)) (fun v' md' hs' gd' vl' rc' ak' cu' nx' hv' y1 y2 F1 F2 F3 F4 F5 => ?_)
            have ev : v' = v := by
              obtain ⟨p, hp, t1, t2⟩ := y1
              have l1 := E2 p hp t1
              rcases Nat.lt_or_ge v v' with z | z
              · exact absurd E1 (y2 v z)
              · omega
            subst ev
            exact ⟨rfl, zz_in (zz_K_add K1 e8 hc hv hq HB F1 F3 F4 F5 F2)⟩
      · unfold wpY_step
        exact yv_r1 p4 hq (br_f (by decide) (yv_v1 hZ hc (br_f (by decide) (br_f (nI_ne0 (by omega) (by omega)) (br_f (nI_nlt (b := 8) e8 (by omega)) ⟨rfl, zz_in K⟩)))))
end
