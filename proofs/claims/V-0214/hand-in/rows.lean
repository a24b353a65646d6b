section
theorem pk_us {f : Nat → Int32} {k : Nat} {x : Int32} : upd f k x k = x := if_pos rfl
theorem pk_un {f : Nat → Int32} {k j : Nat} {x : Int32} (h : j ≠ k) : upd f k x j = f j := if_neg h
theorem pk_uLs {f : Nat → Int64} {k : Nat} {x : Int64} : vp_updL f k x k = x := if_pos rfl
theorem pk_uLn {f : Nat → Int64} {k j : Nat} {x : Int64} (h : j ≠ k) : vp_updL f k x j = f j := if_neg h
theorem pk_sub {a b : Nat} (h : b ≤ a) : nI a - nI b = nI (a - b) := by
  obtain ⟨c, rfl⟩ : ∃ c, a = c + b := ⟨a - b, by omega⟩
  rw [← nI_add, Int32.add_sub_cancel, Nat.add_sub_cancel]
theorem pk_m1 (n : Nat) : nI (n + 1) + (-1) = nI n := by
  rw [← nI_1, Int32.add_assoc, show (1 : Int32) + (-1) = 0 from rfl, Int32.add_zero]
theorem pk_mul (a b : Nat) : nI a * nI b = nI (a * b) := (Int32.ofNat_mul a b).symm
theorem pk_div {a d : Nat} (ha : a < 2 ^ 31) (h0 : 0 < d) (hd : d < 2 ^ 31) : nI a / nI d = nI (a / d) := by
  apply Int32.toInt_inj.mp
  rw [lg_idiv_nonneg (by rw [nI_toInt ha]; omega) (by rw [nI_toInt hd]; omega), nI_toInt ha, nI_toInt hd, nI_toInt (Nat.lt_of_le_of_lt (Nat.div_le_self a d) ha)]
  first | rfl | exact (Int.natCast_ediv _ _).symm
theorem pk_rem {a d : Nat} (ha : a < 2 ^ 31) (h0 : 0 < d) (hd : d < 2 ^ 31) : nI a - nI a / nI d * nI d = nI (a % d) := by
  rw [pk_div ha h0 hd, pk_mul, pk_sub (Nat.div_mul_le_self a d)]
  exact congrArg nI (by have := Nat.div_add_mod' a d; omega)
theorem pk_sub_toInt {a b : Nat} (ha : a < 2 ^ 30) (hb : b < 2 ^ 30) : (nI a - nI b).toInt = (a : Int) - b := by
  rw [Int32.toInt_sub, nI_toInt (by omega), nI_toInt (by omega)]
  exact Int.bmod_eq_of_le (by omega) (by omega)
theorem pk_sneg {a b : Nat} (hb : b < 2 ^ 30) (h : a < b) : nI a - nI b < 0 := by
  rw [Int32.lt_iff_toInt_lt, pk_sub_toInt (by omega) hb, show (0 : Int32).toInt = 0 from by decide]
  omega
theorem pk_ix (x : Int32) {n : Nat} (hn : n < 2 ^ 31) : x < 0 ∨ nI n ≤ x ∨ ∃ j : Nat, j < n ∧ x = nI j := by
  by_cases h : x < 0
  · exact Or.inl h
  · obtain ⟨j, hj, rfl⟩ := nI_of h
    by_cases h2 : j < n
    · exact Or.inr (Or.inr ⟨j, h2, rfl⟩)
    · exact Or.inr (Or.inl (nI_le (by omega) hj))
theorem pk_le {x y : Int32} {A B : Prop} (a b : Nat) (f : a ≤ b → A) (g : b < a → B) (hx : x = nI a := by rfl) (hy : y = nI b := by rfl) (ha : a < 2 ^ 31 := by omega) (hb : b < 2 ^ 31 := by omega) : (x ≤ y → A) ∧ (¬ x ≤ y → B) := by
  subst hx hy
  rw [nI_leI ha hb]
  exact ⟨f, fun z => g (by omega)⟩
theorem pk_lt {x y : Int32} {A B : Prop} (a b : Nat) (f : a < b → A) (g : b ≤ a → B) (hx : x = nI a := by rfl) (hy : y = nI b := by rfl) (ha : a < 2 ^ 31 := by omega) (hb : b < 2 ^ 31 := by omega) : (x < y → A) ∧ (¬ x < y → B) := by
  subst hx hy
  rw [nI_ltI ha hb]
  exact ⟨f, fun z => g (by omega)⟩
theorem pk_eq {x y : Int32} {A B : Prop} (a b : Nat) (f : a = b → A) (g : a ≠ b → B) (hx : x = nI a := by rfl) (hy : y = nI b := by rfl) (ha : a < 2 ^ 31 := by omega) (hb : b < 2 ^ 31 := by omega) : (x = y → A) ∧ (¬ x = y → B) := by
  subst hx hy
  rw [nI_eq ha hb]
  exact ⟨f, g⟩
theorem pk_in {x : Int32} (n N : Nat) (h : n < N) (hx : x = nI n := by rfl) (hN : N < 2 ^ 31 := by omega) : vp_in x N := by
  subst hx
  exact vp_in_nI h hN
theorem pk_cl {x : Int32} (n : Nat) (hx : x = nI n := by rfl) (h : n < 2 ^ 31 := by omega) : x.toNatClampNeg = n := by
  subst hx
  exact nI_clamp h
theorem pk_tn {n : Nat} (h : n < 2 ^ 32) : (nI n).toBitVec.toNat = n := Nat.mod_eq_of_lt h
theorem pk_and (x : Int32) {m : Int32} (k : Nat) (hm : m.toBitVec.toNat = 2 ^ k - 1) : x &&& m = nI (x.toBitVec.toNat % 2 ^ k) := by
  apply Int32.toBitVec_inj.mp
  apply BitVec.eq_of_toNat_eq
  rw [Int32.toBitVec_and, BitVec.toNat_and, hm, Nat.and_two_pow_sub_one_eq_mod]
  show _ = (BitVec.ofNat 32 _).toNat
  rw [BitVec.toNat_ofNat]
  exact (Nat.mod_eq_of_lt (Nat.lt_of_le_of_lt (Nat.mod_le _ _) x.toBitVec.isLt)).symm
theorem pk_andN {n : Nat} (h : n < 2 ^ 32) {m : Int32} (k : Nat) (hm : m.toBitVec.toNat = 2 ^ k - 1) : nI n &&& m = nI (n % 2 ^ k) := by
  rw [pk_and _ k hm, pk_tn h]
theorem pk_andE (x : Int32) {m : Int32} (k : Nat) (hm : m.toBitVec.toNat = 2 ^ k - 1) : ∃ j : Nat, j < 2 ^ k ∧ x &&& m = nI j := ⟨_, Nat.mod_lt _ (Nat.two_pow_pos k), pk_and x k hm⟩
theorem pk_andIn (x : Int32) {m : Int32} (k : Nat) (hm : m.toBitVec.toNat = 2 ^ k - 1) (hk : k ≤ 30) : vp_in (x &&& m) (2 ^ k) := by
  obtain ⟨j, hj, e⟩ := pk_andE x k hm
  rw [e]
  exact vp_in_nI hj (Nat.lt_of_le_of_lt (Nat.pow_le_pow_right (by decide) hk) (by decide))
theorem pk_shl (a s : Int32) (k : Nat) (hs : (s.toBitVec.smod 32).toNat = k) : (a <<< s).toBitVec.toNat = a.toBitVec.toNat * 2 ^ k % 2 ^ 32 := by
  show (a.toBitVec <<< (s.toBitVec.smod 32).toNat).toNat = _
  rw [hs, BitVec.toNat_shiftLeft, Nat.shiftLeft_eq]
theorem pk_shlN {n : Nat} (s : Int32) (k : Nat) (hs : (s.toBitVec.smod 32).toNat = k) (h : n * 2 ^ k < 2 ^ 32) : nI n <<< s = nI (n * 2 ^ k) := by
  apply Int32.toBitVec_inj.mp
  apply BitVec.eq_of_toNat_eq
  have hn : n < 2 ^ 32 := Nat.lt_of_le_of_lt (Nat.le_mul_of_pos_right n (Nat.two_pow_pos k)) h
  rw [pk_shl _ _ k hs, pk_tn hn, pk_tn h, Nat.mod_eq_of_lt h]
theorem pk_shr (a s : Int32) (k : Nat) (hs : (s.toBitVec.smod 32).toNat = k) : (a >>> s).toInt = a.toInt >>> k := by
  show (a.toBitVec.sshiftRight (s.toBitVec.smod 32).toNat).toInt = _
  rw [hs, BitVec.toInt_sshiftRight]
  rfl
theorem pk_shrN {n : Nat} (h : n < 2 ^ 31) (s : Int32) (k : Nat) (hs : (s.toBitVec.smod 32).toNat = k) : nI n >>> s = nI (n / 2 ^ k) := by
  apply Int32.toInt_inj.mp
  have h2 : n / 2 ^ k ≤ n := Nat.div_le_self _ _
  rw [pk_shr _ _ k hs, nI_toInt h, nI_toInt (by omega), Int.shiftRight_eq_div_pow]
  rfl
theorem pk_ushr (x s : Int32) (k : Nat) (hs : ((s.toUInt32 &&& Int32.toUInt32 31).toBitVec % 32).toNat = k) : (x.toUInt32 >>> (s.toUInt32 &&& Int32.toUInt32 31)).toInt32.toBitVec.toNat = x.toBitVec.toNat / 2 ^ k := by
  have e : (x.toUInt32 >>> (s.toUInt32 &&& Int32.toUInt32 31)).toInt32.toBitVec = x.toBitVec >>> k := by
    rw [← hs]
    exact UInt32.toBitVec_shiftRight _ _
  rw [e, BitVec.toNat_ushiftRight, Nat.shiftRight_eq_div_pow]
theorem pk_ushrN {n : Nat} (hn : n < 2 ^ 32) (s : Int32) (k : Nat) (hs : ((s.toUInt32 &&& Int32.toUInt32 31).toBitVec % 32).toNat = k) : ((nI n).toUInt32 >>> (s.toUInt32 &&& Int32.toUInt32 31)).toInt32 = nI (n / 2 ^ k) := by
  apply Int32.toBitVec_inj.mp
  apply BitVec.eq_of_toNat_eq
  rw [pk_ushr _ s k hs, pk_tn hn, pk_tn (Nat.lt_of_le_of_lt (Nat.div_le_self _ _) hn)]
theorem pk_least (P : Nat → Prop) (h : ∃ k, P k) : ∃ k, P k ∧ ∀ j, j < k → ¬ P j := by
  obtain ⟨k, hk⟩ := h
  induction k using Nat.strongRecOn with
  | ind k ih =>
    by_cases e : ∃ j, j < k ∧ P j
    · obtain ⟨j, hj, pj⟩ := e
      exact ih j hj pj
    · exact ⟨k, hk, fun j hj pj => e ⟨j, hj, pj⟩⟩
/-! ===== Int32 by its bits: bt x i ===== -/
def bt (x : Int32) (i : Nat) : Bool := x.toBitVec.getLsbD i
theorem b_ext {x y : Int32} (h : ∀ i, i < 32 → bt x i = bt y i) : x = y := Int32.toBitVec_inj.mp (BitVec.eq_of_getLsbD_eq (fun i hi => h i hi))
theorem b_or (x y : Int32) (i : Nat) : bt (x ||| y) i = (bt x i || bt y i) := by unfold bt; rw [Int32.toBitVec_or, BitVec.getLsbD_or]
theorem b_and (x y : Int32) (i : Nat) : bt (x &&& y) i = (bt x i && bt y i) := by unfold bt; rw [Int32.toBitVec_and, BitVec.getLsbD_and]
theorem b_xor (x y : Int32) (i : Nat) : bt (x ^^^ y) i = (bt x i ^^ bt y i) := by unfold bt; rw [Int32.toBitVec_xor, BitVec.getLsbD_xor]
theorem b_big {x : Int32} {i : Nat} (h : 32 ≤ i) : bt x i = false := BitVec.getLsbD_of_ge _ _ h
theorem b_255 (i : Nat) : bt 255 i = decide (i < 8) := by
  rcases Nat.lt_or_ge i 32 with h | h
  · exact (by decide +kernel : ∀ i, i < 32 → bt 255 i = decide (i < 8)) i h
  · rw [b_big h, decide_eq_false (by omega)]
theorem b_65535 (i : Nat) : bt 65535 i = decide (i < 16) := by
  rcases Nat.lt_or_ge i 32 with h | h
  · exact (by decide +kernel : ∀ i, i < 32 → bt 65535 i = decide (i < 16)) i h
  · rw [b_big h, decide_eq_false (by omega)]
theorem b_m1 : ∀ i, i < 32 → bt (-1) i = true := by decide +kernel
theorem b_0 (i : Nat) : bt 0 i = false := BitVec.getLsbD_zero
theorem s_l : ∀ n, n < 32 → ((nI n &&& 31).toBitVec.smod 32).toNat = n := by decide +kernel
theorem s_u : ∀ n, n < 32 → (((nI n).toUInt32 &&& Int32.toUInt32 31).toBitVec % 32).toNat = n := by decide +kernel
theorem b_shl (n : Nat) (hn : n < 32) (x : Int32) {i : Nat} (hi : i < 32) : bt (x <<< (nI n &&& 31)) i = (decide (n ≤ i) && bt x (i - n)) := by
  unfold bt
  rw [Int32.toBitVec_shiftLeft]
  show (x.toBitVec <<< ((nI n &&& 31).toBitVec.smod 32).toNat).getLsbD i = _
  rw [s_l n hn, BitVec.getLsbD_shiftLeft]
  rcases Nat.lt_or_ge i n with h | h
  · simp [h, Nat.not_le.mpr h]
  · simp [hi, h, Nat.not_lt.mpr h]
theorem b_ushr (n : Nat) (hn : n < 32) (x : Int32) (i : Nat) : bt ((x.toUInt32 >>> ((nI n).toUInt32 &&& Int32.toUInt32 31)).toInt32) i = bt x (n + i) := by
  show (x.toUInt32 >>> ((nI n).toUInt32 &&& Int32.toUInt32 31)).toBitVec.getLsbD i = x.toUInt32.toBitVec.getLsbD (n + i)
  rw [UInt32.toBitVec_shiftRight]
  show (x.toUInt32.toBitVec >>> (((nI n).toUInt32 &&& Int32.toUInt32 31).toBitVec % 32).toNat).getLsbD i = _
  rw [s_u n hn, BitVec.getLsbD_ushiftRight]
theorem b_sshr (n : Nat) (hn : n < 32) (x : Int32) {i : Nat} (hi : i < 32) : bt (x >>> (nI n &&& 31)) i = if n + i < 32 then bt x (n + i) else bt x 31 := by
  unfold bt
  rw [Int32.toBitVec_shiftRight]
  show (x.toBitVec.sshiftRight ((nI n &&& 31).toBitVec.smod 32).toNat).getLsbD i = _
  rw [s_l n hn, BitVec.getLsbD_sshiftRight, BitVec.msb_eq_getLsbD_last]
  simp [hi]
theorem b_shl8 (x : Int32) {i : Nat} (hi : i < 32) : bt (x <<< ((8 : Int32) &&& 31)) i = (decide (8 ≤ i) && bt x (i - 8)) := b_shl 8 (by omega) x hi
theorem b_shl16 (x : Int32) {i : Nat} (hi : i < 32) : bt (x <<< ((16 : Int32) &&& 31)) i = (decide (16 ≤ i) && bt x (i - 16)) := b_shl 16 (by omega) x hi
theorem b_shl24 (x : Int32) {i : Nat} (hi : i < 32) : bt (x <<< ((24 : Int32) &&& 31)) i = (decide (24 ≤ i) && bt x (i - 24)) := b_shl 24 (by omega) x hi
theorem b_sshr8 (x : Int32) {i : Nat} (hi : i < 32) : bt (x >>> ((8 : Int32) &&& 31)) i = if 8 + i < 32 then bt x (8 + i) else bt x 31 := b_sshr 8 (by omega) x hi
/-! ===== Int32 as a set of bits: test, set ===== -/
def nf_M (m : Int32) : Nat := 4294967296 - m.toBitVec.toNat
theorem nf_sh : ∀ l, l < 32 → ((1 : Int32) <<< (nI l &&& 31)).toBitVec = BitVec.twoPow 32 l := by decide +kernel
theorem nf_sl : ∀ l, l < 32 → (((nI l).toUInt32 &&& Int32.toUInt32 31).toBitVec % 32).toNat = l := by decide +kernel
theorem nf_tp : ∀ l, l < 32 → BitVec.twoPow 32 l ≠ 0#32 := by decide +kernel
theorem nf_bit (m : Int32) (l : Nat) (hl : l < 32) : ((m.toUInt32 >>> ((nI l).toUInt32 &&& Int32.toUInt32 31)).toInt32 &&& 1) = 0 ↔ (m &&& ((1 : Int32) <<< (nI l &&& 31))) = 0 := by
  have e : ((m.toUInt32 >>> ((nI l).toUInt32 &&& Int32.toUInt32 31)).toInt32).toBitVec = m.toBitVec >>> l := by
    show m.toBitVec >>> (((nI l).toUInt32 &&& Int32.toUInt32 31).toBitVec % 32) = m.toBitVec >>> l
    rw [BitVec.ushiftRight_eq', nf_sl l hl]
  rw [← Int32.toBitVec_inj, ← Int32.toBitVec_inj, Int32.toBitVec_and, Int32.toBitVec_and, nf_sh l hl, e, BitVec.and_twoPow]
  show (m.toBitVec >>> l &&& 1#32) = 0#32 ↔ _ = 0#32
  rw [BitVec.and_one_eq_setWidth_ofBool_getLsbD, BitVec.getLsbD_ushiftRight, Nat.add_zero]
  cases hb : m.toBitVec.getLsbD l
  · exact ⟨fun _ => by simp, fun _ => by decide⟩
  · exact ⟨fun z => absurd z (by decide), fun z => absurd ((if_pos rfl).symm.trans z) (nf_tp l hl)⟩
theorem nf_gr (m k : Int32) (h : m &&& k = 0) (hk : k ≠ 0) : nf_M (m ||| k) < nf_M m := by
  have hm := m.toBitVec.isLt
  have hm' := (m ||| k).toBitVec.isLt
  have h1 : m.toBitVec.toNat ≤ (m ||| k).toBitVec.toNat := by
    rw [Int32.toBitVec_or, BitVec.toNat_or]
    exact Nat.left_le_or
  have h2 : m.toBitVec.toNat ≠ (m ||| k).toBitVec.toNat := by
    intro e
    have e2 : m = m ||| k := Int32.toBitVec_inj.mp (BitVec.eq_of_toNat_eq e)
    apply hk
    apply Int32.toBitVec_inj.mp
    show k.toBitVec = 0#32
    apply BitVec.eq_of_getLsbD_eq
    intro i hi
    have a : m.toBitVec.getLsbD i = (m.toBitVec.getLsbD i || k.toBitVec.getLsbD i) := by rw [← BitVec.getLsbD_or, ← Int32.toBitVec_or, ← e2]
    have b : (m.toBitVec.getLsbD i && k.toBitVec.getLsbD i) = false := by
      rw [← BitVec.getLsbD_and, ← Int32.toBitVec_and, h]
      exact BitVec.getLsbD_zero
    rw [BitVec.getLsbD_zero]
    revert a b
    cases m.toBitVec.getLsbD i <;> cases k.toBitVec.getLsbD i <;> simp
  unfold nf_M
  omega
theorem ek_if {c d A B : Prop} (e : c ↔ d) (f : d → A) (g : ¬ d → B) : (c → A) ∧ (¬ c → B) :=
  ⟨fun z => f (e.mp z), fun z => g (fun y => z (e.mpr y))⟩
theorem ek_v {α : Sort _} {P : α → Prop} {a b : α} (e : a = b) (h : P b) : P a := e ▸ h
end
section
/-! bits of masks, xor sums -/
def fc_bit (c : Nat) : Int32 := (1 : Int32) <<< (nI c &&& 31)
theorem fc_bit_bt : ∀ c, c < 32 → ∀ i, i < 32 → bt (fc_bit c) i = decide (i = c) := by decide +kernel
theorem fc_bit_b {c : Nat} (hc : c < 32) (i : Nat) : bt (fc_bit c) i = decide (i = c) := by
  rcases Nat.lt_or_ge i 32 with h | h
  · exact fc_bit_bt c hc i h
  · rw [b_big h]
    exact (decide_eq_false (by omega)).symm
theorem fc_ne0 {m : Int32} (h : m ≠ 0) : ∃ c, c < 32 ∧ bt m c = true := by
  refine Classical.byContradiction fun hn => h (b_ext fun i hi => ?_)
  rw [b_0]
  cases hb : bt m i
  · rfl
  · exact absurd ⟨i, hi, hb⟩ hn
theorem fc_andb (m : Int32) (c : Nat) (hc : c < 32) : (m &&& ((1 : Int32) <<< (nI c &&& 31))) = 0 ↔ bt m c = false := by
  constructor
  · intro h
    have e : bt (m &&& fc_bit c) c = bt 0 c := congrArg (fun z => bt z c) h
    rw [b_and, fc_bit_b hc, b_0] at e
    simpa using e
  · intro h
    refine b_ext fun i _ => ?_
    show bt (m &&& fc_bit c) i = bt 0 i
    rw [b_and, fc_bit_b hc, b_0]
    by_cases e : i = c
    · rw [e, h]; rfl
    · rw [decide_eq_false e, Bool.and_false]
theorem fc_hasb (m : Int32) (c : Nat) (hc : c < 32) : ((m.toUInt32 >>> ((nI c).toUInt32 &&& Int32.toUInt32 31)).toInt32 &&& 1) = 0 ↔ bt m c = false :=
  (nf_bit m c hc).trans (fc_andb m c hc)
theorem fc_not (m : Int32) {i : Nat} (hi : i < 32) : bt (m ^^^ (-1)) i = !bt m i := by
  rw [b_xor, b_m1 i hi, Bool.xor_true]
theorem fc_xx (a : Int32) : a ^^^ a = 0 := Int32.xor_self
theorem fc_x0 (a : Int32) : a ^^^ 0 = a := Int32.xor_zero
theorem fc_0x (a : Int32) : 0 ^^^ a = a := Int32.zero_xor
theorem fc_xa (a b c : Int32) : a ^^^ b ^^^ c = a ^^^ (b ^^^ c) := Int32.xor_assoc a b c
theorem fc_xc (a b : Int32) : a ^^^ b = b ^^^ a := Int32.xor_comm a b
theorem fc_xl (a b : Int32) : a ^^^ (a ^^^ b) = b := by rw [← fc_xa, fc_xx, fc_0x]
theorem fc_x4 (a b c d : Int32) : (a ^^^ b) ^^^ (c ^^^ d) = (a ^^^ c) ^^^ (b ^^^ d) := by
  rw [fc_xa, fc_xa, ← fc_xa b c d, fc_xc b c, fc_xa]
theorem fc_xe {a b : Int32} (h : a ^^^ b = 0) : a = b := by
  have e : a ^^^ b ^^^ b = b := by rw [h, fc_0x]
  rw [fc_xa, fc_xx, fc_x0] at e
  exact e
/-- m has no bit at k or above -/
def fc_In (k : Nat) (m : Int32) : Prop := ∀ i, k ≤ i → bt m i = false
theorem fc_In0 (k : Nat) : fc_In k 0 := fun i _ => b_0 i
theorem fc_Inx {k : Nat} {a b : Int32} (ha : fc_In k a) (hb : fc_In k b) : fc_In k (a ^^^ b) := fun i hi => by
  rw [b_xor, ha i hi, hb i hi]; rfl
theorem fc_Inb {k c : Nat} (hc : c < k) (hk : k ≤ 32) : fc_In k (fc_bit c) := fun i hi => by
  rw [fc_bit_b (by omega)]
  exact decide_eq_false (by omega)
theorem fc_In_ext {k : Nat} {a b : Int32} (ha : fc_In k a) (hb : fc_In k b) (h : ∀ i, i < k → bt a i = bt b i) : a = b := by
  refine b_ext fun i _ => ?_
  rcases Nat.lt_or_ge i k with z | z
  · exact h i z
  · rw [ha i z, hb i z]
theorem fc_In_0 {k : Nat} {a : Int32} (ha : fc_In k a) (h : ∀ i, i < k → bt a i = false) : a = 0 :=
  fc_In_ext ha (fc_In0 k) fun i hi => by rw [h i hi, b_0]
theorem fc_In_ne {k : Nat} {a : Int32} (ha : fc_In k a) (h : a ≠ 0) : ∃ c, c < k ∧ bt a c = true := by
  obtain ⟨c, _, hc⟩ := fc_ne0 h
  refine ⟨c, ?_, hc⟩
  rcases Nat.lt_or_ge c k with z | z
  · exact z
  · rw [ha c z] at hc; cases hc
/-- xor of f i over i < k with b i -/
def fc_fx (f : Nat → Int32) (b : Nat → Bool) : Nat → Int32
  | 0 => 0
  | c + 1 => fc_fx f b c ^^^ (if b c = true then f c else 0)
theorem fc_fx_t {f : Nat → Int32} {b : Nat → Bool} {c : Nat} (h : b c = true) : fc_fx f b (c + 1) = fc_fx f b c ^^^ f c := by
  simp only [fc_fx, h, if_true]
theorem fc_fx_f {f : Nat → Int32} {b : Nat → Bool} {c : Nat} (h : b c = false) : fc_fx f b (c + 1) = fc_fx f b c := by
  simp only [fc_fx, h]
  exact fc_x0 _
theorem fc_fx_congr {f g : Nat → Int32} {b b' : Nat → Bool} : ∀ {k : Nat}, (∀ i, i < k → b i = b' i) → (∀ i, i < k → b i = true → f i = g i) → fc_fx f b k = fc_fx g b' k
  | 0, _, _ => rfl
  | k + 1, hb, hf => by
    have ih := fc_fx_congr (f := f) (g := g) (b := b) (b' := b') (k := k) (fun i hi => hb i (by omega)) (fun i hi => hf i (by omega))
    have e := hb k (by omega)
    cases h : b k
    · rw [fc_fx_f h, fc_fx_f (e ▸ h), ih]
    · rw [fc_fx_t h, fc_fx_t (e ▸ h), ih, hf k (by omega) h]
theorem fc_fx_zero {f : Nat → Int32} {b : Nat → Bool} : ∀ {k : Nat}, (∀ i, i < k → b i = true → f i = 0) → fc_fx f b k = 0
  | 0, _ => rfl
  | k + 1, hf => by
    have ih := fc_fx_zero (f := f) (b := b) (k := k) (fun i hi => hf i (by omega))
    cases h : b k
    · rw [fc_fx_f h, ih]
    · rw [fc_fx_t h, ih, hf k (by omega) h]; exact fc_xx 0
theorem fc_fx_false {f : Nat → Int32} {b : Nat → Bool} {k : Nat} (h : ∀ i, i < k → b i = false) : fc_fx f b k = 0 :=
  fc_fx_zero fun i hi e => by rw [h i hi] at e; cases e
theorem fc_fx_m0 (f : Nat → Int32) (k : Nat) : fc_fx f (bt 0) k = 0 := fc_fx_false fun i _ => b_0 i
theorem fc_fx_xb (f : Nat → Int32) (b b' : Nat → Bool) : ∀ k : Nat, fc_fx f (fun i => b i ^^ b' i) k = fc_fx f b k ^^^ fc_fx f b' k
  | 0 => (fc_xx 0).symm
  | k + 1 => by
    have ih := fc_fx_xb f b b' k
    cases h1 : b k <;> cases h2 : b' k
    · rw [fc_fx_f (b := fun i => b i ^^ b' i) (by show (b k ^^ b' k) = false; rw [h1, h2]; rfl), fc_fx_f h1, fc_fx_f h2, ih]
    · rw [fc_fx_t (b := fun i => b i ^^ b' i) (by show (b k ^^ b' k) = true; rw [h1, h2]; rfl), fc_fx_f h1, fc_fx_t h2, ih, fc_xa]
    · rw [fc_fx_t (b := fun i => b i ^^ b' i) (by show (b k ^^ b' k) = true; rw [h1, h2]; rfl), fc_fx_t h1, fc_fx_f h2, ih]
      ac_rfl
    · rw [fc_fx_f (b := fun i => b i ^^ b' i) (by show (b k ^^ b' k) = false; rw [h1, h2]; rfl), fc_fx_t h1, fc_fx_t h2, ih, fc_x4, fc_xx, fc_x0]
theorem fc_fx_x (f : Nat → Int32) (a c : Int32) (k : Nat) : fc_fx f (bt (a ^^^ c)) k = fc_fx f (bt a) k ^^^ fc_fx f (bt c) k := by
  rw [← fc_fx_xb]
  exact fc_fx_congr (fun i _ => b_xor a c i) (fun _ _ _ => rfl)
theorem fc_fx_xf (f g : Nat → Int32) (b : Nat → Bool) : ∀ k : Nat, fc_fx (fun i => f i ^^^ g i) b k = fc_fx f b k ^^^ fc_fx g b k
  | 0 => (fc_xx 0).symm
  | k + 1 => by
    have ih := fc_fx_xf f g b k
    cases h : b k
    · rw [fc_fx_f h, fc_fx_f h, fc_fx_f h, ih]
    · rw [fc_fx_t h, fc_fx_t h, fc_fx_t h, ih, fc_x4]
theorem fc_fx_one {f : Nat → Int32} {b : Nat → Bool} {j : Nat} : ∀ {k : Nat}, j < k → (∀ i, i < k → b i = decide (i = j)) → fc_fx f b k = f j
  | 0, h, _ => by omega
  | k + 1, h, hb => by
    rcases Nat.lt_or_ge j k with z | z
    · have e : b k = false := by rw [hb k (by omega)]; exact decide_eq_false (by omega)
      rw [fc_fx_f e]
      exact fc_fx_one z fun i hi => hb i (by omega)
    · have ej : j = k := by omega
      subst ej
      have e : b j = true := by rw [hb j (by omega)]; exact decide_eq_true rfl
      rw [fc_fx_t e, fc_fx_false fun i hi => ?_, fc_0x]
      rw [hb i (by omega)]
      exact decide_eq_false (by omega)
theorem fc_fx_bit {f : Nat → Int32} {c k : Nat} (hc : c < k) (hk : k ≤ 32) : fc_fx f (bt (fc_bit c)) k = f c :=
  fc_fx_one hc fun i _ => fc_bit_b (by omega) i
theorem fc_fx_cl {P : Int32 → Prop} (h0 : P 0) (hx : ∀ a b, P a → P b → P (a ^^^ b)) {f : Nat → Int32} {b : Nat → Bool} : ∀ {k : Nat}, (∀ i, i < k → b i = true → P (f i)) → P (fc_fx f b k)
  | 0, _ => h0
  | k + 1, hf => by
    have ih := fc_fx_cl h0 hx (f := f) (b := b) (k := k) (fun i hi => hf i (by omega))
    cases h : b k
    · rw [fc_fx_f h]; exact ih
    · rw [fc_fx_t h]; exact hx _ _ ih (hf k (by omega) h)
theorem fc_fx_cl2 {P : Int32 → Int32 → Prop} (h0 : P 0 0) (hx : ∀ a b c d, P a b → P c d → P (a ^^^ c) (b ^^^ d)) {f g : Nat → Int32} {b : Nat → Bool} : ∀ {k : Nat}, (∀ i, i < k → b i = true → P (f i) (g i)) → P (fc_fx f b k) (fc_fx g b k)
  | 0, _ => h0
  | k + 1, hf => by
    have ih := fc_fx_cl2 h0 hx (f := f) (g := g) (b := b) (k := k) (fun i hi => hf i (by omega))
    cases h : b k
    · rw [fc_fx_f h, fc_fx_f h]; exact ih
    · rw [fc_fx_t h, fc_fx_t h]; exact hx _ _ _ _ ih (hf k (by omega) h)
theorem fc_fx_id {m : Int32} : ∀ {k : Nat}, k ≤ 32 → ∀ i, bt (fc_fx fc_bit (bt m) k) i = (decide (i < k) && bt m i)
  | 0, _, i => by rw [decide_eq_false (by omega)]; exact b_0 i
  | k + 1, hk, i => by
    have ih := fc_fx_id (m := m) (k := k) (by omega) i
    cases h : bt m k
    · rw [fc_fx_f h, ih]
      by_cases e : i = k
      · rw [e, h, Bool.and_false, Bool.and_false]
      · by_cases l : i < k
        · rw [decide_eq_true l, decide_eq_true (Nat.lt_succ_of_lt l)]
        · rw [decide_eq_false l, decide_eq_false (by omega)]
    · rw [fc_fx_t h, b_xor, ih, fc_bit_b (by omega)]
      by_cases e : i = k
      · rw [e, h, decide_eq_false (Nat.lt_irrefl k), decide_eq_true rfl, decide_eq_true (Nat.lt_succ_self k)]; rfl
      · rw [decide_eq_false e, Bool.xor_false]
        by_cases l : i < k
        · rw [decide_eq_true l, decide_eq_true (Nat.lt_succ_of_lt l)]
        · rw [decide_eq_false l, decide_eq_false (by omega)]
theorem fc_fx_self {m : Int32} {k : Nat} (hk : k ≤ 32) (hm : fc_In k m) : fc_fx fc_bit (bt m) k = m := by
  refine b_ext fun i _ => ?_
  rw [fc_fx_id hk]
  by_cases l : i < k
  · rw [decide_eq_true l, Bool.true_and]
  · rw [decide_eq_false l, hm i (by omega), Bool.false_and]
theorem fc_fx_comp (f g : Nat → Int32) (b : Nat → Bool) (k' : Nat) : ∀ k : Nat, fc_fx f (bt (fc_fx g b k)) k' = fc_fx (fun c => fc_fx f (bt (g c)) k') b k
  | 0 => fc_fx_m0 f k'
  | k + 1 => by
    have ih := fc_fx_comp f g b k' k
    cases h : b k
    · rw [fc_fx_f h, fc_fx_f h, ih]
    · rw [fc_fx_t h, fc_fx_t h, fc_fx_x, ih]
theorem fc_fx_In {f : Nat → Int32} {b : Nat → Bool} {k n : Nat} (h : ∀ i, i < k → b i = true → fc_In n (f i)) : fc_In n (fc_fx f b k) :=
  fc_fx_cl (fc_In0 n) (fun _ _ => fc_Inx) h
/-- bits inside a mask I -/
def fc_Sub (m I : Int32) : Prop := ∀ i, bt m i = true → bt I i = true
theorem fc_Sub0 (I : Int32) : fc_Sub 0 I := fun i h => by rw [b_0] at h; cases h
theorem fc_Subx {a b I : Int32} (ha : fc_Sub a I) (hb : fc_Sub b I) : fc_Sub (a ^^^ b) I := fun i h => by
  rw [b_xor] at h
  cases h1 : bt a i
  · cases h2 : bt b i
    · rw [h1, h2] at h; cases h
    · exact hb i h2
  · exact ha i h1
theorem fc_Sub_f {m I : Int32} (h : fc_Sub m I) {i : Nat} (hi : bt I i = false) : bt m i = false := by
  cases h1 : bt m i
  · rfl
  · rw [h i h1] at hi; cases hi
theorem fc_Sub_In {m I : Int32} {k : Nat} (h : fc_Sub m I) (hI : fc_In k I) : fc_In k m := fun i hi => fc_Sub_f h (hI i hi)
theorem fc_fx_Sub {f : Nat → Int32} {b : Nat → Bool} {k : Nat} {I : Int32} (h : ∀ i, i < k → b i = true → fc_Sub (f i) I) : fc_Sub (fc_fx f b k) I :=
  fc_fx_cl (P := fun x => fc_Sub x I) (fc_Sub0 I) (fun _ _ => fc_Subx) h
/-- a change at one place -/
theorem fc_fx_upd {f : Nat → Int32} {b : Nat → Bool} {j : Nat} {x : Int32} : ∀ {k : Nat}, j < k → b j = true → fc_fx (upd f j x) b k = fc_fx f b k ^^^ (f j ^^^ x)
  | 0, h, _ => by omega
  | k + 1, h, hb => by
    rcases Nat.lt_or_ge j k with z | z
    · have ih := fc_fx_upd (f := f) (b := b) (x := x) z hb
      cases hk : b k
      · rw [fc_fx_f hk, fc_fx_f hk, ih]
      · rw [fc_fx_t hk, fc_fx_t hk, ih, pk_un (by omega)]
        ac_rfl
    · have ej : j = k := by omega
      subst ej
      rw [fc_fx_t hb, fc_fx_t hb, pk_us, fc_fx_congr (g := f) (fun _ _ => rfl) (fun i hi _ => pk_un (by omega)), fc_xa, fc_xl]
theorem fc_fx_updn {f : Nat → Int32} {b : Nat → Bool} {j k : Nat} {x : Int32} (hb : j < k → b j = false) : fc_fx (upd f j x) b k = fc_fx f b k :=
  fc_fx_congr (fun _ _ => rfl) fun i hi h => pk_un fun e => by rw [e] at hi h; rw [hb hi] at h; cases h
/-- bt of an xor sum, by a parity -/
theorem fc_fx_cond (f : Nat → Int32) (b : Nat → Bool) (p : Nat) (y : Int32) : ∀ k : Nat, fc_fx (fun c => if bt (f c) p = true then y else 0) b k = if bt (fc_fx f b k) p = true then y else 0
  | 0 => by simp only [fc_fx, b_0]; rfl
  | k + 1 => by
    have ih := fc_fx_cond f b p y k
    cases h : b k
    · rw [fc_fx_f h, fc_fx_f h, ih]
    · rw [fc_fx_t h, fc_fx_t h, ih, b_xor]
      cases bt (fc_fx f b k) p <;> cases bt (f k) p <;> simp only [Bool.xor_false, Bool.xor_true, Bool.not_false, Bool.not_true, if_true, Bool.false_eq_true, if_false, fc_x0, fc_0x, fc_xx]
/-- the lowest bit -/
theorem fc_low {m : Int32} (h : m ≠ 0) : ∃ c, c < 32 ∧ bt m c = true ∧ ∀ d, d < c → bt m d = false := by
  obtain ⟨c0, h0, h1⟩ := fc_ne0 h
  obtain ⟨c, hc, hl⟩ := pk_least (fun c => bt m c = true) ⟨c0, h1⟩
  refine ⟨c, ?_, hc, fun d hd => ?_⟩
  · rcases Nat.lt_or_ge c 32 with z | z
    · exact z
    · rw [b_big z] at hc; cases hc
  · cases e : bt m d
    · rfl
    · exact absurd e (hl d hd)
theorem fc_pred_bits {m : Int32} {c : Nat} (hc : c < 32) (h1 : bt m c = true) (h0 : ∀ d, d < c → bt m d = false) (i : Nat) (hi : i < 32) :
    bt (m - 1) i = if i < c then true else if i = c then false else bt m i := by
  have hm : m.toBitVec.toNat % 2 ^ (c + 1) = 2 ^ c := by
    apply Nat.eq_of_testBit_eq
    intro j
    rw [Nat.testBit_mod_two_pow, Nat.testBit_two_pow]
    by_cases l : j < c + 1
    · rw [decide_eq_true l, Bool.true_and]
      show bt m j = _
      by_cases e : c = j
      · rw [← e, h1]; simp
      · rw [h0 j (by omega)]; simp [e]
    · rw [decide_eq_false l, Bool.false_and]
      exact (decide_eq_false (by omega)).symm
  have hd := Nat.div_add_mod m.toBitVec.toNat (2 ^ (c + 1))
  have hp : 0 < 2 ^ c := Nat.two_pow_pos c
  have hlt : 2 ^ c - 1 < 2 ^ (c + 1) := by rw [Nat.pow_succ]; omega
  have hs : (m - 1).toBitVec.toNat = 2 ^ (c + 1) * (m.toBitVec.toNat / 2 ^ (c + 1)) + (2 ^ c - 1) := by
    have hl := m.toBitVec.isLt
    rw [Int32.toBitVec_sub, BitVec.toNat_sub]
    show (2 ^ 32 - 1 + m.toBitVec.toNat) % 2 ^ 32 = _
    rw [hm] at hd
    generalize m.toBitVec.toNat / 2 ^ (c + 1) = q at *
    generalize m.toBitVec.toNat = x at *
    generalize 2 ^ (c + 1) * q = y at *
    generalize 2 ^ c = z at *
    omega
  show (m - 1).toBitVec.toNat.testBit i = _
  rw [hs, Nat.testBit_two_pow_mul_add _ hlt]
  by_cases l : i < c
  · rw [if_pos l, if_pos (by omega), Nat.testBit_two_pow_sub_one]; exact decide_eq_true l
  · rw [if_neg l]
    by_cases e : i = c
    · rw [if_pos e, if_pos (by omega), Nat.testBit_two_pow_sub_one]; exact decide_eq_false l
    · rw [if_neg e, if_neg (by omega), Nat.testBit_div_two_pow]
      show m.toBitVec.toNat.testBit _ = m.toBitVec.toNat.testBit i
      rw [Nat.sub_add_cancel (by omega)]
theorem fc_pred_and {m : Int32} {c : Nat} (hc : c < 32) (h1 : bt m c = true) (h0 : ∀ d, d < c → bt m d = false) : m &&& (m - 1) = m ^^^ fc_bit c := by
  refine b_ext fun i hi => ?_
  rw [b_and, b_xor, fc_pred_bits hc h1 h0 i hi, fc_bit_b hc]
  by_cases l : i < c
  · rw [if_pos l, h0 i l, decide_eq_false (by omega)]; rfl
  · rw [if_neg l]
    by_cases e : i = c
    · rw [if_pos e, e, h1, decide_eq_true rfl]; rfl
    · rw [if_neg e, decide_eq_false e, Bool.and_self, Bool.xor_false]
theorem fc_neg_bits {m : Int32} {i : Nat} (hi : i < 32) : bt (-m) i = !bt (m - 1) i := by
  have e : (-m) = (m - 1) ^^^ (-1) := by
    apply Int32.toBitVec_inj.mp
    rw [Int32.toBitVec_xor, Int32.toBitVec_neg, Int32.toBitVec_sub]
    show -m.toBitVec = (m.toBitVec - 1#32) ^^^ BitVec.allOnes 32
    rw [BitVec.xor_allOnes, BitVec.not_sub_one_eq_not_add_one]
    exact BitVec.neg_eq_not_add _
  rw [e, fc_not _ hi]
theorem fc_neg_and {m : Int32} {c : Nat} (hc : c < 32) (h1 : bt m c = true) (h0 : ∀ d, d < c → bt m d = false) : m &&& (-m) = fc_bit c := by
  refine b_ext fun i hi => ?_
  rw [b_and, fc_neg_bits hi, fc_pred_bits hc h1 h0 i hi, fc_bit_b hc]
  by_cases l : i < c
  · rw [if_pos l, h0 i l, decide_eq_false (by omega)]; rfl
  · rw [if_neg l]
    by_cases e : i = c
    · rw [if_pos e, e, h1, decide_eq_true rfl]; rfl
    · rw [if_neg e, decide_eq_false e]
      cases bt m i <;> rfl
end
section
/-! the span of the held equations; counts; bases and the rank -/
def fc_Sp (n : Nat) (M V : Nat → Int32) (m v : Int32) : Prop :=
  ∀ P : Int32 → Int32 → Prop, P 0 0 → (∀ a b c d, P a b → P c d → P (a ^^^ c) (b ^^^ d)) → (∀ i, i < n → P (M i) (V i)) → P m v
theorem fc_Sp0 {n : Nat} {M V : Nat → Int32} : fc_Sp n M V 0 0 := fun _ h0 _ _ => h0
theorem fc_Spx {n : Nat} {M V : Nat → Int32} {a b c d : Int32} (h : fc_Sp n M V a b) (h' : fc_Sp n M V c d) : fc_Sp n M V (a ^^^ c) (b ^^^ d) :=
  fun P h0 hx hg => hx _ _ _ _ (h P h0 hx hg) (h' P h0 hx hg)
theorem fc_Spg {n : Nat} {M V : Nat → Int32} {i : Nat} (hi : i < n) : fc_Sp n M V (M i) (V i) := fun _ _ _ hg => hg i hi
theorem fc_Spm {n n' : Nat} {M V M' V' : Nat → Int32} (h : ∀ i, i < n → fc_Sp n' M' V' (M i) (V i)) {m v : Int32} (hs : fc_Sp n M V m v) : fc_Sp n' M' V' m v :=
  hs _ fc_Sp0 (fun _ _ _ _ => fc_Spx) h
theorem fc_Sp_fx {n : Nat} {M V f g : Nat → Int32} {b : Nat → Bool} {k : Nat} (h : ∀ i, i < k → b i = true → fc_Sp n M V (f i) (g i)) : fc_Sp n M V (fc_fx f b k) (fc_fx g b k) :=
  fc_fx_cl2 fc_Sp0 (fun _ _ _ _ => fc_Spx) h
/-- m is a sum of held masks -/
def fc_Q (n : Nat) (M V : Nat → Int32) (m : Int32) : Prop := ∃ v, fc_Sp n M V m v
theorem fc_Q0 {n : Nat} {M V : Nat → Int32} : fc_Q n M V 0 := ⟨0, fc_Sp0⟩
theorem fc_Qx {n : Nat} {M V : Nat → Int32} {a b : Int32} (h : fc_Q n M V a) (h' : fc_Q n M V b) : fc_Q n M V (a ^^^ b) := by
  obtain ⟨v, hv⟩ := h
  obtain ⟨w, hw⟩ := h'
  exact ⟨_, fc_Spx hv hw⟩
theorem fc_QIn {n k : Nat} {M V : Nat → Int32} (hM : ∀ i, i < n → fc_In k (M i)) {m : Int32} (h : fc_Q n M V m) : fc_In k m := by
  obtain ⟨v, hv⟩ := h
  exact hv (fun m _ => fc_In k m) (fc_In0 k) (fun _ _ _ _ => fc_Inx) hM
/-- counts -/
def fc_cnt (T : Nat → Bool) : Nat → Nat
  | 0 => 0
  | c + 1 => fc_cnt T c + (if T c = true then 1 else 0)
theorem fc_cnt_t {T : Nat → Bool} {c : Nat} (h : T c = true) : fc_cnt T (c + 1) = fc_cnt T c + 1 := by simp only [fc_cnt, h, if_true]
theorem fc_cnt_f {T : Nat → Bool} {c : Nat} (h : T c = false) : fc_cnt T (c + 1) = fc_cnt T c := by simp [fc_cnt, h]
theorem fc_cnt_le (T : Nat → Bool) : ∀ k, fc_cnt T k ≤ k
  | 0 => Nat.le_refl _
  | k + 1 => by
    have := fc_cnt_le T k
    cases h : T k
    · rw [fc_cnt_f h]; omega
    · rw [fc_cnt_t h]; omega
theorem fc_cnt_congr {T U : Nat → Bool} : ∀ {k : Nat}, (∀ i, i < k → T i = U i) → fc_cnt T k = fc_cnt U k
  | 0, _ => rfl
  | k + 1, h => by
    have ih := fc_cnt_congr (T := T) (U := U) (k := k) (fun i hi => h i (by omega))
    have e := h k (by omega)
    cases z : T k
    · rw [fc_cnt_f z, fc_cnt_f (e ▸ z), ih]
    · rw [fc_cnt_t z, fc_cnt_t (e ▸ z), ih]
theorem fc_cnt_0 {T : Nat → Bool} : ∀ {k : Nat}, (∀ i, i < k → T i = false) → fc_cnt T k = 0
  | 0, _ => rfl
  | k + 1, h => by rw [fc_cnt_f (h k (by omega))]; exact fc_cnt_0 fun i hi => h i (by omega)
theorem fc_cnt_0' {T : Nat → Bool} : ∀ {k : Nat}, fc_cnt T k = 0 → ∀ i, i < k → T i = false
  | 0, _, i, hi => by omega
  | k + 1, h, i, hi => by
    cases z : T k
    · rw [fc_cnt_f z] at h
      rcases Nat.lt_or_ge i k with l | l
      · exact fc_cnt_0' h i l
      · have e : i = k := by omega
        rw [e]; exact z
    · rw [fc_cnt_t z] at h; omega
theorem fc_cnt_all {T : Nat → Bool} : ∀ {k : Nat}, fc_cnt T k = k → ∀ i, i < k → T i = true
  | 0, _, i, hi => by omega
  | k + 1, h, i, hi => by
    have hl := fc_cnt_le T k
    cases z : T k
    · rw [fc_cnt_f z] at h; omega
    · rw [fc_cnt_t z] at h
      rcases Nat.lt_or_ge i k with l | l
      · exact fc_cnt_all (by omega) i l
      · have e : i = k := by omega
        rw [e]; exact z
theorem fc_cnt_mono {T U : Nat → Bool} : ∀ {k : Nat}, (∀ i, i < k → T i = true → U i = true) → fc_cnt T k ≤ fc_cnt U k
  | 0, _ => Nat.le_refl _
  | k + 1, h => by
    have ih := fc_cnt_mono (T := T) (U := U) (k := k) (fun i hi => h i (by omega))
    cases z : T k
    · rw [fc_cnt_f z]
      cases y : U k
      · rw [fc_cnt_f y]; exact ih
      · rw [fc_cnt_t y]; omega
    · rw [fc_cnt_t z, fc_cnt_t (h k (by omega) z)]; omega
theorem fc_cnt_pos {T : Nat → Bool} {c : Nat} : ∀ {k : Nat}, c < k → T c = true → 0 < fc_cnt T k
  | 0, h, _ => by omega
  | k + 1, h, ht => by
    rcases Nat.eq_zero_or_pos (fc_cnt T (k + 1)) with z | z
    · rw [fc_cnt_0' z c h] at ht; cases ht
    · exact z
def fc_set (T : Nat → Bool) (c : Nat) (b : Bool) : Nat → Bool := fun d => if d = c then b else T d
theorem fc_set_s {T : Nat → Bool} {c : Nat} {b : Bool} : fc_set T c b c = b := if_pos rfl
theorem fc_set_n {T : Nat → Bool} {c d : Nat} {b : Bool} (h : d ≠ c) : fc_set T c b d = T d := if_neg h
theorem fc_cnt_st {T : Nat → Bool} {c : Nat} : ∀ {k : Nat}, c < k → T c = false → fc_cnt (fc_set T c true) k = fc_cnt T k + 1
  | 0, h, _ => by omega
  | k + 1, h, hT => by
    rcases Nat.lt_or_ge c k with l | l
    · have ih := fc_cnt_st (T := T) l hT
      have e : fc_set T c true k = T k := fc_set_n (by omega)
      cases z : T k
      · rw [fc_cnt_f z, fc_cnt_f (e.trans z), ih]
      · rw [fc_cnt_t z, fc_cnt_t (e.trans z), ih]
    · have e : c = k := by omega
      subst e
      rw [fc_cnt_t fc_set_s, fc_cnt_f hT, fc_cnt_congr (U := T) fun i hi => fc_set_n (by omega)]
theorem fc_cnt_sf {T : Nat → Bool} {c k : Nat} (h : c < k) (hT : T c = true) : fc_cnt (fc_set T c false) k + 1 = fc_cnt T k := by
  rw [← fc_cnt_st (T := fc_set T c false) h fc_set_s]
  refine fc_cnt_congr fun i _ => ?_
  by_cases e : i = c
  · rw [e, fc_set_s, hT]
  · rw [fc_set_n e, fc_set_n e]
theorem fc_cnt_or {T U : Nat → Bool} : ∀ {k : Nat}, (∀ i, i < k → T i = true → U i = false) → fc_cnt (fun i => T i || U i) k = fc_cnt T k + fc_cnt U k
  | 0, _ => rfl
  | k + 1, h => by
    have ih := fc_cnt_or (T := T) (U := U) (k := k) (fun i hi => h i (by omega))
    cases z : T k
    · cases y : U k
      · rw [fc_cnt_f (T := fun i => T i || U i) (by show (T k || U k) = false; rw [z, y]; rfl), fc_cnt_f z, fc_cnt_f y, ih]
      · rw [fc_cnt_t (T := fun i => T i || U i) (by show (T k || U k) = true; rw [z, y]; rfl), fc_cnt_f z, fc_cnt_t y, ih]; omega
    · have y := h k (by omega) z
      rw [fc_cnt_t (T := fun i => T i || U i) (by show (T k || U k) = true; rw [z, y]; rfl), fc_cnt_t z, fc_cnt_f y, ih]; omega
/-- the image of p over i < r -/
def fc_img (p : Nat → Nat) : Nat → Nat → Bool
  | 0 => fun _ => false
  | r + 1 => fc_set (fc_img p r) (p r) true
theorem fc_img_t {p : Nat → Nat} : ∀ {r c : Nat}, fc_img p r c = true ↔ ∃ i, i < r ∧ p i = c
  | 0, c => ⟨fun h => (by cases h), fun ⟨i, hi, _⟩ => (by omega)⟩
  | r + 1, c => by
    have ih := fc_img_t (p := p) (r := r) (c := c)
    by_cases e : c = p r
    · refine ⟨fun _ => ⟨r, by omega, e.symm⟩, fun _ => ?_⟩
      rw [e]; exact fc_set_s
    · show fc_set (fc_img p r) (p r) true c = true ↔ _
      rw [fc_set_n e, ih]
      constructor
      · rintro ⟨i, hi, h⟩; exact ⟨i, by omega, h⟩
      · rintro ⟨i, hi, h⟩
        refine ⟨i, ?_, h⟩
        rcases Nat.lt_or_ge i r with l | l
        · exact l
        · have : i = r := by omega
          subst this
          exact absurd h.symm e
theorem fc_img_f {p : Nat → Nat} {r c : Nat} (h : ∀ i, i < r → p i ≠ c) : fc_img p r c = false := by
  cases e : fc_img p r c
  · rfl
  · obtain ⟨i, hi, z⟩ := fc_img_t.mp e
    exact absurd z (h i hi)
theorem fc_img_cnt {p : Nat → Nat} {k : Nat} : ∀ {r : Nat}, (∀ i, i < r → p i < k) → (∀ i j, i < r → j < r → p i = p j → i = j) → fc_cnt (fc_img p r) k = r
  | 0, _, _ => fc_cnt_0 fun _ _ => rfl
  | r + 1, hk, hi => by
    have ih := fc_img_cnt (p := p) (k := k) (r := r) (fun i h => hk i (by omega)) (fun i j h h' => hi i j (by omega) (by omega))
    show fc_cnt (fc_set (fc_img p r) (p r) true) k = r + 1
    rw [fc_cnt_st (hk r (by omega)) (fc_img_f fun i h e => ?_), ih]
    have := hi i r (by omega) (by omega) e
    omega
/-- T is a base of Q -/
def fc_Base (k : Nat) (Q : Int32 → Prop) (T : Nat → Bool) : Prop :=
  (∀ c, c < k → T c = true → ∃ v, Q v ∧ ∀ d, d < k → T d = true → bt v d = decide (d = c)) ∧
  (∀ v, Q v → (∀ d, d < k → T d = true → bt v d = false) → v = 0)
theorem fc_Base_cg {k : Nat} {Q Q' : Int32 → Prop} {T : Nat → Bool} (h : ∀ v, Q v ↔ Q' v) (hb : fc_Base k Q T) : fc_Base k Q' T :=
  ⟨fun c hc ht => by
    obtain ⟨v, hv, hd⟩ := hb.1 c hc ht
    exact ⟨v, (h v).mp hv, hd⟩, fun v hv hd => hb.2 v ((h v).mpr hv) hd⟩
theorem fc_Base_eq {k : Nat} {Q : Int32 → Prop} (hx : ∀ a b, Q a → Q b → Q (a ^^^ b)) {T' : Nat → Bool} (h' : fc_Base k Q T') :
    ∀ (N : Nat) (T : Nat → Bool), fc_cnt (fun c => T c && !T' c) k = N → fc_Base k Q T → fc_cnt T k = fc_cnt T' k := by
  intro N
  induction N with
  | zero =>
    intro T hN hb
    have sub : ∀ c, c < k → T c = true → T' c = true := fun c hc ht => by
      have z : (T c && !T' c) = false := fc_cnt_0' hN c hc
      rw [ht] at z
      cases e : T' c
      · rw [e] at z; cases z
      · rfl
    refine fc_cnt_congr fun c hc => ?_
    cases z : T c
    · cases e : T' c
      · rfl
      · exfalso
        obtain ⟨v, hv, hd⟩ := h'.1 c hc e
        have v0 : v = 0 := hb.2 v hv fun d hd1 hd2 => by
          rw [hd d hd1 (sub d hd1 hd2)]
          exact decide_eq_false fun q => by rw [q, z] at hd2; cases hd2
        have := hd c hc e
        rw [v0, b_0, decide_eq_true rfl] at this
        cases this
    · rw [sub c hc z]
  | succ N ih =>
    intro T hN hb
    obtain ⟨c, hc, hT, hT'⟩ : ∃ c, c < k ∧ T c = true ∧ T' c = false := by
      refine Classical.byContradiction fun hn => ?_
      rw [fc_cnt_0 fun c hc => ?_] at hN
      · omega
      · cases z : T c
        · rfl
        · cases e : T' c
          · exact absurd ⟨c, hc, z, e⟩ hn
          · rfl
    obtain ⟨v, hv, hd⟩ := hb.1 c hc hT
    obtain ⟨c', hc', hTc', hvc'⟩ : ∃ c', c' < k ∧ T' c' = true ∧ bt v c' = true := by
      refine Classical.byContradiction fun hn => ?_
      have v0 : v = 0 := h'.2 v hv fun d hd1 hd2 => by
        cases e : bt v d
        · rfl
        · exact absurd ⟨d, hd1, hd2, e⟩ hn
      have := hd c hc hT
      rw [v0, b_0, decide_eq_true rfl] at this
      cases this
    have ne : c' ≠ c := fun e => by rw [e, hT'] at hTc'; cases hTc'
    have hTn : T c' = false := by
      cases e : T c'
      · rfl
      · rw [hd c' hc' e, decide_eq_false ne] at hvc'; cases hvc'
    have hvc : bt v c = true := by rw [hd c hc hT]; exact decide_eq_true rfl
    have e1 : fc_cnt (fc_set (fc_set T c false) c' true) k = fc_cnt T k := by
      rw [fc_cnt_st hc' (by rw [fc_set_n ne]; exact hTn), fc_cnt_sf hc hT]
    rw [← e1]
    refine ih _ ?_ ⟨fun d hd1 hd2 => ?_, fun w hw hd2 => ?_⟩
    · have e2 : fc_cnt (fc_set (fun c => T c && !T' c) c false) k = N := by
        have := fc_cnt_sf (T := fun c => T c && !T' c) hc (by show (T c && !T' c) = true; rw [hT, hT']; rfl)
        omega
      rw [← e2]
      refine fc_cnt_congr fun i _ => ?_
      by_cases q : i = c'
      · rw [q, fc_set_s, fc_set_n ne, hTc', hTn]; rfl
      · rw [fc_set_n q]
        by_cases q' : i = c
        · rw [q', fc_set_s, fc_set_s]; rfl
        · rw [fc_set_n q', fc_set_n q']
    · by_cases q : d = c'
      · refine ⟨v, hv, fun i hi1 hi2 => ?_⟩
        by_cases q2 : i = c'
        · rw [q2, hvc', decide_eq_true q.symm]
        · rw [fc_set_n q2] at hi2
          by_cases q3 : i = c
          · rw [q3, fc_set_s] at hi2; cases hi2
          · rw [fc_set_n q3] at hi2
            rw [hd i hi1 hi2, decide_eq_false q3, decide_eq_false (by rw [q]; exact q2)]
      · rw [fc_set_n q] at hd2
        by_cases q1 : d = c
        · rw [q1, fc_set_s] at hd2; cases hd2
        · rw [fc_set_n q1] at hd2
          obtain ⟨w, hw, hwd⟩ := hb.1 d hd1 hd2
          have key : ∀ i, i < k → fc_set (fc_set T c false) c' true i = true → i ≠ c' → bt w i = decide (i = d) ∧ bt v i = false := fun i hi1 hi2 hi3 => by
            rw [fc_set_n hi3] at hi2
            by_cases q3 : i = c
            · rw [q3, fc_set_s] at hi2; cases hi2
            · rw [fc_set_n q3] at hi2
              exact ⟨hwd i hi1 hi2, by rw [hd i hi1 hi2]; exact decide_eq_false q3⟩
          cases hwc : bt w c'
          · refine ⟨w, hw, fun i hi1 hi2 => ?_⟩
            by_cases q2 : i = c'
            · rw [q2, hwc]; exact (decide_eq_false fun e => q e.symm).symm
            · exact (key i hi1 hi2 q2).1
          · refine ⟨w ^^^ v, hx _ _ hw hv, fun i hi1 hi2 => ?_⟩
            by_cases q2 : i = c'
            · rw [q2, b_xor, hwc, hvc']; exact (decide_eq_false fun e => q e.symm).symm
            · obtain ⟨k1, k2⟩ := key i hi1 hi2 q2
              rw [b_xor, k1, k2, Bool.xor_false]
    · have hwc' : bt w c' = false := hd2 c' hc' fc_set_s
      have hwT : ∀ i, i < k → T i = true → i ≠ c → bt w i = false := fun i hi1 hi2 hi3 => by
        refine hd2 i hi1 ?_
        by_cases q2 : i = c'
        · rw [q2]; exact fc_set_s
        · rw [fc_set_n q2, fc_set_n hi3]; exact hi2
      cases hwc : bt w c
      · refine hb.2 w hw fun i hi1 hi2 => ?_
        by_cases q : i = c
        · rw [q]; exact hwc
        · exact hwT i hi1 hi2 q
      · exfalso
        have z : w ^^^ v = 0 := hb.2 _ (hx _ _ hw hv) fun i hi1 hi2 => by
          rw [b_xor]
          by_cases q : i = c
          · rw [q, hwc, hvc]; rfl
          · rw [hwT i hi1 hi2 q, hd i hi1 hi2, decide_eq_false q]; rfl
        rw [fc_xe z, hvc'] at hwc'
        cases hwc'
theorem fc_rank {k r r' : Nat} {Q : Int32 → Prop} (hx : ∀ a b, Q a → Q b → Q (a ^^^ b)) {T T' : Nat → Bool} (h : fc_Base k Q T) (h' : fc_Base k Q T') (hr : fc_cnt T k = r) (hr' : fc_cnt T' k = r') : r = r' := by
  rw [← hr, ← hr']
  exact fc_Base_eq hx h' _ T rfl h
/-- a full base: everything is a sum -/
theorem fc_full {k n : Nat} {M V : Nat → Int32} (hk : k ≤ 32) (hM : ∀ i, i < n → fc_In k (M i)) {T : Nat → Bool} (hb : fc_Base k (fc_Q n M V) T) (hr : fc_cnt T k = k) {m : Int32} (hm : fc_In k m) : fc_Q n M V m := by
  have hT := fc_cnt_all hr
  rw [← fc_fx_self hk hm]
  refine fc_fx_cl fc_Q0 (fun _ _ => fc_Qx) fun c hc _ => ?_
  obtain ⟨v, hv, hd⟩ := hb.1 c hc (hT c hc)
  have e : v = fc_bit c := fc_In_ext (fc_QIn hM hv) (fc_Inb hc hk) fun i hi => by rw [hd i hi (hT i hi), fc_bit_b (by omega)]
  rw [← e]; exact hv
end
section
/-! the reference's full row reduction, in pure form -/
def fc_Eqv (n : Nat) (M V M' V' : Nat → Int32) : Prop :=
  (∀ i, i < n → fc_Sp n M' V' (M i) (V i)) ∧ (∀ i, i < n → fc_Sp n M V (M' i) (V' i))
theorem fc_Eqv_r {n : Nat} {M V : Nat → Int32} : fc_Eqv n M V M V := ⟨fun _ => fc_Spg, fun _ => fc_Spg⟩
theorem fc_Eqv_t {n : Nat} {M V M' V' M'' V'' : Nat → Int32} (h : fc_Eqv n M V M' V') (h' : fc_Eqv n M' V' M'' V'') : fc_Eqv n M V M'' V'' :=
  ⟨fun i hi => fc_Spm h'.1 (h.1 i hi), fun i hi => fc_Spm h.2 (h'.2 i hi)⟩
theorem fc_Eqv_c {n : Nat} {M V M' V' : Nat → Int32} (h : ∀ i, i < n → M' i = M i ∧ V' i = V i) : fc_Eqv n M V M' V' :=
  ⟨fun i hi => by rw [← (h i hi).1, ← (h i hi).2]; exact fc_Spg hi, fun i hi => by rw [(h i hi).1, (h i hi).2]; exact fc_Spg hi⟩
theorem fc_Eqv_sp {n : Nat} {M V M' V' : Nat → Int32} (h : fc_Eqv n M V M' V') {m v : Int32} : fc_Sp n M V m v ↔ fc_Sp n M' V' m v :=
  ⟨fc_Spm h.1, fc_Spm h.2⟩
theorem fc_Eqv_q {n : Nat} {M V M' V' : Nat → Int32} (h : fc_Eqv n M V M' V') (m : Int32) : fc_Q n M V m ↔ fc_Q n M' V' m :=
  ⟨fun ⟨v, hv⟩ => ⟨v, (fc_Eqv_sp h).mp hv⟩, fun ⟨v, hv⟩ => ⟨v, (fc_Eqv_sp h).mpr hv⟩⟩
def fc_sw (f : Nat → Int32) (r P : Nat) : Nat → Int32 := fun i => if i = r then f P else if i = P then f r else f i
def fc_elM (S : Nat → Int32) (r c : Nat) (m : Int32) : Nat → Int32 := fun i => if i ≠ r ∧ bt (S i) c = true then S i ^^^ m else S i
def fc_elV (S W : Nat → Int32) (r c : Nat) (v : Int32) : Nat → Int32 := fun i => if i ≠ r ∧ bt (S i) c = true then W i ^^^ v else W i
theorem fc_Eqv_sw {n r P : Nat} {M V : Nat → Int32} (hr : r < n) (hP : P < n) : fc_Eqv n M V (fc_sw M r P) (fc_sw V r P) := by
  have e : ∀ i, ∃ j, (i < n → j < n) ∧ (∀ f : Nat → Int32, fc_sw f r P i = f j) ∧ (∀ f : Nat → Int32, fc_sw f r P j = f i) := by
    intro i
    unfold fc_sw
    by_cases h1 : i = r
    · refine ⟨P, fun _ => hP, fun f => if_pos h1, fun f => ?_⟩
      by_cases h2 : P = r
      · rw [if_pos h2, h1, h2]
      · rw [if_neg h2, if_pos rfl, h1]
    · by_cases h2 : i = P
      · refine ⟨r, fun _ => hr, fun f => by rw [if_neg h1, if_pos h2], fun f => ?_⟩
        rw [if_pos rfl, h2]
      · exact ⟨i, fun h => h, fun f => by rw [if_neg h1, if_neg h2], fun f => by rw [if_neg h1, if_neg h2]⟩
  refine ⟨fun i hi => ?_, fun i hi => ?_⟩
  · obtain ⟨j, hj, _, h2⟩ := e i
    have := fc_Spg (n := n) (M := fc_sw M r P) (V := fc_sw V r P) (hj hi)
    rw [h2 M, h2 V] at this
    exact this
  · obtain ⟨j, hj, h1, _⟩ := e i
    rw [h1 M, h1 V]
    exact fc_Spg (hj hi)
theorem fc_Eqv_el {n r c : Nat} {S W : Nat → Int32} (hr : r < n) : fc_Eqv n S W (fc_elM S r c (S r)) (fc_elV S W r c (W r)) := by
  have er : fc_elM S r c (S r) r = S r := if_neg fun h => h.1 rfl
  have ev : fc_elV S W r c (W r) r = W r := if_neg fun h => h.1 rfl
  have gr : fc_Sp n (fc_elM S r c (S r)) (fc_elV S W r c (W r)) (S r) (W r) := by
    have := fc_Spg (n := n) (M := fc_elM S r c (S r)) (V := fc_elV S W r c (W r)) hr
    rw [er, ev] at this
    exact this
  refine ⟨fun i hi => ?_, fun i hi => ?_⟩
  · have g := fc_Spg (n := n) (M := fc_elM S r c (S r)) (V := fc_elV S W r c (W r)) hi
    by_cases h : i ≠ r ∧ bt (S i) c = true
    · have e1 : fc_elM S r c (S r) i = S i ^^^ S r := if_pos h
      have e2 : fc_elV S W r c (W r) i = W i ^^^ W r := if_pos h
      rw [e1, e2] at g
      have := fc_Spx g gr
      rw [fc_xa, fc_xa, fc_xx, fc_xx, fc_x0, fc_x0] at this
      exact this
    · have e1 : fc_elM S r c (S r) i = S i := if_neg h
      have e2 : fc_elV S W r c (W r) i = W i := if_neg h
      rw [e1, e2] at g
      exact g
  · by_cases h : i ≠ r ∧ bt (S i) c = true
    · have e1 : fc_elM S r c (S r) i = S i ^^^ S r := if_pos h
      have e2 : fc_elV S W r c (W r) i = W i ^^^ W r := if_pos h
      rw [e1, e2]
      exact fc_Spx (fc_Spg hi) (fc_Spg hr)
    · have e1 : fc_elM S r c (S r) i = S i := if_neg h
      have e2 : fc_elV S W r c (W r) i = W i := if_neg h
      rw [e1, e2]
      exact fc_Spg hi
/-- columns below c done: r pivot rows, p their columns -/
def fc_RI (k c n r : Nat) (RM : Nat → Int32) (p : Nat → Nat) : Prop :=
  r ≤ n ∧ r ≤ c ∧ (∀ i, i < n → fc_In k (RM i)) ∧
  (∀ i, i < r → p i < c ∧ (∀ d, d < p i → bt (RM i) d = false) ∧ ∀ j, j < n → bt (RM j) (p i) = decide (j = i)) ∧
  (∀ i, r ≤ i → i < n → ∀ d, d < c → bt (RM i) d = false)
theorem fc_RI_0 {k n : Nat} {RM : Nat → Int32} {p : Nat → Nat} (h : ∀ i, i < n → fc_In k (RM i)) : fc_RI k 0 n 0 RM p :=
  ⟨Nat.zero_le _, Nat.le_refl _, h, fun i hi => by omega, fun i _ _ d hd => by omega⟩
theorem fc_RI_none {k c n r : Nat} {RM : Nat → Int32} {p : Nat → Nat} (h : fc_RI k c n r RM p) (hn : ∀ i, r ≤ i → i < n → bt (RM i) c = false) : fc_RI k (c + 1) n r RM p := by
  obtain ⟨h1, h2, h3, h4, h5⟩ := h
  refine ⟨h1, by omega, h3, fun i hi => ?_, fun i hi hi2 d hd => ?_⟩
  · obtain ⟨a, b⟩ := h4 i hi
    exact ⟨by omega, b⟩
  · by_cases e : d = c
    · rw [e]; exact hn i hi hi2
    · exact h5 i hi hi2 d (by omega)
def fc_up (p : Nat → Nat) (r c : Nat) : Nat → Nat := fun i => if i = r then c else p i
theorem fc_RI_some {k c n r P : Nat} {RM RM' : Nat → Int32} {p : Nat → Nat} (h : fc_RI k c n r RM p) (hc : c < k) (hr : r ≤ P) (hP : P < n) (hb : bt (RM P) c = true)
    (he : ∀ i, i < n → RM' i = fc_elM (fc_sw RM r P) r c (RM P) i) : fc_RI k (c + 1) n (r + 1) RM' (fc_up p r c) := by
  obtain ⟨h1, h2, h3, h4, h5⟩ := h
  have sr : fc_sw RM r P r = RM P := if_pos rfl
  have so : ∀ i, i ≠ r → ∃ j, (i < n → j < n) ∧ (r ≤ i → r ≤ j) ∧ (i < r → j = i) ∧ fc_sw RM r P i = RM j ∧ (∀ q, q < r → (j = q ↔ i = q)) := by
    intro i hi
    by_cases e : i = P
    · refine ⟨r, fun _ => by omega, fun _ => by omega, fun _ => by omega, ?_, fun q hq => by omega⟩
      unfold fc_sw
      rw [if_neg hi, if_pos e]
    · refine ⟨i, fun h => h, fun h => h, fun _ => rfl, ?_, fun q hq => Iff.rfl⟩
      unfold fc_sw
      rw [if_neg hi, if_neg e]
  have er : RM' r = RM P := by
    rw [he r (by omega)]
    unfold fc_elM
    rw [if_neg fun z => z.1 rfl, sr]
  have eo : ∀ i, i < n → i ≠ r → ∃ j, j < n ∧ (r ≤ i → r ≤ j) ∧ (i < r → j = i) ∧ (∀ q, q < r → (j = q ↔ i = q)) ∧ ((bt (RM j) c = true ∧ RM' i = RM j ^^^ RM P) ∨ (bt (RM j) c = false ∧ RM' i = RM j)) := by
    intro i hi hir
    obtain ⟨j, a, b, b', d, e⟩ := so i hir
    refine ⟨j, a hi, b, b', e, ?_⟩
    rw [he i hi]
    unfold fc_elM
    rw [d]
    cases z : bt (RM j) c
    · exact Or.inr ⟨rfl, if_neg fun q => by cases q.2⟩
    · exact Or.inl ⟨rfl, if_pos ⟨hir, rfl⟩⟩
  have bc : ∀ j, j < n → bt (RM' j) c = decide (j = r) := by
    intro j hj
    by_cases e : j = r
    · rw [e, er, hb]; exact (decide_eq_true rfl).symm
    · rw [decide_eq_false e]
      obtain ⟨i, _, _, _, _, q | q⟩ := eo j hj e
      · rw [q.2, b_xor, q.1, hb]; rfl
      · rw [q.2, q.1]
  refine ⟨by omega, by omega, fun i hi => ?_, fun i hi => ?_, fun i hi hi2 d hd => ?_⟩
  · by_cases e : i = r
    · rw [e, er]; exact h3 P hP
    · obtain ⟨j, a, _, _, _, q | q⟩ := eo i hi e
      · rw [q.2]; exact fc_Inx (h3 j a) (h3 P hP)
      · rw [q.2]; exact h3 j a
  · by_cases e : i = r
    · have ep : fc_up p r c i = c := if_pos e
      rw [ep]
      refine ⟨by omega, fun d hd => ?_, fun j hj => ?_⟩
      · rw [e, er]; exact h5 P hr hP d hd
      · rw [e]; exact bc j hj
    · have ep : fc_up p r c i = p i := if_neg e
      have hi' : i < r := by omega
      obtain ⟨q1, q2, q3⟩ := h4 i hi'
      rw [ep]
      have hPi : bt (RM P) (p i) = false := by rw [q3 P hP]; exact decide_eq_false (by omega)
      refine ⟨by omega, fun d hd => ?_, fun j hj => ?_⟩
      · obtain ⟨j, _, _, b', _, q | q⟩ := eo i (by omega) e
        · rw [q.2, b_xor, b' hi', q2 d hd, h5 P hr hP d (by omega)]; rfl
        · rw [q.2, b' hi', q2 d hd]
      · by_cases ej : j = r
        · rw [ej, er, hPi]; exact (decide_eq_false (by omega)).symm
        · obtain ⟨l, a, _, _, b, q | q⟩ := eo j hj ej
          · rw [q.2, b_xor, hPi, Bool.xor_false, q3 l a]
            exact decide_eq_decide.mpr (b i hi')
          · rw [q.2, q3 l a]
            exact decide_eq_decide.mpr (b i hi')
  · by_cases e : d = c
    · rw [e, bc i hi2]; exact decide_eq_false (by omega)
    · obtain ⟨j, a, b, _, _, q | q⟩ := eo i hi2 (by omega)
      · rw [q.2, b_xor, h5 j (b (by omega)) a d (by omega), h5 P hr hP d (by omega)]; rfl
      · rw [q.2]; exact h5 j (b (by omega)) a d (by omega)
/-- the end of the reduction -/
def fc_Red (k n r : Nat) (RM : Nat → Int32) (p : Nat → Nat) : Prop :=
  r ≤ n ∧ r ≤ k ∧ (∀ i, i < r → p i < k ∧ (∀ d, d < p i → bt (RM i) d = false) ∧ ∀ j, j < n → bt (RM j) (p i) = decide (j = i)) ∧
  (∀ i, r ≤ i → i < n → RM i = 0)
theorem fc_RI_Red {k n r : Nat} {RM : Nat → Int32} {p : Nat → Nat} (h : fc_RI k k n r RM p) : fc_Red k n r RM p := by
  obtain ⟨h1, h2, h3, h4, h5⟩ := h
  exact ⟨h1, h2, h4, fun i hi hi2 => fc_In_0 (h3 i hi2) (h5 i hi hi2)⟩
section
variable {k n r : Nat} {RM RV : Nat → Int32} {p : Nat → Nat}
theorem fc_red_gen (h : fc_Red k n r RM p) {j : Nat} (hj : j < n) (f : Nat → Int32) (hf : r ≤ j → f j = 0) : fc_fx f (fun i => bt (RM j) (p i)) r = f j := by
  obtain ⟨h1, h2, h3, h4⟩ := h
  rcases Nat.lt_or_ge j r with l | l
  · refine fc_fx_one l fun i hi => ?_
    show bt (RM j) (p i) = _
    rw [(h3 i hi).2.2 j hj]
    exact decide_eq_decide.mpr ⟨Eq.symm, Eq.symm⟩
  · rw [hf l]
    refine fc_fx_false fun i hi => ?_
    show bt (RM j) (p i) = false
    rw [h4 j l hj, b_0]
theorem fc_red_span (h : fc_Red k n r RM p) {m v : Int32} (hs : fc_Sp n RM RV m v) : m = fc_fx RM (fun i => bt m (p i)) r := by
  refine hs (fun m _ => m = fc_fx RM (fun i => bt m (p i)) r) ?_ (fun a b c d ha hc => ?_) (fun i hi => (fc_red_gen h hi RM (fun l => h.2.2.2 i l hi)).symm)
  · exact (fc_fx_false fun i _ => b_0 _).symm
  · show a ^^^ c = fc_fx RM (fun i => bt (a ^^^ c) (p i)) r
    rw [fc_fx_congr (b' := fun i => bt a (p i) ^^ bt c (p i)) (fun i _ => b_xor _ _ _) (fun _ _ _ => rfl), fc_fx_xb, ← ha, ← hc]
theorem fc_red_val (h : fc_Red k n r RM p) (hz : ∀ i, r ≤ i → i < n → RV i = 0) {m v : Int32} (hs : fc_Sp n RM RV m v) : v = fc_fx RV (fun i => bt m (p i)) r := by
  refine hs (fun m v => v = fc_fx RV (fun i => bt m (p i)) r) ?_ (fun a b c d ha hc => ?_) (fun i hi => (fc_red_gen h hi RV (fun l => hz i l hi)).symm)
  · exact (fc_fx_false fun i _ => b_0 _).symm
  · show b ^^^ d = fc_fx RV (fun i => bt (a ^^^ c) (p i)) r
    rw [fc_fx_congr (b' := fun i => bt a (p i) ^^ bt c (p i)) (fun i _ => b_xor _ _ _) (fun _ _ _ => rfl), fc_fx_xb, ← ha, ← hc]
theorem fc_red_mem (h : fc_Red k n r RM p) (b : Nat → Bool) : fc_Sp n RM RV (fc_fx RM b r) (fc_fx RV b r) :=
  fc_Sp_fx fun i hi _ => fc_Spg (Nat.lt_of_lt_of_le hi h.1)
/-- inconsistent: a zero row with a value -/
theorem fc_red_inc (h : fc_Red k n r RM p) : (∃ v, v ≠ 0 ∧ fc_Sp n RM RV 0 v) ↔ ∃ i, r ≤ i ∧ i < n ∧ RV i ≠ 0 := by
  constructor
  · rintro ⟨v, hv, hs⟩
    refine Classical.byContradiction fun hn => hv ?_
    rw [fc_red_val h (fun i l hi => Classical.byContradiction fun z => hn ⟨i, l, hi, z⟩) hs]
    exact fc_fx_false fun i _ => b_0 _
  · rintro ⟨i, l, hi, z⟩
    refine ⟨RV i, z, ?_⟩
    have := fc_Spg (n := n) (M := RM) (V := RV) hi
    rw [h.2.2.2 i l hi] at this
    exact this
theorem fc_red_known (h : fc_Red k n r RM p) (m : Int32) : fc_Q n RM RV m ↔ m ^^^ fc_fx RM (fun i => bt m (p i)) r = 0 := by
  constructor
  · rintro ⟨v, hs⟩
    have e := fc_red_span h hs
    rw [← e]; exact fc_xx m
  · intro e
    refine ⟨fc_fx RV (fun i => bt m (p i)) r, ?_⟩
    have := fc_red_mem (RV := RV) h (fun i => bt m (p i))
    rw [← fc_xe e] at this
    exact this
theorem fc_red_inj (h : fc_Red k n r RM p) : ∀ i j, i < r → j < r → p i = p j → i = j := by
  intro i j hi hj e
  have a := (h.2.2.1 i hi).2.2 i (Nat.lt_of_lt_of_le hi h.1)
  have b := (h.2.2.1 j hj).2.2 i (Nat.lt_of_lt_of_le hi h.1)
  rw [e, b, decide_eq_true rfl] at a
  exact of_decide_eq_true a
theorem fc_red_base (h : fc_Red k n r RM p) : fc_Base k (fc_Q n RM RV) (fc_img p r) ∧ fc_cnt (fc_img p r) k = r := by
  refine ⟨⟨fun c hc ht => ?_, fun v hv hd => ?_⟩, fc_img_cnt (fun i hi => (h.2.2.1 i hi).1) (fc_red_inj h)⟩
  · obtain ⟨i, hi, rfl⟩ := fc_img_t.mp ht
    have hin := Nat.lt_of_lt_of_le hi h.1
    refine ⟨RM i, ⟨RV i, fc_Spg hin⟩, fun d _ htd => ?_⟩
    obtain ⟨j, hj, rfl⟩ := fc_img_t.mp htd
    rw [(h.2.2.1 j hj).2.2 i hin]
    exact decide_eq_decide.mpr ⟨fun e => by rw [e], fun e => (fc_red_inj h _ _ hj hi e).symm⟩
  · obtain ⟨w, hs⟩ := hv
    rw [fc_red_span h hs]
    refine fc_fx_false fun i hi => hd _ (h.2.2.1 i hi).1 (fc_img_t.mpr ⟨i, hi, rfl⟩)
/-- the loop of sumKnown and sumValue: which rows are used -/
theorem fc_red_step (h : fc_Red k n r RM p) (m : Int32) {i : Nat} (hi : i < r) : bt (m ^^^ fc_fx RM (fun j => bt m (p j)) i) (p i) = bt m (p i) := by
  rw [b_xor]
  have z : bt (fc_fx RM (fun j => bt m (p j)) i) (p i) = false := by
    refine fc_fx_cl (P := fun x => bt x (p i) = false) (b_0 _) (fun a b ha hb => by show bt (a ^^^ b) (p i) = false; rw [b_xor, ha, hb]; rfl) fun j hj _ => ?_
    show bt (RM j) (p i) = false
    have hr := h.1
    rw [(h.2.2.1 i hi).2.2 j (by omega)]
    exact decide_eq_false (by omega)
  rw [z, Bool.xor_false]
theorem fc_red_low (h : fc_Red k n r RM p) (hk : k ≤ 32) {i : Nat} (hi : i < r) : RM i &&& (-RM i) = fc_bit (p i) := by
  obtain ⟨a, b, c⟩ := h.2.2.1 i hi
  have hr := h.1
  exact fc_neg_and (by omega) (by rw [c i (by omega)]; exact decide_eq_true rfl) b
end
end
section
/-! the component's decoder, in pure form -/
section
variable {k n q : Nat} {M V : Nat → Int32} {I : Int32} {pc pr : Nat → Nat}
/-- what triangulate leaves: q pivots (column pc j, row pr j), I the inactive columns -/
def fc_Tri (k n q : Nat) (M : Nat → Int32) (I : Int32) (pc pr : Nat → Nat) : Prop :=
  (∀ j, j < q → pc j < k ∧ pr j < n ∧ bt I (pc j) = false ∧ bt (M (pr j)) (pc j) = true ∧
    ∀ c, c < k → bt (M (pr j)) c = true → c = pc j ∨ bt I c = true ∨ ∃ j', j' < j ∧ pc j' = c) ∧
  (∀ i j, i < q → j < q → pc i = pc j → i = j) ∧
  (∀ c, c < k → bt I c = true ∨ ∃ j, j < q ∧ pc j = c) ∧ fc_In k I
/-- expressPivots after j pivots -/
def fc_EI (k n q j : Nat) (M V : Nat → Int32) (I : Int32) (pc pr : Nat → Nat) (E K : Nat → Int32) : Prop :=
  (∀ c, c < k → bt I c = true → E c = fc_bit c ∧ K c = 0) ∧
  (∀ i, i < j → fc_Sp n M V (fc_bit (pc i) ^^^ E (pc i)) (K (pc i)) ∧ fc_Sub (E (pc i)) I ∧ fc_fx E (bt (M (pr i))) k = 0 ∧ fc_fx K (bt (M (pr i))) k = V (pr i)) ∧
  (∀ i, j ≤ i → i < q → E (pc i) = 0 ∧ K (pc i) = 0)
theorem fc_SubB {c k : Nat} (hc : c < k) (hk : k ≤ 32) (h : bt I c = true) : fc_Sub (fc_bit c) I := fun i hi => by
  rw [fc_bit_b (by omega)] at hi
  rw [of_decide_eq_true hi]; exact h
theorem fc_EI_0 {E K : Nat → Int32} (hk : k ≤ 32) (hT : fc_Tri k n q M I pc pr) (hE : ∀ c, c < k → E c = I &&& fc_bit c ∧ K c = 0) : fc_EI k n q 0 M V I pc pr E K := by
  refine ⟨fun c hc hb => ⟨?_, (hE c hc).2⟩, fun i hi => by omega, fun i _ hi => ⟨?_, (hE _ (hT.1 i hi).1).2⟩⟩
  · rw [(hE c hc).1]
    refine b_ext fun i _ => ?_
    rw [b_and, fc_bit_b (by omega)]
    by_cases e : i = c
    · rw [e, hb]; rfl
    · rw [decide_eq_false e, Bool.and_false]
  · have hc := (hT.1 i hi).1
    have hb := (hT.1 i hi).2.2.1
    rw [(hE _ hc).1]
    refine b_ext fun d _ => ?_
    rw [b_and, fc_bit_b (by omega), b_0]
    by_cases e : d = pc i
    · rw [e, hb]; rfl
    · rw [decide_eq_false e, Bool.and_false]
theorem fc_EI_s {j : Nat} {E K : Nat → Int32} (hk : k ≤ 32) (hM : ∀ i, i < n → fc_In k (M i)) (hT : fc_Tri k n q M I pc pr) (hj : j < q) (h : fc_EI k n q j M V I pc pr E K) :
    fc_EI k n q (j + 1) M V I pc pr (upd E (pc j) (fc_fx E (bt (M (pr j))) k)) (upd K (pc j) (V (pr j) ^^^ fc_fx K (bt (M (pr j))) k)) := by
  obtain ⟨h1, h2, h3⟩ := h
  obtain ⟨t1, t2, t3, t4⟩ := hT
  obtain ⟨a1, a2, a3, a4, a5⟩ := t1 j hj
  obtain ⟨z1, z2⟩ := h3 j (Nat.le_refl _) hj
  have ne : ∀ c, bt I c = true → c ≠ pc j := fun c hc e => by rw [e, a3] at hc; cases hc
  have nei : ∀ i, i < q → i ≠ j → pc i ≠ pc j := fun i hi hij e => hij (t2 i j hi hj e)
  have old : ∀ c, c < k → bt (M (pr j)) c = true → c ≠ pc j → fc_Sp n M V (fc_bit c ^^^ E c) (K c) ∧ fc_Sub (E c) I := by
    intro c hc hb hn
    rcases a5 c hc hb with e | e | ⟨i, hi, e⟩
    · exact absurd e hn
    · rw [(h1 c hc e).1, (h1 c hc e).2, fc_xx]
      exact ⟨fc_Sp0, fc_SubB hc hk e⟩
    · rw [← e]; exact ⟨(h2 i hi).1, (h2 i hi).2.1⟩
  have s1 : fc_Sp n M V (fc_fx (fun c => fc_bit c ^^^ E c) (fc_set (bt (M (pr j))) (pc j) false) k) (fc_fx K (fc_set (bt (M (pr j))) (pc j) false) k) := by
    refine fc_Sp_fx fun c hc hb => ?_
    by_cases e : c = pc j
    · rw [e, fc_set_s] at hb; cases hb
    · rw [fc_set_n e] at hb
      exact (old c hc hb e).1
  have drop : ∀ f : Nat → Int32, fc_fx f (fc_set (bt (M (pr j))) (pc j) false) k = fc_fx f (bt (M (pr j))) k ^^^ f (pc j) := by
    intro f
    have e := fc_fx_upd (f := f) (b := bt (M (pr j))) (x := 0) a1 a4
    rw [fc_x0] at e
    rw [← e]
    have e2 : fc_fx (upd f (pc j) 0) (bt (M (pr j))) k = fc_fx (upd f (pc j) 0) (fc_set (bt (M (pr j))) (pc j) false) k := by
      have q1 : ∀ k', fc_fx (upd f (pc j) 0) (bt (M (pr j))) k' = fc_fx (upd f (pc j) 0) (fc_set (bt (M (pr j))) (pc j) false) k' := by
        intro k'
        induction k' with
        | zero => rfl
        | succ c ih =>
          by_cases e : c = pc j
          · rw [e] at ih
            simp only [fc_fx, e, pk_us, ite_self]
            rw [ih]
          · simp only [fc_fx, ih, fc_set_n e]
      exact q1 k
    rw [e2]
    refine fc_fx_congr (fun _ _ => rfl) fun i _ hb => ?_
    by_cases e : i = pc j
    · rw [e, fc_set_s] at hb; cases hb
    · rw [pk_un e]
  rw [drop, drop, fc_fx_xf, fc_fx_self hk (hM _ a2), z1, z2, fc_x0, fc_x0] at s1
  have s2 := fc_Spx (fc_Spg (n := n) (M := M) (V := V) a2) s1
  refine ⟨fun c hc hb => ?_, fun i hi => ?_, fun i hi hiq => ?_⟩
  · rw [pk_un (ne c hb), pk_un (ne c hb)]; exact h1 c hc hb
  · by_cases e : i = j
    · subst e
      rw [pk_us, pk_us, fc_fx_upd a1 a4, fc_fx_upd a1 a4, z1, z2, fc_0x, fc_0x]
      refine ⟨?_, ?_, fc_xx _, ?_⟩
      · have e3 : M (pr i) ^^^ (M (pr i) ^^^ fc_fx E (bt (M (pr i))) k ^^^ fc_bit (pc i)) = fc_bit (pc i) ^^^ fc_fx E (bt (M (pr i))) k := by
          rw [fc_xa, fc_xl, fc_xc]
        rw [← e3]; exact s2
      · refine fc_fx_Sub fun c hc hb => ?_
        by_cases e : c = pc i
        · rw [e, z1]; exact fc_Sub0 I
        · exact (old c hc hb e).2
      · rw [fc_xc (V (pr i)), fc_xl]
    · have hi' : i < j := by omega
      have hn := nei i (by omega) e
      obtain ⟨b1, b2, b3, b4⟩ := h2 i hi'
      have nb : pc j < k → bt (M (pr i)) (pc j) = false := fun hk' => by
        cases hb : bt (M (pr i)) (pc j)
        · rfl
        · rcases (t1 i (by omega)).2.2.2.2 _ hk' hb with z | z | ⟨i', hi', z⟩
          · exact absurd z.symm hn
          · rw [a3] at z; cases z
          · exact absurd z (nei i' (by omega) (by omega))
      rw [pk_un hn, pk_un hn, fc_fx_updn nb, fc_fx_updn nb]
      exact ⟨b1, b2, b3, b4⟩
  · have hn := nei i hiq (by omega)
    rw [pk_un hn, pk_un hn]
    exact h3 i (by omega) hiq
/-- after expressPivots: every column, every used row -/
def fc_Ex (k n : Nat) (M V : Nat → Int32) (I : Int32) (used : Nat → Prop) (E K : Nat → Int32) : Prop :=
  (∀ c, c < k → fc_Sp n M V (fc_bit c ^^^ E c) (K c) ∧ fc_Sub (E c) I) ∧
  (∀ c, c < k → bt I c = true → E c = fc_bit c ∧ K c = 0) ∧
  (∀ i, i < n → used i → fc_fx E (bt (M i)) k = 0 ∧ fc_fx K (bt (M i)) k = V i)
theorem fc_EI_e {E K : Nat → Int32} (hk : k ≤ 32) (hT : fc_Tri k n q M I pc pr) (h : fc_EI k n q q M V I pc pr E K) : fc_Ex k n M V I (fun i => ∃ j, j < q ∧ pr j = i) E K := by
  obtain ⟨h1, h2, h3⟩ := h
  obtain ⟨t1, t2, t3, t4⟩ := hT
  refine ⟨fun c hc => ?_, h1, fun i hi hu => ?_⟩
  · rcases t3 c hc with e | ⟨j, hj, e⟩
    · rw [(h1 c hc e).1, (h1 c hc e).2, fc_xx]
      exact ⟨fc_Sp0, fc_SubB hc hk e⟩
    · rw [← e]; exact ⟨(h2 j hj).1, (h2 j hj).2.1⟩
  · obtain ⟨j, hj, e⟩ := hu
    rw [← e]; exact (h2 j hj).2.2
end
/-! the dense part -/
section
variable {k n : Nat} {M V : Nat → Int32} {I : Int32}
/-- fully reduced dense rows: those with DM c ≠ 0 -/
def fc_DR (k n : Nat) (M V : Nat → Int32) (I : Int32) (DM DV : Nat → Int32) : Prop :=
  (∀ c, c < k → fc_Sub (DM c) I ∧ fc_Sp n M V (DM c) (DV c) ∧ (DM c = 0 → DV c = 0)) ∧
  (∀ c d, c < k → d < k → DM d ≠ 0 → bt (DM c) d = decide (d = c))
/-- the equation (m, v) is met by the dense rows -/
def fc_DE (k : Nat) (DM DV : Nat → Int32) (ct : Int32) (m v : Int32) : Prop := m = fc_fx DM (bt m) k ∧ (ct = 0 → v = fc_fx DV (bt m) k)
theorem fc_DR_0 {DM DV : Nat → Int32} (h : ∀ c, c < k → DM c = 0 ∧ DV c = 0) : fc_DR k n M V I DM DV :=
  ⟨fun c hc => by rw [(h c hc).1, (h c hc).2]; exact ⟨fc_Sub0 I, fc_Sp0, fun _ => rfl⟩, fun c d _ hd hz => absurd (h d hd).1 hz⟩
theorem fc_DR_bit {DM DV : Nat → Int32} (h : fc_DR k n M V I DM DV) (b : Nat → Bool) {d : Nat} (hd : d < k) (hz : DM d ≠ 0) : ∀ c, c ≤ k → bt (fc_fx DM b c) d = (decide (d < c) && b d) := by
  intro c
  induction c with
  | zero => intro _; rw [decide_eq_false (by omega)]; exact b_0 d
  | succ c ih =>
    intro hc
    have ih := ih (by omega)
    have e := h.2 c d (by omega) hd hz
    by_cases q : d = c
    · rw [decide_eq_true q] at e
      rw [decide_eq_false (by omega), Bool.false_and] at ih
      rw [decide_eq_true (by omega), Bool.true_and]
      cases hb : b c
      · rw [fc_fx_f hb, ih, q, hb]
      · rw [fc_fx_t hb, b_xor, ih, e, q, hb]; rfl
    · rw [decide_eq_false q] at e
      have e2 : decide (d < c + 1) = decide (d < c) := decide_eq_decide.mpr (by omega)
      rw [e2]
      cases hb : b c
      · rw [fc_fx_f hb, ih]
      · rw [fc_fx_t hb, b_xor, ih, e, Bool.xor_false]
/-- the reducing loop of insertDense -/
theorem fc_DR_red {DM DV : Nat → Int32} (h : fc_DR k n M V I DM DV) (m : Int32) {c : Nat} (hc : c < k) (hz : DM c ≠ 0) : bt (m ^^^ fc_fx DM (bt m) c) c = bt m c := by
  rw [b_xor, fc_DR_bit h _ hc hz c (by omega), decide_eq_false (by omega), Bool.false_and, Bool.xor_false]
theorem fc_DR_rest {DM DV : Nat → Int32} (h : fc_DR k n M V I DM DV) (m : Int32) {c : Nat} (hc : c < k) (hz : DM c ≠ 0) : bt (m ^^^ fc_fx DM (bt m) k) c = false := by
  rw [b_xor, fc_DR_bit h _ hc hz k (Nat.le_refl _), decide_eq_true hc, Bool.true_and, Bool.xor_self]
theorem fc_DR_sp {DM DV : Nat → Int32} (h : fc_DR k n M V I DM DV) (b : Nat → Bool) : fc_Sp n M V (fc_fx DM b k) (fc_fx DV b k) :=
  fc_Sp_fx fun i hi _ => (h.1 i hi).2.1
theorem fc_DR_sub {DM DV : Nat → Int32} (h : fc_DR k n M V I DM DV) (b : Nat → Bool) : fc_Sub (fc_fx DM b k) I :=
  fc_fx_Sub fun i hi _ => (h.1 i hi).1
/-- the dense rows after a new pivot p with row x, value y -/
def fc_ins (F G : Nat → Int32) (p : Nat) (x : Int32) : Nat → Int32 := fun c => if c = p then x else if bt (F c) p = true then G c ^^^ x else G c
theorem fc_ins_e {F G : Nat → Int32} {p : Nat} {x : Int32} (hF : F p = 0) (hG : G p = 0) (c : Nat) : fc_ins F G p x c = G c ^^^ ((if bt (F c) p = true then x else 0) ^^^ (if c = p then x else 0)) := by
  unfold fc_ins
  by_cases e : c = p
  · rw [if_pos e, if_pos e, e, hF, hG, b_0, fc_0x]
    exact (fc_0x x).symm
  · rw [if_neg e, if_neg e, fc_x0]
    cases bt (F c) p
    · exact (fc_x0 _).symm
    · rfl
theorem fc_ins_fx {F G : Nat → Int32} {p : Nat} {x : Int32} (hp : p < k) (hF : F p = 0) (hG : G p = 0) (m : Int32) :
    fc_fx (fc_ins F G p x) (bt m) k = fc_fx G (bt m) k ^^^ ((if bt (fc_fx F (bt m) k) p = true then x else 0) ^^^ (if bt m p = true then x else 0)) := by
  rw [fc_fx_congr (g := fun c => G c ^^^ ((if bt (F c) p = true then x else 0) ^^^ (if c = p then x else 0))) (fun _ _ => rfl) (fun c _ _ => fc_ins_e hF hG c), fc_fx_xf, fc_fx_xf, fc_fx_cond]
  have e : fc_fx (fun c => if c = p then x else 0) (bt m) k = if bt m p = true then x else 0 := by
    cases hb : bt m p
    · refine (fc_fx_zero fun i _ hi => if_neg fun e => ?_).trans (if_neg (by decide)).symm
      rw [e, hb] at hi; cases hi
    · rw [if_pos rfl]
      have z := fc_fx_upd (f := fun _ => 0) (b := bt m) (x := x) hp hb
      rw [fc_fx_zero (fun _ _ _ => rfl), fc_0x, fc_0x] at z
      exact z
  rw [e]
theorem fc_DR_ins {DM DV : Nat → Int32} (h : fc_DR k n M V I DM DV) {m v : Int32} (hk : k ≤ 32) (hI : fc_In k I) (hm : fc_Sub m I) (hs : fc_Sp n M V m v) {p : Nat} (hp : p < k)
    (hb : bt (m ^^^ fc_fx DM (bt m) k) p = true) :
    DM p = 0 ∧ fc_DR k n M V I (fc_ins DM DM p (m ^^^ fc_fx DM (bt m) k)) (fc_ins DM DV p (v ^^^ fc_fx DV (bt m) k)) ∧
    (∀ c, c < k → (fc_ins DM DM p (m ^^^ fc_fx DM (bt m) k) c ≠ 0 ↔ (c = p ∨ DM c ≠ 0))) := by
  have rest := fun c hc hz => fc_DR_rest h m (c := c) hc hz
  have hmS : fc_Sub (m ^^^ fc_fx DM (bt m) k) I := fc_Subx hm (fc_DR_sub h _)
  have hmP : fc_Sp n M V (m ^^^ fc_fx DM (bt m) k) (v ^^^ fc_fx DV (bt m) k) := fc_Spx hs (fc_DR_sp h _)
  generalize m ^^^ fc_fx DM (bt m) k = x at *
  generalize v ^^^ fc_fx DV (bt m) k = y at *
  have hDp : DM p = 0 := Classical.byContradiction fun z => by rw [rest p hp z] at hb; cases hb
  have ip : ∀ G : Nat → Int32, ∀ z, fc_ins DM G p z p = z := fun G z => if_pos rfl
  have io : ∀ G : Nat → Int32, ∀ z c, c ≠ p → fc_ins DM G p z c = if bt (DM c) p = true then G c ^^^ z else G c := fun G z c hc => if_neg hc
  have nz : ∀ c, c < k → (fc_ins DM DM p x c ≠ 0 ↔ (c = p ∨ DM c ≠ 0)) := by
    intro c hc
    by_cases e : c = p
    · rw [e, ip]
      refine ⟨fun _ => Or.inl rfl, fun _ z => ?_⟩
      rw [z, b_0] at hb; cases hb
    · rw [io _ _ c e]
      by_cases z : DM c = 0
      · rw [z, b_0]
        simp [e]
      · refine ⟨fun _ => Or.inr z, fun _ w => ?_⟩
        have e1 := h.2 c c hc hc z
        rw [decide_eq_true rfl] at e1
        cases hq : bt (DM c) p
        · rw [hq] at w; exact z w
        · rw [hq, if_pos rfl] at w
          have e2 : bt (DM c ^^^ x) c = bt 0 c := by rw [w]
          rw [b_xor, e1, rest c hc z, b_0] at e2
          cases e2
  refine ⟨hDp, ⟨fun c hc => ?_, fun c d hc hd hz => ?_⟩, nz⟩
  · by_cases e : c = p
    · rw [e, ip, ip]
      exact ⟨hmS, hmP, fun z => by rw [z, b_0] at hb; cases hb⟩
    · obtain ⟨a1, a2, a3⟩ := h.1 c hc
      have zz := nz c hc
      rw [io _ _ c e] at zz
      rw [io _ _ c e, io _ _ c e]
      cases hq : bt (DM c) p
      · exact ⟨a1, a2, a3⟩
      · rw [hq, if_pos rfl] at zz
        refine ⟨fc_Subx a1 hmS, fc_Spx a2 hmP, fun z => ?_⟩
        exfalso
        refine zz.mpr (Or.inr fun w => ?_) z
        rw [w, b_0] at hq; cases hq
  · by_cases ed : d = p
    · rw [ed]
      by_cases e : c = p
      · rw [e, ip, hb]; exact (decide_eq_true rfl).symm
      · rw [io _ _ c e, decide_eq_false (fun z => e z.symm)]
        cases hq : bt (DM c) p
        · exact hq
        · rw [if_pos rfl, b_xor, hq, hb]; rfl
    · have hz' : DM d ≠ 0 := ((nz d hd).mp hz).resolve_left ed
      by_cases e : c = p
      · rw [e, ip, rest d hd hz']; exact (decide_eq_false ed).symm
      · rw [io _ _ c e]
        cases hq : bt (DM c) p
        · exact h.2 c d hc hd hz'
        · rw [if_pos rfl, b_xor, rest d hd hz', Bool.xor_false]; exact h.2 c d hc hd hz'
theorem fc_DE_keep {DM DV : Nat → Int32} (h : fc_DR k n M V I DM DV) {ct m v x y : Int32} {p : Nat} (hp : p < k) (hDp : DM p = 0) (he : fc_DE k DM DV ct m v) : fc_DE k (fc_ins DM DM p x) (fc_ins DM DV p y) ct m v := by
  have hVp := (h.1 p hp).2.2 hDp
  unfold fc_DE
  rw [fc_ins_fx hp hDp hDp, fc_ins_fx hp hDp hVp, ← he.1]
  refine ⟨?_, fun z => ?_⟩
  · rw [fc_xx, fc_x0]
  · rw [fc_xx, fc_x0]; exact he.2 z
theorem fc_DE_new {DM DV : Nat → Int32} (h : fc_DR k n M V I DM DV) {ct m v : Int32} {p : Nat} (hp : p < k) (hDp : DM p = 0) (hb : bt (m ^^^ fc_fx DM (bt m) k) p = true) :
    fc_DE k (fc_ins DM DM p (m ^^^ fc_fx DM (bt m) k)) (fc_ins DM DV p (v ^^^ fc_fx DV (bt m) k)) ct m v := by
  have hVp := (h.1 p hp).2.2 hDp
  unfold fc_DE
  rw [fc_ins_fx hp hDp hDp, fc_ins_fx hp hDp hVp]
  have key : ∀ z : Int32, ((if bt (fc_fx DM (bt m) k) p = true then z else 0) ^^^ (if bt m p = true then z else 0)) = z := by
    intro z
    rw [b_xor] at hb
    cases h1 : bt (fc_fx DM (bt m) k) p <;> cases h2 : bt m p
    · rw [h1, h2] at hb; cases hb
    · exact fc_0x z
    · exact fc_x0 z
    · rw [h1, h2] at hb; cases hb
  rw [key, key]
  refine ⟨?_, fun _ => ?_⟩
  · rw [fc_xc m, fc_xl]
  · rw [fc_xc v, fc_xl]
theorem fc_DE_old {DM DV : Nat → Int32} {ct ct' m v : Int32} (hc : ct' = 0 → ct = 0) (he : fc_DE k DM DV ct m v) : fc_DE k DM DV ct' m v := ⟨he.1, fun z => he.2 (hc z)⟩
/-- the end: E c = E1 c ^ (the dense rows at E1 c) -/
def fc_Fin (k : Nat) (E1 K1 DM DV E K : Nat → Int32) : Prop :=
  ∀ c, c < k → E c = E1 c ^^^ fc_fx DM (bt (E1 c)) k ∧ K c = K1 c ^^^ fc_fx DV (bt (E1 c)) k
/-- all rows are met -/
def fc_All (k n : Nat) (M V E1 K1 DM DV : Nat → Int32) (ct : Int32) : Prop :=
  ∀ i, i < n → fc_DE k DM DV ct (fc_fx E1 (bt (M i)) k) (V i ^^^ fc_fx K1 (bt (M i)) k)
theorem fc_DE_z {DM DV : Nat → Int32} {ct : Int32} : fc_DE k DM DV ct 0 0 := ⟨(fc_fx_m0 _ _).symm, fun _ => (fc_fx_m0 _ _).symm⟩
variable {E1 K1 DM DV E K : Nat → Int32} {ct : Int32} {used : Nat → Prop}
theorem fc_fin_A (hE : fc_Ex k n M V I used E1 K1) (hD : fc_DR k n M V I DM DV) (hF : fc_Fin k E1 K1 DM DV E K) {c : Nat} (hc : c < k) : fc_Sp n M V (fc_bit c ^^^ E c) (K c) := by
  rw [(hF c hc).1, (hF c hc).2, ← fc_xa]
  exact fc_Spx (hE.1 c hc).1 (fc_DR_sp hD _)
theorem fc_fin_fx (hF : fc_Fin k E1 K1 DM DV E K) (m : Int32) : fc_fx E (bt m) k = fc_fx E1 (bt m) k ^^^ fc_fx DM (bt (fc_fx E1 (bt m) k)) k ∧ fc_fx K (bt m) k = fc_fx K1 (bt m) k ^^^ fc_fx DV (bt (fc_fx E1 (bt m) k)) k := by
  rw [fc_fx_comp, fc_fx_comp, ← fc_fx_xf, ← fc_fx_xf]
  exact ⟨fc_fx_congr (fun _ _ => rfl) fun c hc _ => (hF c hc).1, fc_fx_congr (fun _ _ => rfl) fun c hc _ => (hF c hc).2⟩
theorem fc_fin_B (hA : fc_All k n M V E1 K1 DM DV ct) (hF : fc_Fin k E1 K1 DM DV E K) {i : Nat} (hi : i < n) : fc_fx E (bt (M i)) k = 0 ∧ (ct = 0 → fc_fx K (bt (M i)) k = V i) := by
  obtain ⟨a, b⟩ := hA i hi
  obtain ⟨e1, e2⟩ := fc_fin_fx hF (M i)
  rw [e1, e2]
  refine ⟨by rw [← a]; exact fc_xx _, fun z => ?_⟩
  rw [← b z, fc_xc (V i), fc_xl]
theorem fc_fin_Q {E : Nat → Int32} (hB : ∀ i, i < n → fc_fx E (bt (M i)) k = 0) {m v : Int32} (hs : fc_Sp n M V m v) : fc_fx E (bt m) k = 0 := by
  refine hs (fun m _ => fc_fx E (bt m) k = 0) (fc_fx_m0 _ _) (fun a b c d ha hc => ?_) hB
  show fc_fx E (bt (a ^^^ c)) k = 0
  rw [fc_fx_x, ha, hc]; exact fc_xx 0
theorem fc_fin_V {K : Nat → Int32} (hB : ∀ i, i < n → fc_fx K (bt (M i)) k = V i) {m v : Int32} (hs : fc_Sp n M V m v) : fc_fx K (bt m) k = v := by
  refine hs (fun m v => fc_fx K (bt m) k = v) (fc_fx_m0 _ _) (fun a b c d ha hc => ?_) hB
  show fc_fx K (bt (a ^^^ c)) k = b ^^^ d
  rw [fc_fx_x, ha, hc]
theorem fc_fin_inc (hA : fc_All k n M V E1 K1 DM DV ct) (hF : fc_Fin k E1 K1 DM DV E K) (hct : ct = 0) {v : Int32} (hs : fc_Sp n M V 0 v) : v = 0 := by
  rw [← fc_fin_V (K := K) (fun i hi => (fc_fin_B hA hF hi).2 hct) hs]
  exact fc_fx_m0 _ _
/-- the base of the component: no inactive column, or a dense pivot -/
theorem fc_fin_base (hk : k ≤ 32) (hM : ∀ i, i < n → fc_In k (M i)) (hI : fc_In k I) (hE : fc_Ex k n M V I used E1 K1) (hD : fc_DR k n M V I DM DV) (hA : fc_All k n M V E1 K1 DM DV ct) (hF : fc_Fin k E1 K1 DM DV E K) :
    fc_Base k (fc_Q n M V) (fun c => !bt I c || !decide (DM c = 0)) := by
  have out : ∀ c d, c < k → d < k → (!bt I d || !decide (DM d = 0)) = true → bt (E c) d = false := by
    intro c d hc hd ht
    rw [(hF c hc).1]
    by_cases z : DM d = 0
    · rw [decide_eq_true z] at ht
      have hi : bt I d = false := by cases h : bt I d <;> rw [h] at ht <;> first | rfl | cases ht
      exact fc_Sub_f (fc_Subx (hE.1 c hc).2 (fc_DR_sub hD _)) hi
    · exact fc_DR_rest hD _ hd z
  refine ⟨fun c hc ht => ⟨fc_bit c ^^^ E c, ⟨_, fc_fin_A hE hD hF hc⟩, fun d hd htd => ?_⟩, fun v hv hd => ?_⟩
  · rw [b_xor, fc_bit_b (by omega), out c d hc hd htd, Bool.xor_false]
  · have hvI := fc_QIn hM hv
    obtain ⟨w, hs⟩ := hv
    have e := fc_fin_Q (E := E) (fun i hi => (fc_fin_B hA hF hi).1) hs
    rw [← fc_fx_self hk hvI, ← e]
    refine fc_fx_congr (fun _ _ => rfl) fun c hc hb => ?_
    have ht : (!bt I c || !decide (DM c = 0)) = false := by
      cases h : (!bt I c || !decide (DM c = 0))
      · rfl
      · rw [hd c hc h] at hb; cases hb
    have hi : bt I c = true := by cases h : bt I c <;> rw [h] at ht <;> first | rfl | cases ht
    have hz : DM c = 0 := by
      rw [hi] at ht
      refine Classical.byContradiction fun z => ?_
      rw [decide_eq_false z] at ht; cases ht
    rw [(hF c hc).1, (hE.2.1 c hc hi).1, fc_fx_bit hc hk, hz, fc_x0]
end
end
section
/-! the neighbour sets, on both sides -/
def fc_ma (z : Int32) : Int32 := (z ^^^ ((z.toUInt32 >>> ((16 : Int32).toUInt32 &&& Int32.toUInt32 31)).toInt32)) * (-2048144789)
def fc_mb (z : Int32) : Int32 := (z ^^^ ((z.toUInt32 >>> ((13 : Int32).toUInt32 &&& Int32.toUInt32 31)).toInt32)) * (-1028477387)
def fc_mc (z : Int32) : Int32 := z ^^^ ((z.toUInt32 >>> ((16 : Int32).toUInt32 &&& Int32.toUInt32 31)).toInt32)
def fc_mix (z : Int32) : Int32 := fc_mc (fc_mb (fc_ma z))
theorem fc_Xmix {post : Int32 → Prop} {z : Int32} : ∀ u : SX, post (fc_mix z) → wpX_mix post u z
  | (_, _, _, _, _, _, _, _, _, _, _, _, _, _, _, _, _, _, _, _, _, _, _, _, _, _, _, _, _, _, _, _, _, _, _, _, _, _), h => nm_e (nm_e h)
theorem fc_Ymix {post : Int32 → Prop} {z : Int32} : ∀ u : SY, post (fc_mix z) → wpY_mix post u z
  | (_, _, _, _, _, _, _, _, _, _, _, _, _, _), h => nm_e (nm_e h)
theorem fc_Xhas {post : Int32 → Prop} {m : Int32} {c : Nat} (hc : c < 32) (h0 : bt m c = false → post 0) (h1 : bt m c = true → post 1) : ∀ u : SX, wpX_has post u m (nI c)
  | (_, _, _, _, _, _, _, _, _, _, _, _, _, _, _, _, _, _, _, _, _, _, _, _, _, _, _, _, _, _, _, _, _, _, _, _, _, _) => ek_if (fc_hasb m c hc) h0 (fun h => h1 (by cases z : bt m c <;> simp_all))
def fc_h (z : Int32) : Nat := z.toBitVec.toNat / 2
theorem fc_h_lt (z : Int32) : fc_h z < 2 ^ 31 := by
  have := z.toBitVec.isLt
  unfold fc_h
  omega
theorem fc_dr (z : Int32) : (z.toUInt32 >>> ((1 : Int32).toUInt32 &&& Int32.toUInt32 31)).toInt32 = nI (fc_h z) := by
  apply Int32.toBitVec_inj.mp
  apply BitVec.eq_of_toNat_eq
  have := fc_h_lt z
  rw [pk_ushr z 1 1 (by decide), pk_tn (by omega)]
  rfl
theorem fc_drm (z : Int32) {d : Nat} (h0 : 0 < d) (hd : d < 2 ^ 31) : (z.toUInt32 >>> ((1 : Int32).toUInt32 &&& Int32.toUInt32 31)).toInt32 - (z.toUInt32 >>> ((1 : Int32).toUInt32 &&& Int32.toUInt32 31)).toInt32 / nI d * nI d = nI (fc_h z % d) := by
  rw [fc_dr, pk_rem (fc_h_lt z) h0 hd]
theorem fc_sub (s : Int32) : s + (-1640531527) = s - 1640531527 := (Int32.sub_eq_add_neg s 1640531527).symm
/-- the first free column from c on -/
def fc_probe (k : Nat) (m : Int32) : Nat → Nat → Nat
  | 0, c => c
  | s + 1, c => if bt m c = true then fc_probe k m s (if c + 1 = k then 0 else c + 1) else c
theorem fc_probe_lt {k : Nat} {m : Int32} : ∀ {s c : Nat}, c < k → fc_probe k m s c < k
  | 0, c, h => h
  | s + 1, c, h => by
    unfold fc_probe
    split
    · refine fc_probe_lt ?_
      split <;> omega
    · exact h
def fc_draw (k : Nat) : Nat → Int32 → Int32 → Int32
  | 0, _, m => m
  | d + 1, s, m => fc_draw k d (s - 1640531527) (m ||| fc_bit (fc_probe k m k (fc_h (fc_mix (s - 1640531527)) % k)))
theorem fc_draw_In {k : Nat} (h1 : 1 ≤ k) (hk : k ≤ 32) : ∀ {d : Nat} {s m : Int32}, fc_In k m → fc_In k (fc_draw k d s m)
  | 0, _, _, h => h
  | d + 1, s, m, h => fc_draw_In h1 hk (d := d) fun i hi => by
    have hp := fc_probe_lt (k := k) (m := m) (s := k) (c := fc_h (fc_mix (s - 1640531527)) % k) (Nat.mod_lt _ (by omega))
    rw [b_or, h i hi, fc_Inb hp hk i hi]; rfl
def fc_cum (w : Nat → Int32) : Nat → Nat
  | 0 => 0
  | e + 1 => fc_cum w e + (w e).toNatClampNeg
def fc_sel (w : Nat → Int32) (t : Nat) : Nat → Nat
  | 0 => 0
  | e + 1 => if t < fc_cum w e then fc_sel w t e else e
theorem fc_cum_mono {w : Nat → Int32} {a : Nat} : ∀ {b : Nat}, a ≤ b → fc_cum w a ≤ fc_cum w b
  | 0, h => by rw [Nat.le_zero.mp h]; exact Nat.le_refl _
  | b + 1, h => by
    rcases Nat.lt_or_ge b a with z | z
    · have : a = b + 1 := by omega
      rw [this]; exact Nat.le_refl _
    · have := fc_cum_mono (w := w) z
      simp only [fc_cum]; omega
theorem fc_sel_spec {w : Nat → Int32} {t : Nat} : ∀ {e : Nat}, t < fc_cum w e → fc_sel w t e < e ∧ fc_cum w (fc_sel w t e) ≤ t ∧ t < fc_cum w (fc_sel w t e + 1)
  | 0, h => by simp [fc_cum] at h
  | e + 1, h => by
    unfold fc_sel
    by_cases z : t < fc_cum w e
    · rw [if_pos z]
      obtain ⟨a, b⟩ := fc_sel_spec z
      exact ⟨by omega, b⟩
    · rw [if_neg z]
      exact ⟨by omega, by omega, h⟩
/-- the degree table -/
def fc_Tab (k e : Nat) (D W : Nat → Int32) : Prop := ∀ i, i < e → (∃ d, 1 ≤ d ∧ d ≤ k ∧ D i = nI d) ∧ (∃ w, 1 ≤ w ∧ w ≤ 999 ∧ W i = nI w)
theorem fc_cum_s {k e : Nat} {D W : Nat → Int32} (h : fc_Tab k e D W) {i : Nat} (hi : i < e) : nI (fc_cum W i) + W i = nI (fc_cum W (i + 1)) := by
  obtain ⟨w, h1, h2, hw⟩ := (h i hi).2
  have : (W i).toNatClampNeg = w := by rw [hw]; exact nI_clamp (by omega)
  simp only [fc_cum, this]
  rw [hw, nI_add]
theorem fc_cum_le {k e : Nat} {D W : Nat → Int32} (h : fc_Tab k e D W) : ∀ {i : Nat}, i ≤ e → fc_cum W i ≤ 999 * i ∧ i ≤ fc_cum W i
  | 0, _ => ⟨Nat.le_refl _, Nat.le_refl _⟩
  | i + 1, hi => by
    obtain ⟨a, b⟩ := fc_cum_le h (i := i) (by omega)
    obtain ⟨w, h1, h2, hw⟩ := (h i (by omega)).2
    have : (W i).toNatClampNeg = w := by rw [hw]; exact nI_clamp (by omega)
    simp only [fc_cum, this]
    omega
def fc_nb (k e : Nat) (D W : Nat → Int32) (seed id : Int32) : Int32 :=
  fc_draw k (D (fc_sel W (fc_h (fc_mix (fc_mix (fc_mix seed ^^^ id) - 1640531527)) % fc_cum W e) e)).toNatClampNeg (fc_mix (fc_mix seed ^^^ id) - 1640531527) 0
theorem fc_nb_In {k e : Nat} {D W : Nat → Int32} {seed id : Int32} (h1 : 1 ≤ k) (hk : k ≤ 32) : fc_In k (fc_nb k e D W seed id) := fc_draw_In h1 hk (fc_In0 k)
/-- the facts of phase RUN -/
def fc_Run (k e : Nat) (D W TE : Nat → Int32) (wt ms seed : Int32) : Prop :=
  1 ≤ k ∧ k ≤ 24 ∧ 1 ≤ e ∧ e ≤ 8 ∧ fc_Tab k e D W ∧ (∀ i, i < e → TE i = nI (fc_cum W (i + 1))) ∧ wt = nI (fc_cum W e) ∧ ms = fc_mix seed
section
variable {k cc e n : Nat} {f_allWords f_running f_weightTotal f_mixedSeed f_state f_rankFound f_peelMask f_activeMask f_inactiveMask f_queueHead f_queueTail f_pivotCount f_denseRank f_contradiction seed : Int32} {a_tableDegree a_tableWeight a_tableEnd a_source a_ids a_values a_masks a_expr a_constant a_rowStart a_rowCols a_colStart a_colRows a_rowLeft a_rowUsed a_queue a_pivotCol a_pivotRow a_denseMask a_denseValue rm rv : Nat → Int32}
variable {post : Int32 → Prop} {J : Int32 → Int32 → Int32 → Prop} {x3 x5 x7 m : Int32}
theorem fc_X89 (hk : k ≤ 24) : ∀ (d s c : Nat), s + d = k → c < k → wX_neighbours_130 post J x3 x5 m x7 (nI (fc_probe k m d c)) (nI k) (nI cc) f_allWords f_running (nI e) f_weightTotal f_mixedSeed (nI n) f_state f_rankFound f_peelMask f_activeMask f_inactiveMask f_queueHead f_queueTail f_pivotCount f_denseRank f_contradiction a_tableDegree a_tableWeight a_tableEnd a_source a_ids a_values a_masks a_expr a_constant a_rowStart a_rowCols a_colStart a_colRows a_rowLeft a_rowUsed a_queue a_pivotCol a_pivotRow a_denseMask a_denseValue → wX_neighbours_89 post J x3 x5 m x7 (nI k) (nI cc) f_allWords f_running (nI e) f_weightTotal f_mixedSeed (nI n) f_state f_rankFound f_peelMask f_activeMask f_inactiveMask f_queueHead f_queueTail f_pivotCount f_denseRank f_contradiction a_tableDegree a_tableWeight a_tableEnd a_source a_ids a_values a_masks a_expr a_constant a_rowStart a_rowCols a_colStart a_colRows a_rowLeft a_rowUsed a_queue a_pivotCol a_pivotRow a_denseMask a_denseValue (d + 1) (nI c) (nI s) := by
  intro d
  induction d with
  | zero => intro s c hs hc h; exact br_t (nI_le (by omega) (by omega)) h
  | succ d ih =>
    intro s c hs hc h
    refine br_f (nI_ge (by omega) (by omega)) (fc_Xhas (by omega) (fun hb => ?_) (fun hb => ?_) _)
    · refine br_t rfl ?_
      simp only [fc_probe, hb] at h
      exact h
    · refine br_f (by decide) (nm_r (nI_1 c) ?_)
      simp only [fc_probe, hb, if_true] at h
      refine pk_eq (c + 1) k (fun e => ?_) (fun e => ?_)
      · refine nm_r (nI_1 s) ?_
        rw [if_pos e] at h
        exact ih (s + 1) 0 (by omega) (by omega) h
      · refine nm_r (nI_1 s) ?_
        rw [if_neg e] at h
        exact ih (s + 1) (c + 1) (by omega) (by omega) h
theorem fc_Y191 (hk : k ≤ 24) : ∀ (d s c : Nat), s + d = k → c < k → wY_neighbours_234 post J x3 x5 m x7 (nI (fc_probe k m d c)) (nI k) (nI cc) f_running (nI e) seed (nI n) f_state a_tableDegree a_tableWeight a_source a_ids a_values rm rv → wY_neighbours_191 post J x3 x5 m x7 (nI k) (nI cc) f_running (nI e) seed (nI n) f_state a_tableDegree a_tableWeight a_source a_ids a_values rm rv (d + 1) (nI c) (nI s) := by
  intro d
  induction d with
  | zero => intro s c hs hc h; exact br_t (nI_le (by omega) (by omega)) h
  | succ d ih =>
    intro s c hs hc h
    refine br_f (nI_ge (by omega) (by omega)) (ek_if (fc_andb m c (by omega)) (fun hb => ?_) (fun hb => ?_))
    · simp only [fc_probe, hb] at h
      exact h
    · have hb : bt m c = true := by cases z : bt m c <;> simp_all
      refine nm_r (nI_1 c) ?_
      simp only [fc_probe, hb, if_true] at h
      refine pk_eq (c + 1) k (fun e => ?_) (fun e => ?_)
      · refine nm_r (nI_1 s) ?_
        rw [if_pos e] at h
        exact ih (s + 1) 0 (by omega) (by omega) h
      · refine nm_r (nI_1 s) ?_
        rw [if_neg e] at h
        exact ih (s + 1) (c + 1) (by omega) (by omega) h
theorem fc_X60 (h1 : 1 ≤ k) (hk : k ≤ 24) {dg : Nat} (hd : dg ≤ 24) : ∀ (d j : Nat) (s m : Int32), j + d = dg → post (fc_draw k d s m) → wX_neighbours_60 post (nI dg) (nI k) (nI cc) f_allWords f_running (nI e) f_weightTotal f_mixedSeed (nI n) f_state f_rankFound f_peelMask f_activeMask f_inactiveMask f_queueHead f_queueTail f_pivotCount f_denseRank f_contradiction a_tableDegree a_tableWeight a_tableEnd a_source a_ids a_values a_masks a_expr a_constant a_rowStart a_rowCols a_colStart a_colRows a_rowLeft a_rowUsed a_queue a_pivotCol a_pivotRow a_denseMask a_denseValue (d + 1) s m (nI j) := by
  intro d
  induction d with
  | zero => intro j s m hj h; exact br_t (nI_le (by omega) (by omega)) h
  | succ d ih =>
    intro j s m hj h
    refine br_f (nI_ge (by omega) (by omega)) (nm_e (fc_Xmix _ ⟨nI_ne0 (by omega) (by omega), nm_r (fc_drm _ (by omega) (by omega)) ⟨k + 1, ?_⟩⟩))
    refine fc_X89 hk k 0 _ (by omega) (Nat.mod_lt _ (by omega)) ?_
    exact nm_e (nm_r (nI_1 j) (ih (j + 1) _ _ (by omega) h))
theorem fc_Y155 (h1 : 1 ≤ k) (hk : k ≤ 24) {dg : Nat} (hd : dg ≤ 24) : ∀ (d j : Nat) (s m : Int32), j + d = dg → post (fc_draw k d s m) → wY_neighbours_155 post (nI dg) (nI k) (nI cc) f_running (nI e) seed (nI n) f_state a_tableDegree a_tableWeight a_source a_ids a_values rm rv (d + 1) s m (nI j) := by
  intro d
  induction d with
  | zero => intro j s m hj h; exact br_t (nI_le (by omega) (by omega)) h
  | succ d ih =>
    intro j s m hj h
    refine br_f (nI_ge (by omega) (by omega)) (nm_r (fc_sub s) (fc_Ymix _ (nm_e ⟨nI_ne0 (by omega) (by omega), nm_r (fc_drm _ (by omega) (by omega)) ⟨k + 1, ?_⟩⟩)))
    refine fc_Y191 hk k 0 _ (by omega) (Nat.mod_lt _ (by omega)) ?_
    exact nm_e (nm_r (nI_1 j) (ih (j + 1) _ _ (by omega) h))
theorem fc_XdF {t : Nat} (he : e ≤ 8) (hT : fc_Tab k e a_tableDegree a_tableWeight) (hE : ∀ i, i < e → a_tableEnd i = nI (fc_cum a_tableWeight (i + 1))) (ht : t < fc_cum a_tableWeight e)
    (h : post (a_tableDegree (fc_sel a_tableWeight t e))) : ∀ (d i : Nat), i + d = fc_sel a_tableWeight t e → wX_degreeFor_2 post (nI t) (nI k) (nI cc) f_allWords f_running (nI e) f_weightTotal f_mixedSeed (nI n) f_state f_rankFound f_peelMask f_activeMask f_inactiveMask f_queueHead f_queueTail f_pivotCount f_denseRank f_contradiction a_tableDegree a_tableWeight a_tableEnd a_source a_ids a_values a_masks a_expr a_constant a_rowStart a_rowCols a_colStart a_colRows a_rowLeft a_rowUsed a_queue a_pivotCol a_pivotRow a_denseMask a_denseValue (d + 1) (nI i) := by
  obtain ⟨s1, s2, s3⟩ := fc_sel_spec ht
  have hc := (fc_cum_le hT (Nat.le_refl e)).1
  intro d
  induction d with
  | zero =>
    intro i hi
    have ei : i = fc_sel a_tableWeight t e := by omega
    refine br_f (nI_ge (by omega) (by omega)) ⟨vp_in_nI (by omega) (by omega), ?_⟩
    rw [nI_clamp (n := i) (by omega), hE i (by omega), ei]
    have := (fc_cum_le hT (i := fc_sel a_tableWeight t e + 1) (by omega)).1
    exact br_f (nI_ge s3 (by omega)) ⟨vp_in_nI (by omega) (by omega), h⟩
  | succ d ih =>
    intro i hi
    refine br_f (nI_ge (by omega) (by omega)) ⟨vp_in_nI (by omega) (by omega), ?_⟩
    rw [nI_clamp (n := i) (by omega), hE i (by omega)]
    have m1 := fc_cum_mono (w := a_tableWeight) (a := i + 1) (b := fc_sel a_tableWeight t e) (by omega)
    refine br_t (nI_le (by omega) (by omega)) (nm_r (nI_1 i) (ih (i + 1) (by omega)))
theorem fc_Y101b {x4 x6 : Int32} {dg : Nat} (he : e ≤ 8) (h0 : dg ≠ 0) (hd : dg ≤ 24) (h : ∃ n155, wY_neighbours_155 post (nI dg) (nI k) (nI cc) f_running (nI e) seed (nI n) f_state a_tableDegree a_tableWeight a_source a_ids a_values rm rv n155 x4 0 0) : ∀ (d i : Nat) (z : Int32), i + d = e → wY_neighbours_101 post x4 x6 (nI k) (nI cc) f_running (nI e) seed (nI n) f_state a_tableDegree a_tableWeight a_source a_ids a_values rm rv (d + 1) (nI dg) z (nI i) := by
  intro d
  induction d with
  | zero => intro i z hi; exact br_t (nI_le (by omega) (by omega)) h
  | succ d ih =>
    intro i z hi
    exact br_f (nI_ge (by omega) (by omega)) ⟨vp_in_nI (by omega) (by omega), nm_e (br_f (nI_ne0 (by omega) (by omega)) (nm_r (nI_1 i) (ih (i + 1) _ (by omega))))⟩
theorem fc_Y101 {x4 : Int32} {dg t : Nat} (he : e ≤ 8) (hk : k ≤ 24) (hT : fc_Tab k e a_tableDegree a_tableWeight) (ht : t < fc_cum a_tableWeight e) (hdg : a_tableDegree (fc_sel a_tableWeight t e) = nI dg) (h0 : dg ≠ 0) (hd : dg ≤ 24)
    (h : ∃ n155, wY_neighbours_155 post (nI dg) (nI k) (nI cc) f_running (nI e) seed (nI n) f_state a_tableDegree a_tableWeight a_source a_ids a_values rm rv n155 x4 0 0) : ∀ (d i : Nat), i + d = e → i ≤ fc_sel a_tableWeight t e → wY_neighbours_101 post x4 (nI t) (nI k) (nI cc) f_running (nI e) seed (nI n) f_state a_tableDegree a_tableWeight a_source a_ids a_values rm rv (d + 1) 0 (nI (fc_cum a_tableWeight i)) (nI i) := by
  obtain ⟨s1, s2, s3⟩ := fc_sel_spec ht
  have hc := (fc_cum_le hT (Nat.le_refl e)).1
  intro d
  induction d with
  | zero => intro i hi hs; omega
  | succ d ih =>
    intro i hi hs
    have c1 := fc_cum_mono (w := a_tableWeight) (a := i + 1) (b := e) (by omega)
    refine br_f (nI_ge (by omega) (by omega)) ⟨vp_in_nI (by omega) (by omega), ?_⟩
    rw [nI_clamp (n := i) (by omega)]
    refine nm_r (fc_cum_s hT (by omega)) (br_t rfl ?_)
    by_cases ei : i = fc_sel a_tableWeight t e
    · refine br_f (nI_ge (by rw [ei]; exact s3) (by omega)) ⟨vp_in_nI (by omega) (by omega), ?_⟩
      rw [ei, hdg]
      exact nm_e (nm_r (nI_1 _) (fc_Y101b he h0 hd h d _ _ (by omega)))
    · have m1 := fc_cum_mono (w := a_tableWeight) (a := i + 1) (b := fc_sel a_tableWeight t e) (by omega)
      exact br_t (nI_le (by omega) (by omega)) (nm_r (nI_1 i) (ih (i + 1) (by omega) (by omega)))
theorem fc_Y13 {x1 : Int32} (he : e ≤ 8) (hT : fc_Tab k e a_tableDegree a_tableWeight) (h : wY_neighbours_13 post x1 (nI k) (nI cc) f_running (nI e) seed (nI n) f_state a_tableDegree a_tableWeight a_source a_ids a_values rm rv 1 (nI (fc_cum a_tableWeight e)) (nI e)) : ∀ (d i : Nat), i + d = e → wY_neighbours_13 post x1 (nI k) (nI cc) f_running (nI e) seed (nI n) f_state a_tableDegree a_tableWeight a_source a_ids a_values rm rv (d + 1) (nI (fc_cum a_tableWeight i)) (nI i) := by
  intro d
  induction d with
  | zero => intro i hi; have : i = e := by omega
            rw [this]; exact h
  | succ d ih =>
    intro i hi
    refine br_f (nI_ge (by omega) (by omega)) ⟨vp_in_nI (by omega) (by omega), ?_⟩
    rw [nI_clamp (n := i) (by omega)]
    exact nm_r (fc_cum_s hT (by omega)) (nm_r (nI_1 i) (ih (i + 1) (by omega)))
theorem fc_Xnb {id : Int32} (hr : ¬ f_running = 0) (hR : fc_Run k e a_tableDegree a_tableWeight a_tableEnd f_weightTotal f_mixedSeed seed) (h : post (fc_nb k e a_tableDegree a_tableWeight seed id)) : wpX_neighbours post ((nI k), (nI cc), f_allWords, f_running, (nI e), f_weightTotal, f_mixedSeed, (nI n), f_state, f_rankFound, f_peelMask, f_activeMask, f_inactiveMask, f_queueHead, f_queueTail, f_pivotCount, f_denseRank, f_contradiction, a_tableDegree, a_tableWeight, a_tableEnd, a_source, a_ids, a_values, a_masks, a_expr, a_constant, a_rowStart, a_rowCols, a_colStart, a_colRows, a_rowLeft, a_rowUsed, a_queue, a_pivotCol, a_pivotRow, a_denseMask, a_denseValue) id := by
  obtain ⟨k1, k2, e1, e2, hT, hE, hw, hm⟩ := hR
  obtain ⟨c1, c2⟩ := fc_cum_le hT (Nat.le_refl e)
  subst hw hm
  have ht : fc_h (fc_mix (fc_mix (fc_mix seed ^^^ id) - 1640531527)) % fc_cum a_tableWeight e < fc_cum a_tableWeight e := Nat.mod_lt _ (by omega)
  refine br_f hr (br_t (nI_le (a := 1) (by omega) (by omega)) (fc_Xmix _ (nm_e (fc_Xmix _ ⟨nI_ne0 (by omega) (by omega), nm_r (fc_drm _ (by omega) (by omega)) ⟨_, fc_XdF e2 hT hE ht ?_ (fc_sel a_tableWeight _ e) 0 (Nat.zero_add _)⟩⟩))))
  obtain ⟨dg, d1, d2, hd⟩ := (hT _ (fc_sel_spec ht).1).1
  unfold fc_nb at h
  rw [hd, nI_clamp (by omega)] at h
  rw [hd]
  exact ⟨_, fc_X60 k1 k2 (by omega) dg 0 _ _ (by omega) h⟩
theorem fc_Ynb {id : Int32} (hr : ¬ f_running = 0) (hR : fc_Run k e a_tableDegree a_tableWeight a_tableEnd f_weightTotal f_mixedSeed seed) (h : post (fc_nb k e a_tableDegree a_tableWeight seed id)) : wpY_neighbours post ((nI k), (nI cc), f_running, (nI e), seed, (nI n), f_state, a_tableDegree, a_tableWeight, a_source, a_ids, a_values, rm, rv) id := by
  obtain ⟨k1, k2, e1, e2, hT, hE, hw, hm⟩ := hR
  obtain ⟨c1, c2⟩ := fc_cum_le hT (Nat.le_refl e)
  have ht : fc_h (fc_mix (fc_mix (fc_mix seed ^^^ id) - 1640531527)) % fc_cum a_tableWeight e < fc_cum a_tableWeight e := Nat.mod_lt _ (by omega)
  refine br_f hr ⟨_, fc_Y13 e2 hT ?_ e 0 (Nat.zero_add _)⟩
  refine br_t (nI_le (by omega) (by omega)) (br_f (nI_nlt (b := 1) (by omega) (by omega)) (br_t (nI_le (a := 1) (by omega) (by omega)) (fc_Ymix _ (fc_Ymix _ (nm_r (fc_sub _) (fc_Ymix _ (nm_e ⟨nI_ne0 (by omega) (by omega), nm_r (fc_drm _ (by omega) (by omega)) ⟨e + 1, ?_⟩⟩)))))))
  obtain ⟨dg, d1, d2, hd⟩ := (hT _ (fc_sel_spec ht).1).1
  unfold fc_nb at h
  rw [hd, nI_clamp (by omega)] at h
  exact fc_Y101 e2 k2 hT ht hd (by omega) (by omega) ⟨_, fc_Y155 k1 k2 (by omega) dg 0 _ _ (by omega) h⟩ e 0 (Nat.zero_add _) (Nat.zero_le _)
theorem fc_X0nb {id : Int32} (hr : f_running = 0) (h : post 0) : wpX_neighbours post ((nI k), (nI cc), f_allWords, f_running, (nI e), f_weightTotal, f_mixedSeed, (nI n), f_state, f_rankFound, f_peelMask, f_activeMask, f_inactiveMask, f_queueHead, f_queueTail, f_pivotCount, f_denseRank, f_contradiction, a_tableDegree, a_tableWeight, a_tableEnd, a_source, a_ids, a_values, a_masks, a_expr, a_constant, a_rowStart, a_rowCols, a_colStart, a_colRows, a_rowLeft, a_rowUsed, a_queue, a_pivotCol, a_pivotRow, a_denseMask, a_denseValue) id := br_t hr h
theorem fc_Y0nb {id : Int32} (hr : f_running = 0) (h : post 0) : wpY_neighbours post ((nI k), (nI cc), f_running, (nI e), seed, (nI n), f_state, a_tableDegree, a_tableWeight, a_source, a_ids, a_values, rm, rv) id := br_t hr h
end
end
section
/-! small loops on both sides: sums over a mask, find -/
def fc_fi (ids : Nat → Int32) (id : Int32) : Nat → Nat → Int32
  | 0, _ => -1
  | d + 1, i => if ids i = id then nI i else fc_fi ids id d (i + 1)
theorem fc_fi_r {ids : Nat → Int32} {id : Int32} {n : Nat} : ∀ {d i : Nat}, i + d = n → fc_fi ids id d i = -1 ∨ ∃ p, p < n ∧ fc_fi ids id d i = nI p
  | 0, _, _ => Or.inl rfl
  | d + 1, i, h => by
    unfold fc_fi
    split
    · exact Or.inr ⟨i, by omega, rfl⟩
    · exact fc_fi_r (by omega)
def fc_find (ids : Nat → Int32) (id : Int32) (n : Nat) : Int32 := fc_fi ids id n 0
theorem fc_find_r (ids : Nat → Int32) (id : Int32) (n : Nat) : fc_find ids id n = -1 ∨ ∃ p, p < n ∧ fc_find ids id n = nI p := fc_fi_r (Nat.zero_add n)
section
variable {k cc e n : Nat} {f_allWords f_running f_weightTotal f_mixedSeed f_state f_rankFound f_peelMask f_activeMask f_inactiveMask f_queueHead f_queueTail f_pivotCount f_denseRank f_contradiction seed : Int32} {a_tableDegree a_tableWeight a_tableEnd a_source a_ids a_values a_masks a_expr a_constant a_rowStart a_rowCols a_colStart a_colRows a_rowLeft a_rowUsed a_queue a_pivotCol a_pivotRow a_denseMask a_denseValue rm rv : Nat → Int32}
variable {post : Int32 → Prop} {m id : Int32}
theorem fc_Xencode_l (hk : k ≤ 24) (h : post (fc_fx a_source (bt m) k)) : ∀ (d c : Nat) (s : Int32), c + d = k → s = fc_fx a_source (bt m) c → wX_encode_4 post m (nI k) (nI cc) f_allWords f_running (nI e) f_weightTotal f_mixedSeed (nI n) f_state f_rankFound f_peelMask f_activeMask f_inactiveMask f_queueHead f_queueTail f_pivotCount f_denseRank f_contradiction a_tableDegree a_tableWeight a_tableEnd a_source a_ids a_values a_masks a_expr a_constant a_rowStart a_rowCols a_colStart a_colRows a_rowLeft a_rowUsed a_queue a_pivotCol a_pivotRow a_denseMask a_denseValue (d + 1) s (nI c) := by
  intro d
  induction d with
  | zero =>
    intro c s hc hs
    have e : c = k := by omega
    subst e
    rw [hs]
    exact br_t (nI_le (by omega) (by omega)) h
  | succ d ih =>
    intro c s hc hs
    refine br_f (nI_ge (by omega) (by omega)) (fc_Xhas (by omega) (fun hb => ?_) (fun hb => ?_) _)
    · exact br_t rfl (nm_r (nI_1 c) (ih (c + 1) s (by omega) (by rw [fc_fx_f hb]; exact hs)))
    · refine br_f (by decide) ⟨vp_in_nI (by omega) (by omega), ?_⟩
      rw [nI_clamp (n := c) (by omega)]
      exact nm_e (nm_r (nI_1 c) (ih (c + 1) _ (by omega) (by rw [fc_fx_t hb, hs])))
theorem fc_Xencode (hk : k ≤ 24) (h : post (fc_fx a_source (bt m) k)) : wpX_encode post ((nI k), (nI cc), f_allWords, f_running, (nI e), f_weightTotal, f_mixedSeed, (nI n), f_state, f_rankFound, f_peelMask, f_activeMask, f_inactiveMask, f_queueHead, f_queueTail, f_pivotCount, f_denseRank, f_contradiction, a_tableDegree, a_tableWeight, a_tableEnd, a_source, a_ids, a_values, a_masks, a_expr, a_constant, a_rowStart, a_rowCols, a_colStart, a_colRows, a_rowLeft, a_rowUsed, a_queue, a_pivotCol, a_pivotRow, a_denseMask, a_denseValue) m := Exists.intro _ (fc_Xencode_l hk h k 0 0 (Nat.zero_add k) rfl)
theorem fc_XexprSum_l (hk : k ≤ 24) (h : post (fc_fx a_expr (bt m) k)) : ∀ (d c : Nat) (s : Int32), c + d = k → s = fc_fx a_expr (bt m) c → wX_exprSum_4 post m (nI k) (nI cc) f_allWords f_running (nI e) f_weightTotal f_mixedSeed (nI n) f_state f_rankFound f_peelMask f_activeMask f_inactiveMask f_queueHead f_queueTail f_pivotCount f_denseRank f_contradiction a_tableDegree a_tableWeight a_tableEnd a_source a_ids a_values a_masks a_expr a_constant a_rowStart a_rowCols a_colStart a_colRows a_rowLeft a_rowUsed a_queue a_pivotCol a_pivotRow a_denseMask a_denseValue (d + 1) s (nI c) := by
  intro d
  induction d with
  | zero =>
    intro c s hc hs
    have e : c = k := by omega
    subst e
    rw [hs]
    exact br_t (nI_le (by omega) (by omega)) h
  | succ d ih =>
    intro c s hc hs
    refine br_f (nI_ge (by omega) (by omega)) (fc_Xhas (by omega) (fun hb => ?_) (fun hb => ?_) _)
    · exact br_t rfl (nm_r (nI_1 c) (ih (c + 1) s (by omega) (by rw [fc_fx_f hb]; exact hs)))
    · refine br_f (by decide) ⟨vp_in_nI (by omega) (by omega), ?_⟩
      rw [nI_clamp (n := c) (by omega)]
      exact nm_e (nm_r (nI_1 c) (ih (c + 1) _ (by omega) (by rw [fc_fx_t hb, hs])))
theorem fc_XexprSum (hk : k ≤ 24) (h : post (fc_fx a_expr (bt m) k)) : wpX_exprSum post ((nI k), (nI cc), f_allWords, f_running, (nI e), f_weightTotal, f_mixedSeed, (nI n), f_state, f_rankFound, f_peelMask, f_activeMask, f_inactiveMask, f_queueHead, f_queueTail, f_pivotCount, f_denseRank, f_contradiction, a_tableDegree, a_tableWeight, a_tableEnd, a_source, a_ids, a_values, a_masks, a_expr, a_constant, a_rowStart, a_rowCols, a_colStart, a_colRows, a_rowLeft, a_rowUsed, a_queue, a_pivotCol, a_pivotRow, a_denseMask, a_denseValue) m := Exists.intro _ (fc_XexprSum_l hk h k 0 0 (Nat.zero_add k) rfl)
theorem fc_XconstantSum_l (hk : k ≤ 24) (h : post (fc_fx a_constant (bt m) k)) : ∀ (d c : Nat) (s : Int32), c + d = k → s = fc_fx a_constant (bt m) c → wX_constantSum_4 post m (nI k) (nI cc) f_allWords f_running (nI e) f_weightTotal f_mixedSeed (nI n) f_state f_rankFound f_peelMask f_activeMask f_inactiveMask f_queueHead f_queueTail f_pivotCount f_denseRank f_contradiction a_tableDegree a_tableWeight a_tableEnd a_source a_ids a_values a_masks a_expr a_constant a_rowStart a_rowCols a_colStart a_colRows a_rowLeft a_rowUsed a_queue a_pivotCol a_pivotRow a_denseMask a_denseValue (d + 1) s (nI c) := by
  intro d
  induction d with
  | zero =>
    intro c s hc hs
    have e : c = k := by omega
    subst e
    rw [hs]
    exact br_t (nI_le (by omega) (by omega)) h
  | succ d ih =>
    intro c s hc hs
    refine br_f (nI_ge (by omega) (by omega)) (fc_Xhas (by omega) (fun hb => ?_) (fun hb => ?_) _)
    · exact br_t rfl (nm_r (nI_1 c) (ih (c + 1) s (by omega) (by rw [fc_fx_f hb]; exact hs)))
    · refine br_f (by decide) ⟨vp_in_nI (by omega) (by omega), ?_⟩
      rw [nI_clamp (n := c) (by omega)]
      exact nm_e (nm_r (nI_1 c) (ih (c + 1) _ (by omega) (by rw [fc_fx_t hb, hs])))
theorem fc_XconstantSum (hk : k ≤ 24) (h : post (fc_fx a_constant (bt m) k)) : wpX_constantSum post ((nI k), (nI cc), f_allWords, f_running, (nI e), f_weightTotal, f_mixedSeed, (nI n), f_state, f_rankFound, f_peelMask, f_activeMask, f_inactiveMask, f_queueHead, f_queueTail, f_pivotCount, f_denseRank, f_contradiction, a_tableDegree, a_tableWeight, a_tableEnd, a_source, a_ids, a_values, a_masks, a_expr, a_constant, a_rowStart, a_rowCols, a_colStart, a_colRows, a_rowLeft, a_rowUsed, a_queue, a_pivotCol, a_pivotRow, a_denseMask, a_denseValue) m := Exists.intro _ (fc_XconstantSum_l hk h k 0 0 (Nat.zero_add k) rfl)
theorem fc_Yemit_l (hk : k ≤ 24) (h : post (fc_fx a_source (bt m) k)) : ∀ (d c : Nat) (s : Int32), c + d = k → s = fc_fx a_source (bt m) c → wY_emit_11 post m (nI k) (nI cc) f_running (nI e) seed (nI n) f_state a_tableDegree a_tableWeight a_source a_ids a_values rm rv (d + 1) s (nI c) := by
  intro d
  induction d with
  | zero =>
    intro c s hc hs
    have e : c = k := by omega
    subst e
    rw [hs]
    exact br_t (nI_le (by omega) (by omega)) h
  | succ d ih =>
    intro c s hc hs
    refine br_f (nI_ge (by omega) (by omega)) (ek_if (fc_andb m c (by omega)) (fun hb => ?_) (fun hb => ?_))
    · exact nm_r (nI_1 c) (ih (c + 1) s (by omega) (by rw [fc_fx_f hb]; exact hs))
    · have hb : bt m c = true := by cases z : bt m c <;> simp_all
      refine ⟨vp_in_nI (by omega) (by omega), ?_⟩
      rw [nI_clamp (n := c) (by omega)]
      exact nm_e (nm_r (nI_1 c) (ih (c + 1) _ (by omega) (by rw [fc_fx_t hb, hs])))
theorem fc_Yemit (hr : ¬ f_running = 0) (hR : fc_Run k e a_tableDegree a_tableWeight a_tableEnd f_weightTotal f_mixedSeed seed) (h : post (fc_fx a_source (bt (fc_nb k e a_tableDegree a_tableWeight seed id)) k)) : wpY_emit post ((nI k), (nI cc), f_running, (nI e), seed, (nI n), f_state, a_tableDegree, a_tableWeight, a_source, a_ids, a_values, rm, rv) id := by
  unfold wpY_emit
  exact fc_Ynb hr hR ⟨_, fc_Yemit_l hR.2.1 h k 0 0 (Nat.zero_add k) rfl⟩
theorem fc_Y0emit (hk : k ≤ 24) (hr : f_running = 0) (h : post 0) : wpY_emit post ((nI k), (nI cc), f_running, (nI e), seed, (nI n), f_state, a_tableDegree, a_tableWeight, a_source, a_ids, a_values, rm, rv) id := by
  unfold wpY_emit
  exact fc_Y0nb hr ⟨_, fc_Yemit_l hk (by rw [fc_fx_m0]; exact h) k 0 0 (Nat.zero_add k) rfl⟩
theorem fc_Xfind_l (hn : n ≤ 48) : ∀ (d i : Nat), i + d = n → post (fc_fi a_ids id d i) → wX_find_2 post id (nI k) (nI cc) f_allWords f_running (nI e) f_weightTotal f_mixedSeed (nI n) f_state f_rankFound f_peelMask f_activeMask f_inactiveMask f_queueHead f_queueTail f_pivotCount f_denseRank f_contradiction a_tableDegree a_tableWeight a_tableEnd a_source a_ids a_values a_masks a_expr a_constant a_rowStart a_rowCols a_colStart a_colRows a_rowLeft a_rowUsed a_queue a_pivotCol a_pivotRow a_denseMask a_denseValue (d + 1) (nI i) := by
  intro d
  induction d with
  | zero => intro i hi h; exact br_t (nI_le (by omega) (by omega)) h
  | succ d ih =>
    intro i hi h
    refine br_f (nI_ge (by omega) (by omega)) ⟨vp_in_nI (by omega) (by omega), ?_⟩
    rw [nI_clamp (n := i) (by omega)]
    unfold fc_fi at h
    by_cases z : a_ids i = id
    · rw [if_pos z] at h; exact br_t z h
    · rw [if_neg z] at h; exact br_f z (nm_r (nI_1 i) (ih (i + 1) (by omega) h))
theorem fc_Xfind (hn : n ≤ 48) (h : post (fc_find a_ids id n)) : wpX_find post ((nI k), (nI cc), f_allWords, f_running, (nI e), f_weightTotal, f_mixedSeed, (nI n), f_state, f_rankFound, f_peelMask, f_activeMask, f_inactiveMask, f_queueHead, f_queueTail, f_pivotCount, f_denseRank, f_contradiction, a_tableDegree, a_tableWeight, a_tableEnd, a_source, a_ids, a_values, a_masks, a_expr, a_constant, a_rowStart, a_rowCols, a_colStart, a_colRows, a_rowLeft, a_rowUsed, a_queue, a_pivotCol, a_pivotRow, a_denseMask, a_denseValue) id := Exists.intro _ (fc_Xfind_l hn n 0 (Nat.zero_add n) h)
theorem fc_Yfind_l (hn : n ≤ 48) : ∀ (d i : Nat), i + d = n → post (fc_fi a_ids id d i) → wY_find_2 post id (nI k) (nI cc) f_running (nI e) seed (nI n) f_state a_tableDegree a_tableWeight a_source a_ids a_values rm rv (d + 1) (nI i) := by
  intro d
  induction d with
  | zero => intro i hi h; exact br_t (nI_le (by omega) (by omega)) h
  | succ d ih =>
    intro i hi h
    refine br_f (nI_ge (by omega) (by omega)) ⟨vp_in_nI (by omega) (by omega), ?_⟩
    rw [nI_clamp (n := i) (by omega)]
    unfold fc_fi at h
    by_cases z : a_ids i = id
    · rw [if_pos z] at h; exact br_t z h
    · rw [if_neg z] at h; exact br_f z (nm_r (nI_1 i) (ih (i + 1) (by omega) h))
theorem fc_Yfind (hn : n ≤ 48) (h : post (fc_find a_ids id n)) : wpY_find post ((nI k), (nI cc), f_running, (nI e), seed, (nI n), f_state, a_tableDegree, a_tableWeight, a_source, a_ids, a_values, rm, rv) id := Exists.intro _ (fc_Yfind_l hn n 0 (Nat.zero_add n) h)
end
end
section
/-! the reference: load, reduce -/
section
variable {k cc e n : Nat} {f_allWords f_running f_weightTotal f_mixedSeed f_state f_rankFound f_peelMask f_activeMask f_inactiveMask f_queueHead f_queueTail f_pivotCount f_denseRank f_contradiction seed : Int32} {a_tableDegree a_tableWeight a_tableEnd a_source a_ids a_values a_masks a_expr a_constant a_rowStart a_rowCols a_colStart a_colRows a_rowLeft a_rowUsed a_queue a_pivotCol a_pivotRow a_denseMask a_denseValue rm rv : Nat → Int32}
theorem fc_Yload_l {post : SY → Prop} (hn : n ≤ 48) (hr : ¬ f_running = 0) (hR : fc_Run k e a_tableDegree a_tableWeight a_tableEnd f_weightTotal f_mixedSeed seed)
    (hM : ∀ i, i < n → a_masks i = fc_nb k e a_tableDegree a_tableWeight seed (a_ids i))
    (h : ∀ rm rv : Nat → Int32, (∀ i, i < n → rm i = a_masks i ∧ rv i = a_values i) → post ((nI k), (nI cc), f_running, (nI e), seed, (nI n), f_state, a_tableDegree, a_tableWeight, a_source, a_ids, a_values, rm, rv)) :
    ∀ (d i : Nat) (rm rv : Nat → Int32), i + d = n → (∀ j, j < i → rm j = a_masks j ∧ rv j = a_values j) → wY_load_2 post (nI k) (nI cc) f_running (nI e) seed (nI n) f_state (d + 1) (nI i) a_tableDegree a_tableWeight a_source a_ids a_values rm rv := by
  intro d
  induction d with
  | zero =>
    intro i rm rv hi hj
    have e : i = n := by omega
    exact br_t (nI_le (by omega) (by omega)) (h rm rv (e ▸ hj))
  | succ d ih =>
    intro i rm rv hi hj
    refine br_f (nI_ge (by omega) (by omega)) ⟨vp_in_nI (by omega) (by omega), ?_⟩
    rw [nI_clamp (n := i) (by omega)]
    refine fc_Ynb hr hR ⟨vp_in_nI (by omega) (by omega), nm_e ⟨vp_in_nI (by omega) (by omega), vp_in_nI (by omega) (by omega), nm_e (nm_r (nI_1 i) (ih (i + 1) _ _ (by omega) fun j hj' => ?_))⟩⟩
    by_cases ej : j = i
    · rw [ej, pk_us, pk_us, hM i (by omega)]; exact ⟨rfl, rfl⟩
    · rw [pk_un ej, pk_un ej]; exact hj j (by omega)
theorem fc_Yload {post : SY → Prop} (hn : n ≤ 48) (hr : ¬ f_running = 0) (hR : fc_Run k e a_tableDegree a_tableWeight a_tableEnd f_weightTotal f_mixedSeed seed)
    (hM : ∀ i, i < n → a_masks i = fc_nb k e a_tableDegree a_tableWeight seed (a_ids i))
    (h : ∀ rm rv : Nat → Int32, (∀ i, i < n → rm i = a_masks i ∧ rv i = a_values i) → post ((nI k), (nI cc), f_running, (nI e), seed, (nI n), f_state, a_tableDegree, a_tableWeight, a_source, a_ids, a_values, rm, rv)) : wpY_load post ((nI k), (nI cc), f_running, (nI e), seed, (nI n), f_state, a_tableDegree, a_tableWeight, a_source, a_ids, a_values, rm, rv) :=
  Exists.intro _ (fc_Yload_l hn hr hR hM h n 0 rm rv (Nat.zero_add n) (fun j hj => by omega))
variable {post : Int32 → SY → Prop} {J : Int32 → Int32 → (Nat → Int32) → (Nat → Int32) → (Nat → Int32) → (Nat → Int32) → (Nat → Int32) → (Nat → Int32) → (Nat → Int32) → Prop}
theorem fc_Y130 {r c : Nat} {S W : Nat → Int32} {x v : Int32} (hn : n ≤ 48) (hr : r < n) (hc : c < 24)
    (h : ∀ rm rv : Nat → Int32, (∀ j, j < n → rm j = fc_elM S r c x j ∧ rv j = fc_elV S W r c v j) → J (nI (r + 1)) (nI (c + 1)) a_tableDegree a_tableWeight a_source a_ids a_values rm rv) :
    ∀ (d i : Nat) (rm rv : Nat → Int32), i + d = n → (∀ j, j < i → rm j = fc_elM S r c x j ∧ rv j = fc_elV S W r c v j) → (∀ j, i ≤ j → rm j = S j ∧ rv j = W j) →
      wY_reduce_130 post J (nI r) (nI c) ((1 : Int32) <<< (nI c &&& 31)) x v (nI k) (nI cc) f_running (nI e) seed (nI n) f_state (d + 1) (nI i) a_tableDegree a_tableWeight a_source a_ids a_values rm rv := by
  intro d
  induction d with
  | zero =>
    intro i rm rv hi h1 h2
    have e : i = n := by omega
    exact br_t (nI_le (by omega) (by omega)) (nm_r (nI_1 r) (nm_r (nI_1 c) (h rm rv (e ▸ h1))))
  | succ d ih =>
    intro i rm rv hi h1 h2
    obtain ⟨e1, e2⟩ := h2 i (Nat.le_refl _)
    refine br_f (nI_ge (by omega) (by omega)) (pk_eq i r (fun er => ?_) (fun er => ?_))
    · refine nm_r (nI_1 i) (ih (i + 1) rm rv (by omega) (fun j hj => ?_) (fun j hj => h2 j (by omega)))
      by_cases ej : j = i
      · rw [ej, e1, e2]
        exact ⟨(if_neg fun z => z.1 er).symm, (if_neg fun z => z.1 er).symm⟩
      · exact h1 j (by omega)
    · refine ⟨vp_in_nI (by omega) (by omega), ?_⟩
      rw [nI_clamp (n := i) (by omega)]
      refine ek_if (fc_andb (rm i) c (by omega)) (fun hb => ?_) (fun hb => ?_)
      · refine nm_r (nI_1 i) (ih (i + 1) rm rv (by omega) (fun j hj => ?_) (fun j hj => h2 j (by omega)))
        by_cases ej : j = i
        · rw [e1] at hb
          rw [ej, e1, e2]
          exact ⟨(if_neg fun z => by rw [hb] at z; cases z.2).symm, (if_neg fun z => by rw [hb] at z; cases z.2).symm⟩
        · exact h1 j (by omega)
      · have hi' : vp_in (nI i) 48 := vp_in_nI (by omega) (by omega)
        refine ⟨hi', hi', nm_e ⟨hi', hi', nm_e (nm_r (nI_1 i) (ih (i + 1) _ _ (by omega) (fun j hj => ?_) (fun j hj => ?_)))⟩⟩
        · by_cases ej : j = i
          · rw [e1] at hb
            have hb' : bt (S i) c = true := by cases z : bt (S i) c <;> simp_all
            rw [ej, pk_us, pk_us, e1, e2]
            exact ⟨(if_pos ⟨er, hb'⟩).symm, (if_pos ⟨er, hb'⟩).symm⟩
          · rw [pk_un ej, pk_un ej]; exact h1 j (by omega)
        · rw [pk_un (by omega), pk_un (by omega)]; exact h2 j (by omega)
/-- the exit of the search for a pivot row -/
theorem fc_Y26e {r c P : Nat} (hn : n ≤ 48) (hc : c < 24) (hr : r ≤ P) (hP : P < n)
    (h : ∀ rm' rv' : Nat → Int32, (∀ j, j < n → rm' j = fc_elM (fc_sw rm r P) r c (rm P) j ∧ rv' j = fc_elV (fc_sw rm r P) (fc_sw rv r P) r c (rv P) j) → J (nI (r + 1)) (nI (c + 1)) a_tableDegree a_tableWeight a_source a_ids a_values rm' rv') :
    wY_reduce_26 post J (nI r) (nI c) ((1 : Int32) <<< (nI c &&& 31)) (nI k) (nI cc) f_running (nI e) seed (nI n) f_state a_tableDegree a_tableWeight a_source a_ids a_values rm rv 1 (nI P) (nI n) := by
  have i1 : vp_in (nI P) 48 := vp_in_nI (by omega) (by omega)
  have i2 : vp_in (nI r) 48 := vp_in_nI (by omega) (by omega)
  refine br_t (nI_le (by omega) (by omega)) (br_f (nI_pos (by omega)) ⟨i1, ?_⟩)
  rw [nI_clamp (n := P) (by omega), nI_clamp (n := r) (by omega)]
  refine nm_e ⟨i1, nm_e ⟨i2, i1, nm_e ⟨i2, i1, nm_e ⟨i2, nm_e ⟨i2, nm_e ⟨_, fc_Y130 (S := fc_sw rm r P) (W := fc_sw rv r P) hn (by omega) hc h n 0 _ _ (Nat.zero_add n) (fun j hj => by omega) (fun j _ => ?_)⟩⟩⟩⟩⟩⟩
  have key : ∀ f : Nat → Int32, upd (upd f P (f r)) r (f P) j = fc_sw f r P j := by
    intro f
    unfold fc_sw
    by_cases e1 : j = r
    · rw [if_pos e1, e1, pk_us]
    · rw [if_neg e1, pk_un e1]
      by_cases e2 : j = P
      · rw [if_pos e2, e2, pk_us]
      · rw [if_neg e2, pk_un e2]
  exact ⟨key rm, key rv⟩
theorem fc_Y26s {r c P : Nat} (hn : n ≤ 48) (hc : c < 24) (hr : r ≤ P) (hP : P < n)
    (h : ∀ rm' rv' : Nat → Int32, (∀ j, j < n → rm' j = fc_elM (fc_sw rm r P) r c (rm P) j ∧ rv' j = fc_elV (fc_sw rm r P) (fc_sw rv r P) r c (rv P) j) → J (nI (r + 1)) (nI (c + 1)) a_tableDegree a_tableWeight a_source a_ids a_values rm' rv') :
    ∀ d i : Nat, i + d = n → wY_reduce_26 post J (nI r) (nI c) ((1 : Int32) <<< (nI c &&& 31)) (nI k) (nI cc) f_running (nI e) seed (nI n) f_state a_tableDegree a_tableWeight a_source a_ids a_values rm rv (d + 1) (nI P) (nI i) := by
  intro d
  induction d with
  | zero =>
    intro i hi
    have e : i = n := by omega
    rw [e]
    exact fc_Y26e hn hc hr hP h
  | succ d ih =>
    intro i hi
    exact br_f (nI_ge (by omega) (by omega)) (br_t (nI_pos' (by omega)) (nm_r (nI_1 i) (ih (i + 1) (by omega))))
theorem fc_Y26 {r c : Nat} (hn : n ≤ 48) (hc : c < 24)
    (h0 : (∀ i, r ≤ i → i < n → bt (rm i) c = false) → J (nI r) (nI (c + 1)) a_tableDegree a_tableWeight a_source a_ids a_values rm rv)
    (h : ∀ P rm' rv', r ≤ P → P < n → bt (rm P) c = true → (∀ j, j < n → rm' j = fc_elM (fc_sw rm r P) r c (rm P) j ∧ rv' j = fc_elV (fc_sw rm r P) (fc_sw rv r P) r c (rv P) j) → J (nI (r + 1)) (nI (c + 1)) a_tableDegree a_tableWeight a_source a_ids a_values rm' rv') :
    ∀ d i : Nat, i + d = n → r ≤ i → (∀ j, r ≤ j → j < i → bt (rm j) c = false) → wY_reduce_26 post J (nI r) (nI c) ((1 : Int32) <<< (nI c &&& 31)) (nI k) (nI cc) f_running (nI e) seed (nI n) f_state a_tableDegree a_tableWeight a_source a_ids a_values rm rv (d + 1) (-1) (nI i) := by
  intro d
  induction d with
  | zero =>
    intro i hi hr hj
    have e : i = n := by omega
    exact br_t (nI_le (by omega) (by omega)) (br_t (by decide) (nm_r (nI_1 c) (h0 (e ▸ hj))))
  | succ d ih =>
    intro i hi hr hj
    refine br_f (nI_ge (by omega) (by omega)) (br_f (by decide) ⟨vp_in_nI (by omega) (by omega), ?_⟩)
    rw [nI_clamp (n := i) (by omega)]
    refine ek_if (fc_andb (rm i) c (by omega)) (fun hb => ?_) (fun hb => ?_)
    · refine nm_r (nI_1 i) (ih (i + 1) (by omega) (by omega) fun j h1 h2 => ?_)
      by_cases ej : j = i
      · rw [ej]; exact hb
      · exact hj j h1 (by omega)
    · have hb' : bt (rm i) c = true := by cases z : bt (rm i) c <;> simp_all
      exact nm_r (nI_1 i) (fc_Y26s hn hc hr (by omega) (fun rm' rv' hj => h i rm' rv' hr (by omega) hb' hj) d (i + 1) (by omega))
theorem fc_Y8 (hn : n ≤ 48) (hk : k ≤ 24)
    (h : ∀ (r : Nat) (rm rv : Nat → Int32) (p : Nat → Nat), fc_Red k n r rm p → fc_Eqv n a_masks a_values rm rv → post (nI r) ((nI k), (nI cc), f_running, (nI e), seed, (nI n), f_state, a_tableDegree, a_tableWeight, a_source, a_ids, a_values, rm, rv)) :
    ∀ (d c r : Nat) (rm rv : Nat → Int32) (p : Nat → Nat), c + d = k → fc_RI k c n r rm p → fc_Eqv n a_masks a_values rm rv → wY_reduce_8 post (nI k) (nI cc) f_running (nI e) seed (nI n) f_state (d + 1) (nI r) (nI c) a_tableDegree a_tableWeight a_source a_ids a_values rm rv := by
  intro d
  induction d with
  | zero =>
    intro c r rm rv p hc hI hE
    have e : c = k := by omega
    subst e
    exact br_t (nI_le (by omega) (by omega)) (h r rm rv p (fc_RI_Red hI) hE)
  | succ d ih =>
    intro c r rm rv p hc hI hE
    have hrn := hI.1
    refine br_f (nI_ge (by omega) (by omega)) (nm_e ⟨_, fc_Y26 hn (by omega) (fun h0 => ?_) (fun P rm' rv' h1 h2 h3 h4 => ?_) (n - r) r (by omega) (Nat.le_refl _) (fun j h1 h2 => by omega)⟩)
    · exact ih (c + 1) r rm rv p (by omega) (fc_RI_none hI h0) hE
    · refine ih (c + 1) (r + 1) rm' rv' _ (by omega) (fc_RI_some hI (by omega) h1 h2 h3 fun i hi => (h4 i hi).1) (fc_Eqv_t hE (fc_Eqv_t (fc_Eqv_sw (r := r) (P := P) (by omega) h2) ?_))
      have e1 : fc_sw rm r P r = rm P := if_pos rfl
      have e2 : fc_sw rv r P r = rv P := if_pos rfl
      have z := fc_Eqv_el (n := n) (r := r) (c := c) (S := fc_sw rm r P) (W := fc_sw rv r P) (by omega)
      rw [e1, e2] at z
      exact fc_Eqv_t z (fc_Eqv_c h4)
theorem fc_Yreduce (hn : n ≤ 48) (hr : ¬ f_running = 0) (hR : fc_Run k e a_tableDegree a_tableWeight a_tableEnd f_weightTotal f_mixedSeed seed)
    (hM : ∀ i, i < n → a_masks i = fc_nb k e a_tableDegree a_tableWeight seed (a_ids i))
    (h : ∀ (r : Nat) (rm rv : Nat → Int32) (p : Nat → Nat), fc_Red k n r rm p → fc_Eqv n a_masks a_values rm rv → post (nI r) ((nI k), (nI cc), f_running, (nI e), seed, (nI n), f_state, a_tableDegree, a_tableWeight, a_source, a_ids, a_values, rm, rv)) : wpY_reduce post ((nI k), (nI cc), f_running, (nI e), seed, (nI n), f_state, a_tableDegree, a_tableWeight, a_source, a_ids, a_values, rm, rv) := by
  unfold wpY_reduce
  refine fc_Yload hn hr hR hM fun rm rv hj => ?_
  refine ⟨_, fc_Y8 hn hR.2.1 h k 0 0 rm rv (fun _ => 0) (Nat.zero_add k) (fc_RI_0 fun i hi => ?_) (fc_Eqv_c hj)⟩
  rw [(hj i hi).1, hM i hi]
  exact fc_nb_In hR.1 (Nat.le_trans hR.2.1 (by decide))
end
end
section
/-! peeling in pure form; what a decode leaves; the questions on both sides -/
def fc_PC (k n : Nat) (M : Nat → Int32) (P : Nat → Prop) : Prop := ∀ i, i < n → ∀ c, c < k → bt (M i) c = true → (∀ d, d < k → bt (M i) d = true → d ≠ c → P d) → P c
def fc_Peel (k n : Nat) (M : Nat → Int32) (c : Nat) : Prop := ∀ P : Nat → Prop, fc_PC k n M P → P c
theorem fc_Peel_c {k n : Nat} {M : Nat → Int32} : fc_PC k n M (fc_Peel k n M) := fun i hi c hc hb h P hP => hP i hi c hc hb fun d hd hbd hn => h d hd hbd hn P hP
def fc_sgl (k : Nat) (M : Nat → Int32) (R : Int32) (i c : Nat) : Prop := c < k ∧ bt (M i) c = true ∧ bt R c = false ∧ ∀ d, d < k → bt (M i) d = true → bt R d = false → d = c
def fc_closed (k n : Nat) (M : Nat → Int32) (R : Int32) : Prop := ∀ i, i < n → ∀ c, ¬ fc_sgl k M R i c
theorem fc_closed_P {k n : Nat} {M : Nat → Int32} {R : Int32} (h : fc_closed k n M R) : fc_PC k n M (fun c => bt R c = true) := by
  intro i hi c hc hb hd
  cases z : bt R c
  · refine absurd ⟨hc, hb, z, fun d hd1 hd2 hd3 => Classical.byContradiction fun hn => ?_⟩ (h i hi c)
    have w : bt R d = true := hd d hd1 hd2 hn
    rw [hd3] at w; cases w
  · rfl
/-- outside = M i without R: none, one, or more columns -/
theorem fc_out {k : Nat} {M : Nat → Int32} {R : Int32} {i : Nat} (hk : k ≤ 32) (hM : fc_In k (M i)) : ∀ j, bt (M i &&& (R ^^^ (-1))) j = (bt (M i) j && !bt R j) := by
  intro j
  rw [b_and]
  rcases Nat.lt_or_ge j 32 with h | h
  · rw [fc_not R h]
  · rw [hM j (by omega)]; rfl
theorem fc_out0 {k : Nat} {M : Nat → Int32} {R : Int32} {i : Nat} (hk : k ≤ 32) (hM : fc_In k (M i)) (h : M i &&& (R ^^^ (-1)) = 0) (c : Nat) : ¬ fc_sgl k M R i c := by
  rintro ⟨_, h2, h3, _⟩
  have := fc_out (R := R) hk hM c
  rw [h, h2, h3, b_0] at this
  cases this
theorem fc_out1 {k : Nat} {M : Nat → Int32} {R : Int32} {i : Nat} (hk : k ≤ 32) (hM : fc_In k (M i)) (h0 : ¬ M i &&& (R ^^^ (-1)) = 0) :
    ((M i &&& (R ^^^ (-1))) &&& ((M i &&& (R ^^^ (-1))) - 1) = 0 → ∃ c, fc_sgl k M R i c ∧ M i &&& (R ^^^ (-1)) = fc_bit c) ∧
    (¬ (M i &&& (R ^^^ (-1))) &&& ((M i &&& (R ^^^ (-1))) - 1) = 0 → ∀ c, ¬ fc_sgl k M R i c) := by
  have ob := fc_out (R := R) hk hM
  generalize M i &&& (R ^^^ (-1)) = x at *
  obtain ⟨c, hc, h1, h2⟩ := fc_low h0
  rw [fc_pred_and hc h1 h2]
  have hck : c < k := by
    rcases Nat.lt_or_ge c k with z | z
    · exact z
    · rw [ob c, hM c z] at h1; cases h1
  refine ⟨fun e => ?_, fun e c' hs => ?_⟩
  · have ex := fc_xe e
    refine ⟨c, ⟨hck, ?_, ?_, fun d hd hb hr => ?_⟩, ex⟩
    · rw [ob c] at h1; cases z : bt (M i) c <;> simp_all
    · rw [ob c] at h1; cases z : bt R c <;> simp_all
    · have z := ob d
      rw [hb, hr, ex, fc_bit_b hc] at z
      exact of_decide_eq_true z
  · refine e ?_
    have hcc : c = c' := by
      refine hs.2.2.2 c hck ?_ ?_
      · rw [ob c] at h1; cases z : bt (M i) c <;> simp_all
      · rw [ob c] at h1; cases z : bt R c <;> simp_all
    subst hcc
    have ex : x = fc_bit c := by
      refine b_ext fun j _ => ?_
      rw [ob j, fc_bit_b hc]
      by_cases ej : j = c
      · rw [ej, ← ob c, h1]; exact (decide_eq_true rfl).symm
      · rw [decide_eq_false ej]
        cases z1 : bt (M i) j
        · rfl
        · cases z2 : bt R j
          · refine absurd (hs.2.2.2 j ?_ z1 z2) ej
            rcases Nat.lt_or_ge j k with z | z
            · exact z
            · rw [hM j z] at z1; cases z1
          · rfl
    rw [ex]; exact fc_xx _
/-- the peeled set so far, in the reference's rounds -/
def fc_RP (k n : Nat) (M : Nat → Int32) (R : Int32) : Prop := ∀ c, bt R c = true → c < k ∧ fc_Peel k n M c
theorem fc_RP_s {k n : Nat} {M : Nat → Int32} {R : Int32} {i c : Nat} (hk : k ≤ 32) (h : fc_RP k n M R) (hi : i < n) (hs : fc_sgl k M R i c) : fc_RP k n M (R ||| fc_bit c) ∧ fc_cnt (bt R) k < fc_cnt (bt (R ||| fc_bit c)) k := by
  obtain ⟨h1, h2, h3, h4⟩ := hs
  constructor
  · intro d hd
    rw [b_or, fc_bit_b (by omega)] at hd
    by_cases e : d = c
    · rw [e]
      refine ⟨h1, fc_Peel_c i hi c h1 h2 fun j hj hbj hn => ?_⟩
      cases z : bt R j
      · exact absurd (h4 j hj hbj z) hn
      · exact (h j z).2
    · rw [decide_eq_false e, Bool.or_false] at hd
      exact h d hd
  · have e := fc_cnt_st (T := bt R) h1 h3
    rw [fc_cnt_congr (T := bt (R ||| fc_bit c)) (U := fc_set (bt R) c true) fun j _ => ?_, e]
    · omega
    · rw [b_or, fc_bit_b (by omega)]
      by_cases ej : j = c
      · rw [ej, fc_set_s, decide_eq_true rfl, Bool.or_true]
      · rw [fc_set_n ej, decide_eq_false ej, Bool.or_false]
theorem fc_closed_all {k n : Nat} {M : Nat → Int32} {R : Int32} (h : fc_cnt (bt R) k = k) : fc_closed k n M R := by
  rintro i hi c ⟨h1, _, h3, _⟩
  rw [fc_cnt_all h c h1] at h3
  cases h3
/-- what a decode leaves -/
def fc_Dec (k n : Nat) (M V : Nat → Int32) (st rf pm : Int32) (E K : Nat → Int32) : Prop :=
  (∃ r T, rf = nI r ∧ fc_Base k (fc_Q n M V) T ∧ fc_cnt T k = r ∧ (st = 1 ∨ (st = 3 ∧ r = k) ∨ (st = 2 ∧ r ≠ k))) ∧
  (st = 1 ↔ ∃ v, v ≠ 0 ∧ fc_Sp n M V 0 v) ∧ (∀ c, c < k → fc_Sp n M V (fc_bit c ^^^ E c) (K c)) ∧ (∀ i, i < n → fc_fx E (bt (M i)) k = 0) ∧
  (∀ c, c < k → (bt pm c = true ↔ fc_Peel k n M c))
theorem fc_Dec_known {k n : Nat} {M V : Nat → Int32} {st rf pm : Int32} {E K : Nat → Int32} (hk : k ≤ 32) (h : fc_Dec k n M V st rf pm E K) {m : Int32} (hm : fc_In k m) :
    (fc_fx E (bt m) k = 0 → fc_Sp n M V m (fc_fx K (bt m) k)) ∧ (fc_Q n M V m → fc_fx E (bt m) k = 0) := by
  obtain ⟨_, _, h3, h4, _⟩ := h
  refine ⟨fun e => ?_, fun ⟨v, hs⟩ => fc_fin_Q h4 hs⟩
  have z := fc_Sp_fx (n := n) (M := M) (V := V) (f := fun c => fc_bit c ^^^ E c) (g := K) (b := bt m) (k := k) (fun c hc _ => h3 c hc)
  rw [fc_fx_xf, fc_fx_self hk hm, e, fc_x0] at z
  exact z
theorem fc_uniq {n : Nat} {M V : Nat → Int32} (hc : ¬ ∃ v, v ≠ 0 ∧ fc_Sp n M V 0 v) {m v w : Int32} (h : fc_Sp n M V m v) (h' : fc_Sp n M V m w) : v = w := by
  have z := fc_Spx h h'
  rw [fc_xx] at z
  exact fc_xe (Classical.byContradiction fun q => hc ⟨_, q, z⟩)
theorem fc_ush {k : Nat} (hk : k < 32) (m : Int32) : (m.toUInt32 >>> ((nI k).toUInt32 &&& Int32.toUInt32 31)).toInt32 = 0 ↔ fc_In k m := by
  constructor
  · intro h i hi
    have e := b_ushr k hk m (i - k)
    rw [h, b_0, Nat.add_sub_cancel' hi] at e
    exact e.symm
  · intro h
    refine b_ext fun i _ => ?_
    rw [b_ushr k hk, b_0]
    exact h _ (by omega)
def fc_aw (k : Nat) : Int32 := ((1 : Int32) <<< (nI k &&& 31)) - 1
theorem fc_aw_bt : ∀ k, k < 32 → ∀ i, i < 32 → bt (fc_aw k) i = decide (i < k) := by decide +kernel
theorem fc_aw_b {k : Nat} (hk : k < 32) (i : Nat) : bt (fc_aw k) i = decide (i < k) := by
  rcases Nat.lt_or_ge i 32 with h | h
  · exact fc_aw_bt k hk i h
  · rw [b_big h]; exact (decide_eq_false (by omega)).symm
theorem fc_awI {k : Nat} (hk : k < 32) (m : Int32) : (m &&& (fc_aw k ^^^ (-1))) = 0 ↔ fc_In k m := by
  constructor
  · intro h i hi
    rcases Nat.lt_or_ge i 32 with l | l
    · have e : bt (m &&& (fc_aw k ^^^ (-1))) i = bt 0 i := by rw [h]
      rw [b_and, fc_not _ l, fc_aw_b hk, decide_eq_false (by omega), b_0] at e
      simpa using e
    · exact b_big l
  · intro h
    refine b_ext fun i hi => ?_
    rw [b_and, fc_not _ hi, fc_aw_b hk, b_0]
    by_cases l : i < k
    · rw [decide_eq_true l]; exact Bool.and_false _
    · rw [h i (by omega)]; rfl
section
variable {k cc e n : Nat} {f_allWords f_running f_weightTotal f_mixedSeed f_state f_rankFound f_peelMask f_activeMask f_inactiveMask f_queueHead f_queueTail f_pivotCount f_denseRank f_contradiction seed : Int32} {a_tableDegree a_tableWeight a_tableEnd a_source a_ids a_values a_masks a_expr a_constant a_rowStart a_rowCols a_colStart a_colRows a_rowLeft a_rowUsed a_queue a_pivotCol a_pivotRow a_denseMask a_denseValue rm rv : Nat → Int32}
variable {m : Int32}
theorem fc_Xsolv {post : Int32 → Prop} (h : (f_state = 2 ∨ f_state = 3) → post 1) (h0 : ¬ (f_state = 2 ∨ f_state = 3) → post 0) : wpX_solvable post ((nI k), (nI cc), f_allWords, f_running, (nI e), f_weightTotal, f_mixedSeed, (nI n), f_state, f_rankFound, f_peelMask, f_activeMask, f_inactiveMask, f_queueHead, f_queueTail, f_pivotCount, f_denseRank, f_contradiction, a_tableDegree, a_tableWeight, a_tableEnd, a_source, a_ids, a_values, a_masks, a_expr, a_constant, a_rowStart, a_rowCols, a_colStart, a_colRows, a_rowLeft, a_rowUsed, a_queue, a_pivotCol, a_pivotRow, a_denseMask, a_denseValue) :=
  br_c (fun z => h (Or.inl z)) (fun z => br_c (fun y => h (Or.inr y)) (fun y => h0 (fun q => q.elim z y)))
theorem fc_XsumK {post : Int32 → Prop} (hk : k ≤ 24) (ha : f_allWords = fc_aw k) (hs : f_state = 2 ∨ f_state = 3) (hM : ∀ i, i < n → fc_In k (a_masks i)) (hD : fc_Dec k n a_masks a_values f_state f_rankFound f_peelMask a_expr a_constant)
    (h1 : fc_Q n a_masks a_values m → post 1) (h0 : ¬ fc_Q n a_masks a_values m → post 0) : wpX_sumKnown post ((nI k), (nI cc), f_allWords, f_running, (nI e), f_weightTotal, f_mixedSeed, (nI n), f_state, f_rankFound, f_peelMask, f_activeMask, f_inactiveMask, f_queueHead, f_queueTail, f_pivotCount, f_denseRank, f_contradiction, a_tableDegree, a_tableWeight, a_tableEnd, a_source, a_ids, a_values, a_masks, a_expr, a_constant, a_rowStart, a_rowCols, a_colStart, a_colRows, a_rowLeft, a_rowUsed, a_queue, a_pivotCol, a_pivotRow, a_denseMask, a_denseValue) m := by
  unfold wpX_sumKnown
  refine fc_Xsolv (fun _ => br_f (by decide) ?_) (fun z => absurd hs z)
  rw [ha]
  refine ek_if (fc_awI (by omega) m) (fun hI => fc_XexprSum hk (br_c (fun e => ?_) (fun e => ?_))) (fun hI => ?_)
  · exact h1 ⟨_, (fc_Dec_known (by omega) hD hI).1 e⟩
  · exact h0 fun q => e ((fc_Dec_known (by omega) hD hI).2 q)
  · exact h0 fun q => hI (fc_QIn hM q)
theorem fc_XsumV {post : Int32 → Prop} (hk : k ≤ 24) (ha : f_allWords = fc_aw k) (hs : f_state = 2 ∨ f_state = 3) (hM : ∀ i, i < n → fc_In k (a_masks i)) (hD : fc_Dec k n a_masks a_values f_state f_rankFound f_peelMask a_expr a_constant)
    (h1 : ∀ v, fc_Sp n a_masks a_values m v → post v) (h0 : ¬ fc_Q n a_masks a_values m → post 0) : wpX_sumValue post ((nI k), (nI cc), f_allWords, f_running, (nI e), f_weightTotal, f_mixedSeed, (nI n), f_state, f_rankFound, f_peelMask, f_activeMask, f_inactiveMask, f_queueHead, f_queueTail, f_pivotCount, f_denseRank, f_contradiction, a_tableDegree, a_tableWeight, a_tableEnd, a_source, a_ids, a_values, a_masks, a_expr, a_constant, a_rowStart, a_rowCols, a_colStart, a_colRows, a_rowLeft, a_rowUsed, a_queue, a_pivotCol, a_pivotRow, a_denseMask, a_denseValue) m := by
  unfold wpX_sumValue
  refine fc_XsumK hk ha hs hM hD (fun q => br_f (by decide) (fc_XconstantSum hk (h1 _ ?_))) (fun q => br_t rfl (h0 q))
  have hI := fc_QIn hM q
  exact (fc_Dec_known (by omega) hD hI).1 ((fc_Dec_known (by omega) hD hI).2 q)
theorem fc_Y38 {post : Int32 → SY → Prop} {r : Nat} {p : Nat → Nat} (hk : k ≤ 24) (hn : n ≤ 48) (hr : fc_Red k n r rm p) (h1 : m ^^^ fc_fx rm (fun i => bt m (p i)) r = 0 → post 1 ((nI k), (nI cc), f_running, (nI e), seed, (nI n), f_state, a_tableDegree, a_tableWeight, a_source, a_ids, a_values, rm, rv)) (h0 : ¬ m ^^^ fc_fx rm (fun i => bt m (p i)) r = 0 → post 0 ((nI k), (nI cc), f_running, (nI e), seed, (nI n), f_state, a_tableDegree, a_tableWeight, a_source, a_ids, a_values, rm, rv)) :
    ∀ (d i : Nat) (x : Int32), i + d = r → x = m ^^^ fc_fx rm (fun i => bt m (p i)) i → wY_sumKnown_38 post (nI r) (nI k) (nI cc) f_running (nI e) seed (nI n) f_state a_tableDegree a_tableWeight a_source a_ids a_values rm rv (d + 1) x (nI i) := by
  have hrn := hr.1
  intro d
  induction d with
  | zero =>
    intro i x hi hx
    have e : i = r := by omega
    subst e
    rw [hx]
    exact br_t (nI_le (by omega) (by omega)) (br_c h1 h0)
  | succ d ih =>
    intro i x hi hx
    have hi' : vp_in (nI i) 48 := vp_in_nI (by omega) (by omega)
    refine br_f (nI_ge (by omega) (by omega)) ⟨hi', hi', ?_⟩
    rw [nI_clamp (n := i) (by omega)]
    have hp := (hr.2.2.1 i (by omega)).1
    refine nm_r (fc_red_low hr (by omega) (by omega)) (ek_if (fc_andb x (p i) (by omega)) (fun hb => ?_) (fun hb => ?_))
    · rw [hx, fc_red_step hr m (by omega)] at hb
      exact nm_r (nI_1 i) (ih (i + 1) x (by omega) (by rw [fc_fx_f (b := fun i => bt m (p i)) hb]; exact hx))
    · rw [hx, fc_red_step hr m (by omega)] at hb
      have hb' : bt m (p i) = true := by cases z : bt m (p i) <;> simp_all
      exact ⟨hi', nm_e (nm_r (nI_1 i) (ih (i + 1) _ (by omega) (by rw [fc_fx_t (b := fun i => bt m (p i)) hb', hx, fc_xa])))⟩
theorem fc_YsumK {post : Int32 → SY → Prop} (hn : n ≤ 48) (hr : ¬ f_running = 0) (hR : fc_Run k e a_tableDegree a_tableWeight a_tableEnd f_weightTotal f_mixedSeed seed)
    (hM : ∀ i, i < n → a_masks i = fc_nb k e a_tableDegree a_tableWeight seed (a_ids i)) (hs0 : ¬ f_state = 0) (hs1 : ¬ f_state = 1)
    (h1 : fc_Q n a_masks a_values m → ∀ rm rv : Nat → Int32, post 1 ((nI k), (nI cc), f_running, (nI e), seed, (nI n), f_state, a_tableDegree, a_tableWeight, a_source, a_ids, a_values, rm, rv)) (h0 : ¬ fc_Q n a_masks a_values m → ∀ rm rv : Nat → Int32, post 0 ((nI k), (nI cc), f_running, (nI e), seed, (nI n), f_state, a_tableDegree, a_tableWeight, a_source, a_ids, a_values, rm, rv)) : wpY_sumKnown post ((nI k), (nI cc), f_running, (nI e), seed, (nI n), f_state, a_tableDegree, a_tableWeight, a_source, a_ids, a_values, rm, rv) m := by
  have hk := hR.2.1
  have hI : ∀ i, i < n → fc_In k (a_masks i) := fun i hi => by rw [hM i hi]; exact fc_nb_In hR.1 (by omega)
  refine br_f hs0 (br_f hs1 (ek_if (fc_ush (by omega) m) (fun hm => ?_) (fun hm => h0 (fun q => hm (fc_QIn hI q)) rm rv)))
  refine fc_Yreduce hn hr hR hM fun r rm rv p hrd hE => ?_
  refine ⟨_, fc_Y38 hk hn hrd (fun e => ?_) (fun e => ?_) r 0 m (Nat.zero_add r) (fc_x0 m).symm⟩
  · exact h1 ((fc_Eqv_q hE m).mpr ((fc_red_known hrd m).mpr e)) rm rv
  · exact h0 (fun q => e ((fc_red_known hrd m).mp ((fc_Eqv_q hE m).mp q))) rm rv
theorem fc_Y20 {post : Int32 → SY → Prop} {r : Nat} {p : Nat → Nat} (hk : k ≤ 24) (hn : n ≤ 48) (hr : fc_Red k n r rm p) (h : post (fc_fx rv (fun i => bt m (p i)) r) ((nI k), (nI cc), f_running, (nI e), seed, (nI n), f_state, a_tableDegree, a_tableWeight, a_source, a_ids, a_values, rm, rv)) :
    ∀ (d i : Nat) (x : Int32), i + d = r → x = fc_fx rv (fun i => bt m (p i)) i → wY_sumValue_20 post m (nI r) (nI k) (nI cc) f_running (nI e) seed (nI n) f_state a_tableDegree a_tableWeight a_source a_ids a_values rm rv (d + 1) x (nI i) := by
  have hrn := hr.1
  intro d
  induction d with
  | zero =>
    intro i x hi hx
    have e : i = r := by omega
    subst e
    rw [hx]
    exact br_t (nI_le (by omega) (by omega)) h
  | succ d ih =>
    intro i x hi hx
    have hi' : vp_in (nI i) 48 := vp_in_nI (by omega) (by omega)
    refine br_f (nI_ge (by omega) (by omega)) ⟨hi', hi', ?_⟩
    rw [nI_clamp (n := i) (by omega)]
    have hp := (hr.2.2.1 i (by omega)).1
    refine nm_r (fc_red_low hr (by omega) (by omega)) (ek_if (fc_andb m (p i) (by omega)) (fun hb => ?_) (fun hb => ?_))
    · exact nm_r (nI_1 i) (ih (i + 1) x (by omega) (by rw [fc_fx_f (b := fun i => bt m (p i)) hb]; exact hx))
    · have hb' : bt m (p i) = true := by cases z : bt m (p i) <;> simp_all
      exact ⟨hi', nm_e (nm_r (nI_1 i) (ih (i + 1) _ (by omega) (by rw [fc_fx_t (b := fun i => bt m (p i)) hb', hx])))⟩
theorem fc_YsumV {post : Int32 → SY → Prop} (hn : n ≤ 48) (hr : ¬ f_running = 0) (hR : fc_Run k e a_tableDegree a_tableWeight a_tableEnd f_weightTotal f_mixedSeed seed)
    (hM : ∀ i, i < n → a_masks i = fc_nb k e a_tableDegree a_tableWeight seed (a_ids i)) (hs0 : ¬ f_state = 0) (hs1 : ¬ f_state = 1)
    (h1 : ∀ v, fc_Sp n a_masks a_values m v → ∀ rm rv : Nat → Int32, post v ((nI k), (nI cc), f_running, (nI e), seed, (nI n), f_state, a_tableDegree, a_tableWeight, a_source, a_ids, a_values, rm, rv)) (h0 : ¬ fc_Q n a_masks a_values m → ∀ rm rv : Nat → Int32, post 0 ((nI k), (nI cc), f_running, (nI e), seed, (nI n), f_state, a_tableDegree, a_tableWeight, a_source, a_ids, a_values, rm, rv)) : wpY_sumValue post ((nI k), (nI cc), f_running, (nI e), seed, (nI n), f_state, a_tableDegree, a_tableWeight, a_source, a_ids, a_values, rm, rv) m := by
  unfold wpY_sumValue
  have hk := hR.2.1
  refine fc_YsumK hn hr hR hM hs0 hs1 (fun q rm rv => br_f (by decide) ?_) (fun q rm rv => br_t rfl (h0 q rm rv))
  refine fc_Yreduce hn hr hR hM fun r rm rv p hrd hE => ?_
  refine ⟨_, fc_Y20 hk hn hrd (h1 _ ?_ rm rv) r 0 0 (Nat.zero_add r) rfl⟩
  rw [fc_Eqv_sp hE]
  have e := fc_xe ((fc_red_known (RV := rv) hrd m).mp ((fc_Eqv_q hE m).mp q))
  have z := fc_red_mem (RV := rv) hrd (fun i => bt m (p i))
  rw [← e] at z
  exact z
theorem fc_Y34 {post : Int32 → SY → Prop} (hn : n ≤ 48) : ∀ (d i : Nat) (st : Int32), i + d = n → ((∃ j, i ≤ j ∧ j < n ∧ rv j ≠ 0) → post 1 ((nI k), (nI cc), f_running, (nI e), seed, (nI n), 1, a_tableDegree, a_tableWeight, a_source, a_ids, a_values, rm, rv)) → ((∀ j, i ≤ j → j < n → rv j = 0) → post st ((nI k), (nI cc), f_running, (nI e), seed, (nI n), st, a_tableDegree, a_tableWeight, a_source, a_ids, a_values, rm, rv)) →
      wY_decode_34 post (nI k) (nI cc) f_running (nI e) seed (nI n) a_tableDegree a_tableWeight a_source a_ids a_values rm rv (d + 1) (nI i) st := by
  intro d
  induction d with
  | zero => intro i st hi h1 h0; exact br_t (nI_le (by omega) (by omega)) (h0 fun j a b => by omega)
  | succ d ih =>
    intro i st hi h1 h0
    refine br_f (nI_ge (by omega) (by omega)) ⟨vp_in_nI (by omega) (by omega), ?_⟩
    rw [nI_clamp (n := i) (by omega)]
    refine br_c (fun z => nm_r (nI_1 i) (ih (i + 1) st (by omega) (fun ⟨j, a, b, c⟩ => h1 ⟨j, by omega, b, c⟩) (fun hz => h0 fun j a b => ?_)))
      (fun z => nm_r (nI_1 i) (ih (i + 1) 1 (by omega) (fun ⟨j, a, b, c⟩ => h1 ⟨j, by omega, b, c⟩) (fun hz => h1 ⟨i, Nat.le_refl _, by omega, z⟩)))
    by_cases ej : j = i
    · rw [ej]; exact z
    · exact hz j (by omega) b
theorem fc_Ydecode {post : Int32 → SY → Prop} (hn : n ≤ 48) (hr : ¬ f_running = 0) (hR : fc_Run k e a_tableDegree a_tableWeight a_tableEnd f_weightTotal f_mixedSeed seed)
    (hM : ∀ i, i < n → a_masks i = fc_nb k e a_tableDegree a_tableWeight seed (a_ids i))
    (h : ∀ (r : Nat) (T : Nat → Bool) (st : Int32) (rm rv : Nat → Int32), fc_Base k (fc_Q n a_masks a_values) T → fc_cnt T k = r → ((st = 1 ∧ ∃ v, v ≠ 0 ∧ fc_Sp n a_masks a_values 0 v) ∨ (¬ (∃ v, v ≠ 0 ∧ fc_Sp n a_masks a_values 0 v) ∧ ((st = 3 ∧ r = k) ∨ (st = 2 ∧ r ≠ k)))) → post st ((nI k), (nI cc), f_running, (nI e), seed, (nI n), st, a_tableDegree, a_tableWeight, a_source, a_ids, a_values, rm, rv)) : wpY_decode post ((nI k), (nI cc), f_running, (nI e), seed, (nI n), f_state, a_tableDegree, a_tableWeight, a_source, a_ids, a_values, rm, rv) := by
  have hk := hR.2.1
  refine br_f hr (fc_Yreduce hn hr hR hM fun r rm rv p hrd hE => ?_)
  have hrn := hrd.1
  have hrk := hrd.2.1
  obtain ⟨hb, hc⟩ := fc_red_base (RV := rv) hrd
  have hb' := fc_Base_cg (fun v => (fc_Eqv_q hE v).symm) hb
  have inc : (∃ v, v ≠ 0 ∧ fc_Sp n a_masks a_values 0 v) ↔ ∃ i, r ≤ i ∧ i < n ∧ rv i ≠ 0 := by
    rw [← fc_red_inc (RV := rv) hrd]
    exact ⟨fun ⟨v, a, b⟩ => ⟨v, a, (fc_Eqv_sp hE).mp b⟩, fun ⟨v, a, b⟩ => ⟨v, a, (fc_Eqv_sp hE).mpr b⟩⟩
  refine pk_eq r k (fun er => ⟨_, fc_Y34 hn (n - r) r 3 (by omega) (fun z => ?_) (fun z => ?_)⟩) (fun er => ⟨_, fc_Y34 hn (n - r) r 2 (by omega) (fun z => ?_) (fun z => ?_)⟩)
  · exact h r _ 1 rm rv hb' hc (Or.inl ⟨rfl, inc.mpr z⟩)
  · exact h r _ 3 rm rv hb' hc (Or.inr ⟨fun q => by obtain ⟨i, a, b, c⟩ := inc.mp q; exact c (z i a b), Or.inl ⟨rfl, er⟩⟩)
  · exact h r _ 1 rm rv hb' hc (Or.inl ⟨rfl, inc.mpr z⟩)
  · exact h r _ 2 rm rv hb' hc (Or.inr ⟨fun q => by obtain ⟨i, a, b, c⟩ := inc.mp q; exact c (z i a b), Or.inr ⟨rfl, er⟩⟩)
theorem fc_Yrank {post : Int32 → SY → Prop} (hn : n ≤ 48) (hr : ¬ f_running = 0) (hR : fc_Run k e a_tableDegree a_tableWeight a_tableEnd f_weightTotal f_mixedSeed seed)
    (hM : ∀ i, i < n → a_masks i = fc_nb k e a_tableDegree a_tableWeight seed (a_ids i)) (hs : ¬ f_state = 0)
    (h : ∀ (r : Nat) (T : Nat → Bool) (rm rv : Nat → Int32), fc_Base k (fc_Q n a_masks a_values) T → fc_cnt T k = r → post (nI r) ((nI k), (nI cc), f_running, (nI e), seed, (nI n), f_state, a_tableDegree, a_tableWeight, a_source, a_ids, a_values, rm, rv)) : wpY_rank post ((nI k), (nI cc), f_running, (nI e), seed, (nI n), f_state, a_tableDegree, a_tableWeight, a_source, a_ids, a_values, rm, rv) := by
  refine br_f hs (fc_Yreduce hn hr hR hM fun r rm rv p hrd hE => ?_)
  obtain ⟨hb, hc⟩ := fc_red_base (RV := rv) hrd
  exact h r _ rm rv (fc_Base_cg (fun v => (fc_Eqv_q hE v).symm) hb) hc
theorem fc_Y40 {post : Int32 → SY → Prop} {J : Int32 → Int32 → Prop} {x1 R0 : Int32} {j : Nat} (hk : k ≤ 24) (hn : n ≤ 48) (hj : j < 24) (hM : ∀ i, i < n → rm i = a_masks i) (hI : ∀ i, i < n → fc_In k (a_masks i))
    (h : ∀ R, fc_RP k n a_masks R → ((R = R0 ∧ fc_closed k n a_masks R0) ∨ (fc_cnt (bt R0) k < fc_cnt (bt R) k ∧ ¬ fc_closed k n a_masks R0)) → J R (nI (j + 1))) :
    ∀ (d i : Nat) (R : Int32), i + d = n → fc_RP k n a_masks R → ((R = R0 ∧ ∀ i', i' < i → ∀ c, ¬ fc_sgl k a_masks R0 i' c) ∨ (fc_cnt (bt R0) k < fc_cnt (bt R) k ∧ ¬ fc_closed k n a_masks R0)) →
      wY_peelable_40 post J x1 (nI j) (nI k) (nI cc) f_running (nI e) seed (nI n) f_state a_tableDegree a_tableWeight a_source a_ids a_values rm rv (d + 1) R (nI i) := by
  intro d
  induction d with
  | zero =>
    intro i R hi hP hA
    have ei : i = n := by omega
    refine br_t (nI_le (by omega) (by omega)) (nm_r (nI_1 j) (h R hP (hA.elim (fun z => Or.inl ⟨z.1, ?_⟩) Or.inr)))
    intro i' hi'
    exact z.2 i' (by omega)
  | succ d ih =>
    intro i R hi hP hA
    refine br_f (nI_ge (by omega) (by omega)) ⟨vp_in_nI (by omega) (by omega), ?_⟩
    rw [nI_clamp (n := i) (by omega), hM i (by omega)]
    have hIi := hI i (by omega)
    have skip : (∀ c, ¬ fc_sgl k a_masks R i c) → (R = R0 ∧ ∀ i', i' < i + 1 → ∀ c, ¬ fc_sgl k a_masks R0 i' c) ∨ (fc_cnt (bt R0) k < fc_cnt (bt R) k ∧ ¬ fc_closed k n a_masks R0) := by
      intro hs
      refine hA.elim (fun z => Or.inl ⟨z.1, fun i' hi' => ?_⟩) Or.inr
      by_cases ei : i' = i
      · rw [ei, ← z.1]; exact hs
      · exact z.2 i' (by omega)
    refine nm_e (br_c (fun z => nm_r (nI_1 i) (ih (i + 1) R (by omega) hP (skip (fc_out0 (by omega) hIi z)))) (fun z => ?_))
    obtain ⟨o1, o2⟩ := fc_out1 (R := R) (by omega) hIi z
    refine br_c (fun y => ?_) (fun y => nm_r (nI_1 i) (ih (i + 1) R (by omega) hP (skip (o2 y))))
    obtain ⟨c, hs, hx⟩ := o1 y
    obtain ⟨p1, p2⟩ := fc_RP_s (by omega) hP (by omega) hs
    rw [hx]
    refine nm_e (nm_r (nI_1 i) (ih (i + 1) _ (by omega) p1 (Or.inr ?_)))
    rcases hA with ⟨z1, z2⟩ | ⟨z1, z2⟩
    · rw [z1] at p2 hs
      rw [z1]
      exact ⟨p2, fun q => q i (by omega) c hs⟩
    · exact ⟨by omega, z2⟩
theorem fc_Y29 {post : Int32 → SY → Prop} {x : Nat} (hk : k ≤ 24) (hn : n ≤ 48) (hx : x < k) (hM : ∀ i, i < n → rm i = a_masks i) (hI : ∀ i, i < n → fc_In k (a_masks i))
    (h1 : fc_Peel k n a_masks x → post 1 ((nI k), (nI cc), f_running, (nI e), seed, (nI n), f_state, a_tableDegree, a_tableWeight, a_source, a_ids, a_values, rm, rv)) (h0 : ¬ fc_Peel k n a_masks x → post 0 ((nI k), (nI cc), f_running, (nI e), seed, (nI n), f_state, a_tableDegree, a_tableWeight, a_source, a_ids, a_values, rm, rv)) :
    ∀ (d j : Nat) (R : Int32), j + d = k → fc_RP k n a_masks R → (fc_closed k n a_masks R ∨ j ≤ fc_cnt (bt R) k) → wY_peelable_29 post (nI x) (nI k) (nI cc) f_running (nI e) seed (nI n) f_state a_tableDegree a_tableWeight a_source a_ids a_values rm rv (d + 1) R (nI j) := by
  intro d
  induction d with
  | zero =>
    intro j R hj hP hA
    have hC : fc_closed k n a_masks R := by
      refine hA.elim id fun z => fc_closed_all ?_
      have := fc_cnt_le (bt R) k
      omega
    refine br_t (nI_le (by omega) (by omega)) (ek_if (fc_andb R x (by omega)) (fun hb => h0 fun q => ?_) (fun hb => h1 ?_))
    · have := q _ (fc_closed_P hC)
      rw [hb] at this; cases this
    · have hb' : bt R x = true := by cases z : bt R x <;> simp_all
      exact (hP x hb').2
  | succ d ih =>
    intro j R hj hP hA
    refine br_f (nI_ge (by omega) (by omega)) ⟨_, fc_Y40 (R0 := R) hk hn (by omega) hM hI (fun R' hP' hA' => ih (j + 1) R' (by omega) hP' ?_) n 0 R (Nat.zero_add n) hP (Or.inl ⟨rfl, fun i' hi' => by omega⟩)⟩
    rcases hA' with ⟨z1, z2⟩ | ⟨z1, z2⟩
    · rw [z1]; exact Or.inl z2
    · exact Or.inr (by have := hA.resolve_left z2; omega)
theorem fc_Ypeel {post : Int32 → SY → Prop} {x : Nat} (hn : n ≤ 48) (hr : ¬ f_running = 0) (hR : fc_Run k e a_tableDegree a_tableWeight a_tableEnd f_weightTotal f_mixedSeed seed)
    (hM : ∀ i, i < n → a_masks i = fc_nb k e a_tableDegree a_tableWeight seed (a_ids i)) (hs : ¬ f_state = 0) (hx : x < k)
    (h1 : fc_Peel k n a_masks x → ∀ rm rv : Nat → Int32, post 1 ((nI k), (nI cc), f_running, (nI e), seed, (nI n), f_state, a_tableDegree, a_tableWeight, a_source, a_ids, a_values, rm, rv)) (h0 : ¬ fc_Peel k n a_masks x → ∀ rm rv : Nat → Int32, post 0 ((nI k), (nI cc), f_running, (nI e), seed, (nI n), f_state, a_tableDegree, a_tableWeight, a_source, a_ids, a_values, rm, rv)) : wpY_peelable post ((nI k), (nI cc), f_running, (nI e), seed, (nI n), f_state, a_tableDegree, a_tableWeight, a_source, a_ids, a_values, rm, rv) (nI x) := by
  have hk := hR.2.1
  refine br_f hs (br_f (nI_pos (by omega)) (br_t (nI_lt hx (by omega)) (fc_Yload hn hr hR hM fun rm rv hj => ⟨k + 1, ?_⟩)))
  refine fc_Y29 hk hn hx (fun i hi => (hj i hi).1) (fun i hi => by rw [hM i hi]; exact fc_nb_In hR.1 (by omega)) (fun q => h1 q rm rv) (fun q => h0 q rm rv) k 0 0 (Nat.zero_add k) (fun c hc => by rw [b_0] at hc; cases hc) (Or.inr (Nat.zero_le _))
end
end
section
/-! the component: sparse rows and columns -/
def fc_off (b : Nat → Nat → Bool) (w : Nat) : Nat → Nat
  | 0 => 0
  | r + 1 => fc_off b w r + fc_cnt (b r) w
theorem fc_cnt_len {T : Nat → Bool} {c : Nat} : ∀ {d : Nat}, c ≤ d → fc_cnt T c ≤ fc_cnt T d
  | 0, h => by rw [Nat.le_zero.mp h]; exact Nat.le_refl _
  | d + 1, h => by
    rcases Nat.lt_or_ge d c with z | z
    · have : c = d + 1 := by omega
      rw [this]; exact Nat.le_refl _
    · have := fc_cnt_len (T := T) z
      simp only [fc_cnt]; omega
theorem fc_cnt_lt {T : Nat → Bool} {c d : Nat} (h : c < d) (ht : T c = true) : fc_cnt T c < fc_cnt T d := by
  have := fc_cnt_len (T := T) (c := c + 1) (d := d) h
  rw [fc_cnt_t ht] at this
  omega
theorem fc_off_mono {b : Nat → Nat → Bool} {w r : Nat} : ∀ {s : Nat}, r ≤ s → fc_off b w r ≤ fc_off b w s
  | 0, h => by rw [Nat.le_zero.mp h]; exact Nat.le_refl _
  | s + 1, h => by
    rcases Nat.lt_or_ge s r with z | z
    · have : r = s + 1 := by omega
      rw [this]; exact Nat.le_refl _
    · have := fc_off_mono (b := b) (w := w) z
      simp only [fc_off]; omega
theorem fc_off_le (b : Nat → Nat → Bool) (w : Nat) : ∀ r, fc_off b w r ≤ r * w
  | 0 => Nat.zero_le _
  | r + 1 => by
    have := fc_off_le b w r
    have := fc_cnt_le (b r) w
    simp only [fc_off]
    rw [Nat.succ_mul]
    omega
theorem fc_off_b {b : Nat → Nat → Bool} {w no : Nat} (h : no * w ≤ 1152) {r : Nat} (hr : r ≤ no) : fc_off b w r ≤ 1152 :=
  Nat.le_trans (fc_off_mono hr) (Nat.le_trans (fc_off_le b w no) h)
theorem fc_off_c {b : Nat → Nat → Bool} {w no : Nat} (h : no * w ≤ 1152) {r c : Nat} (hr : r < no) (hc : c ≤ w) : fc_off b w r + fc_cnt (b r) c ≤ 1152 := by
  have h1 := fc_off_b (b := b) h (r := r + 1) hr
  have h2 := fc_cnt_len (T := b r) hc
  simp only [fc_off] at h1
  omega
theorem fc_off_i {b : Nat → Nat → Bool} {w no : Nat} (h : no * w ≤ 1152) {r c : Nat} (hr : r < no) (hc : c < w) (hb : b r c = true) : fc_off b w r + fc_cnt (b r) c < 1152 := by
  have h1 := fc_off_b (b := b) h (r := r + 1) hr
  have h2 := fc_cnt_lt (T := b r) hc hb
  simp only [fc_off] at h1
  omega
/-- the elements of rows below r -/
def fc_Els (w : Nat) (b : Nat → Nat → Bool) (el : Nat → Int32) (r : Nat) : Prop := ∀ r', r' < r → ∀ c, c < w → b r' c = true → el (fc_off b w r' + fc_cnt (b r') c) = nI c
/-- the elements of row r below c -/
def fc_Elc (w : Nat) (b : Nat → Nat → Bool) (el : Nat → Int32) (r c : Nat) : Prop := ∀ c', c' < c → b r c' = true → el (fc_off b w r + fc_cnt (b r) c') = nI c'
def fc_Csr (no w : Nat) (b : Nat → Nat → Bool) (st el : Nat → Int32) : Prop := (∀ r, r ≤ no → st r = nI (fc_off b w r)) ∧ fc_Els w b el no
theorem fc_Els_u {w : Nat} {b : Nat → Nat → Bool} {el : Nat → Int32} {r i : Nat} {x : Int32} (h : fc_Els w b el r) (hi : fc_off b w r ≤ i) : fc_Els w b (upd el i x) r := by
  intro r' hr c hc hb
  have h1 := fc_off_mono (b := b) (w := w) (r := r' + 1) (s := r) hr
  have h2 := fc_cnt_lt (T := b r') hc hb
  simp only [fc_off] at h1
  rw [pk_un (by omega)]
  exact h r' hr c hc hb
theorem fc_Elc_u {w : Nat} {b : Nat → Nat → Bool} {el : Nat → Int32} {r c : Nat} (h : fc_Elc w b el r c) : fc_Elc w b (upd el (fc_off b w r + fc_cnt (b r) c) (nI c)) r (c + 1) := by
  intro c' hc hb
  by_cases e : c' = c
  · rw [e, pk_us]
  · have h2 := fc_cnt_lt (T := b r) (c := c') (d := c) (by omega) hb
    rw [pk_un (by omega)]
    exact h c' (by omega) hb
theorem fc_Elc_k {w : Nat} {b : Nat → Nat → Bool} {el : Nat → Int32} {r c : Nat} (h : fc_Elc w b el r c) (hb : b r c = false) : fc_Elc w b el r (c + 1) := by
  intro c' hc hb'
  by_cases e : c' = c
  · rw [e, hb] at hb'; cases hb'
  · exact h c' (by omega) hb'
theorem fc_Els_s {w : Nat} {b : Nat → Nat → Bool} {el : Nat → Int32} {r : Nat} (h : fc_Els w b el r) (h' : fc_Elc w b el r w) : fc_Els w b el (r + 1) := by
  intro r' hr c hc hb
  by_cases e : r' = r
  · rw [e] at hb ⊢; exact h' c hc hb
  · exact h r' (by omega) c hc hb
def fc_rb (M : Nat → Int32) : Nat → Nat → Bool := fun r c => bt (M r) c
def fc_cb (M : Nat → Int32) : Nat → Nat → Bool := fun c r => bt (M r) c
theorem fc_48 {n k : Nat} (hn : n ≤ 48) (hk : k ≤ 24) : n * k ≤ 1152 := Nat.mul_le_mul hn hk
theorem fc_24 {n k : Nat} (hn : n ≤ 48) (hk : k ≤ 24) : k * n ≤ 1152 := by rw [Nat.mul_comm]; exact Nat.mul_le_mul hn hk
section
variable {k cc e n : Nat} {f_allWords f_running f_weightTotal f_mixedSeed f_state f_rankFound f_peelMask f_activeMask f_inactiveMask f_queueHead f_queueTail f_pivotCount f_denseRank f_contradiction seed : Int32} {a_tableDegree a_tableWeight a_tableEnd a_source a_ids a_values a_masks a_expr a_constant a_rowStart a_rowCols a_colStart a_colRows a_rowLeft a_rowUsed a_queue a_pivotCol a_pivotRow a_denseMask a_denseValue rm rv : Nat → Int32}
variable {post : SX → Prop} {J : Int32 → Int32 → (Nat → Int32) → (Nat → Int32) → (Nat → Int32) → (Nat → Int32) → (Nat → Int32) → (Nat → Int32) → (Nat → Int32) → (Nat → Int32) → (Nat → Int32) → (Nat → Int32) → (Nat → Int32) → (Nat → Int32) → (Nat → Int32) → (Nat → Int32) → (Nat → Int32) → (Nat → Int32) → (Nat → Int32) → (Nat → Int32) → (Nat → Int32) → (Nat → Int32) → Prop}
theorem fc_XbR21 {r : Nat} (hn : n ≤ 48) (hk : k ≤ 24) (hr : r < n) (hs : a_rowStart r = nI (fc_off (fc_rb a_masks) k r))
    (h : ∀ rc : Nat → Int32, fc_Els k (fc_rb a_masks) rc (r + 1) → J (nI (fc_off (fc_rb a_masks) k (r + 1))) (nI (r + 1)) a_tableDegree a_tableWeight a_tableEnd a_source a_ids a_values a_masks a_expr a_constant a_rowStart rc a_colStart a_colRows (upd a_rowLeft r (nI (fc_cnt (bt (a_masks r)) k))) (upd a_rowUsed r 0) a_queue a_pivotCol a_pivotRow a_denseMask a_denseValue) :
    ∀ (d c : Nat) (rc : Nat → Int32), c + d = k → fc_Els k (fc_rb a_masks) rc r → fc_Elc k (fc_rb a_masks) rc r c → wX_buildRows_21 post J (nI r) (nI k) (nI cc) f_allWords f_running (nI e) f_weightTotal f_mixedSeed (nI n) f_state f_rankFound f_peelMask f_activeMask f_inactiveMask f_queueHead f_queueTail f_pivotCount f_denseRank f_contradiction (d + 1) (nI (fc_off (fc_rb a_masks) k r + fc_cnt (fc_rb a_masks r) c)) (nI c) a_tableDegree a_tableWeight a_tableEnd a_source a_ids a_values a_masks a_expr a_constant a_rowStart rc a_colStart a_colRows a_rowLeft a_rowUsed a_queue a_pivotCol a_pivotRow a_denseMask a_denseValue := by
  have i1 : vp_in (nI r) 49 := vp_in_nI (by omega) (by omega)
  have i2 : vp_in (nI r) 48 := vp_in_nI (by omega) (by omega)
  have hb := fc_48 hn hk
  intro d
  induction d with
  | zero =>
    intro c rc hc h1 h2
    have e : c = k := by omega
    subst e
    refine br_t (nI_le (by omega) (by omega)) ⟨i1, i2, ?_⟩
    rw [nI_clamp (n := r) (by omega), hs, pk_sub (by omega), Nat.add_sub_cancel_left]
    exact nm_e ⟨i2, nm_e (nm_r (nI_1 r) (h rc (fc_Els_s h1 h2)))⟩
  | succ d ih =>
    intro c rc hc h1 h2
    refine br_f (nI_ge (by omega) (by omega)) ⟨i2, ?_⟩
    rw [nI_clamp (n := r) (by omega)]
    refine fc_Xhas (by omega) (fun hz => ?_) (fun hz => ?_) _
    · refine br_t rfl (nm_r (nI_1 c) ?_)
      have := ih (c + 1) rc (by omega) h1 (fc_Elc_k h2 hz)
      rw [fc_cnt_f (T := fc_rb a_masks r) hz] at this
      exact this
    · have hlt := fc_off_i (b := fc_rb a_masks) hb hr (c := c) (by omega) hz
      refine br_f (by decide) ⟨vp_in_nI hlt (by omega), ?_⟩
      rw [nI_clamp (by omega)]
      refine nm_e (nm_r (nI_1 _) (nm_r (nI_1 c) ?_))
      have := ih (c + 1) _ (by omega) (fc_Els_u (x := nI c) h1 (i := fc_off (fc_rb a_masks) k r + fc_cnt (fc_rb a_masks r) c) (by omega)) (fc_Elc_u h2)
      rw [fc_cnt_t (T := fc_rb a_masks r) hz] at this
      exact this
theorem fc_XbR4 (hn : n ≤ 48) (hk : k ≤ 24)
    (h : ∀ rs rc rl ru : Nat → Int32, fc_Csr n k (fc_rb a_masks) rs rc → (∀ r, r < n → rl r = nI (fc_cnt (bt (a_masks r)) k) ∧ ru r = 0) → post ((nI k), (nI cc), f_allWords, f_running, (nI e), f_weightTotal, f_mixedSeed, (nI n), f_state, f_rankFound, f_peelMask, f_activeMask, f_inactiveMask, f_queueHead, f_queueTail, f_pivotCount, f_denseRank, f_contradiction, a_tableDegree, a_tableWeight, a_tableEnd, a_source, a_ids, a_values, a_masks, a_expr, a_constant, rs, rc, a_colStart, a_colRows, rl, ru, a_queue, a_pivotCol, a_pivotRow, a_denseMask, a_denseValue)) :
    ∀ (d r : Nat) (rs rc rl ru : Nat → Int32), r + d = n → (∀ r', r' < r → rs r' = nI (fc_off (fc_rb a_masks) k r')) → fc_Els k (fc_rb a_masks) rc r → (∀ r', r' < r → rl r' = nI (fc_cnt (bt (a_masks r')) k) ∧ ru r' = 0) →
      wX_buildRows_4 post (nI k) (nI cc) f_allWords f_running (nI e) f_weightTotal f_mixedSeed (nI n) f_state f_rankFound f_peelMask f_activeMask f_inactiveMask f_queueHead f_queueTail f_pivotCount f_denseRank f_contradiction (d + 1) (nI (fc_off (fc_rb a_masks) k r)) (nI r) a_tableDegree a_tableWeight a_tableEnd a_source a_ids a_values a_masks a_expr a_constant rs rc a_colStart a_colRows rl ru a_queue a_pivotCol a_pivotRow a_denseMask a_denseValue := by
  intro d
  induction d with
  | zero =>
    intro r rs rc rl ru hr h1 h2 h3
    have e : r = n := by omega
    subst e
    refine br_t (nI_le (by omega) (by omega)) ⟨vp_in_nI (by omega) (by omega), ?_⟩
    rw [nI_clamp (by omega)]
    refine nm_e (h _ rc rl ru ⟨fun r' hr' => ?_, h2⟩ h3)
    by_cases e : r' = r
    · rw [e, pk_us]
    · rw [pk_un e]; exact h1 r' (by omega)
  | succ d ih =>
    intro r rs rc rl ru hr h1 h2 h3
    refine br_f (nI_ge (by omega) (by omega)) ⟨vp_in_nI (by omega) (by omega), ?_⟩
    rw [nI_clamp (by omega)]
    refine nm_e ⟨k + 1, ?_⟩
    refine fc_XbR21 hn hk (by omega) pk_us (fun rc' h2' => ih (r + 1) _ rc' _ _ (by omega) (fun r' hr' => ?_) h2' (fun r' hr' => ?_)) k 0 rc (Nat.zero_add k) h2 (fun c' hc' => by omega)
    · by_cases e : r' = r
      · rw [e, pk_us]
      · rw [pk_un e]; exact h1 r' (by omega)
    · by_cases e : r' = r
      · rw [e, pk_us, pk_us]; exact ⟨rfl, rfl⟩
      · rw [pk_un e, pk_un e]; exact h3 r' (by omega)
theorem fc_XbuildRows (hn : n ≤ 48) (hk : k ≤ 24)
    (h : ∀ rs rc rl ru : Nat → Int32, fc_Csr n k (fc_rb a_masks) rs rc → (∀ r, r < n → rl r = nI (fc_cnt (bt (a_masks r)) k) ∧ ru r = 0) → post ((nI k), (nI cc), f_allWords, f_running, (nI e), f_weightTotal, f_mixedSeed, (nI n), f_state, f_rankFound, f_peelMask, f_activeMask, f_inactiveMask, f_queueHead, f_queueTail, f_pivotCount, f_denseRank, f_contradiction, a_tableDegree, a_tableWeight, a_tableEnd, a_source, a_ids, a_values, a_masks, a_expr, a_constant, rs, rc, a_colStart, a_colRows, rl, ru, a_queue, a_pivotCol, a_pivotRow, a_denseMask, a_denseValue)) : wpX_buildRows post ((nI k), (nI cc), f_allWords, f_running, (nI e), f_weightTotal, f_mixedSeed, (nI n), f_state, f_rankFound, f_peelMask, f_activeMask, f_inactiveMask, f_queueHead, f_queueTail, f_pivotCount, f_denseRank, f_contradiction, a_tableDegree, a_tableWeight, a_tableEnd, a_source, a_ids, a_values, a_masks, a_expr, a_constant, a_rowStart, a_rowCols, a_colStart, a_colRows, a_rowLeft, a_rowUsed, a_queue, a_pivotCol, a_pivotRow, a_denseMask, a_denseValue) :=
  Exists.intro _ (fc_XbR4 hn hk h n 0 _ _ _ _ (Nat.zero_add n) (fun r' hr' => by omega) (fun r' hr' => by omega) (fun r' hr' => by omega))
theorem fc_XbC21 {c : Nat} (hn : n ≤ 48) (hk : k ≤ 24) (hc : c < k)
    (h : ∀ cr : Nat → Int32, fc_Els n (fc_cb a_masks) cr (c + 1) → J (nI (fc_off (fc_cb a_masks) n (c + 1))) (nI (c + 1)) a_tableDegree a_tableWeight a_tableEnd a_source a_ids a_values a_masks a_expr a_constant a_rowStart a_rowCols a_colStart cr a_rowLeft a_rowUsed a_queue a_pivotCol a_pivotRow a_denseMask a_denseValue) :
    ∀ (d r : Nat) (cr : Nat → Int32), r + d = n → fc_Els n (fc_cb a_masks) cr c → fc_Elc n (fc_cb a_masks) cr c r → wX_buildColumns_21 post J (nI c) (nI k) (nI cc) f_allWords f_running (nI e) f_weightTotal f_mixedSeed (nI n) f_state f_rankFound f_peelMask f_activeMask f_inactiveMask f_queueHead f_queueTail f_pivotCount f_denseRank f_contradiction (d + 1) (nI (fc_off (fc_cb a_masks) n c + fc_cnt (fc_cb a_masks c) r)) (nI r) a_tableDegree a_tableWeight a_tableEnd a_source a_ids a_values a_masks a_expr a_constant a_rowStart a_rowCols a_colStart cr a_rowLeft a_rowUsed a_queue a_pivotCol a_pivotRow a_denseMask a_denseValue := by
  have hb := fc_24 hn hk
  intro d
  induction d with
  | zero =>
    intro r cr hr h1 h2
    have e : r = n := by omega
    subst e
    exact br_t (nI_le (by omega) (by omega)) (nm_r (nI_1 c) (h cr (fc_Els_s h1 h2)))
  | succ d ih =>
    intro r cr hr h1 h2
    refine br_f (nI_ge (by omega) (by omega)) ⟨vp_in_nI (by omega) (by omega), ?_⟩
    rw [nI_clamp (n := r) (by omega)]
    refine fc_Xhas (by omega) (fun hz => ?_) (fun hz => ?_) _
    · refine br_t rfl (nm_r (nI_1 r) ?_)
      have := ih (r + 1) cr (by omega) h1 (fc_Elc_k h2 hz)
      rw [fc_cnt_f (T := fc_cb a_masks c) hz] at this
      exact this
    · have hlt := fc_off_i (b := fc_cb a_masks) hb hc (c := r) (by omega) hz
      refine br_f (by decide) ⟨vp_in_nI hlt (by omega), ?_⟩
      rw [nI_clamp (by omega)]
      refine nm_e (nm_r (nI_1 _) (nm_r (nI_1 r) ?_))
      have := ih (r + 1) _ (by omega) (fc_Els_u (x := nI r) h1 (i := fc_off (fc_cb a_masks) n c + fc_cnt (fc_cb a_masks c) r) (by omega)) (fc_Elc_u h2)
      rw [fc_cnt_t (T := fc_cb a_masks c) hz] at this
      exact this
theorem fc_XbC4 (hn : n ≤ 48) (hk : k ≤ 24)
    (h : ∀ cs cr : Nat → Int32, fc_Csr k n (fc_cb a_masks) cs cr → post ((nI k), (nI cc), f_allWords, f_running, (nI e), f_weightTotal, f_mixedSeed, (nI n), f_state, f_rankFound, f_peelMask, f_activeMask, f_inactiveMask, f_queueHead, f_queueTail, f_pivotCount, f_denseRank, f_contradiction, a_tableDegree, a_tableWeight, a_tableEnd, a_source, a_ids, a_values, a_masks, a_expr, a_constant, a_rowStart, a_rowCols, cs, cr, a_rowLeft, a_rowUsed, a_queue, a_pivotCol, a_pivotRow, a_denseMask, a_denseValue)) :
    ∀ (d c : Nat) (cs cr : Nat → Int32), c + d = k → (∀ r', r' < c → cs r' = nI (fc_off (fc_cb a_masks) n r')) → fc_Els n (fc_cb a_masks) cr c →
      wX_buildColumns_4 post (nI k) (nI cc) f_allWords f_running (nI e) f_weightTotal f_mixedSeed (nI n) f_state f_rankFound f_peelMask f_activeMask f_inactiveMask f_queueHead f_queueTail f_pivotCount f_denseRank f_contradiction (d + 1) (nI (fc_off (fc_cb a_masks) n c)) (nI c) a_tableDegree a_tableWeight a_tableEnd a_source a_ids a_values a_masks a_expr a_constant a_rowStart a_rowCols cs cr a_rowLeft a_rowUsed a_queue a_pivotCol a_pivotRow a_denseMask a_denseValue := by
  intro d
  induction d with
  | zero =>
    intro c cs cr hc h1 h2
    have e : c = k := by omega
    subst e
    refine br_t (nI_le (by omega) (by omega)) ⟨vp_in_nI (by omega) (by omega), ?_⟩
    rw [nI_clamp (by omega)]
    refine nm_e (h _ cr ⟨fun r' hr' => ?_, h2⟩)
    by_cases e : r' = c
    · rw [e, pk_us]
    · rw [pk_un e]; exact h1 r' (by omega)
  | succ d ih =>
    intro c cs cr hc h1 h2
    refine br_f (nI_ge (by omega) (by omega)) ⟨vp_in_nI (by omega) (by omega), ?_⟩
    rw [nI_clamp (by omega)]
    refine nm_e ⟨n + 1, ?_⟩
    refine fc_XbC21 hn hk (by omega) (fun cr' h2' => ih (c + 1) _ cr' (by omega) (fun r' hr' => ?_) h2') n 0 cr (Nat.zero_add n) h2 (fun c' hc' => by omega)
    by_cases e : r' = c
    · rw [e, pk_us]
    · rw [pk_un e]; exact h1 r' (by omega)
theorem fc_XbuildColumns (hn : n ≤ 48) (hk : k ≤ 24)
    (h : ∀ cs cr : Nat → Int32, fc_Csr k n (fc_cb a_masks) cs cr → post ((nI k), (nI cc), f_allWords, f_running, (nI e), f_weightTotal, f_mixedSeed, (nI n), f_state, f_rankFound, f_peelMask, f_activeMask, f_inactiveMask, f_queueHead, f_queueTail, f_pivotCount, f_denseRank, f_contradiction, a_tableDegree, a_tableWeight, a_tableEnd, a_source, a_ids, a_values, a_masks, a_expr, a_constant, a_rowStart, a_rowCols, cs, cr, a_rowLeft, a_rowUsed, a_queue, a_pivotCol, a_pivotRow, a_denseMask, a_denseValue)) : wpX_buildColumns post ((nI k), (nI cc), f_allWords, f_running, (nI e), f_weightTotal, f_mixedSeed, (nI n), f_state, f_rankFound, f_peelMask, f_activeMask, f_inactiveMask, f_queueHead, f_queueTail, f_pivotCount, f_denseRank, f_contradiction, a_tableDegree, a_tableWeight, a_tableEnd, a_source, a_ids, a_values, a_masks, a_expr, a_constant, a_rowStart, a_rowCols, a_colStart, a_colRows, a_rowLeft, a_rowUsed, a_queue, a_pivotCol, a_pivotRow, a_denseMask, a_denseValue) :=
  Exists.intro _ (fc_XbC4 hn hk h k 0 _ _ (Nat.zero_add k) (fun r' hr' => by omega) (fun r' hr' => by omega))
/-! walking along a row or a column -/
theorem fc_Xfold_i {no w r c : Nat} {b : Nat → Nat → Bool} {st el : Nat → Int32} (hw : no * w ≤ 1152) (hC : fc_Csr no w b st el) (hr : r < no) (hc : c < w) (hb : b r c = true) :
    fc_off b w r + fc_cnt (b r) c < 1152 ∧ fc_off b w r + fc_cnt (b r) c < fc_off b w (r + 1) ∧ el (fc_off b w r + fc_cnt (b r) c) = nI c := by
  refine ⟨fc_off_i hw hr hc hb, ?_, hC.2 r hr c hc hb⟩
  have := fc_cnt_lt (T := b r) hc hb
  simp only [fc_off]; omega
theorem fc_XfM_l {post : Int32 → Prop} {r : Nat} (hn : n ≤ 48) (hk : k ≤ 24) (hr : r < n) (hC : fc_Csr n k (fc_rb a_masks) a_rowStart a_rowCols) (h : post (fc_fx a_expr (bt (a_masks r)) k)) :
    ∀ (d c : Nat) (s : Int32), c + d = k → s = fc_fx a_expr (bt (a_masks r)) c → ∀ f : Nat, fc_cnt (fc_rb a_masks r) k < f + fc_cnt (fc_rb a_masks r) c → wX_foldMask_9 post (nI r) (nI k) (nI cc) f_allWords f_running (nI e) f_weightTotal f_mixedSeed (nI n) f_state f_rankFound f_peelMask f_activeMask f_inactiveMask f_queueHead f_queueTail f_pivotCount f_denseRank f_contradiction a_tableDegree a_tableWeight a_tableEnd a_source a_ids a_values a_masks a_expr a_constant a_rowStart a_rowCols a_colStart a_colRows a_rowLeft a_rowUsed a_queue a_pivotCol a_pivotRow a_denseMask a_denseValue f s (nI (fc_off (fc_rb a_masks) k r + fc_cnt (fc_rb a_masks r) c)) := by
  have e1 : a_rowStart (nI r + 1).toNatClampNeg = nI (fc_off (fc_rb a_masks) k (r + 1)) := by rw [nI_1, nI_clamp (by omega)]; exact hC.1 (r + 1) hr
  have i1 : vp_in (nI r + 1) 49 := by rw [nI_1]; exact vp_in_nI (by omega) (by omega)
  have hw := fc_48 hn hk
  have hb1 := fc_off_b (b := fc_rb a_masks) hw (r := r + 1) hr
  intro d
  induction d with
  | zero =>
    intro c s hc hs f hf
    have e : c = k := by omega
    subst e
    obtain ⟨f, rfl⟩ : ∃ f', f = f' + 1 := ⟨f - 1, by omega⟩
    refine ⟨i1, ?_⟩
    rw [e1, hs]
    exact br_t (nI_le (by simp only [fc_off]; omega) (by simp only [fc_off] at hb1; omega)) h
  | succ d ih =>
    intro c s hc hs f hf
    cases hb : bt (a_masks r) c
    · have := ih (c + 1) s (by omega) (by rw [fc_fx_f hb]; exact hs) f (by rw [fc_cnt_f (T := fc_rb a_masks r) hb]; exact hf)
      rw [fc_cnt_f (T := fc_rb a_masks r) hb] at this
      exact this
    · obtain ⟨a1, a2, a3⟩ := fc_Xfold_i hw hC hr (c := c) (by omega) hb
      have hl := fc_cnt_lt (T := fc_rb a_masks r) (c := c) (d := k) (by omega) hb
      obtain ⟨f, rfl⟩ : ∃ f', f = f' + 1 := ⟨f - 1, by omega⟩
      have := ih (c + 1) (s ^^^ a_expr c) (by omega) (by rw [fc_fx_t hb, hs]) f (by rw [fc_cnt_t (T := fc_rb a_masks r) hb]; omega)
      rw [fc_cnt_t (T := fc_rb a_masks r) hb] at this
      refine ⟨i1, ?_⟩
      rw [e1]
      refine br_f (nI_ge a2 (by omega)) ⟨vp_in_nI a1 (by omega), ?_⟩
      rw [nI_clamp (n := fc_off (fc_rb a_masks) k r + fc_cnt (fc_rb a_masks r) c) (by omega), a3, nI_clamp (n := c) (by omega)]
      exact ⟨vp_in_nI (by omega) (by omega), nm_e (nm_r (nI_1 _) this)⟩
theorem fc_XfoldMask {post : Int32 → Prop} {r : Nat} (hn : n ≤ 48) (hk : k ≤ 24) (hr : r < n) (hC : fc_Csr n k (fc_rb a_masks) a_rowStart a_rowCols) (h : post (fc_fx a_expr (bt (a_masks r)) k)) : wpX_foldMask post ((nI k), (nI cc), f_allWords, f_running, (nI e), f_weightTotal, f_mixedSeed, (nI n), f_state, f_rankFound, f_peelMask, f_activeMask, f_inactiveMask, f_queueHead, f_queueTail, f_pivotCount, f_denseRank, f_contradiction, a_tableDegree, a_tableWeight, a_tableEnd, a_source, a_ids, a_values, a_masks, a_expr, a_constant, a_rowStart, a_rowCols, a_colStart, a_colRows, a_rowLeft, a_rowUsed, a_queue, a_pivotCol, a_pivotRow, a_denseMask, a_denseValue) (nI r) :=
  And.intro (vp_in_nI (by omega) (by omega)) (nm_r (by rw [nI_clamp (by omega)]; exact hC.1 r (by omega)) (Exists.intro _ (fc_XfM_l hn hk hr hC h k 0 0 (Nat.zero_add k) rfl _ (Nat.lt_succ_self _))))
theorem fc_XfV_l {post : Int32 → Prop} {r : Nat} (hn : n ≤ 48) (hk : k ≤ 24) (hr : r < n) (hC : fc_Csr n k (fc_rb a_masks) a_rowStart a_rowCols) (h : post (a_values r ^^^ fc_fx a_constant (bt (a_masks r)) k)) :
    ∀ (d c : Nat) (s : Int32), c + d = k → s = a_values r ^^^ fc_fx a_constant (bt (a_masks r)) c → ∀ f : Nat, fc_cnt (fc_rb a_masks r) k < f + fc_cnt (fc_rb a_masks r) c → wX_foldValue_14 post (nI r) (nI k) (nI cc) f_allWords f_running (nI e) f_weightTotal f_mixedSeed (nI n) f_state f_rankFound f_peelMask f_activeMask f_inactiveMask f_queueHead f_queueTail f_pivotCount f_denseRank f_contradiction a_tableDegree a_tableWeight a_tableEnd a_source a_ids a_values a_masks a_expr a_constant a_rowStart a_rowCols a_colStart a_colRows a_rowLeft a_rowUsed a_queue a_pivotCol a_pivotRow a_denseMask a_denseValue f s (nI (fc_off (fc_rb a_masks) k r + fc_cnt (fc_rb a_masks r) c)) := by
  have e1 : a_rowStart (nI r + 1).toNatClampNeg = nI (fc_off (fc_rb a_masks) k (r + 1)) := by rw [nI_1, nI_clamp (by omega)]; exact hC.1 (r + 1) hr
  have i1 : vp_in (nI r + 1) 49 := by rw [nI_1]; exact vp_in_nI (by omega) (by omega)
  have hw := fc_48 hn hk
  have hb1 := fc_off_b (b := fc_rb a_masks) hw (r := r + 1) hr
  intro d
  induction d with
  | zero =>
    intro c s hc hs f hf
    have e : c = k := by omega
    subst e
    obtain ⟨f, rfl⟩ : ∃ f', f = f' + 1 := ⟨f - 1, by omega⟩
    refine ⟨i1, ?_⟩
    rw [e1, hs]
    exact br_t (nI_le (by simp only [fc_off]; omega) (by simp only [fc_off] at hb1; omega)) h
  | succ d ih =>
    intro c s hc hs f hf
    cases hb : bt (a_masks r) c
    · have := ih (c + 1) s (by omega) (by rw [fc_fx_f hb]; exact hs) f (by rw [fc_cnt_f (T := fc_rb a_masks r) hb]; exact hf)
      rw [fc_cnt_f (T := fc_rb a_masks r) hb] at this
      exact this
    · obtain ⟨a1, a2, a3⟩ := fc_Xfold_i hw hC hr (c := c) (by omega) hb
      have hl := fc_cnt_lt (T := fc_rb a_masks r) (c := c) (d := k) (by omega) hb
      obtain ⟨f, rfl⟩ : ∃ f', f = f' + 1 := ⟨f - 1, by omega⟩
      have := ih (c + 1) (s ^^^ a_constant c) (by omega) (by rw [fc_fx_t hb, hs, fc_xa]) f (by rw [fc_cnt_t (T := fc_rb a_masks r) hb]; omega)
      rw [fc_cnt_t (T := fc_rb a_masks r) hb] at this
      refine ⟨i1, ?_⟩
      rw [e1]
      refine br_f (nI_ge a2 (by omega)) ⟨vp_in_nI a1 (by omega), ?_⟩
      rw [nI_clamp (n := fc_off (fc_rb a_masks) k r + fc_cnt (fc_rb a_masks r) c) (by omega), a3, nI_clamp (n := c) (by omega)]
      exact ⟨vp_in_nI (by omega) (by omega), nm_e (nm_r (nI_1 _) this)⟩
theorem fc_XfoldValue {post : Int32 → Prop} {r : Nat} (hn : n ≤ 48) (hk : k ≤ 24) (hr : r < n) (hC : fc_Csr n k (fc_rb a_masks) a_rowStart a_rowCols) (h : post (a_values r ^^^ fc_fx a_constant (bt (a_masks r)) k)) : wpX_foldValue post ((nI k), (nI cc), f_allWords, f_running, (nI e), f_weightTotal, f_mixedSeed, (nI n), f_state, f_rankFound, f_peelMask, f_activeMask, f_inactiveMask, f_queueHead, f_queueTail, f_pivotCount, f_denseRank, f_contradiction, a_tableDegree, a_tableWeight, a_tableEnd, a_source, a_ids, a_values, a_masks, a_expr, a_constant, a_rowStart, a_rowCols, a_colStart, a_colRows, a_rowLeft, a_rowUsed, a_queue, a_pivotCol, a_pivotRow, a_denseMask, a_denseValue) (nI r) :=
  And.intro (vp_in_nI (by omega) (by omega)) (nm_r (by rw [nI_clamp (by omega)]) (And.intro (vp_in_nI (by omega) (by omega)) (nm_r (by rw [nI_clamp (by omega)]; exact hC.1 r (by omega)) (Exists.intro _ (fc_XfV_l hn hk hr hC h k 0 _ (Nat.zero_add k) (fc_x0 _).symm _ (Nat.lt_succ_self _))))))
/-- the first active column of a row -/
theorem fc_XaC_l {post : Int32 → Prop} {r : Nat} (hn : n ≤ 48) (hk : k ≤ 24) (hr : r < n) (hC : fc_Csr n k (fc_rb a_masks) a_rowStart a_rowCols)
    (h0 : (∀ c, c < k → bt (a_masks r) c = true → bt f_activeMask c = false) → post (-1)) (h1 : ∀ c, c < k → bt (a_masks r) c = true → bt f_activeMask c = true → post (nI c)) :
    ∀ (d c : Nat), c + d = k → (∀ c', c' < c → bt (a_masks r) c' = true → bt f_activeMask c' = false) → ∀ f : Nat, fc_cnt (fc_rb a_masks r) k < f + fc_cnt (fc_rb a_masks r) c → wX_activeColumnOf_7 post (nI r) (nI k) (nI cc) f_allWords f_running (nI e) f_weightTotal f_mixedSeed (nI n) f_state f_rankFound f_peelMask f_activeMask f_inactiveMask f_queueHead f_queueTail f_pivotCount f_denseRank f_contradiction a_tableDegree a_tableWeight a_tableEnd a_source a_ids a_values a_masks a_expr a_constant a_rowStart a_rowCols a_colStart a_colRows a_rowLeft a_rowUsed a_queue a_pivotCol a_pivotRow a_denseMask a_denseValue f (nI (fc_off (fc_rb a_masks) k r + fc_cnt (fc_rb a_masks r) c)) := by
  have e1 : a_rowStart (nI r + 1).toNatClampNeg = nI (fc_off (fc_rb a_masks) k (r + 1)) := by rw [nI_1, nI_clamp (by omega)]; exact hC.1 (r + 1) hr
  have i1 : vp_in (nI r + 1) 49 := by rw [nI_1]; exact vp_in_nI (by omega) (by omega)
  have hw := fc_48 hn hk
  have hb1 := fc_off_b (b := fc_rb a_masks) hw (r := r + 1) hr
  intro d
  induction d with
  | zero =>
    intro c hc hs f hf
    have e : c = k := by omega
    subst e
    obtain ⟨f, rfl⟩ : ∃ f', f = f' + 1 := ⟨f - 1, by omega⟩
    refine ⟨i1, ?_⟩
    rw [e1]
    exact br_t (nI_le (by simp only [fc_off]; omega) (by simp only [fc_off] at hb1; omega)) (h0 hs)
  | succ d ih =>
    intro c hc hs f hf
    cases hb : bt (a_masks r) c
    · have := ih (c + 1) (by omega) (fun c' hc' hb' => by
        by_cases e : c' = c
        · rw [e, hb] at hb'; cases hb'
        · exact hs c' (by omega) hb') f (by rw [fc_cnt_f (T := fc_rb a_masks r) hb]; exact hf)
      rw [fc_cnt_f (T := fc_rb a_masks r) hb] at this
      exact this
    · obtain ⟨a1, a2, a3⟩ := fc_Xfold_i hw hC hr (c := c) (by omega) hb
      have hl := fc_cnt_lt (T := fc_rb a_masks r) (c := c) (d := k) (by omega) hb
      obtain ⟨f, rfl⟩ : ∃ f', f = f' + 1 := ⟨f - 1, by omega⟩
      refine ⟨i1, ?_⟩
      rw [e1]
      refine br_f (nI_ge a2 (by omega)) ⟨vp_in_nI a1 (by omega), ?_⟩
      rw [nI_clamp (n := fc_off (fc_rb a_masks) k r + fc_cnt (fc_rb a_masks r) c) (by omega), a3]
      refine fc_Xhas (by omega) (fun hz => ?_) (fun hz => ?_) _
      · have := ih (c + 1) (by omega) (fun c' hc' hb' => by
          by_cases e : c' = c
          · rw [e]; exact hz
          · exact hs c' (by omega) hb') f (by rw [fc_cnt_t (T := fc_rb a_masks r) hb]; omega)
        rw [fc_cnt_t (T := fc_rb a_masks r) hb] at this
        exact br_t rfl (nm_r (nI_1 _) this)
      · exact br_f (by decide) ⟨vp_in_nI a1 (by omega), h1 c (by omega) hb hz⟩
theorem fc_XactiveCol {post : Int32 → Prop} {r : Nat} (hn : n ≤ 48) (hk : k ≤ 24) (hr : r < n) (hC : fc_Csr n k (fc_rb a_masks) a_rowStart a_rowCols)
    (h0 : (∀ c, c < k → bt (a_masks r) c = true → bt f_activeMask c = false) → post (-1)) (h1 : ∀ c, c < k → bt (a_masks r) c = true → bt f_activeMask c = true → post (nI c)) : wpX_activeColumnOf post ((nI k), (nI cc), f_allWords, f_running, (nI e), f_weightTotal, f_mixedSeed, (nI n), f_state, f_rankFound, f_peelMask, f_activeMask, f_inactiveMask, f_queueHead, f_queueTail, f_pivotCount, f_denseRank, f_contradiction, a_tableDegree, a_tableWeight, a_tableEnd, a_source, a_ids, a_values, a_masks, a_expr, a_constant, a_rowStart, a_rowCols, a_colStart, a_colRows, a_rowLeft, a_rowUsed, a_queue, a_pivotCol, a_pivotRow, a_denseMask, a_denseValue) (nI r) :=
  And.intro (vp_in_nI (by omega) (by omega)) (nm_r (by rw [nI_clamp (by omega)]; exact hC.1 r (by omega)) (Exists.intro _ (fc_XaC_l hn hk hr hC h0 h1 k 0 (Nat.zero_add k) (fun c' hc' => by omega) _ (Nat.lt_succ_self _))))
end
end
section
/-! the component: peeling, inactivation; first the pure invariants -/
def fc_rem (A : Int32) (c : Nat) : Int32 := A &&& (((1 : Int32) <<< (nI c &&& 31)) ^^^ (-1))
theorem fc_rem_b {A : Int32} {c : Nat} (hc : c < 32) (i : Nat) : bt (fc_rem A c) i = (bt A i && !decide (i = c)) := by
  show bt (A &&& (fc_bit c ^^^ (-1))) i = _
  rw [b_and]
  rcases Nat.lt_or_ge i 32 with h | h
  · rw [fc_not _ h, fc_bit_b hc]
  · rw [b_big (x := A) h]; rfl
theorem fc_rem_s {A : Int32} {c : Nat} (hc : c < 32) : bt (fc_rem A c) c = false := by rw [fc_rem_b hc, decide_eq_true rfl]; exact Bool.and_false _
theorem fc_rem_n {A : Int32} {c i : Nat} (hc : c < 32) (h : i ≠ c) : bt (fc_rem A c) i = bt A i := by rw [fc_rem_b hc, decide_eq_false h]; exact Bool.and_true _
theorem fc_rem_t {A : Int32} {c i : Nat} (hc : c < 32) (h : bt (fc_rem A c) i = true) : bt A i = true ∧ i ≠ c := by
  by_cases e : i = c
  · rw [e, fc_rem_s hc] at h; cases h
  · rw [fc_rem_n hc e] at h; exact ⟨h, e⟩
/-- active columns left in row r -/
def fc_rl (k : Nat) (M : Nat → Int32) (A : Int32) (r : Nat) : Nat := fc_cnt (fun c => bt (M r) c && bt A c) k
theorem fc_rl_in {k : Nat} {M : Nat → Int32} {A : Int32} {r c : Nat} (hk : k ≤ 32) (hc : c < k) (hA : bt A c = true) (hb : bt (M r) c = true) : fc_rl k M A r = fc_rl k M (fc_rem A c) r + 1 := by
  unfold fc_rl
  rw [← fc_cnt_sf (T := fun c => bt (M r) c && bt A c) hc (by show (bt (M r) c && bt A c) = true; rw [hA, hb]; rfl)]
  refine congrArg (· + 1) (fc_cnt_congr fun i _ => ?_)
  by_cases e : i = c
  · rw [e, fc_set_s, fc_rem_s (by omega), Bool.and_false]
  · rw [fc_set_n e, fc_rem_n (by omega) e]
theorem fc_rl_out {k : Nat} {M : Nat → Int32} {A : Int32} {r c : Nat} (hk : k ≤ 32) (hc : c < k) (hb : bt (M r) c = false) : fc_rl k M (fc_rem A c) r = fc_rl k M A r := by
  refine fc_cnt_congr fun i _ => ?_
  by_cases e : i = c
  · rw [e, hb]; rfl
  · rw [fc_rem_n (by omega) e]
theorem fc_cnt_uni {T : Nat → Bool} {k c d : Nat} (h : fc_cnt T k ≤ 1) (hc : c < k) (hd : d < k) (tc : T c = true) (td : T d = true) : c = d := by
  refine Classical.byContradiction fun hn => ?_
  have e := fc_cnt_sf hc tc
  have p := fc_cnt_pos (T := fc_set T c false) hd (by rw [fc_set_n (fun q => hn q.symm)]; exact td)
  omega
/-- the queue: rows that came down to one active column -/
def fc_QJ (n m : Nat) (RL : Nat → Nat) (qu : Nat → Nat) (qt : Nat) (aq : Nat → Int32) : Prop :=
  (∀ i, i < qt → qu i < n ∧ aq i = nI (qu i) ∧ RL (qu i) ≤ 1) ∧ (∀ i j, i < qt → j < qt → qu i = qu j → i = j) ∧ (∀ r, r < m → RL r = 1 → ∃ i, i < qt ∧ qu i = r)
theorem fc_QJ_le {n m : Nat} {RL qu : Nat → Nat} {qt : Nat} {aq : Nat → Int32} (h : fc_QJ n m RL qu qt aq) : qt ≤ n := by
  rw [← fc_img_cnt (fun i hi => (h.1 i hi).1) h.2.1]
  exact fc_cnt_le _ n
theorem fc_QJ_cg {n m : Nat} {RL RL' qu : Nat → Nat} {qt : Nat} {aq : Nat → Int32} (h : fc_QJ n m RL qu qt aq) (hm : m ≤ n) (e : ∀ r, r < n → RL r = RL' r) : fc_QJ n m RL' qu qt aq :=
  ⟨fun i hi => ⟨(h.1 i hi).1, (h.1 i hi).2.1, by rw [← e _ (h.1 i hi).1]; exact (h.1 i hi).2.2⟩, h.2.1, fun r hr h1 => h.2.2 r hr (by rw [e r (by omega)]; exact h1)⟩
/-- a row that comes down to one enters -/
theorem fc_QJ_push {n m m' : Nat} {RL RL' qu : Nat → Nat} {qt r : Nat} {aq : Nat → Int32} (h : fc_QJ n m RL qu qt aq) (hr : r < n) (hnew : ∀ i, i < qt → qu i ≠ r) (h1 : RL' r = 1)
    (ho : ∀ r', r' < n → r' ≠ r → RL' r' = RL r') (hm : ∀ r', r' < m' → r' ≠ r → r' < m) (hmn : m' ≤ n) : fc_QJ n m' RL' (fc_up qu qt r) (qt + 1) (upd aq qt (nI r)) := by
  have us : fc_up qu qt r qt = r := if_pos rfl
  have un : ∀ i, i < qt → fc_up qu qt r i = qu i := fun i hi => if_neg (by omega)
  refine ⟨fun i hi => ?_, fun i j hi hj e => ?_, fun r' hr' e => ?_⟩
  · by_cases q : i = qt
    · rw [q, us, pk_us, h1]; exact ⟨hr, rfl, Nat.le_refl _⟩
    · have hi' : i < qt := by omega
      rw [un i hi', pk_un q, ho _ (h.1 i hi').1 (hnew i hi')]; exact h.1 i hi'
  · by_cases q : i = qt
    · by_cases q' : j = qt
      · rw [q, q']
      · rw [q, us, un j (by omega)] at e; exact absurd e.symm (hnew j (by omega))
    · by_cases q' : j = qt
      · rw [q', us, un i (by omega)] at e; exact absurd e (hnew i (by omega))
      · rw [un i (by omega), un j (by omega)] at e; exact h.2.1 i j (by omega) (by omega) e
  · by_cases q : r' = r
    · exact ⟨qt, by omega, by rw [us, q]⟩
    · rw [ho r' (by omega) q] at e
      obtain ⟨i, hi, z⟩ := h.2.2 r' (hm r' hr' q) e
      exact ⟨i, by omega, by rw [un i hi]; exact z⟩
/-- a row that loses a column and doesn't come down to one -/
theorem fc_QJ_dec {n : Nat} {RL RL' qu : Nat → Nat} {qt r : Nat} {aq : Nat → Int32} (h : fc_QJ n n RL qu qt aq) (h1 : RL' r ≠ 1) (hle : RL' r ≤ RL r) (ho : ∀ r', r' < n → r' ≠ r → RL' r' = RL r') : fc_QJ n n RL' qu qt aq := by
  refine ⟨fun i hi => ⟨(h.1 i hi).1, (h.1 i hi).2.1, ?_⟩, h.2.1, fun r' hr' e => ?_⟩
  · by_cases q : qu i = r
    · have := (h.1 i hi).2.2
      rw [q] at this ⊢; omega
    · rw [ho _ (h.1 i hi).1 q]; exact (h.1 i hi).2.2
  · by_cases q : r' = r
    · rw [q] at e; exact absurd e h1
    · rw [ho r' hr' q] at e; exact h.2.2 r' hr' e
/-- the pivots -/
def fc_PV (k n q : Nat) (M : Nat → Int32) (A I : Int32) (pc pr : Nat → Nat) (apc apr ru : Nat → Int32) : Prop :=
  (∀ j, j < q → apc j = nI (pc j) ∧ apr j = nI (pr j) ∧ pc j < k ∧ pr j < n ∧ bt A (pc j) = false ∧ bt I (pc j) = false ∧ bt (M (pr j)) (pc j) = true ∧
    ∀ c, c < k → bt (M (pr j)) c = true → c = pc j ∨ bt I c = true ∨ ∃ j', j' < j ∧ pc j' = c) ∧
  (∀ i j, i < q → j < q → pc i = pc j → i = j) ∧ (∀ c, c < k → bt A c = true ∨ bt I c = true ∨ ∃ j, j < q ∧ pc j = c) ∧
  (∀ c, bt A c = true → bt I c = false) ∧ fc_In k A ∧ fc_In k I ∧ (∀ r, r < n → (ru r = 0 ↔ ¬ ∃ j, j < q ∧ pr j = r))
theorem fc_PV_0 {k n : Nat} {M : Nat → Int32} {pc pr : Nat → Nat} {apc apr ru : Nat → Int32} (hk : k < 32) (hu : ∀ r, r < n → ru r = 0) : fc_PV k n 0 M (fc_aw k) 0 pc pr apc apr ru := by
  refine ⟨fun j hj => by omega, fun i j hi => by omega, fun c hc => Or.inl ?_, fun c _ => b_0 c, fun i hi => ?_, fc_In0 k, fun r hr => ⟨fun _ ⟨j, hj, _⟩ => by omega, fun _ => hu r hr⟩⟩
  · rw [fc_aw_b hk]; exact decide_eq_true hc
  · rw [fc_aw_b hk]; exact decide_eq_false (by omega)
section
variable {k n q : Nat} {M : Nat → Int32} {A I : Int32} {pc pr : Nat → Nat} {apc apr ru : Nat → Int32}
theorem fc_PV_lt (h : fc_PV k n q M A I pc pr apc apr ru) {c : Nat} (hc : c < k) (hA : bt A c = true) : q < k := by
  have e1 := fc_img_cnt (p := pc) (k := k) (r := q) (fun i hi => (h.1 i hi).2.2.1) h.2.1
  have e2 := fc_cnt_st (T := fc_img pc q) hc (fc_img_f fun i hi e => by
    have := (h.1 i hi).2.2.2.2.1
    rw [e, hA] at this; cases this)
  have e3 := fc_cnt_le (fc_set (fc_img pc q) c true) k
  omega
theorem fc_PV_piv (hk : k ≤ 32) (h : fc_PV k n q M A I pc pr apc apr ru) {r c : Nat} (hr : r < n) (hc : c < k) (hb : bt (M r) c = true) (hA : bt A c = true)
    (hu : ∀ d, d < k → bt (M r) d = true → bt A d = true → d = c) : fc_PV k n (q + 1) M (fc_rem A c) I (fc_up pc q c) (fc_up pr q r) (upd apc q (nI c)) (upd apr q (nI r)) (upd ru r 1) := by
  obtain ⟨h1, h2, h3, h4, h5, h6, h7⟩ := h
  have us : ∀ (p : Nat → Nat) (x : Nat), fc_up p q x q = x := fun p x => if_pos rfl
  have un : ∀ (p : Nat → Nat) (x i : Nat), i < q → fc_up p q x i = p i := fun p x i hi => if_neg (by omega)
  have nc : ∀ i, i < q → pc i ≠ c := fun i hi e => by
    have := (h1 i hi).2.2.2.2.1
    rw [e, hA] at this; cases this
  refine ⟨fun j hj => ?_, fun i j hi hj e => ?_, fun d hd => ?_, fun d hd => h4 d (fc_rem_t (by omega) hd).1, fun i hi => ?_, h6, fun r' hr' => ?_⟩
  · by_cases e : j = q
    · rw [e, us, us, pk_us, pk_us]
      refine ⟨rfl, rfl, hc, hr, fc_rem_s (by omega), h4 c hA, hb, fun d hd hbd => ?_⟩
      rcases h3 d hd with z | z | ⟨i, hi, z⟩
      · exact Or.inl (hu d hd hbd z)
      · exact Or.inr (Or.inl z)
      · exact Or.inr (Or.inr ⟨i, hi, by rw [un _ _ i hi]; exact z⟩)
    · have hj' : j < q := by omega
      obtain ⟨a1, a2, a3, a4, a5, a6, a7, a8⟩ := h1 j hj'
      rw [un _ _ j hj', un _ _ j hj', pk_un e, pk_un e]
      refine ⟨a1, a2, a3, a4, by rw [fc_rem_n (by omega) (nc j hj')]; exact a5, a6, a7, fun d hd hbd => ?_⟩
      rcases a8 d hd hbd with z | z | ⟨i, hi, z⟩
      · exact Or.inl z
      · exact Or.inr (Or.inl z)
      · exact Or.inr (Or.inr ⟨i, hi, by rw [un _ _ i (by omega)]; exact z⟩)
  · by_cases q1 : i = q
    · by_cases q2 : j = q
      · rw [q1, q2]
      · rw [q1, us, un _ _ j (by omega)] at e; exact absurd e.symm (nc j (by omega))
    · by_cases q2 : j = q
      · rw [q2, us, un _ _ i (by omega)] at e; exact absurd e (nc i (by omega))
      · rw [un _ _ i (by omega), un _ _ j (by omega)] at e; exact h2 i j (by omega) (by omega) e
  · by_cases e : d = c
    · exact Or.inr (Or.inr ⟨q, by omega, by rw [us, e]⟩)
    · rcases h3 d hd with z | z | ⟨i, hi, z⟩
      · exact Or.inl (by rw [fc_rem_n (by omega) e]; exact z)
      · exact Or.inr (Or.inl z)
      · exact Or.inr (Or.inr ⟨i, by omega, by rw [un _ _ i hi]; exact z⟩)
  · cases z : bt (fc_rem A c) i
    · rfl
    · have := (fc_rem_t (by omega) z).1
      rw [h5 i hi] at this; cases this
  · by_cases e : r' = r
    · rw [e, pk_us]
      exact ⟨fun z => absurd z (by decide), fun z => absurd ⟨q, by omega, us _ _⟩ z⟩
    · rw [pk_un e, h7 r' hr']
      refine not_congr ⟨fun ⟨i, hi, z⟩ => ⟨i, by omega, by rw [un _ _ i hi]; exact z⟩, fun ⟨i, hi, z⟩ => ?_⟩
      by_cases ei : i = q
      · rw [ei, us] at z; exact absurd z.symm e
      · rw [un _ _ i (by omega)] at z; exact ⟨i, by omega, z⟩
theorem fc_or_b {I : Int32} {c : Nat} (hc : c < 32) (i : Nat) : bt (I ||| ((1 : Int32) <<< (nI c &&& 31))) i = (bt I i || decide (i = c)) := by
  show bt (I ||| fc_bit c) i = _
  rw [b_or, fc_bit_b hc]
theorem fc_PV_ina (hk : k ≤ 32) (h : fc_PV k n q M A I pc pr apc apr ru) {c : Nat} (hc : c < k) (hA : bt A c = true) : fc_PV k n q M (fc_rem A c) (I ||| ((1 : Int32) <<< (nI c &&& 31))) pc pr apc apr ru := by
  obtain ⟨h1, h2, h3, h4, h5, h6, h7⟩ := h
  have nc : ∀ i, i < q → pc i ≠ c := fun i hi e => by
    have := (h1 i hi).2.2.2.2.1
    rw [e, hA] at this; cases this
  have up : ∀ d, bt I d = true → bt (I ||| ((1 : Int32) <<< (nI c &&& 31))) d = true := fun d hd => by rw [fc_or_b (by omega), hd]; rfl
  refine ⟨fun j hj => ?_, h2, fun d hd => ?_, fun d hd => ?_, fun i hi => ?_, fun i hi => ?_, h7⟩
  · obtain ⟨a1, a2, a3, a4, a5, a6, a7, a8⟩ := h1 j hj
    refine ⟨a1, a2, a3, a4, by rw [fc_rem_n (by omega) (nc j hj)]; exact a5, by rw [fc_or_b (by omega), a6, decide_eq_false (nc j hj)]; rfl, a7, fun d hd hbd => ?_⟩
    rcases a8 d hd hbd with z | z | z
    · exact Or.inl z
    · exact Or.inr (Or.inl (up d z))
    · exact Or.inr (Or.inr z)
  · by_cases e : d = c
    · exact Or.inr (Or.inl (by rw [fc_or_b (by omega), decide_eq_true e, Bool.or_true]))
    · rcases h3 d hd with z | z | z
      · exact Or.inl (by rw [fc_rem_n (by omega) e]; exact z)
      · exact Or.inr (Or.inl (up d z))
      · exact Or.inr (Or.inr z)
  · obtain ⟨z1, z2⟩ := fc_rem_t (by omega) hd
    rw [fc_or_b (by omega), h4 d z1, decide_eq_false z2]; rfl
  · cases z : bt (fc_rem A c) i
    · rfl
    · have := (fc_rem_t (by omega) z).1
      rw [h5 i hi] at this; cases this
  · rw [fc_or_b (by omega), h6 i hi, decide_eq_false (by omega)]; rfl
theorem fc_PV_tri (h : fc_PV k n q M A I pc pr apc apr ru) : fc_Tri k n q M (I ||| A) pc pr := by
  obtain ⟨h1, h2, h3, h4, h5, h6, h7⟩ := h
  refine ⟨fun j hj => ?_, h2, fun d hd => ?_, fun i hi => by rw [b_or, h5 i hi, h6 i hi]; rfl⟩
  · obtain ⟨a1, a2, a3, a4, a5, a6, a7, a8⟩ := h1 j hj
    refine ⟨a3, a4, by rw [b_or, a5, a6]; rfl, a7, fun d hd hbd => ?_⟩
    rcases a8 d hd hbd with z | z | z
    · exact Or.inl z
    · exact Or.inr (Or.inl (by rw [b_or, z]; rfl))
    · exact Or.inr (Or.inr z)
  · rcases h3 d hd with z | z | z
    · exact Or.inl (by rw [b_or, z, Bool.or_true])
    · exact Or.inl (by rw [b_or, z]; rfl)
    · exact Or.inr z
theorem fc_PV_q (h : fc_PV k n q M A I pc pr apc apr ru) : q ≤ k := by
  rw [← fc_img_cnt (p := pc) (k := k) (r := q) (fun i hi => (h.1 i hi).2.2.1) h.2.1]
  exact fc_cnt_le _ k
end
/-- the whole state of the peeling -/
def fc_TI (k n : Nat) (M : Nat → Int32) (A I : Int32) (q qh qt : Nat) (pc pr : Nat → Nat) (apc apr ru rl aq : Nat → Int32) (qu : Nat → Nat) : Prop :=
  fc_PV k n q M A I pc pr apc apr ru ∧ (∀ r, r < n → rl r = nI (fc_rl k M A r)) ∧ fc_QJ n n (fc_rl k M A) qu qt aq ∧ qh ≤ qt ∧ (∀ i, i < qh → fc_rl k M A (qu i) = 0)
end
section
/-! the component: the walk of triangulate -/
section
variable {k cc e n : Nat} {f_allWords f_running f_weightTotal f_mixedSeed f_state f_rankFound f_peelMask f_activeMask f_inactiveMask f_queueHead f_queueTail f_pivotCount f_denseRank f_contradiction seed : Int32} {a_tableDegree a_tableWeight a_tableEnd a_source a_ids a_values a_masks a_expr a_constant a_rowStart a_rowCols a_colStart a_colRows a_rowLeft a_rowUsed a_queue a_pivotCol a_pivotRow a_denseMask a_denseValue rm rv : Nat → Int32}
variable {A I : Int32} {rl aq ru apc apr : Nat → Int32} {q qh qt : Nat} {pc pr qu : Nat → Nat}
theorem fc_Xenq {post : SX → Prop} {x : Int32} (h : qt < 48) (hp : post ((nI k), (nI cc), f_allWords, f_running, (nI e), f_weightTotal, f_mixedSeed, (nI n), f_state, f_rankFound, f_peelMask, f_activeMask, f_inactiveMask, f_queueHead, (nI (qt + 1)), f_pivotCount, f_denseRank, f_contradiction, a_tableDegree, a_tableWeight, a_tableEnd, a_source, a_ids, a_values, a_masks, a_expr, a_constant, a_rowStart, a_rowCols, a_colStart, a_colRows, a_rowLeft, a_rowUsed, (upd a_queue qt x), a_pivotCol, a_pivotRow, a_denseMask, a_denseValue)) : wpX_enqueue post ((nI k), (nI cc), f_allWords, f_running, (nI e), f_weightTotal, f_mixedSeed, (nI n), f_state, f_rankFound, f_peelMask, f_activeMask, f_inactiveMask, f_queueHead, (nI qt), f_pivotCount, f_denseRank, f_contradiction, a_tableDegree, a_tableWeight, a_tableEnd, a_source, a_ids, a_values, a_masks, a_expr, a_constant, a_rowStart, a_rowCols, a_colStart, a_colRows, a_rowLeft, a_rowUsed, a_queue, a_pivotCol, a_pivotRow, a_denseMask, a_denseValue) x := by
  refine br_f (nI_ge (b := 48) (by omega) (by omega)) ⟨vp_in_nI (by omega) (by omega), ?_⟩
  rw [nI_clamp (by omega)]
  exact nm_e (nm_r (nI_1 qt) hp)
/-- rows below r have lost the column -/
def fc_mixl (k : Nat) (M : Nat → Int32) (A A' : Int32) (r r' : Nat) : Nat := if r' < r then fc_rl k M A' r' else fc_rl k M A r'
theorem fc_mixl_o {M : Nat → Int32} {A' : Int32} {r r' : Nat} (h : r' ≠ r) : fc_mixl k M A A' (r + 1) r' = fc_mixl k M A A' r r' := by
  unfold fc_mixl
  by_cases z : r' < r
  · rw [if_pos z, if_pos (by omega)]
  · rw [if_neg z, if_neg (by omega)]
theorem fc_mixl_s {M : Nat → Int32} {A' : Int32} {r : Nat} : fc_mixl k M A A' (r + 1) r = fc_rl k M A' r := if_pos (Nat.lt_succ_self r)
theorem fc_mixl_r {M : Nat → Int32} {A' : Int32} {r : Nat} : fc_mixl k M A A' r r = fc_rl k M A r := if_neg (Nat.lt_irrefl r)
theorem fc_XrC_l {post : SX → Prop} {c : Nat} (hn : n ≤ 48) (hk : k ≤ 24) (hc : c < k) (hC : fc_Csr k n (fc_cb a_masks) a_colStart a_colRows) (hA : bt A c = true)
    (h : ∀ (rl' aq' : Nat → Int32) (qt' : Nat) (qu' : Nat → Nat), (∀ r, r < n → rl' r = nI (fc_rl k a_masks (fc_rem A c) r)) → fc_QJ n n (fc_rl k a_masks (fc_rem A c)) qu' qt' aq' → qt ≤ qt' → (∀ i, i < qt → qu' i = qu i) →
      post ((nI k), (nI cc), f_allWords, f_running, (nI e), f_weightTotal, f_mixedSeed, (nI n), f_state, f_rankFound, f_peelMask, (fc_rem A c), f_inactiveMask, f_queueHead, (nI qt'), f_pivotCount, f_denseRank, f_contradiction, a_tableDegree, a_tableWeight, a_tableEnd, a_source, a_ids, a_values, a_masks, a_expr, a_constant, a_rowStart, a_rowCols, a_colStart, a_colRows, rl', a_rowUsed, aq', a_pivotCol, a_pivotRow, a_denseMask, a_denseValue)) :
    ∀ (d r qt' : Nat) (rl' aq' : Nat → Int32) (qu' : Nat → Nat), r + d = n → (∀ r', r' < n → rl' r' = nI (fc_mixl k a_masks A (fc_rem A c) r r')) → fc_QJ n n (fc_mixl k a_masks A (fc_rem A c) r) qu' qt' aq' → qt ≤ qt' → (∀ i, i < qt → qu' i = qu i) →
      ∀ f : Nat, fc_cnt (fc_cb a_masks c) n < f + fc_cnt (fc_cb a_masks c) r → wX_removeColumn_21 post (nI c) f (nI (fc_off (fc_cb a_masks) n c + fc_cnt (fc_cb a_masks c) r)) (nI k) (nI cc) f_allWords f_running (nI e) f_weightTotal f_mixedSeed (nI n) f_state f_rankFound f_peelMask (fc_rem A c) f_inactiveMask f_queueHead (nI qt') f_pivotCount f_denseRank f_contradiction a_tableDegree a_tableWeight a_tableEnd a_source a_ids a_values a_masks a_expr a_constant a_rowStart a_rowCols a_colStart a_colRows rl' a_rowUsed aq' a_pivotCol a_pivotRow a_denseMask a_denseValue := by
  have e1 : a_colStart (nI c + 1).toNatClampNeg = nI (fc_off (fc_cb a_masks) n (c + 1)) := by rw [nI_1, nI_clamp (by omega)]; exact hC.1 (c + 1) hc
  have i1 : vp_in (nI c + 1) 25 := by rw [nI_1]; exact vp_in_nI (by omega) (by omega)
  have hw := fc_24 hn hk
  have hb1 := fc_off_b (b := fc_cb a_masks) hw (r := c + 1) hc
  intro d
  induction d with
  | zero =>
    intro r qt' rl' aq' qu' hr h1 h2 h3 h4 f hf
    have e : r = n := by omega
    subst e
    obtain ⟨f, rfl⟩ : ∃ f', f = f' + 1 := ⟨f - 1, by omega⟩
    refine ⟨i1, ?_⟩
    rw [e1]
    refine br_t (nI_le (by simp only [fc_off]; omega) (by simp only [fc_off] at hb1; omega)) (h rl' aq' qt' qu' (fun r' hr' => ?_) (fc_QJ_cg h2 (Nat.le_refl _) fun r' hr' => ?_) h3 h4)
    · rw [h1 r' hr']
      unfold fc_mixl
      rw [if_pos hr']
    · exact if_pos hr'
  | succ d ih =>
    intro r qt' rl' aq' qu' hr h1 h2 h3 h4 f hf
    cases hb : bt (a_masks r) c
    · have := ih (r + 1) qt' rl' aq' qu' (by omega) (fun r' hr' => ?_) (fc_QJ_cg h2 (Nat.le_refl _) fun r' hr' => ?_) h3 h4 f (by rw [fc_cnt_f (T := fc_cb a_masks c) hb]; exact hf)
      · rw [fc_cnt_f (T := fc_cb a_masks c) hb] at this
        exact this
      · rw [h1 r' hr']
        by_cases er : r' = r
        · rw [er, fc_mixl_s, fc_mixl_r, fc_rl_out (by omega) hc hb]
        · rw [fc_mixl_o er]
      · by_cases er : r' = r
        · rw [er, fc_mixl_s, fc_mixl_r, fc_rl_out (by omega) hc hb]
        · rw [fc_mixl_o er]
    · obtain ⟨a1, a2, a3⟩ := fc_Xfold_i hw hC hc (c := r) (by omega) hb
      have hl := fc_cnt_lt (T := fc_cb a_masks c) (c := r) (d := n) (by omega) hb
      have hrl := fc_rl_in (M := a_masks) (r := r) (by omega) hc hA hb
      have hrk : fc_rl k a_masks A r ≤ k := fc_cnt_le _ _
      obtain ⟨f, rfl⟩ : ∃ f', f = f' + 1 := ⟨f - 1, by omega⟩
      have i2 : vp_in (nI r) 48 := vp_in_nI (by omega) (by omega)
      refine ⟨i1, ?_⟩
      rw [e1]
      refine br_f (nI_ge a2 (by omega)) ⟨vp_in_nI a1 (by omega), ?_⟩
      rw [nI_clamp (n := fc_off (fc_cb a_masks) n c + fc_cnt (fc_cb a_masks c) r) (by omega)]
      refine nm_r a3 ⟨i2, i2, ?_⟩
      rw [nI_clamp (n := r) (by omega), h1 r (by omega), fc_mixl_r, hrl, nI_pred]
      refine nm_e ⟨i2, ?_⟩
      rw [pk_us]
      have h1' : ∀ r', r' < n → upd rl' r (nI (fc_rl k a_masks (fc_rem A c) r)) r' = nI (fc_mixl k a_masks A (fc_rem A c) (r + 1) r') := fun r' hr' => by
        by_cases er : r' = r
        · rw [er, pk_us, fc_mixl_s]
        · rw [pk_un er, fc_mixl_o er]; exact h1 r' hr'
      refine pk_eq (fc_rl k a_masks (fc_rem A c) r) 1 (fun z => ?_) (fun z => ?_)
      · have hJ : fc_QJ n n (fc_mixl k a_masks A (fc_rem A c) (r + 1)) (fc_up qu' qt' r) (qt' + 1) (upd aq' qt' (nI r)) := by
          refine fc_QJ_push h2 (by omega) (fun i hi e => ?_) (by rw [fc_mixl_s]; exact z) (fun r' hr' er => fc_mixl_o er) (fun r' hr' _ => hr') (Nat.le_refl _)
          have := (h2.1 i hi).2.2
          rw [e, fc_mixl_r] at this
          omega
        have hq := fc_QJ_le hJ
        have := ih (r + 1) (qt' + 1) _ _ _ (by omega) h1' hJ (by omega) (fun i hi => by rw [← h4 i hi]; exact if_neg (by omega)) f (by rw [fc_cnt_t (T := fc_cb a_masks c) hb]; omega)
        rw [fc_cnt_t (T := fc_cb a_masks c) hb] at this
        exact fc_Xenq (by omega) (nm_r (nI_1 _) this)
      · have := ih (r + 1) qt' _ aq' qu' (by omega) h1' (fc_QJ_dec h2 (r := r) (by rw [fc_mixl_s]; exact z) (by rw [fc_mixl_s, fc_mixl_r]; omega) (fun r' hr' er => fc_mixl_o er)) h3 h4 f (by rw [fc_cnt_t (T := fc_cb a_masks c) hb]; omega)
        rw [fc_cnt_t (T := fc_cb a_masks c) hb] at this
        exact nm_r (nI_1 _) this
theorem fc_XremoveColumn {post : SX → Prop} {c : Nat} (hn : n ≤ 48) (hk : k ≤ 24) (hc : c < k) (hC : fc_Csr k n (fc_cb a_masks) a_colStart a_colRows) (hA : bt A c = true)
    (hrl : ∀ r, r < n → rl r = nI (fc_rl k a_masks A r)) (hq : fc_QJ n n (fc_rl k a_masks A) qu qt aq)
    (h : ∀ (rl' aq' : Nat → Int32) (qt' : Nat) (qu' : Nat → Nat), (∀ r, r < n → rl' r = nI (fc_rl k a_masks (fc_rem A c) r)) → fc_QJ n n (fc_rl k a_masks (fc_rem A c)) qu' qt' aq' → qt ≤ qt' → (∀ i, i < qt → qu' i = qu i) →
      post ((nI k), (nI cc), f_allWords, f_running, (nI e), f_weightTotal, f_mixedSeed, (nI n), f_state, f_rankFound, f_peelMask, (fc_rem A c), f_inactiveMask, f_queueHead, (nI qt'), f_pivotCount, f_denseRank, f_contradiction, a_tableDegree, a_tableWeight, a_tableEnd, a_source, a_ids, a_values, a_masks, a_expr, a_constant, a_rowStart, a_rowCols, a_colStart, a_colRows, rl', a_rowUsed, aq', a_pivotCol, a_pivotRow, a_denseMask, a_denseValue)) : wpX_removeColumn post ((nI k), (nI cc), f_allWords, f_running, (nI e), f_weightTotal, f_mixedSeed, (nI n), f_state, f_rankFound, f_peelMask, A, f_inactiveMask, f_queueHead, (nI qt), f_pivotCount, f_denseRank, f_contradiction, a_tableDegree, a_tableWeight, a_tableEnd, a_source, a_ids, a_values, a_masks, a_expr, a_constant, a_rowStart, a_rowCols, a_colStart, a_colRows, rl, a_rowUsed, aq, a_pivotCol, a_pivotRow, a_denseMask, a_denseValue) (nI c) := by
  refine nm_e ⟨vp_in_nI (by omega) (by omega), nm_r (e' := nI (fc_off (fc_cb a_masks) n c)) (by rw [nI_clamp (by omega)]; exact hC.1 c (by omega)) ⟨fc_cnt (fc_cb a_masks c) n + 1, ?_⟩⟩
  exact fc_XrC_l (qt := qt) (qu := qu) hn hk hc hC hA h n 0 qt rl aq qu (Nat.zero_add n) (fun r' hr' => by rw [hrl r' hr']; rfl) (fc_QJ_cg hq (Nat.le_refl _) fun r' _ => rfl) (Nat.le_refl _) (fun _ _ => rfl) _ (Nat.lt_succ_self _)
theorem fc_rl_mono {M : Nat → Int32} {c r : Nat} (hk : k ≤ 32) (hc : c < k) : fc_rl k M (fc_rem A c) r ≤ fc_rl k M A r := by
  refine fc_cnt_mono fun i _ h => ?_
  cases h1 : bt (M r) i
  · rw [h1] at h; cases h
  · rw [h1, Bool.true_and] at h
    rw [(fc_rem_t (by omega) h).1]; rfl
theorem fc_Xdr_l {post : SX → Prop} (Z : Int32 → Prop) (hn : n ≤ 48) (hk : k ≤ 24) (hC : fc_Csr k n (fc_cb a_masks) a_colStart a_colRows) (hR : fc_Csr n k (fc_rb a_masks) a_rowStart a_rowCols)
    (hZ : ∀ (A : Int32) (r c : Nat), Z A → r < n → c < k → bt (a_masks r) c = true → bt A c = true → (∀ d, d < k → bt (a_masks r) d = true → bt A d = true → d = c) → Z (fc_rem A c))
    (h : ∀ (A : Int32) (q qt : Nat) (pc pr : Nat → Nat) (apc apr ru rl aq : Nat → Int32) (qu : Nat → Nat), fc_TI k n a_masks A I q qt qt pc pr apc apr ru rl aq qu → Z A →
      post ((nI k), (nI cc), f_allWords, f_running, (nI e), f_weightTotal, f_mixedSeed, (nI n), f_state, f_rankFound, f_peelMask, A, I, (nI qt), (nI qt), (nI q), f_denseRank, f_contradiction, a_tableDegree, a_tableWeight, a_tableEnd, a_source, a_ids, a_values, a_masks, a_expr, a_constant, a_rowStart, a_rowCols, a_colStart, a_colRows, rl, ru, aq, apc, apr, a_denseMask, a_denseValue)) :
    ∀ (f t qh : Nat) (A : Int32) (q qt : Nat) (pc pr : Nat → Nat) (apc apr ru rl aq : Nat → Int32) (qu : Nat → Nat), n < f + qh → t ≤ qh → fc_TI k n a_masks A I q qh qt pc pr apc apr ru rl aq qu → Z A →
      wX_drainQueue_2 post f (nI t) (nI k) (nI cc) f_allWords f_running (nI e) f_weightTotal f_mixedSeed (nI n) f_state f_rankFound f_peelMask A I (nI qh) (nI qt) (nI q) f_denseRank f_contradiction a_tableDegree a_tableWeight a_tableEnd a_source a_ids a_values a_masks a_expr a_constant a_rowStart a_rowCols a_colStart a_colRows rl ru aq apc apr a_denseMask a_denseValue := by
  intro f
  induction f with
  | zero =>
    intro t qh A q qt pc pr apc apr ru rl aq qu hf ht hI hz
    have := fc_QJ_le hI.2.2.1
    have := hI.2.2.2.1
    omega
  | succ f ih =>
    intro t qh A q qt pc pr apc apr ru rl aq qu hf ht hI hz
    obtain ⟨p1, p2, p3, p4, p5⟩ := hI
    have hqn := fc_QJ_le p3
    by_cases e : qh = qt
    · subst e
      have P := h A q qh pc pr apc apr ru rl aq qu ⟨p1, p2, p3, p4, p5⟩ hz
      exact br_c (fun _ => P) (fun _ => br_t (nI_le (Nat.le_refl _) (by omega)) P)
    · obtain ⟨r1, r2, r3⟩ := p3.1 qh (by omega)
      refine br_f (nI_ge (b := 48) (by omega) (by omega)) (br_f (nI_ge (by omega) (by omega)) ⟨vp_in_nI (by omega) (by omega), ?_⟩)
      rw [nI_clamp (n := qh) (by omega)]
      refine nm_r r2 (nm_r (nI_1 qh) (fc_XactiveCol hn hk r1 hR (fun hno => ?_) (fun c hc hb hA => ?_)))
      · refine br_t (by decide) (nm_r (nI_1 t) (ih (t + 1) (qh + 1) A q qt pc pr apc apr ru rl aq qu (by omega) (by omega) ⟨p1, p2, p3, by omega, fun i hi => ?_⟩ hz))
        by_cases ei : i = qh
        · rw [ei]
          refine fc_cnt_0 fun c hc => ?_
          cases z : bt (a_masks (qu qh)) c
          · rfl
          · rw [hno c hc z]; rfl
        · exact p5 i (by omega)
      · have hq24 := fc_PV_lt p1 hc hA
        have hu : ∀ d, d < k → bt (a_masks (qu qh)) d = true → bt A d = true → d = c := fun d hd h1 h2 =>
          fc_cnt_uni (T := fun c => bt (a_masks (qu qh)) c && bt A c) r3 hd hc (by show (bt _ d && bt A d) = true; rw [h1, h2]; rfl) (by show (bt _ c && bt A c) = true; rw [hb, hA]; rfl)
        have iq : vp_in (nI q) 24 := vp_in_nI (by omega) (by omega)
        refine br_f (nI_pos (by omega)) (br_f (nI_ge (b := 24) (by omega) (by omega)) ⟨vp_in_nI (by omega) (by omega), ?_⟩)
        rw [nI_clamp (n := qu qh) (by omega), nI_clamp (n := q) (by omega)]
        refine nm_e ⟨iq, nm_e ⟨iq, nm_e (nm_r (nI_1 q) (fc_XremoveColumn (qu := qu) hn hk hc hC hA p2 p3 fun rl' aq' qt' qu' g1 g2 g3 g4 => ?_))⟩⟩
        refine nm_r (nI_1 t) (ih (t + 1) (qh + 1) _ (q + 1) qt' _ _ _ _ _ rl' aq' qu' (by omega) (by omega) ⟨fc_PV_piv (by omega) p1 r1 hc hb hA hu, g1, g2, by omega, fun i hi => ?_⟩ (hZ A _ c hz r1 hc hb hA hu))
        rw [g4 i (by omega)]
        by_cases ei : i = qh
        · rw [ei]
          have := fc_rl_in (M := a_masks) (r := qu qh) (by omega) hc hA hb
          omega
        · have := fc_rl_mono (A := A) (M := a_masks) (r := qu i) (by omega) hc
          have := p5 i (by omega)
          omega
theorem fc_Xdrain {post : SX → Prop} (Z : Int32 → Prop) (hn : n ≤ 48) (hk : k ≤ 24) (hC : fc_Csr k n (fc_cb a_masks) a_colStart a_colRows) (hR : fc_Csr n k (fc_rb a_masks) a_rowStart a_rowCols)
    (hZ : ∀ (A : Int32) (r c : Nat), Z A → r < n → c < k → bt (a_masks r) c = true → bt A c = true → (∀ d, d < k → bt (a_masks r) d = true → bt A d = true → d = c) → Z (fc_rem A c))
    (hI : fc_TI k n a_masks A I q qh qt pc pr apc apr ru rl aq qu) (hz : Z A)
    (h : ∀ (A : Int32) (q qt : Nat) (pc pr : Nat → Nat) (apc apr ru rl aq : Nat → Int32) (qu : Nat → Nat), fc_TI k n a_masks A I q qt qt pc pr apc apr ru rl aq qu → Z A →
      post ((nI k), (nI cc), f_allWords, f_running, (nI e), f_weightTotal, f_mixedSeed, (nI n), f_state, f_rankFound, f_peelMask, A, I, (nI qt), (nI qt), (nI q), f_denseRank, f_contradiction, a_tableDegree, a_tableWeight, a_tableEnd, a_source, a_ids, a_values, a_masks, a_expr, a_constant, a_rowStart, a_rowCols, a_colStart, a_colRows, rl, ru, aq, apc, apr, a_denseMask, a_denseValue)) :
    wpX_drainQueue post ((nI k), (nI cc), f_allWords, f_running, (nI e), f_weightTotal, f_mixedSeed, (nI n), f_state, f_rankFound, f_peelMask, A, I, (nI qh), (nI qt), (nI q), f_denseRank, f_contradiction, a_tableDegree, a_tableWeight, a_tableEnd, a_source, a_ids, a_values, a_masks, a_expr, a_constant, a_rowStart, a_rowCols, a_colStart, a_colRows, rl, ru, aq, apc, apr, a_denseMask, a_denseValue) :=
  Exists.intro _ (fc_Xdr_l Z hn hk hC hR hZ h (n + 1) 0 qh A q qt pc pr apc apr ru rl aq qu (by omega) (Nat.zero_le _) hI hz)
theorem fc_XcI51 {post : Int32 → Prop} {J : Int32 → Int32 → Int32 → Prop} {c : Nat} {x1 x2 : Int32} (hn : n ≤ 48) (hk : k ≤ 24) (hc : c < k) (hC : fc_Csr k n (fc_cb a_masks) a_colStart a_colRows)
    (h : ∀ b1 b2 : Int32, (b1 = x1 ∨ b1 = nI c) → J b1 b2 (nI (c + 1))) :
    ∀ (d r : Nat) (x4 : Int32), r + d = n → ∀ f : Nat, fc_cnt (fc_cb a_masks c) n < f + fc_cnt (fc_cb a_masks c) r → wX_columnToInactivate_51 post J x1 x2 (nI c) (nI k) (nI cc) f_allWords f_running (nI e) f_weightTotal f_mixedSeed (nI n) f_state f_rankFound f_peelMask f_activeMask f_inactiveMask f_queueHead f_queueTail f_pivotCount f_denseRank f_contradiction a_tableDegree a_tableWeight a_tableEnd a_source a_ids a_values a_masks a_expr a_constant a_rowStart a_rowCols a_colStart a_colRows a_rowLeft a_rowUsed a_queue a_pivotCol a_pivotRow a_denseMask a_denseValue f x4 (nI (fc_off (fc_cb a_masks) n c + fc_cnt (fc_cb a_masks c) r)) := by
  have e1 : a_colStart (nI c + 1).toNatClampNeg = nI (fc_off (fc_cb a_masks) n (c + 1)) := by rw [nI_1, nI_clamp (by omega)]; exact hC.1 (c + 1) hc
  have i1 : vp_in (nI c + 1) 25 := by rw [nI_1]; exact vp_in_nI (by omega) (by omega)
  have hw := fc_24 hn hk
  have hb1 := fc_off_b (b := fc_cb a_masks) hw (r := c + 1) hc
  intro d
  induction d with
  | zero =>
    intro r x4 hr f hf
    have e : r = n := by omega
    subst e
    obtain ⟨f, rfl⟩ : ∃ f', f = f' + 1 := ⟨f - 1, by omega⟩
    refine ⟨i1, ?_⟩
    rw [e1]
    exact br_t (nI_le (by simp only [fc_off]; omega) (by simp only [fc_off] at hb1; omega)) (br_c (fun _ => nm_r (nI_1 c) (h x1 x2 (Or.inl rfl))) (fun _ => nm_r (nI_1 c) (h (nI c) x4 (Or.inr rfl))))
  | succ d ih =>
    intro r x4 hr f hf
    cases hb : bt (a_masks r) c
    · have := ih (r + 1) x4 (by omega) f (by rw [fc_cnt_f (T := fc_cb a_masks c) hb]; exact hf)
      rw [fc_cnt_f (T := fc_cb a_masks c) hb] at this
      exact this
    · obtain ⟨a1, a2, a3⟩ := fc_Xfold_i hw hC hc (c := r) (by omega) hb
      have hl := fc_cnt_lt (T := fc_cb a_masks c) (c := r) (d := n) (by omega) hb
      obtain ⟨f, rfl⟩ : ∃ f', f = f' + 1 := ⟨f - 1, by omega⟩
      have st : ∀ x, wX_columnToInactivate_51 post J x1 x2 (nI c) (nI k) (nI cc) f_allWords f_running (nI e) f_weightTotal f_mixedSeed (nI n) f_state f_rankFound f_peelMask f_activeMask f_inactiveMask f_queueHead f_queueTail f_pivotCount f_denseRank f_contradiction a_tableDegree a_tableWeight a_tableEnd a_source a_ids a_values a_masks a_expr a_constant a_rowStart a_rowCols a_colStart a_colRows a_rowLeft a_rowUsed a_queue a_pivotCol a_pivotRow a_denseMask a_denseValue f x (nI (fc_off (fc_cb a_masks) n c + fc_cnt (fc_cb a_masks c) r + 1)) := fun x => by
        have := ih (r + 1) x (by omega) f (by rw [fc_cnt_t (T := fc_cb a_masks c) hb]; omega)
        rw [fc_cnt_t (T := fc_cb a_masks c) hb] at this
        exact this
      refine ⟨i1, ?_⟩
      rw [e1]
      refine br_f (nI_ge a2 (by omega)) ⟨vp_in_nI a1 (by omega), ?_⟩
      rw [nI_clamp (n := fc_off (fc_cb a_masks) n c + fc_cnt (fc_cb a_masks c) r) (by omega), a3]
      exact ⟨vp_in_nI (by omega) (by omega), br_c (fun _ => nm_e (nm_r (nI_1 _) (st _))) (fun _ => nm_r (nI_1 _) (st _))⟩
theorem fc_XcI6 {post : Int32 → Prop} (hn : n ≤ 48) (hk : k ≤ 24) (hC : fc_Csr k n (fc_cb a_masks) a_colStart a_colRows) (h : ∀ c, c < k → bt f_activeMask c = true → post (nI c)) :
    ∀ (d c : Nat) (x1 x2 : Int32), c + d = k → post x1 → wX_columnToInactivate_6 post (nI k) (nI cc) f_allWords f_running (nI e) f_weightTotal f_mixedSeed (nI n) f_state f_rankFound f_peelMask f_activeMask f_inactiveMask f_queueHead f_queueTail f_pivotCount f_denseRank f_contradiction a_tableDegree a_tableWeight a_tableEnd a_source a_ids a_values a_masks a_expr a_constant a_rowStart a_rowCols a_colStart a_colRows a_rowLeft a_rowUsed a_queue a_pivotCol a_pivotRow a_denseMask a_denseValue (d + 1) x1 x2 (nI c) := by
  intro d
  induction d with
  | zero => intro c x1 x2 hc hp; exact br_t (nI_le (by omega) (by omega)) hp
  | succ d ih =>
    intro c x1 x2 hc hp
    refine br_f (nI_ge (by omega) (by omega)) (fc_Xhas (by omega) (fun hz => br_t rfl (nm_r (nI_1 c) (ih (c + 1) x1 x2 (by omega) hp))) (fun hz => ?_) _)
    have ic : vp_in (nI c) 25 := vp_in_nI (by omega) (by omega)
    refine br_f (by decide) ⟨by rw [nI_1]; exact vp_in_nI (by omega) (by omega), ic, nm_e ⟨ic, nm_r (e' := nI (fc_off (fc_cb a_masks) n c)) (by rw [nI_clamp (by omega)]; exact hC.1 c (by omega)) ⟨fc_cnt (fc_cb a_masks c) n + 1, ?_⟩⟩⟩
    refine fc_XcI51 hn hk (by omega) hC (fun b1 b2 hb => ih (c + 1) b1 b2 (by omega) ?_) n 0 _ (Nat.zero_add n) _ (Nat.lt_succ_self _)
    rcases hb with z | z
    · rw [z]; exact hp
    · rw [z]; exact h c (by omega) hz
theorem fc_XcolI {post : Int32 → Prop} (hn : n ≤ 48) (hk : k ≤ 24) (hC : fc_Csr k n (fc_cb a_masks) a_colStart a_colRows) (h0 : post (-1)) (h : ∀ c, c < k → bt f_activeMask c = true → post (nI c)) : wpX_columnToInactivate post ((nI k), (nI cc), f_allWords, f_running, (nI e), f_weightTotal, f_mixedSeed, (nI n), f_state, f_rankFound, f_peelMask, f_activeMask, f_inactiveMask, f_queueHead, f_queueTail, f_pivotCount, f_denseRank, f_contradiction, a_tableDegree, a_tableWeight, a_tableEnd, a_source, a_ids, a_values, a_masks, a_expr, a_constant, a_rowStart, a_rowCols, a_colStart, a_colRows, a_rowLeft, a_rowUsed, a_queue, a_pivotCol, a_pivotRow, a_denseMask, a_denseValue) :=
  Exists.intro _ (fc_XcI6 hn hk hC h k 0 (-1) 0 (Nat.zero_add k) h0)
/-- what is left behind triangulate -/
def fc_TE (k n q : Nat) (M : Nat → Int32) (I : Int32) (pc pr : Nat → Nat) (apc apr ru : Nat → Int32) : Prop :=
  fc_Tri k n q M I pc pr ∧ q ≤ k ∧ (∀ j, j < q → apc j = nI (pc j) ∧ apr j = nI (pr j)) ∧ (∀ r, r < n → (ru r = 0 ↔ ¬ ∃ j, j < q ∧ pr j = r))
theorem fc_X80 {post : SX → Prop} (hn : n ≤ 48) (hk : k ≤ 24) (hC : fc_Csr k n (fc_cb a_masks) a_colStart a_colRows) (hR : fc_Csr n k (fc_rb a_masks) a_rowStart a_rowCols)
    (h : ∀ (I x y : Int32) (q : Nat) (pc pr : Nat → Nat) (apc apr ru rl aq : Nat → Int32), fc_TE k n q a_masks I pc pr apc apr ru →
      post ((nI k), (nI cc), f_allWords, f_running, (nI e), f_weightTotal, f_mixedSeed, (nI n), f_state, f_rankFound, f_peelMask, 0, I, x, y, (nI q), f_denseRank, f_contradiction, a_tableDegree, a_tableWeight, a_tableEnd, a_source, a_ids, a_values, a_masks, a_expr, a_constant, a_rowStart, a_rowCols, a_colStart, a_colRows, rl, ru, aq, apc, apr, a_denseMask, a_denseValue)) :
    ∀ (d s : Nat) (A I : Int32) (q qt : Nat) (pc pr : Nat → Nat) (apc apr ru rl aq : Nat → Int32) (qu : Nat → Nat), s + d = k → fc_TI k n a_masks A I q qt qt pc pr apc apr ru rl aq qu →
      wX_triangulate_80 post (d + 1) (nI s) (nI k) (nI cc) f_allWords f_running (nI e) f_weightTotal f_mixedSeed (nI n) f_state f_rankFound f_peelMask A I (nI qt) (nI qt) (nI q) f_denseRank f_contradiction a_tableDegree a_tableWeight a_tableEnd a_source a_ids a_values a_masks a_expr a_constant a_rowStart a_rowCols a_colStart a_colRows rl ru aq apc apr a_denseMask a_denseValue := by
  have fin : ∀ (A I : Int32) (q qt : Nat) (pc pr : Nat → Nat) (apc apr ru rl aq : Nat → Int32) (qu : Nat → Nat), fc_TI k n a_masks A I q qt qt pc pr apc apr ru rl aq qu →
      wX_triangulate_127 post (nI k) (nI cc) f_allWords f_running (nI e) f_weightTotal f_mixedSeed (nI n) f_state f_rankFound f_peelMask A I (nI qt) (nI qt) (nI q) f_denseRank f_contradiction a_tableDegree a_tableWeight a_tableEnd a_source a_ids a_values a_masks a_expr a_constant a_rowStart a_rowCols a_colStart a_colRows rl ru aq apc apr a_denseMask a_denseValue := by
    intro A I q qt pc pr apc apr ru rl aq qu hI
    exact nm_e (h _ _ _ q pc pr apc apr ru rl aq ⟨fc_PV_tri hI.1, fc_PV_q hI.1, fun j hj => ⟨(hI.1.1 j hj).1, (hI.1.1 j hj).2.1⟩, hI.1.2.2.2.2.2.2⟩)
  intro d
  induction d with
  | zero => intro s A I q qt pc pr apc apr ru rl aq qu hs hI; exact br_t (nI_le (by omega) (by omega)) (fin A I q qt pc pr apc apr ru rl aq qu hI)
  | succ d ih =>
    intro s A I q qt pc pr apc apr ru rl aq qu hs hI
    refine br_f (nI_ge (by omega) (by omega)) (fc_XcolI hn hk hC (br_f (by decide) (fin A I q qt pc pr apc apr ru rl aq qu hI)) fun c hc hA => ?_)
    obtain ⟨p1, p2, p3, p4, p5⟩ := hI
    refine br_t (nI_pos' (by omega)) (nm_e (fc_XremoveColumn (qu := qu) hn hk hc hC hA p2 p3 fun rl' aq' qt' qu' g1 g2 g3 g4 => ?_))
    refine fc_Xdrain (fun _ => True) (qu := qu') (pc := pc) (pr := pr) hn hk hC hR (fun _ _ _ _ _ _ _ _ _ => trivial) ⟨fc_PV_ina (by omega) p1 hc hA, g1, g2, by omega, fun i hi => ?_⟩ trivial fun A q qt pc pr apc apr ru rl aq qu hI _ => ?_
    · rw [g4 i (by omega)]
      have := fc_rl_mono (A := A) (M := a_masks) (r := qu i) (by omega) hc
      have := p5 i (by omega)
      omega
    · exact nm_r (nI_1 s) (ih (s + 1) A _ q qt pc pr apc apr ru rl aq qu (by omega) hI)
theorem fc_X30 {post : SX → Prop} (hn : n ≤ 48) (hk : k ≤ 24) (ha : f_allWords = fc_aw k) (hC : fc_Csr k n (fc_cb a_masks) a_colStart a_colRows) (hR : fc_Csr n k (fc_rb a_masks) a_rowStart a_rowCols)
    (hrl : ∀ r, r < n → rl r = nI (fc_rl k a_masks (fc_aw k) r)) (hu : ∀ r, r < n → ru r = 0)
    (h : ∀ (I pm x y : Int32) (q : Nat) (pc pr : Nat → Nat) (apc apr ru rl aq : Nat → Int32), fc_TE k n q a_masks I pc pr apc apr ru → (∀ c, c < k → (bt pm c = true ↔ fc_Peel k n a_masks c)) →
      post ((nI k), (nI cc), f_allWords, f_running, (nI e), f_weightTotal, f_mixedSeed, (nI n), f_state, f_rankFound, pm, 0, I, x, y, (nI q), f_denseRank, f_contradiction, a_tableDegree, a_tableWeight, a_tableEnd, a_source, a_ids, a_values, a_masks, a_expr, a_constant, a_rowStart, a_rowCols, a_colStart, a_colRows, rl, ru, aq, apc, apr, a_denseMask, a_denseValue)) :
    ∀ (d r qt : Nat) (aq : Nat → Int32) (qu : Nat → Nat), r + d = n → fc_QJ n r (fc_rl k a_masks (fc_aw k)) qu qt aq → (∀ i, i < qt → qu i < r) →
      wX_triangulate_30 post (d + 1) (nI r) (nI k) (nI cc) f_allWords f_running (nI e) f_weightTotal f_mixedSeed (nI n) f_state f_rankFound f_peelMask (fc_aw k) 0 0 (nI qt) 0 f_denseRank f_contradiction a_tableDegree a_tableWeight a_tableEnd a_source a_ids a_values a_masks a_expr a_constant a_rowStart a_rowCols a_colStart a_colRows rl ru aq apc apr a_denseMask a_denseValue := by
  intro d
  induction d with
  | zero =>
    intro r qt aq qu hr hq hl
    have e : r = n := by omega
    subst e
    refine br_t (nI_le (Nat.le_refl _) (by omega)) (fc_Xdrain (qh := 0) (q := 0) (pc := fun _ => 0) (pr := fun _ => 0) (qu := qu) (fun A => ∀ c, c < k → bt A c = false → fc_Peel k r a_masks c) hn hk hC hR (fun A i c hz hi hc hb hA hu d hd hf => ?_)
      ⟨fc_PV_0 (by omega) hu, hrl, hq, Nat.zero_le _, fun i hi => by omega⟩ (fun c hc hf => ?_) fun A q qt pc pr apc apr ru rl aq qu hI hz => ?_)
    · by_cases ed : d = c
      · rw [ed]
        refine fc_Peel_c i hi c hc hb fun j hj hbj hn => hz j hj ?_
        cases z : bt A j
        · rfl
        · exact absurd (hu j hj hbj z) hn
      · rw [fc_rem_n (by omega) ed] at hf
        exact hz d hd hf
    · rw [fc_aw_b (by omega), decide_eq_true hc] at hf; cases hf
    · refine nm_e ⟨_, fc_X80 hn hk hC hR (fun I x y q pc pr apc apr ru rl aq hT => h I _ x y q pc pr apc apr ru rl aq hT fun c hc => ?_) k 0 A 0 q qt pc pr apc apr ru rl aq qu (Nat.zero_add k) hI⟩
      have eb : bt (f_allWords &&& (A ^^^ (-1))) c = !bt A c := by
        rw [b_and, fc_not A (by omega), ha, fc_aw_b (by omega), decide_eq_true hc, Bool.true_and]
      rw [eb]
      constructor
      · intro z
        refine hz c hc ?_
        cases w : bt A c
        · rfl
        · rw [w] at z; cases z
      · intro hp
        have hcl : fc_closed k r a_masks (A ^^^ (-1)) := by
          rintro i hi c' ⟨s1, s2, s3, s4⟩
          have nA : ∀ d, d < k → (bt (A ^^^ (-1)) d = false ↔ bt A d = true) := fun d hd => by
            rw [fc_not A (by omega)]
            cases bt A d <;> decide
          have one : fc_rl k a_masks A i = 1 := by
            unfold fc_rl
            have hT : (fun c => bt (a_masks i) c && bt A c) c' = true := by
              show (bt (a_masks i) c' && bt A c') = true
              rw [s2, (nA c' s1).mp s3]; rfl
            rw [← fc_cnt_sf s1 hT, fc_cnt_0 fun j hj => ?_]
            by_cases ej : j = c'
            · rw [ej]; exact fc_set_s
            · rw [fc_set_n ej]
              show (bt (a_masks i) j && bt A j) = false
              cases z1 : bt (a_masks i) j
              · rfl
              · cases z2 : bt A j
                · rfl
                · exact absurd (s4 j hj z1 ((nA j hj).mpr z2)) ej
          obtain ⟨j, hj, hje⟩ := hI.2.2.1.2.2 i hi one
          have := hI.2.2.2.2 j hj
          rw [hje] at this
          omega
        have := hp _ (fc_closed_P hcl)
        rw [fc_not A (by omega)] at this
        exact this
  | succ d ih =>
    intro r qt aq qu hr hq hl
    have hle := fc_QJ_le hq
    have hrk : fc_rl k a_masks (fc_aw k) r ≤ k := fc_cnt_le _ _
    refine br_f (nI_ge (by omega) (by omega)) ⟨vp_in_nI (by omega) (by omega), ?_⟩
    rw [nI_clamp (n := r) (by omega), hrl r (by omega)]
    refine pk_eq (fc_rl k a_masks (fc_aw k) r) 1 (fun z => ?_) (fun z => ?_)
    · have hJ : fc_QJ n (r + 1) (fc_rl k a_masks (fc_aw k)) (fc_up qu qt r) (qt + 1) (upd aq qt (nI r)) :=
        fc_QJ_push hq (by omega) (fun i hi e => by have := hl i hi; omega) z (fun _ _ _ => rfl) (fun r' h1 h2 => by omega) (by omega)
      have hq' := fc_QJ_le hJ
      refine fc_Xenq (by omega) (nm_r (nI_1 r) (ih (r + 1) (qt + 1) _ _ (by omega) hJ fun i hi => ?_))
      by_cases ei : i = qt
      · rw [ei]
        have : fc_up qu qt r qt = r := if_pos rfl
        omega
      · have e2 : fc_up qu qt r i = qu i := if_neg ei
        have := hl i (by omega)
        omega
    · refine nm_r (nI_1 r) (ih (r + 1) qt aq qu (by omega) ⟨hq.1, hq.2.1, fun r' hr' h1 => ?_⟩ fun i hi => ?_)
      · by_cases er : r' = r
        · rw [er] at h1; exact absurd h1 z
        · exact hq.2.2 r' (by omega) h1
      · have := hl i hi; omega
theorem fc_rl_all {M : Nat → Int32} {r : Nat} (hk : k < 32) : fc_rl k M (fc_aw k) r = fc_cnt (bt (M r)) k :=
  fc_cnt_congr fun i hi => by rw [fc_aw_b hk, decide_eq_true hi, Bool.and_true]
theorem fc_Xtri {post : SX → Prop} (hn : n ≤ 48) (hk : k ≤ 24) (ha : f_allWords = fc_aw k) (hC : fc_Csr k n (fc_cb a_masks) a_colStart a_colRows) (hR : fc_Csr n k (fc_rb a_masks) a_rowStart a_rowCols)
    (hrl : ∀ r, r < n → a_rowLeft r = nI (fc_cnt (bt (a_masks r)) k) ∧ a_rowUsed r = 0)
    (h : ∀ (I pm x y : Int32) (q : Nat) (pc pr : Nat → Nat) (apc apr ru rl aq : Nat → Int32), fc_TE k n q a_masks I pc pr apc apr ru → (∀ c, c < k → (bt pm c = true ↔ fc_Peel k n a_masks c)) →
      post ((nI k), (nI cc), f_allWords, f_running, (nI e), f_weightTotal, f_mixedSeed, (nI n), f_state, f_rankFound, pm, 0, I, x, y, (nI q), f_denseRank, f_contradiction, a_tableDegree, a_tableWeight, a_tableEnd, a_source, a_ids, a_values, a_masks, a_expr, a_constant, a_rowStart, a_rowCols, a_colStart, a_colRows, rl, ru, aq, apc, apr, a_denseMask, a_denseValue)) : wpX_triangulate post ((nI k), (nI cc), f_allWords, f_running, (nI e), f_weightTotal, f_mixedSeed, (nI n), f_state, f_rankFound, f_peelMask, f_activeMask, f_inactiveMask, f_queueHead, f_queueTail, f_pivotCount, f_denseRank, f_contradiction, a_tableDegree, a_tableWeight, a_tableEnd, a_source, a_ids, a_values, a_masks, a_expr, a_constant, a_rowStart, a_rowCols, a_colStart, a_colRows, a_rowLeft, a_rowUsed, a_queue, a_pivotCol, a_pivotRow, a_denseMask, a_denseValue) := by
  have := fc_X30 (post := post) (f_peelMask := f_peelMask) (rl := a_rowLeft) (ru := a_rowUsed) (apc := a_pivotCol) (apr := a_pivotRow) hn hk ha hC hR (fun r hr => by rw [(hrl r hr).1, fc_rl_all (by omega)]) (fun r hr => (hrl r hr).2) h n 0 0 a_queue (fun _ => 0) (Nat.zero_add n) ⟨fun i hi => by omega, fun i j hi => by omega, fun r hr => by omega⟩ (fun i hi => by omega)
  subst ha
  exact Exists.intro _ this
end
end
section
/-! the component: pivots, dense part, back substitution -/
theorem fc_DR_cg {k n : Nat} {M V : Nat → Int32} {I : Int32} {DM DV DM' DV' : Nat → Int32} (e : ∀ c, c < k → DM' c = DM c ∧ DV' c = DV c) (h : fc_DR k n M V I DM DV) : fc_DR k n M V I DM' DV' :=
  ⟨fun c hc => by rw [(e c hc).1, (e c hc).2]; exact h.1 c hc, fun c d hc hd => by rw [(e c hc).1, (e d hd).1]; exact h.2 c d hc hd⟩
theorem fc_DE_cg {k : Nat} {DM DV DM' DV' : Nat → Int32} {ct m v : Int32} (e : ∀ c, c < k → DM' c = DM c ∧ DV' c = DV c) (h : fc_DE k DM DV ct m v) : fc_DE k DM' DV' ct m v := by
  unfold fc_DE
  rw [fc_fx_congr (f := DM') (g := DM) (fun _ _ => rfl) (fun c hc _ => (e c hc).1), fc_fx_congr (f := DV') (g := DV) (fun _ _ => rfl) (fun c hc _ => (e c hc).2)]
  exact h
def fc_dn (DM : Nat → Int32) : Nat → Bool := fun c => !decide (DM c = 0)
theorem fc_dn_t {DM : Nat → Int32} {c : Nat} (h : DM c ≠ 0) : fc_dn DM c = true := by unfold fc_dn; rw [decide_eq_false h]; rfl
theorem fc_dn_f {DM : Nat → Int32} {c : Nat} (h : DM c = 0) : fc_dn DM c = false := by unfold fc_dn; rw [decide_eq_true h]; rfl
section
variable {k cc e n : Nat} {f_allWords f_running f_weightTotal f_mixedSeed f_state f_rankFound f_peelMask f_activeMask f_inactiveMask f_queueHead f_queueTail f_pivotCount f_denseRank f_contradiction seed : Int32} {a_tableDegree a_tableWeight a_tableEnd a_source a_ids a_values a_masks a_expr a_constant a_rowStart a_rowCols a_colStart a_colRows a_rowLeft a_rowUsed a_queue a_pivotCol a_pivotRow a_denseMask a_denseValue rm rv : Nat → Int32}
variable {q : Nat} {pc pr : Nat → Nat}
theorem fc_XeP39 {post : SX → Prop} (hn : n ≤ 48) (hk : k ≤ 24) (hM : ∀ i, i < n → fc_In k (a_masks i)) (hR : fc_Csr n k (fc_rb a_masks) a_rowStart a_rowCols) (hT : fc_TE k n q a_masks f_inactiveMask pc pr a_pivotCol a_pivotRow a_rowUsed)
    (h : ∀ E K : Nat → Int32, fc_Ex k n a_masks a_values f_inactiveMask (fun i => ∃ j, j < q ∧ pr j = i) E K → post ((nI k), (nI cc), f_allWords, f_running, (nI e), f_weightTotal, f_mixedSeed, (nI n), f_state, f_rankFound, f_peelMask, f_activeMask, f_inactiveMask, f_queueHead, f_queueTail, (nI q), f_denseRank, f_contradiction, a_tableDegree, a_tableWeight, a_tableEnd, a_source, a_ids, a_values, a_masks, E, K, a_rowStart, a_rowCols, a_colStart, a_colRows, a_rowLeft, a_rowUsed, a_queue, a_pivotCol, a_pivotRow, a_denseMask, a_denseValue)) :
    ∀ (d j : Nat) (E K : Nat → Int32), j + d = q → fc_EI k n q j a_masks a_values f_inactiveMask pc pr E K →
      wX_expressPivots_39 post (nI k) (nI cc) f_allWords f_running (nI e) f_weightTotal f_mixedSeed (nI n) f_state f_rankFound f_peelMask f_activeMask f_inactiveMask f_queueHead f_queueTail (nI q) f_denseRank f_contradiction (d + 1) (nI j) a_tableDegree a_tableWeight a_tableEnd a_source a_ids a_values a_masks E K a_rowStart a_rowCols a_colStart a_colRows a_rowLeft a_rowUsed a_queue a_pivotCol a_pivotRow a_denseMask a_denseValue := by
  obtain ⟨t1, t2, t3, t4⟩ := hT
  intro d
  induction d with
  | zero =>
    intro j E K hj hE
    have e : j = q := by omega
    subst e
    exact br_t (nI_le (Nat.le_refl _) (by omega)) (h E K (fc_EI_e (by omega) t1 hE))
  | succ d ih =>
    intro j E K hj hE
    have ij : vp_in (nI j) 24 := vp_in_nI (by omega) (by omega)
    obtain ⟨c1, c2⟩ := t3 j (by omega)
    obtain ⟨b1, b2, _⟩ := t1.1 j (by omega)
    have ic : vp_in (nI (pc j)) 24 := vp_in_nI (by omega) (by omega)
    refine br_f (nI_ge (by omega) (by omega)) ⟨ij, ?_⟩
    rw [nI_clamp (n := j) (by omega), c1, nI_clamp (n := pc j) (by omega)]
    refine nm_r c2 (fc_XfoldMask hn hk b2 hR (fc_XfoldValue hn hk b2 hR ⟨ij, ic, nm_e ⟨ij, ic, nm_e (nm_r (nI_1 j) (ih (j + 1) _ _ (by omega) (fc_EI_s (by omega) hM t1 (by omega) hE)))⟩⟩))
theorem fc_XeP2 {post : SX → Prop} (hn : n ≤ 48) (hk : k ≤ 24) (hM : ∀ i, i < n → fc_In k (a_masks i)) (hR : fc_Csr n k (fc_rb a_masks) a_rowStart a_rowCols) (hT : fc_TE k n q a_masks f_inactiveMask pc pr a_pivotCol a_pivotRow a_rowUsed)
    (h : ∀ E K : Nat → Int32, fc_Ex k n a_masks a_values f_inactiveMask (fun i => ∃ j, j < q ∧ pr j = i) E K → post ((nI k), (nI cc), f_allWords, f_running, (nI e), f_weightTotal, f_mixedSeed, (nI n), f_state, f_rankFound, f_peelMask, f_activeMask, f_inactiveMask, f_queueHead, f_queueTail, (nI q), f_denseRank, f_contradiction, a_tableDegree, a_tableWeight, a_tableEnd, a_source, a_ids, a_values, a_masks, E, K, a_rowStart, a_rowCols, a_colStart, a_colRows, a_rowLeft, a_rowUsed, a_queue, a_pivotCol, a_pivotRow, a_denseMask, a_denseValue)) :
    ∀ (d c : Nat) (E K : Nat → Int32), c + d = k → (∀ c', c' < c → E c' = f_inactiveMask &&& fc_bit c' ∧ K c' = 0) →
      wX_expressPivots_2 post (nI k) (nI cc) f_allWords f_running (nI e) f_weightTotal f_mixedSeed (nI n) f_state f_rankFound f_peelMask f_activeMask f_inactiveMask f_queueHead f_queueTail (nI q) f_denseRank f_contradiction (d + 1) (nI c) a_tableDegree a_tableWeight a_tableEnd a_source a_ids a_values a_masks E K a_rowStart a_rowCols a_colStart a_colRows a_rowLeft a_rowUsed a_queue a_pivotCol a_pivotRow a_denseMask a_denseValue := by
  intro d
  induction d with
  | zero =>
    intro c E K hc hE
    have e : c = k := by omega
    subst e
    exact br_t (nI_le (Nat.le_refl _) (by omega)) ⟨_, fc_XeP39 hn hk hM hR hT h q 0 E K (Nat.zero_add q) (fc_EI_0 (by omega) hT.1 hE)⟩
  | succ d ih =>
    intro c E K hc hE
    have ic : vp_in (nI c) 24 := vp_in_nI (by omega) (by omega)
    refine br_f (nI_ge (by omega) (by omega)) ⟨ic, ?_⟩
    rw [nI_clamp (n := c) (by omega)]
    refine nm_e ⟨ic, nm_e (nm_r (nI_1 c) (ih (c + 1) _ _ (by omega) fun c' hc' => ?_))⟩
    by_cases e : c' = c
    · rw [e, pk_us, pk_us]; exact ⟨rfl, rfl⟩
    · rw [pk_un e, pk_un e]; exact hE c' (by omega)
theorem fc_XexpP {post : SX → Prop} (hn : n ≤ 48) (hk : k ≤ 24) (hM : ∀ i, i < n → fc_In k (a_masks i)) (hR : fc_Csr n k (fc_rb a_masks) a_rowStart a_rowCols) (hT : fc_TE k n q a_masks f_inactiveMask pc pr a_pivotCol a_pivotRow a_rowUsed)
    (h : ∀ E K : Nat → Int32, fc_Ex k n a_masks a_values f_inactiveMask (fun i => ∃ j, j < q ∧ pr j = i) E K → post ((nI k), (nI cc), f_allWords, f_running, (nI e), f_weightTotal, f_mixedSeed, (nI n), f_state, f_rankFound, f_peelMask, f_activeMask, f_inactiveMask, f_queueHead, f_queueTail, (nI q), f_denseRank, f_contradiction, a_tableDegree, a_tableWeight, a_tableEnd, a_source, a_ids, a_values, a_masks, E, K, a_rowStart, a_rowCols, a_colStart, a_colRows, a_rowLeft, a_rowUsed, a_queue, a_pivotCol, a_pivotRow, a_denseMask, a_denseValue)) : wpX_expressPivots post ((nI k), (nI cc), f_allWords, f_running, (nI e), f_weightTotal, f_mixedSeed, (nI n), f_state, f_rankFound, f_peelMask, f_activeMask, f_inactiveMask, f_queueHead, f_queueTail, (nI q), f_denseRank, f_contradiction, a_tableDegree, a_tableWeight, a_tableEnd, a_source, a_ids, a_values, a_masks, a_expr, a_constant, a_rowStart, a_rowCols, a_colStart, a_colRows, a_rowLeft, a_rowUsed, a_queue, a_pivotCol, a_pivotRow, a_denseMask, a_denseValue) :=
  Exists.intro _ (fc_XeP2 hn hk hM hR hT h k 0 _ _ (Nat.zero_add k) (fun c' hc' => by omega))
theorem fc_Xlow_l {post : Int32 → Prop} {m : Int32} (hk : k ≤ 24) (hm : fc_In k m) (h0 : m ≠ 0) (h : ∀ p, p < k → bt m p = true → post (nI p)) : ∀ d c : Nat, c + d = k → (∀ c', c' < c → bt m c' = false) → wX_lowestBit_2 post m (nI k) (nI cc) f_allWords f_running (nI e) f_weightTotal f_mixedSeed (nI n) f_state f_rankFound f_peelMask f_activeMask f_inactiveMask f_queueHead f_queueTail f_pivotCount f_denseRank f_contradiction a_tableDegree a_tableWeight a_tableEnd a_source a_ids a_values a_masks a_expr a_constant a_rowStart a_rowCols a_colStart a_colRows a_rowLeft a_rowUsed a_queue a_pivotCol a_pivotRow a_denseMask a_denseValue (d + 1) (nI c) := by
  intro d
  induction d with
  | zero => intro c hc hz; exact absurd (fc_In_0 hm fun i hi => hz i (by omega)) h0
  | succ d ih =>
    intro c hc hz
    refine br_f (nI_ge (by omega) (by omega)) (fc_Xhas (by omega) (fun hb => br_t rfl (nm_r (nI_1 c) (ih (c + 1) (by omega) fun c' hc' => ?_))) (fun hb => br_f (by decide) (h c (by omega) hb)) _)
    by_cases e : c' = c
    · rw [e]; exact hb
    · exact hz c' (by omega)
theorem fc_Xlow {post : Int32 → Prop} {m : Int32} (hk : k ≤ 24) (hm : fc_In k m) (h0 : m ≠ 0) (h : ∀ p, p < k → bt m p = true → post (nI p)) : wpX_lowestBit post ((nI k), (nI cc), f_allWords, f_running, (nI e), f_weightTotal, f_mixedSeed, (nI n), f_state, f_rankFound, f_peelMask, f_activeMask, f_inactiveMask, f_queueHead, f_queueTail, f_pivotCount, f_denseRank, f_contradiction, a_tableDegree, a_tableWeight, a_tableEnd, a_source, a_ids, a_values, a_masks, a_expr, a_constant, a_rowStart, a_rowCols, a_colStart, a_colRows, a_rowLeft, a_rowUsed, a_queue, a_pivotCol, a_pivotRow, a_denseMask, a_denseValue) m :=
  Exists.intro _ (fc_Xlow_l hk hm h0 h k 0 (Nat.zero_add k) (fun c' hc' => by omega))
theorem fc_XiD90 {post : SX → Prop} {x y : Int32} {p rk : Nat} {dm dv : Nat → Int32} (hk : k ≤ 24) (hp : p < k)
    (h : ∀ dm' dv' : Nat → Int32, (∀ c, c < k → dm' c = fc_ins dm dm p x c ∧ dv' c = fc_ins dm dv p y c) → post ((nI k), (nI cc), f_allWords, f_running, (nI e), f_weightTotal, f_mixedSeed, (nI n), f_state, f_rankFound, f_peelMask, f_activeMask, f_inactiveMask, f_queueHead, f_queueTail, f_pivotCount, (nI (rk + 1)), f_contradiction, a_tableDegree, a_tableWeight, a_tableEnd, a_source, a_ids, a_values, a_masks, a_expr, a_constant, a_rowStart, a_rowCols, a_colStart, a_colRows, a_rowLeft, a_rowUsed, a_queue, a_pivotCol, a_pivotRow, dm', dv')) :
    ∀ (d c : Nat) (D W : Nat → Int32), c + d = k → (∀ c', c' < c → D c' = (if bt (dm c') p = true then dm c' ^^^ x else dm c') ∧ W c' = (if bt (dm c') p = true then dv c' ^^^ y else dv c')) → (∀ c', c ≤ c' → D c' = dm c' ∧ W c' = dv c') →
      wX_insertDense_90 post x y (nI p) (nI k) (nI cc) f_allWords f_running (nI e) f_weightTotal f_mixedSeed (nI n) f_state f_rankFound f_peelMask f_activeMask f_inactiveMask f_queueHead f_queueTail f_pivotCount (nI rk) f_contradiction (d + 1) (nI c) a_tableDegree a_tableWeight a_tableEnd a_source a_ids a_values a_masks a_expr a_constant a_rowStart a_rowCols a_colStart a_colRows a_rowLeft a_rowUsed a_queue a_pivotCol a_pivotRow D W := by
  have ip : vp_in (nI p) 24 := vp_in_nI (by omega) (by omega)
  intro d
  induction d with
  | zero =>
    intro c D W hc h1 h2
    refine br_t (nI_le (by omega) (by omega)) ⟨ip, ?_⟩
    rw [nI_clamp (n := p) (by omega)]
    refine nm_e ⟨ip, nm_e (nm_r (nI_1 rk) (h _ _ fun c' hc' => ?_))⟩
    by_cases e : c' = p
    · rw [e, pk_us, pk_us]
      exact ⟨(if_pos rfl).symm, (if_pos rfl).symm⟩
    · rw [pk_un e, pk_un e]
      unfold fc_ins
      rw [if_neg e, if_neg e]
      exact h1 c' (by omega)
  | succ d ih =>
    intro c D W hc h1 h2
    obtain ⟨e1, e2⟩ := h2 c (Nat.le_refl _)
    have ic : vp_in (nI c) 24 := vp_in_nI (by omega) (by omega)
    refine br_f (nI_ge (by omega) (by omega)) ⟨ic, ?_⟩
    rw [nI_clamp (n := c) (by omega), e1, e2]
    refine fc_Xhas (by omega) (fun hb => br_t rfl (nm_r (nI_1 c) (ih (c + 1) D W (by omega) (fun c' hc' => ?_) (fun c' hc' => h2 c' (by omega))))) (fun hb => br_f (by decide) ⟨ic, ic, nm_e ⟨ic, ic, nm_e (nm_r (nI_1 c) (ih (c + 1) _ _ (by omega) (fun c' hc' => ?_) (fun c' hc' => ?_)))⟩⟩) _
    · by_cases e : c' = c
      · rw [e, hb, e1, e2]; exact ⟨rfl, rfl⟩
      · exact h1 c' (by omega)
    · by_cases e : c' = c
      · rw [e, pk_us, pk_us, hb]; exact ⟨rfl, rfl⟩
      · rw [pk_un e, pk_un e]; exact h1 c' (by omega)
    · rw [pk_un (by omega), pk_un (by omega)]; exact h2 c' (by omega)
/-- one equation more -/
theorem fc_XiD8 {post : SX → Prop} {I ct mm vv : Int32} {rk : Nat} {dm dv : Nat → Int32} (hk : k ≤ 24) (hD : fc_DR k n a_masks a_values I dm dv) (hI : fc_In k I) (hm : fc_Sub mm I) (hs : fc_Sp n a_masks a_values mm vv) (hc : fc_cnt (fc_dn dm) k = rk)
    (h : ∀ (dm' dv' : Nat → Int32) (rk' : Nat) (ct' : Int32), fc_DR k n a_masks a_values I dm' dv' → fc_cnt (fc_dn dm') k = rk' → (∀ m v, fc_DE k dm dv ct m v → fc_DE k dm' dv' ct' m v) → fc_DE k dm' dv' ct' mm vv →
      (ct' = ct ∨ (ct' = 1 ∧ ∃ v, v ≠ 0 ∧ fc_Sp n a_masks a_values 0 v)) → post ((nI k), (nI cc), f_allWords, f_running, (nI e), f_weightTotal, f_mixedSeed, (nI n), f_state, f_rankFound, f_peelMask, f_activeMask, f_inactiveMask, f_queueHead, f_queueTail, f_pivotCount, (nI rk'), ct', a_tableDegree, a_tableWeight, a_tableEnd, a_source, a_ids, a_values, a_masks, a_expr, a_constant, a_rowStart, a_rowCols, a_colStart, a_colRows, a_rowLeft, a_rowUsed, a_queue, a_pivotCol, a_pivotRow, dm', dv')) :
    ∀ (d c : Nat) (x y : Int32), c + d = k → x = mm ^^^ fc_fx dm (bt mm) c → y = vv ^^^ fc_fx dv (bt mm) c → wX_insertDense_8 post (nI k) (nI cc) f_allWords f_running (nI e) f_weightTotal f_mixedSeed (nI n) f_state f_rankFound f_peelMask f_activeMask f_inactiveMask f_queueHead f_queueTail f_pivotCount (nI rk) ct a_tableDegree a_tableWeight a_tableEnd a_source a_ids a_values a_masks a_expr a_constant a_rowStart a_rowCols a_colStart a_colRows a_rowLeft a_rowUsed a_queue a_pivotCol a_pivotRow dm dv (d + 1) x y (nI c) := by
  have hrk : rk ≤ k := by rw [← hc]; exact fc_cnt_le _ _
  intro d
  induction d with
  | zero =>
    intro c x y hck hx hy
    have e : c = k := by omega
    subst e
    have hsx : fc_Sp n a_masks a_values x y := by rw [hx, hy]; exact fc_Spx hs (fc_DR_sp hD _)
    refine br_t (nI_le (Nat.le_refl _) (by omega)) (br_c (fun zx => ?_) (fun zx => ?_))
    · have ex : mm = fc_fx dm (bt mm) c := fc_xe (by rw [← hx]; exact zx)
      refine br_c (fun zy => h dm dv rk ct hD hc (fun _ _ g => g) ⟨ex, fun _ => fc_xe (by rw [← hy]; exact zy)⟩ (Or.inl rfl)) (fun zy => h dm dv rk 1 hD hc (fun m v g => ⟨g.1, fun z => absurd z (by decide)⟩) ⟨ex, fun z => absurd z (by decide)⟩ (Or.inr ⟨rfl, y, zy, ?_⟩))
      rw [zx] at hsx; exact hsx
    · have hxI : fc_In c x := by rw [hx]; exact fc_Sub_In (fc_Subx hm (fc_DR_sub hD _)) hI
      refine fc_Xlow hk hxI zx fun p hp hb => ⟨_, fc_XiD90 (dm := dm) (dv := dv) hk hp (fun dm' dv' he => ?_) c 0 dm dv (Nat.zero_add c) (fun c' hc' => by omega) (fun _ _ => ⟨rfl, rfl⟩)⟩
      rw [hx] at hb
      obtain ⟨g1, g2, g3⟩ := fc_DR_ins hD (by omega) hI hm hs hp hb
      rw [← hx, ← hy] at g2
      rw [← hx] at g3
      refine h dm' dv' (rk + 1) ct (fc_DR_cg he g2) ?_ (fun m v g => fc_DE_cg he (fc_DE_keep hD hp g1 g)) (fc_DE_cg he (by rw [hx, hy]; exact fc_DE_new hD hp g1 hb)) (Or.inl rfl)
      rw [← hc, ← fc_cnt_st (T := fc_dn dm) hp (fc_dn_f g1)]
      refine fc_cnt_congr fun i hi => ?_
      have w := g3 i hi
      rw [← (he i hi).1] at w
      by_cases ei : i = p
      · rw [ei, fc_set_s]
        rw [ei] at w
        exact fc_dn_t (w.mpr (Or.inl rfl))
      · rw [fc_set_n ei]
        by_cases z : dm i = 0
        · rw [fc_dn_f z]
          refine fc_dn_f (Classical.byContradiction fun z' => ?_)
          rcases w.mp z' with u | u
          · exact ei u
          · exact u z
        · rw [fc_dn_t z]
          exact fc_dn_t (w.mpr (Or.inr z))
  | succ d ih =>
    intro c x y hck hx hy
    have ic : vp_in (nI c) 24 := vp_in_nI (by omega) (by omega)
    have stay : (bt mm c = false ∨ dm c = 0) → wX_insertDense_8 post (nI k) (nI cc) f_allWords f_running (nI e) f_weightTotal f_mixedSeed (nI n) f_state f_rankFound f_peelMask f_activeMask f_inactiveMask f_queueHead f_queueTail f_pivotCount (nI rk) ct a_tableDegree a_tableWeight a_tableEnd a_source a_ids a_values a_masks a_expr a_constant a_rowStart a_rowCols a_colStart a_colRows a_rowLeft a_rowUsed a_queue a_pivotCol a_pivotRow dm dv (d + 1) x y (nI (c + 1)) := by
      intro hz
      refine ih (c + 1) x y (by omega) ?_ ?_
      · cases hb : bt mm c
        · rw [fc_fx_f hb]; exact hx
        · rw [fc_fx_t hb, hz.resolve_left (by rw [hb]; decide), fc_x0]; exact hx
      · cases hb : bt mm c
        · rw [fc_fx_f hb]; exact hy
        · rw [fc_fx_t hb, (hD.1 c (by omega)).2.2 (hz.resolve_left (by rw [hb]; decide)), fc_x0]; exact hy
    refine br_f (nI_ge (by omega) (by omega)) (fc_Xhas (by omega) (fun hb => br_t rfl (nm_r (nI_1 c) (stay ?_))) (fun hb => br_f (by decide) ⟨ic, ?_⟩) _)
    · refine Classical.byContradiction fun z => ?_
      have z1 : ¬ bt mm c = false := fun q => z (Or.inl q)
      have z2 : dm c ≠ 0 := fun q => z (Or.inr q)
      rw [hx, fc_DR_red hD mm (by omega) z2] at hb
      exact z1 hb
    · rw [nI_clamp (n := c) (by omega)]
      refine br_c (fun z => nm_r (nI_1 c) (stay (Or.inr z))) (fun z => ⟨ic, nm_e ⟨ic, nm_e (nm_r (nI_1 c) (ih (c + 1) _ _ (by omega) ?_ ?_))⟩⟩)
      · rw [hx, fc_DR_red hD mm (by omega) z] at hb
        rw [fc_fx_t hb, hx, fc_xa]
      · rw [hx, fc_DR_red hD mm (by omega) z] at hb
        rw [fc_fx_t hb, hy, fc_xa]
theorem fc_XinsD {post : SX → Prop} {I ct mm vv : Int32} {rk : Nat} {dm dv : Nat → Int32} (hk : k ≤ 24) (hD : fc_DR k n a_masks a_values I dm dv) (hI : fc_In k I) (hm : fc_Sub mm I) (hs : fc_Sp n a_masks a_values mm vv) (hc : fc_cnt (fc_dn dm) k = rk)
    (h : ∀ (dm' dv' : Nat → Int32) (rk' : Nat) (ct' : Int32), fc_DR k n a_masks a_values I dm' dv' → fc_cnt (fc_dn dm') k = rk' → (∀ m v, fc_DE k dm dv ct m v → fc_DE k dm' dv' ct' m v) → fc_DE k dm' dv' ct' mm vv →
      (ct' = ct ∨ (ct' = 1 ∧ ∃ v, v ≠ 0 ∧ fc_Sp n a_masks a_values 0 v)) → post ((nI k), (nI cc), f_allWords, f_running, (nI e), f_weightTotal, f_mixedSeed, (nI n), f_state, f_rankFound, f_peelMask, f_activeMask, f_inactiveMask, f_queueHead, f_queueTail, f_pivotCount, (nI rk'), ct', a_tableDegree, a_tableWeight, a_tableEnd, a_source, a_ids, a_values, a_masks, a_expr, a_constant, a_rowStart, a_rowCols, a_colStart, a_colRows, a_rowLeft, a_rowUsed, a_queue, a_pivotCol, a_pivotRow, dm', dv')) : wpX_insertDense post ((nI k), (nI cc), f_allWords, f_running, (nI e), f_weightTotal, f_mixedSeed, (nI n), f_state, f_rankFound, f_peelMask, f_activeMask, f_inactiveMask, f_queueHead, f_queueTail, f_pivotCount, (nI rk), ct, a_tableDegree, a_tableWeight, a_tableEnd, a_source, a_ids, a_values, a_masks, a_expr, a_constant, a_rowStart, a_rowCols, a_colStart, a_colRows, a_rowLeft, a_rowUsed, a_queue, a_pivotCol, a_pivotRow, dm, dv) mm vv :=
  Exists.intro _ (fc_XiD8 hk hD hI hm hs hc h k 0 mm vv (Nat.zero_add k) (fc_x0 mm).symm (fc_x0 vv).symm)
variable {used : Nat → Prop}
theorem fc_Xsd42 {post : SX → Prop} {I : Int32} (hn : n ≤ 48) (hk : k ≤ 24) (hM : ∀ i, i < n → fc_In k (a_masks i)) (hI : fc_In k I) (hR : fc_Csr n k (fc_rb a_masks) a_rowStart a_rowCols) (hE : fc_Ex k n a_masks a_values I used a_expr a_constant) (hu : ∀ r, r < n → (a_rowUsed r = 0 ↔ ¬ used r))
    (h : ∀ (dm dv : Nat → Int32) (rk : Nat) (ct : Int32), fc_DR k n a_masks a_values I dm dv → fc_cnt (fc_dn dm) k = rk → fc_All k n a_masks a_values a_expr a_constant dm dv ct → (ct = 0 ∨ ∃ v, v ≠ 0 ∧ fc_Sp n a_masks a_values 0 v) → post ((nI k), (nI cc), f_allWords, f_running, (nI e), f_weightTotal, f_mixedSeed, (nI n), f_state, f_rankFound, f_peelMask, f_activeMask, f_inactiveMask, f_queueHead, f_queueTail, f_pivotCount, (nI rk), ct, a_tableDegree, a_tableWeight, a_tableEnd, a_source, a_ids, a_values, a_masks, a_expr, a_constant, a_rowStart, a_rowCols, a_colStart, a_colRows, a_rowLeft, a_rowUsed, a_queue, a_pivotCol, a_pivotRow, dm, dv)) :
    ∀ (d r : Nat) (dm dv : Nat → Int32) (rk : Nat) (ct : Int32), r + d = n → fc_DR k n a_masks a_values I dm dv → fc_cnt (fc_dn dm) k = rk → (∀ i, i < r → fc_DE k dm dv ct (fc_fx a_expr (bt (a_masks i)) k) (a_values i ^^^ fc_fx a_constant (bt (a_masks i)) k)) → (ct = 0 ∨ ∃ v, v ≠ 0 ∧ fc_Sp n a_masks a_values 0 v) →
      wX_solveDense_42 post (d + 1) (nI r) (nI k) (nI cc) f_allWords f_running (nI e) f_weightTotal f_mixedSeed (nI n) f_state f_rankFound f_peelMask f_activeMask f_inactiveMask f_queueHead f_queueTail f_pivotCount (nI rk) ct a_tableDegree a_tableWeight a_tableEnd a_source a_ids a_values a_masks a_expr a_constant a_rowStart a_rowCols a_colStart a_colRows a_rowLeft a_rowUsed a_queue a_pivotCol a_pivotRow dm dv := by
  intro d
  induction d with
  | zero =>
    intro r dm dv rk ct hr hD hc hA hi
    have e : r = n := by omega
    subst e
    exact br_t (nI_le (Nat.le_refl _) (by omega)) (h dm dv rk ct hD hc hA hi)
  | succ d ih =>
    intro r dm dv rk ct hr hD hc hA hi
    refine br_f (nI_ge (by omega) (by omega)) ⟨vp_in_nI (by omega) (by omega), ?_⟩
    rw [nI_clamp (n := r) (by omega)]
    refine br_c (fun z => ?_) (fun z => ?_)
    · have s1 := fc_Sp_fx (n := n) (M := a_masks) (V := a_values) (f := fun c => fc_bit c ^^^ a_expr c) (g := a_constant) (b := bt (a_masks r)) (k := k) (fun c hc _ => (hE.1 c hc).1)
      rw [fc_fx_xf, fc_fx_self (by omega) (hM r (by omega))] at s1
      have s2 := fc_Spx (fc_Spg (n := n) (M := a_masks) (V := a_values) (i := r) (by omega)) s1
      rw [fc_xl] at s2
      refine fc_XfoldMask hn hk (by omega) hR (fc_XfoldValue hn hk (by omega) hR (fc_XinsD hk hD hI (fc_fx_Sub fun c hc _ => (hE.1 c hc).2) s2 hc fun dm' dv' rk' ct' g1 g2 g3 g4 g5 => ?_))
      refine nm_r (nI_1 r) (ih (r + 1) dm' dv' rk' ct' (by omega) g1 g2 (fun i hi' => ?_) ?_)
      · by_cases ei : i = r
        · rw [ei]; exact g4
        · exact g3 _ _ (hA i (by omega))
      · rcases g5 with g | g
        · rw [g]; exact hi
        · exact Or.inr g.2
    · refine nm_r (nI_1 r) (ih (r + 1) dm dv rk ct (by omega) hD hc (fun i hi' => ?_) hi)
      by_cases ei : i = r
      · have hur : used r := Classical.byContradiction fun q => z ((hu r (by omega)).mpr q)
        rw [ei, (hE.2.2 r (by omega) hur).1, (hE.2.2 r (by omega) hur).2, fc_xx]
        exact fc_DE_z
      · exact hA i (by omega)
theorem fc_Xsd12 {post : SX → Prop} {I : Int32} (hn : n ≤ 48) (hk : k ≤ 24) (hM : ∀ i, i < n → fc_In k (a_masks i)) (hI : fc_In k I) (hR : fc_Csr n k (fc_rb a_masks) a_rowStart a_rowCols) (hE : fc_Ex k n a_masks a_values I used a_expr a_constant) (hu : ∀ r, r < n → (a_rowUsed r = 0 ↔ ¬ used r))
    (h : ∀ (dm dv : Nat → Int32) (rk : Nat) (ct : Int32), fc_DR k n a_masks a_values I dm dv → fc_cnt (fc_dn dm) k = rk → fc_All k n a_masks a_values a_expr a_constant dm dv ct → (ct = 0 ∨ ∃ v, v ≠ 0 ∧ fc_Sp n a_masks a_values 0 v) → post ((nI k), (nI cc), f_allWords, f_running, (nI e), f_weightTotal, f_mixedSeed, (nI n), f_state, f_rankFound, f_peelMask, f_activeMask, f_inactiveMask, f_queueHead, f_queueTail, f_pivotCount, (nI rk), ct, a_tableDegree, a_tableWeight, a_tableEnd, a_source, a_ids, a_values, a_masks, a_expr, a_constant, a_rowStart, a_rowCols, a_colStart, a_colRows, a_rowLeft, a_rowUsed, a_queue, a_pivotCol, a_pivotRow, dm, dv)) :
    ∀ (d c : Nat) (dm dv : Nat → Int32), c + d = k → (∀ c', c' < c → dm c' = 0 ∧ dv c' = 0) → wX_solveDense_12 post (nI k) (nI cc) f_allWords f_running (nI e) f_weightTotal f_mixedSeed (nI n) f_state f_rankFound f_peelMask f_activeMask f_inactiveMask f_queueHead f_queueTail f_pivotCount 0 0 (d + 1) (nI c) a_tableDegree a_tableWeight a_tableEnd a_source a_ids a_values a_masks a_expr a_constant a_rowStart a_rowCols a_colStart a_colRows a_rowLeft a_rowUsed a_queue a_pivotCol a_pivotRow dm dv := by
  intro d
  induction d with
  | zero =>
    intro c dm dv hc hz
    have e : c = k := by omega
    subst e
    exact br_t (nI_le (Nat.le_refl _) (by omega)) ⟨_, fc_Xsd42 hn hk hM hI hR hE hu h n 0 dm dv 0 0 (Nat.zero_add n) (fc_DR_0 hz) (fc_cnt_0 fun i hi => fc_dn_f (hz i hi).1) (fun i hi => by omega) (Or.inl rfl)⟩
  | succ d ih =>
    intro c dm dv hc hz
    have ic : vp_in (nI c) 24 := vp_in_nI (by omega) (by omega)
    refine br_f (nI_ge (by omega) (by omega)) ⟨ic, ?_⟩
    rw [nI_clamp (n := c) (by omega)]
    refine nm_e ⟨ic, nm_e (nm_r (nI_1 c) (ih (c + 1) _ _ (by omega) fun c' hc' => ?_))⟩
    by_cases e : c' = c
    · rw [e, pk_us, pk_us]; exact ⟨rfl, rfl⟩
    · rw [pk_un e, pk_un e]; exact hz c' (by omega)
theorem fc_XsolveD {post : SX → Prop} {I : Int32} (hn : n ≤ 48) (hk : k ≤ 24) (hM : ∀ i, i < n → fc_In k (a_masks i)) (hI : fc_In k I) (hR : fc_Csr n k (fc_rb a_masks) a_rowStart a_rowCols) (hE : fc_Ex k n a_masks a_values I used a_expr a_constant) (hu : ∀ r, r < n → (a_rowUsed r = 0 ↔ ¬ used r))
    (h : ∀ (dm dv : Nat → Int32) (rk : Nat) (ct : Int32), fc_DR k n a_masks a_values I dm dv → fc_cnt (fc_dn dm) k = rk → fc_All k n a_masks a_values a_expr a_constant dm dv ct → (ct = 0 ∨ ∃ v, v ≠ 0 ∧ fc_Sp n a_masks a_values 0 v) → post ((nI k), (nI cc), f_allWords, f_running, (nI e), f_weightTotal, f_mixedSeed, (nI n), f_state, f_rankFound, f_peelMask, f_activeMask, f_inactiveMask, f_queueHead, f_queueTail, f_pivotCount, (nI rk), ct, a_tableDegree, a_tableWeight, a_tableEnd, a_source, a_ids, a_values, a_masks, a_expr, a_constant, a_rowStart, a_rowCols, a_colStart, a_colRows, a_rowLeft, a_rowUsed, a_queue, a_pivotCol, a_pivotRow, dm, dv)) : wpX_solveDense post ((nI k), (nI cc), f_allWords, f_running, (nI e), f_weightTotal, f_mixedSeed, (nI n), f_state, f_rankFound, f_peelMask, f_activeMask, f_inactiveMask, f_queueHead, f_queueTail, f_pivotCount, f_denseRank, f_contradiction, a_tableDegree, a_tableWeight, a_tableEnd, a_source, a_ids, a_values, a_masks, a_expr, a_constant, a_rowStart, a_rowCols, a_colStart, a_colRows, a_rowLeft, a_rowUsed, a_queue, a_pivotCol, a_pivotRow, a_denseMask, a_denseValue) :=
  Exists.intro _ (fc_Xsd12 hn hk hM hI hR hE hu h k 0 _ _ (Nat.zero_add k) (fun c' hc' => by omega))
/-- back substitution after j pivots -/
def fc_SB (k q j : Nat) (I : Int32) (pc : Nat → Nat) (E1 K1 DM DV E K : Nat → Int32) : Prop :=
  (∀ c, c < k → bt I c = true → E c = fc_bit c ^^^ DM c ∧ K c = DV c) ∧
  (∀ i, i < j → E (pc i) = E1 (pc i) ^^^ fc_fx DM (bt (E1 (pc i))) k ∧ K (pc i) = K1 (pc i) ^^^ fc_fx DV (bt (E1 (pc i))) k) ∧
  (∀ i, j ≤ i → i < q → E (pc i) = E1 (pc i) ∧ K (pc i) = K1 (pc i))
theorem fc_Xsb55 {post : SX → Prop} {I : Int32} {E1 K1 : Nat → Int32} (hk : k ≤ 24) (hT : fc_Tri k n q a_masks I pc pr) (hq : q ≤ k) (hp : ∀ j, j < q → a_pivotCol j = nI (pc j)) (hE : fc_Ex k n a_masks a_values I used E1 K1)
    (h : ∀ E K : Nat → Int32, fc_Fin k E1 K1 a_denseMask a_denseValue E K → post ((nI k), (nI cc), f_allWords, f_running, (nI e), f_weightTotal, f_mixedSeed, (nI n), f_state, f_rankFound, f_peelMask, f_activeMask, f_inactiveMask, f_queueHead, f_queueTail, (nI q), f_denseRank, f_contradiction, a_tableDegree, a_tableWeight, a_tableEnd, a_source, a_ids, a_values, a_masks, E, K, a_rowStart, a_rowCols, a_colStart, a_colRows, a_rowLeft, a_rowUsed, a_queue, a_pivotCol, a_pivotRow, a_denseMask, a_denseValue)) :
    ∀ (d j : Nat) (E K : Nat → Int32), j + d = q → fc_SB k q j I pc E1 K1 a_denseMask a_denseValue E K → wX_substituteBack_55 post (nI k) (nI cc) f_allWords f_running (nI e) f_weightTotal f_mixedSeed (nI n) f_state f_rankFound f_peelMask f_activeMask f_inactiveMask f_queueHead f_queueTail (nI q) f_denseRank f_contradiction (d + 1) (nI j) a_tableDegree a_tableWeight a_tableEnd a_source a_ids a_values a_masks E K a_rowStart a_rowCols a_colStart a_colRows a_rowLeft a_rowUsed a_queue a_pivotCol a_pivotRow a_denseMask a_denseValue := by
  intro d
  induction d with
  | zero =>
    intro j E K hj hS
    have e : j = q := by omega
    subst e
    refine br_t (nI_le (Nat.le_refl _) (by omega)) (h E K fun c hc => ?_)
    rcases hT.2.2.1 c hc with z | ⟨i, hi, z⟩
    · rw [(hS.1 c hc z).1, (hS.1 c hc z).2, (hE.2.1 c hc z).1, (hE.2.1 c hc z).2, fc_fx_bit hc (by omega), fc_fx_bit hc (by omega), fc_0x]
      exact ⟨rfl, rfl⟩
    · rw [← z]; exact hS.2.1 i hi
  | succ d ih =>
    intro j E K hj hS
    obtain ⟨s1, s2, s3⟩ := hS
    obtain ⟨b1, _, b3, _⟩ := hT.1 j (by omega)
    obtain ⟨z1, z2⟩ := s3 j (Nat.le_refl _) (by omega)
    have hsub := (hE.1 (pc j) b1).2
    have ic : vp_in (nI (pc j)) 24 := vp_in_nI (by omega) (by omega)
    have fe : fc_fx E (bt (E1 (pc j))) k = E1 (pc j) ^^^ fc_fx a_denseMask (bt (E1 (pc j))) k := by
      have e1 : fc_fx E (bt (E1 (pc j))) k = fc_fx (fun c => fc_bit c ^^^ a_denseMask c) (bt (E1 (pc j))) k := fc_fx_congr (fun _ _ => rfl) fun c hc hb => (s1 c hc (hsub c hb)).1
      rw [e1, fc_fx_xf, fc_fx_self (by omega) (fc_Sub_In hsub hT.2.2.2)]
    have fk : fc_fx K (bt (E1 (pc j))) k = fc_fx a_denseValue (bt (E1 (pc j))) k := fc_fx_congr (fun _ _ => rfl) fun c hc hb => (s1 c hc (hsub c hb)).2
    refine br_f (nI_ge (by omega) (by omega)) ⟨vp_in_nI (by omega) (by omega), ?_⟩
    rw [nI_clamp (n := j) (by omega)]
    refine nm_r (hp j (by omega)) ⟨ic, ?_⟩
    rw [nI_clamp (n := pc j) (by omega)]
    refine nm_r z1 (fc_XconstantSum hk (fc_XexprSum hk ⟨ic, nm_e ⟨ic, ic, nm_e (nm_r (nI_1 j) (ih (j + 1) _ _ (by omega) ?_))⟩⟩))
    rw [fe, fk, z2]
    refine ⟨fun c hc hb => ?_, fun i hi => ?_, fun i hi hiq => ?_⟩
    · have ne : c ≠ pc j := fun e => by rw [e, b3] at hb; cases hb
      rw [pk_un ne, pk_un ne]; exact s1 c hc hb
    · by_cases ei : i = j
      · rw [ei, pk_us, pk_us]; exact ⟨rfl, rfl⟩
      · have ne : pc i ≠ pc j := fun e => ei (hT.2.1 i j (by omega) (by omega) e)
        rw [pk_un ne, pk_un ne]; exact s2 i (by omega)
    · have ne : pc i ≠ pc j := fun e => by have := hT.2.1 i j hiq (by omega) e; omega
      rw [pk_un ne, pk_un ne]; exact s3 i (by omega) hiq
theorem fc_Xsb2 {post : SX → Prop} {I : Int32} {E1 K1 : Nat → Int32} (hk : k ≤ 24) (hT : fc_Tri k n q a_masks I pc pr) (hq : q ≤ k) (hp : ∀ j, j < q → a_pivotCol j = nI (pc j)) (hE : fc_Ex k n a_masks a_values I used E1 K1) (hD : fc_DR k n a_masks a_values I a_denseMask a_denseValue)
    (h : ∀ E K : Nat → Int32, fc_Fin k E1 K1 a_denseMask a_denseValue E K → post ((nI k), (nI cc), f_allWords, f_running, (nI e), f_weightTotal, f_mixedSeed, (nI n), f_state, f_rankFound, f_peelMask, f_activeMask, f_inactiveMask, f_queueHead, f_queueTail, (nI q), f_denseRank, f_contradiction, a_tableDegree, a_tableWeight, a_tableEnd, a_source, a_ids, a_values, a_masks, E, K, a_rowStart, a_rowCols, a_colStart, a_colRows, a_rowLeft, a_rowUsed, a_queue, a_pivotCol, a_pivotRow, a_denseMask, a_denseValue)) :
    ∀ (d c : Nat) (E K : Nat → Int32), c + d = k → (∀ c', c' < c → E c' = (if a_denseMask c' = 0 then E1 c' else a_denseMask c' ^^^ fc_bit c') ∧ K c' = (if a_denseMask c' = 0 then K1 c' else a_denseValue c')) → (∀ c', c ≤ c' → E c' = E1 c' ∧ K c' = K1 c') →
      wX_substituteBack_2 post (nI k) (nI cc) f_allWords f_running (nI e) f_weightTotal f_mixedSeed (nI n) f_state f_rankFound f_peelMask f_activeMask f_inactiveMask f_queueHead f_queueTail (nI q) f_denseRank f_contradiction (d + 1) (nI c) a_tableDegree a_tableWeight a_tableEnd a_source a_ids a_values a_masks E K a_rowStart a_rowCols a_colStart a_colRows a_rowLeft a_rowUsed a_queue a_pivotCol a_pivotRow a_denseMask a_denseValue := by
  intro d
  induction d with
  | zero =>
    intro c E K hc h1 h2
    have e : c = k := by omega
    subst e
    refine br_t (nI_le (Nat.le_refl _) (by omega)) ⟨_, fc_Xsb55 hk hT hq hp hE h q 0 E K (Nat.zero_add q) ⟨fun c' hc' hb => ?_, fun i hi => by omega, fun i _ hi => ?_⟩⟩
    · rw [(h1 c' hc').1, (h1 c' hc').2]
      by_cases z : a_denseMask c' = 0
      · rw [if_pos z, if_pos z, z, (hE.2.1 c' hc' hb).1, (hE.2.1 c' hc' hb).2, (hD.1 c' hc').2.2 z, fc_x0]
        exact ⟨rfl, rfl⟩
      · rw [if_neg z, if_neg z, fc_xc]
        exact ⟨rfl, rfl⟩
    · obtain ⟨b1, _, b3, _⟩ := hT.1 i hi
      have z : a_denseMask (pc i) = 0 := Classical.byContradiction fun z => by
        have e1 := hD.2 (pc i) (pc i) b1 b1 z
        rw [decide_eq_true rfl] at e1
        rw [(hD.1 (pc i) b1).1 _ e1] at b3
        cases b3
      have := h1 (pc i) b1
      rw [if_pos z, if_pos z] at this
      exact this
  | succ d ih =>
    intro c E K hc h1 h2
    obtain ⟨e1, e2⟩ := h2 c (Nat.le_refl _)
    have ic : vp_in (nI c) 24 := vp_in_nI (by omega) (by omega)
    refine br_f (nI_ge (by omega) (by omega)) ⟨ic, ?_⟩
    rw [nI_clamp (n := c) (by omega)]
    refine br_c (fun z => nm_r (nI_1 c) (ih (c + 1) E K (by omega) (fun c' hc' => ?_) (fun c' hc' => h2 c' (by omega)))) (fun z => ⟨ic, ic, nm_e ⟨ic, ic, nm_e (nm_r (nI_1 c) (ih (c + 1) _ _ (by omega) (fun c' hc' => ?_) (fun c' hc' => ?_)))⟩⟩)
    · by_cases e : c' = c
      · rw [e, e1, e2, if_pos z, if_pos z]; exact ⟨rfl, rfl⟩
      · exact h1 c' (by omega)
    · by_cases e : c' = c
      · rw [e, pk_us, pk_us, if_neg z, if_neg z]; exact ⟨rfl, rfl⟩
      · rw [pk_un e, pk_un e]; exact h1 c' (by omega)
    · rw [pk_un (by omega), pk_un (by omega)]; exact h2 c' (by omega)
theorem fc_XsubB {post : SX → Prop} {I : Int32} (hk : k ≤ 24) (hT : fc_Tri k n q a_masks I pc pr) (hq : q ≤ k) (hp : ∀ j, j < q → a_pivotCol j = nI (pc j)) (hE : fc_Ex k n a_masks a_values I used a_expr a_constant) (hD : fc_DR k n a_masks a_values I a_denseMask a_denseValue)
    (h : ∀ E K : Nat → Int32, fc_Fin k a_expr a_constant a_denseMask a_denseValue E K → post ((nI k), (nI cc), f_allWords, f_running, (nI e), f_weightTotal, f_mixedSeed, (nI n), f_state, f_rankFound, f_peelMask, f_activeMask, f_inactiveMask, f_queueHead, f_queueTail, (nI q), f_denseRank, f_contradiction, a_tableDegree, a_tableWeight, a_tableEnd, a_source, a_ids, a_values, a_masks, E, K, a_rowStart, a_rowCols, a_colStart, a_colRows, a_rowLeft, a_rowUsed, a_queue, a_pivotCol, a_pivotRow, a_denseMask, a_denseValue)) : wpX_substituteBack post ((nI k), (nI cc), f_allWords, f_running, (nI e), f_weightTotal, f_mixedSeed, (nI n), f_state, f_rankFound, f_peelMask, f_activeMask, f_inactiveMask, f_queueHead, f_queueTail, (nI q), f_denseRank, f_contradiction, a_tableDegree, a_tableWeight, a_tableEnd, a_source, a_ids, a_values, a_masks, a_expr, a_constant, a_rowStart, a_rowCols, a_colStart, a_colRows, a_rowLeft, a_rowUsed, a_queue, a_pivotCol, a_pivotRow, a_denseMask, a_denseValue) :=
  Exists.intro _ (fc_Xsb2 hk hT hq hp hE hD h k 0 _ _ (Nat.zero_add k) (fun c' hc' => by omega) (fun c' _ => ⟨rfl, rfl⟩))
/-- the whole decode -/
theorem fc_Xdecode {post : Int32 → SX → Prop} (hn : n ≤ 48) (hk : k ≤ 24) (ha : f_allWords = fc_aw k) (hr : ¬ f_running = 0) (hs : f_state = 0) (hM : ∀ i, i < n → fc_In k (a_masks i))
    (h : ∀ (st rf pm A I x y pcn dr ct : Int32) (E K rs rc cs cr rl ru aq apc apr dm dv : Nat → Int32), fc_Dec k n a_masks a_values st rf pm E K → post st ((nI k), (nI cc), f_allWords, f_running, (nI e), f_weightTotal, f_mixedSeed, (nI n), st, rf, pm, A, I, x, y, pcn, dr, ct, a_tableDegree, a_tableWeight, a_tableEnd, a_source, a_ids, a_values, a_masks, E, K, rs, rc, cs, cr, rl, ru, aq, apc, apr, dm, dv)) : wpX_decode post ((nI k), (nI cc), f_allWords, f_running, (nI e), f_weightTotal, f_mixedSeed, (nI n), f_state, f_rankFound, f_peelMask, f_activeMask, f_inactiveMask, f_queueHead, f_queueTail, f_pivotCount, f_denseRank, f_contradiction, a_tableDegree, a_tableWeight, a_tableEnd, a_source, a_ids, a_values, a_masks, a_expr, a_constant, a_rowStart, a_rowCols, a_colStart, a_colRows, a_rowLeft, a_rowUsed, a_queue, a_pivotCol, a_pivotRow, a_denseMask, a_denseValue) := by
  refine br_f hr (br_t hs (fc_XbuildRows hn hk fun rs rc rl ru hR hru => fc_XbuildColumns hn hk fun cs cr hC => fc_Xtri hn hk ha hC hR hru fun I pm x y q pc pr apc apr ru rl aq hT hP => ?_))
  refine fc_XexpP hn hk hM hR hT fun E1 K1 hE => fc_XsolveD hn hk hM hT.1.2.2.2 hR hE hT.2.2.2 fun dm dv rk ct hD hrk hA hct => fc_XsubB hk hT.1 hT.2.1 (fun j hj => (hT.2.2.1 j hj).1) hE hD fun E K hF => ?_
  have hbase := fc_fin_base (by omega) hM hT.1.2.2.2 hE hD hA hF
  have hcnt : fc_cnt (fun c => !bt I c || !decide (dm c = 0)) k = q + rk := by
    have c1 : fc_cnt (fun c => !bt I c) k = q := by
      rw [← fc_img_cnt (p := pc) (k := k) (r := q) (fun i hi => (hT.1.1 i hi).1) hT.1.2.1]
      refine fc_cnt_congr fun c hc => ?_
      rcases hT.1.2.2.1 c hc with z | ⟨j, hj, z⟩
      · rw [z]
        refine (fc_img_f fun i hi e => ?_).symm
        have := (hT.1.1 i hi).2.2.1
        rw [e, z] at this; cases this
      · rw [fc_img_t.mpr ⟨j, hj, z⟩, ← z, (hT.1.1 j hj).2.2.1]; rfl
    rw [← c1, ← hrk]
    refine fc_cnt_or (T := fun c => !bt I c) (U := fc_dn dm) fun c hc hb => fc_dn_f (Classical.byContradiction fun z => ?_)
    have e1 := hD.2 c c hc hc z
    rw [decide_eq_true rfl] at e1
    have e2 := (hD.1 c hc).1 c e1
    rw [e2] at hb; cases hb
  have hle : q + rk ≤ k := by rw [← hcnt]; exact fc_cnt_le _ _
  have inc : ct = 0 → ¬ ∃ v, v ≠ 0 ∧ fc_Sp n a_masks a_values 0 v := fun z ⟨v, h1, h2⟩ => h1 (fc_fin_inc hA hF z h2)
  have dec : ∀ st : Int32, (st = 1 ∨ (st = 3 ∧ q + rk = k) ∨ (st = 2 ∧ q + rk ≠ k)) → (st = 1 ↔ ∃ v, v ≠ 0 ∧ fc_Sp n a_masks a_values 0 v) → fc_Dec k n a_masks a_values st (nI (q + rk)) pm E K := fun st h1 h2 =>
    ⟨⟨q + rk, _, rfl, hbase, hcnt, h1⟩, h2, fun c hc => fc_fin_A hE hD hF hc, fun i hi => (fc_fin_B hA hF hi).1, hP⟩
  refine nm_r (nI_add q rk) (br_c (fun z => pk_eq (q + rk) k (fun e => ?_) (fun e => ?_)) (fun z => ?_))
  · exact h 3 _ _ _ _ _ _ _ _ _ _ _ _ _ _ _ _ _ _ _ _ _ _ (dec 3 (Or.inr (Or.inl ⟨rfl, e⟩)) ⟨fun q => absurd q (by decide), fun q => absurd q (inc z)⟩)
  · exact h 2 _ _ _ _ _ _ _ _ _ _ _ _ _ _ _ _ _ _ _ _ _ _ (dec 2 (Or.inr (Or.inr ⟨rfl, e⟩)) ⟨fun q => absurd q (by decide), fun q => absurd q (inc z)⟩)
  · exact h 1 _ _ _ _ _ _ _ _ _ _ _ _ _ _ _ _ _ _ _ _ _ _ (dec 1 (Or.inl rfl) ⟨fun _ => hct.resolve_left z, fun _ => rfl⟩)
end
end
section
/-! the relation; methods that don't decode -/
def fc_R (k cc e n : Nat) (f_allWords f_running f_weightTotal f_mixedSeed f_state f_rankFound f_peelMask seed : Int32) (a_tableDegree a_tableWeight a_tableEnd a_ids a_values a_masks a_expr a_constant : Nat → Int32) : Prop :=
  (1 ≤ k ∧ k ≤ 24 ∧ 1 ≤ cc ∧ cc ≤ 48 ∧ n ≤ cc ∧ e ≤ 8) ∧ f_allWords = fc_aw k ∧ fc_Tab k e a_tableDegree a_tableWeight ∧ (∀ i, i < e → a_tableEnd i = nI (fc_cum a_tableWeight (i + 1))) ∧ f_weightTotal = nI (fc_cum a_tableWeight e) ∧
  (f_running = 0 → n = 0 ∧ f_state = 0) ∧ (¬ f_running = 0 → 1 ≤ e ∧ f_mixedSeed = fc_mix seed) ∧ (∀ i, i < n → a_masks i = fc_nb k e a_tableDegree a_tableWeight seed (a_ids i)) ∧
  (f_state = 0 ∨ fc_Dec k n a_masks a_values f_state f_rankFound f_peelMask a_expr a_constant)
/-- near equality: the reference's table, words, ids, values are the component's; the masks are the neighbour sets; if decoded, fc_Dec -/
def i_Rel (_ : Nat) (u : SX) (v : SY) : Prop := match u with
  | (f_k, f_capacity, f_allWords, f_running, f_tableCount, f_weightTotal, f_mixedSeed, f_count, f_state, f_rankFound, f_peelMask, f_activeMask, f_inactiveMask, f_queueHead, f_queueTail, f_pivotCount, f_denseRank, f_contradiction, a_tableDegree, a_tableWeight, a_tableEnd, a_source, a_ids, a_values, a_masks, a_expr, a_constant, a_rowStart, a_rowCols, a_colStart, a_colRows, a_rowLeft, a_rowUsed, a_queue, a_pivotCol, a_pivotRow, a_denseMask, a_denseValue) => ∃ (k cc e n : Nat) (seed : Int32) (rm rv : Nat → Int32), f_k = nI k ∧ f_capacity = nI cc ∧ f_tableCount = nI e ∧ f_count = nI n ∧ v = ((nI k), (nI cc), f_running, (nI e), seed, (nI n), f_state, a_tableDegree, a_tableWeight, a_source, a_ids, a_values, rm, rv) ∧ fc_R k cc e n f_allWords f_running f_weightTotal f_mixedSeed f_state f_rankFound f_peelMask seed a_tableDegree a_tableWeight a_tableEnd a_ids a_values a_masks a_expr a_constant
theorem fc_el {kk : Nat} {P : SX → SY → Prop} (h : ∀ (k cc e n : Nat) (f_allWords f_running f_weightTotal f_mixedSeed f_state f_rankFound f_peelMask f_activeMask f_inactiveMask f_queueHead f_queueTail f_pivotCount f_denseRank f_contradiction seed : Int32) (a_tableDegree a_tableWeight a_tableEnd a_source a_ids a_values a_masks a_expr a_constant a_rowStart a_rowCols a_colStart a_colRows a_rowLeft a_rowUsed a_queue a_pivotCol a_pivotRow a_denseMask a_denseValue rm rv : Nat → Int32), fc_R k cc e n f_allWords f_running f_weightTotal f_mixedSeed f_state f_rankFound f_peelMask seed a_tableDegree a_tableWeight a_tableEnd a_ids a_values a_masks a_expr a_constant → P ((nI k), (nI cc), f_allWords, f_running, (nI e), f_weightTotal, f_mixedSeed, (nI n), f_state, f_rankFound, f_peelMask, f_activeMask, f_inactiveMask, f_queueHead, f_queueTail, f_pivotCount, f_denseRank, f_contradiction, a_tableDegree, a_tableWeight, a_tableEnd, a_source, a_ids, a_values, a_masks, a_expr, a_constant, a_rowStart, a_rowCols, a_colStart, a_colRows, a_rowLeft, a_rowUsed, a_queue, a_pivotCol, a_pivotRow, a_denseMask, a_denseValue) ((nI k), (nI cc), f_running, (nI e), seed, (nI n), f_state, a_tableDegree, a_tableWeight, a_source, a_ids, a_values, rm, rv)) : ∀ {u : SX} {v : SY}, i_Rel kk u v → P u v
  | (f_k, f_capacity, f_allWords, f_running, f_tableCount, f_weightTotal, f_mixedSeed, f_count, f_state, f_rankFound, f_peelMask, f_activeMask, f_inactiveMask, f_queueHead, f_queueTail, f_pivotCount, f_denseRank, f_contradiction, a_tableDegree, a_tableWeight, a_tableEnd, a_source, a_ids, a_values, a_masks, a_expr, a_constant, a_rowStart, a_rowCols, a_colStart, a_colRows, a_rowLeft, a_rowUsed, a_queue, a_pivotCol, a_pivotRow, a_denseMask, a_denseValue), _, ⟨k, cc, e, n, seed, rm, rv, h1, h2, h3, h4, h5, hR⟩ => by
    subst h1 h2 h3 h4 h5
    exact h _ _ _ _ _ _ _ _ _ _ _ _ _ _ _ _ _ _ _ _ _ _ _ _ _ _ _ _ _ _ _ _ _ _ _ _ _ _ _ _ _ hR
theorem i_up {k : Nat} {u : SX} {v : SY} (h : i_Rel k u v) : i_Rel (k + 3) u v := h
theorem fc_cum_cg {W W' : Nat → Int32} : ∀ {e : Nat}, (∀ i, i < e → W i = W' i) → fc_cum W e = fc_cum W' e
  | 0, _ => rfl
  | e + 1, h => by
    have := fc_cum_cg (W := W) (W' := W') (e := e) (fun i hi => h i (by omega))
    simp only [fc_cum, this, h e (by omega)]
theorem fc_ge {x : Int32} {n : Nat} (h : nI n ≤ x) (hn : n < 2 ^ 31) : ¬ x < 0 ∧ ¬ x < nI n :=
  ⟨Int32.not_lt.mpr (Int32.le_trans (nI_pos' hn) h), Int32.not_lt.mpr h⟩
def fc_zr (s : Nat → Int32) : Nat → Nat → Int32
  | 0 => s
  | i + 1 => upd (fc_zr s i) i 0
def fc_sh (f : Nat → Int32) (p : Nat) : Nat → Nat → Int32
  | 0 => f
  | t + 1 => upd (fc_sh f p t) (p + t) (fc_sh f p t (p + t + 1))
theorem fc_sh_e {f : Nat → Int32} {p : Nat} : ∀ (t j : Nat), fc_sh f p t j = if p ≤ j ∧ j < p + t then f (j + 1) else f j
  | 0, j => (if_neg (by omega)).symm
  | t + 1, j => by
    show upd (fc_sh f p t) (p + t) (fc_sh f p t (p + t + 1)) j = _
    by_cases e : j = p + t
    · rw [e, pk_us, fc_sh_e t, if_neg (by omega), if_pos (by omega)]
    · rw [pk_un e, fc_sh_e t]
      by_cases z : p ≤ j ∧ j < p + t
      · rw [if_pos z, if_pos (by omega)]
      · rw [if_neg z, if_neg (by omega)]
section
variable {k cc e n : Nat} {f_allWords f_running f_weightTotal f_mixedSeed f_state f_rankFound f_peelMask f_activeMask f_inactiveMask f_queueHead f_queueTail f_pivotCount f_denseRank f_contradiction seed : Int32} {a_tableDegree a_tableWeight a_tableEnd a_source a_ids a_values a_masks a_expr a_constant a_rowStart a_rowCols a_colStart a_colRows a_rowLeft a_rowUsed a_queue a_pivotCol a_pivotRow a_denseMask a_denseValue rm rv : Nat → Int32}
variable {kk : Nat} {v1 v2 : Int32}
theorem fc_in (hR : fc_R k cc e n f_allWords f_running f_weightTotal f_mixedSeed f_state f_rankFound f_peelMask seed a_tableDegree a_tableWeight a_tableEnd a_ids a_values a_masks a_expr a_constant) : i_Rel kk ((nI k), (nI cc), f_allWords, f_running, (nI e), f_weightTotal, f_mixedSeed, (nI n), f_state, f_rankFound, f_peelMask, f_activeMask, f_inactiveMask, f_queueHead, f_queueTail, f_pivotCount, f_denseRank, f_contradiction, a_tableDegree, a_tableWeight, a_tableEnd, a_source, a_ids, a_values, a_masks, a_expr, a_constant, a_rowStart, a_rowCols, a_colStart, a_colRows, a_rowLeft, a_rowUsed, a_queue, a_pivotCol, a_pivotRow, a_denseMask, a_denseValue) ((nI k), (nI cc), f_running, (nI e), seed, (nI n), f_state, a_tableDegree, a_tableWeight, a_source, a_ids, a_values, rm, rv) := ⟨k, cc, e, n, seed, rm, rv, rfl, rfl, rfl, rfl, rfl, hR⟩
theorem fc_R_run (hR : fc_R k cc e n f_allWords f_running f_weightTotal f_mixedSeed f_state f_rankFound f_peelMask seed a_tableDegree a_tableWeight a_tableEnd a_ids a_values a_masks a_expr a_constant) (hr : ¬ f_running = 0) : fc_Run k e a_tableDegree a_tableWeight a_tableEnd f_weightTotal f_mixedSeed seed :=
  ⟨hR.1.1, hR.1.2.1, (hR.2.2.2.2.2.2.1 hr).1, hR.1.2.2.2.2.2, hR.2.2.1, hR.2.2.2.1, hR.2.2.2.2.1, (hR.2.2.2.2.2.2.1 hr).2⟩
theorem fc_R_dec (hR : fc_R k cc e n f_allWords f_running f_weightTotal f_mixedSeed f_state f_rankFound f_peelMask seed a_tableDegree a_tableWeight a_tableEnd a_ids a_values a_masks a_expr a_constant) (hs : ¬ f_state = 0) : (¬ f_running = 0) ∧ fc_Dec k n a_masks a_values f_state f_rankFound f_peelMask a_expr a_constant :=
  ⟨fun z => hs (hR.2.2.2.2.2.1 z).2, hR.2.2.2.2.2.2.2.2.resolve_left hs⟩
theorem fc_R_mI (hR : fc_R k cc e n f_allWords f_running f_weightTotal f_mixedSeed f_state f_rankFound f_peelMask seed a_tableDegree a_tableWeight a_tableEnd a_ids a_values a_masks a_expr a_constant) : ∀ i, i < n → fc_In k (a_masks i) := fun i hi => by
  rw [hR.2.2.2.2.2.2.2.1 i hi]
  exact fc_nb_In hR.1.1 (Nat.le_trans hR.1.2.1 (by decide))
theorem fc_v_addDegree (hR : fc_R k cc e n f_allWords f_running f_weightTotal f_mixedSeed f_state f_rankFound f_peelMask seed a_tableDegree a_tableWeight a_tableEnd a_ids a_values a_masks a_expr a_constant) : wpX_addDegree (fun r u' => wpY_addDegree (fun r' v' => r' = r ∧ i_Rel kk u' v') ((nI k), (nI cc), f_running, (nI e), seed, (nI n), f_state, a_tableDegree, a_tableWeight, a_source, a_ids, a_values, rm, rv) v1 v2) ((nI k), (nI cc), f_allWords, f_running, (nI e), f_weightTotal, f_mixedSeed, (nI n), f_state, f_rankFound, f_peelMask, f_activeMask, f_inactiveMask, f_queueHead, f_queueTail, f_pivotCount, f_denseRank, f_contradiction, a_tableDegree, a_tableWeight, a_tableEnd, a_source, a_ids, a_values, a_masks, a_expr, a_constant, a_rowStart, a_rowCols, a_colStart, a_colRows, a_rowLeft, a_rowUsed, a_queue, a_pivotCol, a_pivotRow, a_denseMask, a_denseValue) v1 v2 := by
  have keep : i_Rel kk ((nI k), (nI cc), f_allWords, f_running, (nI e), f_weightTotal, f_mixedSeed, (nI n), f_state, f_rankFound, f_peelMask, f_activeMask, f_inactiveMask, f_queueHead, f_queueTail, f_pivotCount, f_denseRank, f_contradiction, a_tableDegree, a_tableWeight, a_tableEnd, a_source, a_ids, a_values, a_masks, a_expr, a_constant, a_rowStart, a_rowCols, a_colStart, a_colRows, a_rowLeft, a_rowUsed, a_queue, a_pivotCol, a_pivotRow, a_denseMask, a_denseValue) ((nI k), (nI cc), f_running, (nI e), seed, (nI n), f_state, a_tableDegree, a_tableWeight, a_source, a_ids, a_values, rm, rv) := fc_in hR
  by_cases h0 : f_running = 0
  · by_cases h1 : v1 < 1
    · exact br_t h0 (br_t h1 (br_t h0 (br_t h1 ⟨rfl, keep⟩)))
    · by_cases h2 : nI k < v1
      · exact br_t h0 (br_f h1 (br_t h2 (br_t h0 (br_f h1 (br_t h2 ⟨rfl, keep⟩)))))
      · by_cases h3 : v2 < 1
        · exact br_t h0 (br_f h1 (br_f h2 (br_t h3 (br_t h0 (br_f h1 (br_f h2 (br_t h3 ⟨rfl, keep⟩)))))))
        · by_cases h4 : v2 ≤ 999
          · obtain ⟨⟨k1, k2, c1, c2, c3, e1⟩, r2, r3, r4, r5, r6, r7, r8, r9⟩ := hR
            by_cases h5 : nI e < 8
            · have he : e < 8 := (nI_ltI (b := 8) (by omega) (by omega)).mp h5
              have p1 : ¬ v1 < 0 := fun z => h1 (Int32.lt_trans z (by decide))
              have p2 : ¬ v2 < 0 := fun z => h3 (Int32.lt_trans z (by decide))
              obtain ⟨d, hd, rfl⟩ := nI_of p1
              obtain ⟨w, hw, rfl⟩ := nI_of p2
              have d1 : 1 ≤ d := by
                rcases Nat.lt_or_ge d 1 with z | z
                · exact absurd (nI_lt (b := 1) z (by omega)) h1
                · exact z
              have d2 : d ≤ k := by
                rcases Nat.lt_or_ge k d with z | z
                · exact absurd (nI_lt z hd) h2
                · exact z
              have w1 : 1 ≤ w := by
                rcases Nat.lt_or_ge w 1 with z | z
                · exact absurd (nI_lt (b := 1) z (by omega)) h3
                · exact z
              have w2 : w ≤ 999 := (nI_leI (b := 999) hw (by omega)).mp h4
              have ie : vp_in (nI e) 8 := vp_in_nI he (by omega)
              obtain ⟨n0, s0⟩ := r6 h0
              have cu : ∀ i, i ≤ e → fc_cum (upd a_tableWeight e (nI w)) i = fc_cum a_tableWeight i := fun i hi => fc_cum_cg fun j hj => pk_un (by omega)
              have cs : fc_cum (upd a_tableWeight e (nI w)) (e + 1) = fc_cum a_tableWeight e + w := by
                simp only [fc_cum]
                rw [cu e (Nat.le_refl _), pk_us, nI_clamp hw]
              have nR : fc_R k cc (e + 1) n f_allWords f_running (nI (fc_cum a_tableWeight e + w)) f_mixedSeed f_state f_rankFound f_peelMask seed (upd a_tableDegree e (nI d)) (upd a_tableWeight e (nI w)) (upd a_tableEnd e (nI (fc_cum a_tableWeight e + w))) a_ids a_values a_masks a_expr a_constant := by
                refine ⟨⟨k1, k2, c1, c2, c3, by omega⟩, r2, fun i hi => ?_, fun i hi => ?_, by rw [cs], r6, fun z => absurd h0 z, fun i hi => by omega, Or.inl s0⟩
                · by_cases ei : i = e
                  · rw [ei, pk_us, pk_us]; exact ⟨⟨d, d1, d2, rfl⟩, ⟨w, w1, w2, rfl⟩⟩
                  · rw [pk_un ei, pk_un ei]; exact r3 i (by omega)
                · by_cases ei : i = e
                  · rw [ei, pk_us, cs]
                  · rw [pk_un ei, cu (i + 1) (by omega)]; exact r4 i (by omega)
              refine br_t h0 (br_f h1 (br_f h2 (br_f h3 (br_t h4 (br_t h5 (nm_r (by rw [r5, nI_add]) ⟨ie, ?_⟩))))))
              rw [nI_clamp (n := e) (by omega)]
              refine nm_e ⟨ie, nm_e ⟨ie, nm_e (nm_r (nI_1 e) (br_t h0 (br_f h1 (br_f h2 (br_f h3 (br_t h4 (br_t h5 ⟨ie, ?_⟩)))))))⟩⟩
              rw [nI_clamp (n := e) (by omega)]
              exact nm_e ⟨ie, nm_e (nm_r (nI_1 e) ⟨rfl, fc_in nR⟩)⟩
            · exact br_t h0 (br_f h1 (br_f h2 (br_f h3 (br_t h4 (br_f h5 (br_t h0 (br_f h1 (br_f h2 (br_f h3 (br_t h4 (br_f h5 ⟨rfl, keep⟩)))))))))))
          · exact br_t h0 (br_f h1 (br_f h2 (br_f h3 (br_f h4 (br_t h0 (br_f h1 (br_f h2 (br_f h3 (br_f h4 ⟨rfl, keep⟩)))))))))
  · exact br_f h0 (br_f h0 ⟨rfl, keep⟩)
theorem fc_v_tableEntry (hR : fc_R k cc e n f_allWords f_running f_weightTotal f_mixedSeed f_state f_rankFound f_peelMask seed a_tableDegree a_tableWeight a_tableEnd a_ids a_values a_masks a_expr a_constant) : wpX_tableEntry (fun r => wpY_tableEntry (fun r' => r' = r ∧ i_Rel kk ((nI k), (nI cc), f_allWords, f_running, (nI e), f_weightTotal, f_mixedSeed, (nI n), f_state, f_rankFound, f_peelMask, f_activeMask, f_inactiveMask, f_queueHead, f_queueTail, f_pivotCount, f_denseRank, f_contradiction, a_tableDegree, a_tableWeight, a_tableEnd, a_source, a_ids, a_values, a_masks, a_expr, a_constant, a_rowStart, a_rowCols, a_colStart, a_colRows, a_rowLeft, a_rowUsed, a_queue, a_pivotCol, a_pivotRow, a_denseMask, a_denseValue) ((nI k), (nI cc), f_running, (nI e), seed, (nI n), f_state, a_tableDegree, a_tableWeight, a_source, a_ids, a_values, rm, rv)) ((nI k), (nI cc), f_running, (nI e), seed, (nI n), f_state, a_tableDegree, a_tableWeight, a_source, a_ids, a_values, rm, rv) v1) ((nI k), (nI cc), f_allWords, f_running, (nI e), f_weightTotal, f_mixedSeed, (nI n), f_state, f_rankFound, f_peelMask, f_activeMask, f_inactiveMask, f_queueHead, f_queueTail, f_pivotCount, f_denseRank, f_contradiction, a_tableDegree, a_tableWeight, a_tableEnd, a_source, a_ids, a_values, a_masks, a_expr, a_constant, a_rowStart, a_rowCols, a_colStart, a_colRows, a_rowLeft, a_rowUsed, a_queue, a_pivotCol, a_pivotRow, a_denseMask, a_denseValue) v1 := by
  have keep : i_Rel kk ((nI k), (nI cc), f_allWords, f_running, (nI e), f_weightTotal, f_mixedSeed, (nI n), f_state, f_rankFound, f_peelMask, f_activeMask, f_inactiveMask, f_queueHead, f_queueTail, f_pivotCount, f_denseRank, f_contradiction, a_tableDegree, a_tableWeight, a_tableEnd, a_source, a_ids, a_values, a_masks, a_expr, a_constant, a_rowStart, a_rowCols, a_colStart, a_colRows, a_rowLeft, a_rowUsed, a_queue, a_pivotCol, a_pivotRow, a_denseMask, a_denseValue) ((nI k), (nI cc), f_running, (nI e), seed, (nI n), f_state, a_tableDegree, a_tableWeight, a_source, a_ids, a_values, rm, rv) := fc_in hR
  have he := hR.1.2.2.2.2.2
  rcases pk_ix v1 (n := e) (by omega) with h | h | ⟨j, hj, rfl⟩
  · exact br_t h (br_t h ⟨rfl, keep⟩)
  · obtain ⟨h1, h2⟩ := fc_ge h (by omega)
    exact br_f h1 (br_f h2 (br_f h1 (br_f h2 ⟨rfl, keep⟩)))
  · have h1 : ¬ nI j < 0 := nI_pos (by omega)
    have h2 : nI j < nI e := nI_lt hj (by omega)
    have hi : vp_in (nI j) 8 := vp_in_nI (by omega) (by omega)
    exact br_f h1 (br_t h2 ⟨hi, hi, br_f h1 (br_t h2 ⟨hi, hi, rfl, keep⟩)⟩)
theorem fc_v_start (hR : fc_R k cc e n f_allWords f_running f_weightTotal f_mixedSeed f_state f_rankFound f_peelMask seed a_tableDegree a_tableWeight a_tableEnd a_ids a_values a_masks a_expr a_constant) : wpX_start (fun r u' => wpY_start (fun r' v' => r' = r ∧ i_Rel kk u' v') ((nI k), (nI cc), f_running, (nI e), seed, (nI n), f_state, a_tableDegree, a_tableWeight, a_source, a_ids, a_values, rm, rv) v1) ((nI k), (nI cc), f_allWords, f_running, (nI e), f_weightTotal, f_mixedSeed, (nI n), f_state, f_rankFound, f_peelMask, f_activeMask, f_inactiveMask, f_queueHead, f_queueTail, f_pivotCount, f_denseRank, f_contradiction, a_tableDegree, a_tableWeight, a_tableEnd, a_source, a_ids, a_values, a_masks, a_expr, a_constant, a_rowStart, a_rowCols, a_colStart, a_colRows, a_rowLeft, a_rowUsed, a_queue, a_pivotCol, a_pivotRow, a_denseMask, a_denseValue) v1 := by
  have keep : i_Rel kk ((nI k), (nI cc), f_allWords, f_running, (nI e), f_weightTotal, f_mixedSeed, (nI n), f_state, f_rankFound, f_peelMask, f_activeMask, f_inactiveMask, f_queueHead, f_queueTail, f_pivotCount, f_denseRank, f_contradiction, a_tableDegree, a_tableWeight, a_tableEnd, a_source, a_ids, a_values, a_masks, a_expr, a_constant, a_rowStart, a_rowCols, a_colStart, a_colRows, a_rowLeft, a_rowUsed, a_queue, a_pivotCol, a_pivotRow, a_denseMask, a_denseValue) ((nI k), (nI cc), f_running, (nI e), seed, (nI n), f_state, a_tableDegree, a_tableWeight, a_source, a_ids, a_values, rm, rv) := fc_in hR
  obtain ⟨⟨k1, k2, c1, c2, c3, e1⟩, r2, r3, r4, r5, r6, r7, r8, r9⟩ := hR
  by_cases h0 : f_running = 0
  · by_cases h1 : nI e = 0
    · exact br_t h0 (br_t h1 (br_t h0 (br_t h1 ⟨rfl, keep⟩)))
    · have he : 1 ≤ e := by
        rcases Nat.lt_or_ge e 1 with z | z
        · have : e = 0 := by omega
          rw [this] at h1; exact absurd rfl h1
        · exact z
      obtain ⟨n0, s0⟩ := r6 h0
      have nR : fc_R k cc e n f_allWords 1 f_weightTotal (fc_mix v1) f_state f_rankFound f_peelMask v1 a_tableDegree a_tableWeight a_tableEnd a_ids a_values a_masks a_expr a_constant := ⟨⟨k1, k2, c1, c2, c3, e1⟩, r2, r3, r4, r5, fun z => absurd z (by decide), fun _ => ⟨he, rfl⟩, fun i hi => by omega, Or.inl s0⟩
      exact br_t h0 (br_f h1 (fc_Xmix _ (br_t h0 (br_f h1 ⟨rfl, fc_in nR⟩))))
  · exact br_f h0 (br_f h0 ⟨rfl, keep⟩)
theorem fc_Xreset_l {post : SX → Prop} {s : Nat → Int32} (h : post ((nI k), (nI cc), f_allWords, f_running, (nI e), f_weightTotal, f_mixedSeed, 0, 0, f_rankFound, f_peelMask, f_activeMask, f_inactiveMask, f_queueHead, f_queueTail, f_pivotCount, f_denseRank, f_contradiction, a_tableDegree, a_tableWeight, a_tableEnd, (fc_zr s 24), a_ids, a_values, a_masks, a_expr, a_constant, a_rowStart, a_rowCols, a_colStart, a_colRows, a_rowLeft, a_rowUsed, a_queue, a_pivotCol, a_pivotRow, a_denseMask, a_denseValue)) : ∀ d i : Nat, i + d = 24 → wX_reset_22 post (nI k) (nI cc) f_allWords f_running (nI e) f_weightTotal f_mixedSeed (nI n) f_state f_rankFound f_peelMask f_activeMask f_inactiveMask f_queueHead f_queueTail f_pivotCount f_denseRank f_contradiction (d + 1) (nI i) a_tableDegree a_tableWeight a_tableEnd (fc_zr s i) a_ids a_values a_masks a_expr a_constant a_rowStart a_rowCols a_colStart a_colRows a_rowLeft a_rowUsed a_queue a_pivotCol a_pivotRow a_denseMask a_denseValue := by
  intro d
  induction d with
  | zero =>
    intro i hi
    have ei : i = 24 := by omega
    subst ei
    exact br_t (nI_le (a := 24) (by omega) (by omega)) h
  | succ d ih =>
    intro i hi
    refine br_f (nI_ge (b := 24) (by omega) (by omega)) ⟨vp_in_nI (by omega) (by omega), ?_⟩
    rw [nI_clamp (n := i) (by omega)]
    exact nm_e (nm_r (nI_1 i) (ih (i + 1) (by omega)))
theorem fc_Yreset_l {post : SY → Prop} {s : Nat → Int32} (h : post ((nI k), (nI cc), f_running, (nI e), seed, (nI n), f_state, a_tableDegree, a_tableWeight, (fc_zr s 24), a_ids, a_values, rm, rv)) : ∀ d i : Nat, i + d = 24 → wY_reset_27 post (nI k) (nI cc) f_running (nI e) seed (nI n) f_state (d + 1) (nI i) a_tableDegree a_tableWeight (fc_zr s i) a_ids a_values rm rv := by
  intro d
  induction d with
  | zero =>
    intro i hi
    have ei : i = 24 := by omega
    subst ei
    exact br_t (nI_le (a := 24) (by omega) (by omega)) h
  | succ d ih =>
    intro i hi
    refine br_f (nI_ge (b := 24) (by omega) (by omega)) ⟨vp_in_nI (by omega) (by omega), ?_⟩
    rw [nI_clamp (n := i) (by omega)]
    exact nm_e (nm_r (nI_1 i) (ih (i + 1) (by omega)))
theorem fc_R_reset (hR : fc_R k cc e n f_allWords f_running f_weightTotal f_mixedSeed f_state f_rankFound f_peelMask seed a_tableDegree a_tableWeight a_tableEnd a_ids a_values a_masks a_expr a_constant) : fc_R k cc 0 0 f_allWords 0 0 0 0 f_rankFound f_peelMask 0 a_tableDegree a_tableWeight a_tableEnd a_ids a_values a_masks a_expr a_constant := by
  obtain ⟨⟨k1, k2, c1, c2, c3, e1⟩, r2, r3, r4, r5, r6, r7, r8, r9⟩ := hR
  exact ⟨⟨k1, k2, c1, c2, Nat.zero_le _, Nat.zero_le _⟩, r2, fun i hi => by omega, fun i hi => by omega, rfl, fun _ => ⟨rfl, rfl⟩, fun z => absurd rfl z, fun i hi => by omega, Or.inl rfl⟩
theorem fc_v_reset (hR : fc_R k cc e n f_allWords f_running f_weightTotal f_mixedSeed f_state f_rankFound f_peelMask seed a_tableDegree a_tableWeight a_tableEnd a_ids a_values a_masks a_expr a_constant) : wpX_reset (fun u' => wpY_reset (fun v' => i_Rel kk u' v') ((nI k), (nI cc), f_running, (nI e), seed, (nI n), f_state, a_tableDegree, a_tableWeight, a_source, a_ids, a_values, rm, rv)) ((nI k), (nI cc), f_allWords, f_running, (nI e), f_weightTotal, f_mixedSeed, (nI n), f_state, f_rankFound, f_peelMask, f_activeMask, f_inactiveMask, f_queueHead, f_queueTail, f_pivotCount, f_denseRank, f_contradiction, a_tableDegree, a_tableWeight, a_tableEnd, a_source, a_ids, a_values, a_masks, a_expr, a_constant, a_rowStart, a_rowCols, a_colStart, a_colRows, a_rowLeft, a_rowUsed, a_queue, a_pivotCol, a_pivotRow, a_denseMask, a_denseValue) := by
  refine Exists.intro 25 (fc_Xreset_l (e := 0) (f_running := 0) (f_weightTotal := 0) (f_mixedSeed := 0) (s := a_source) ?_ 24 0 rfl)
  refine Exists.intro 25 (fc_Yreset_l (e := 0) (n := 0) (f_running := 0) (f_state := 0) (seed := 0) (s := a_source) ?_ 24 0 rfl)
  exact fc_in (e := 0) (n := 0) (seed := 0) (fc_R_reset hR)
theorem fc_v_setWord (hR : fc_R k cc e n f_allWords f_running f_weightTotal f_mixedSeed f_state f_rankFound f_peelMask seed a_tableDegree a_tableWeight a_tableEnd a_ids a_values a_masks a_expr a_constant) : wpX_setWord (fun r u' => wpY_setWord (fun r' v' => r' = r ∧ i_Rel kk u' v') ((nI k), (nI cc), f_running, (nI e), seed, (nI n), f_state, a_tableDegree, a_tableWeight, a_source, a_ids, a_values, rm, rv) v1 v2) ((nI k), (nI cc), f_allWords, f_running, (nI e), f_weightTotal, f_mixedSeed, (nI n), f_state, f_rankFound, f_peelMask, f_activeMask, f_inactiveMask, f_queueHead, f_queueTail, f_pivotCount, f_denseRank, f_contradiction, a_tableDegree, a_tableWeight, a_tableEnd, a_source, a_ids, a_values, a_masks, a_expr, a_constant, a_rowStart, a_rowCols, a_colStart, a_colRows, a_rowLeft, a_rowUsed, a_queue, a_pivotCol, a_pivotRow, a_denseMask, a_denseValue) v1 v2 := by
  have keep : i_Rel kk ((nI k), (nI cc), f_allWords, f_running, (nI e), f_weightTotal, f_mixedSeed, (nI n), f_state, f_rankFound, f_peelMask, f_activeMask, f_inactiveMask, f_queueHead, f_queueTail, f_pivotCount, f_denseRank, f_contradiction, a_tableDegree, a_tableWeight, a_tableEnd, a_source, a_ids, a_values, a_masks, a_expr, a_constant, a_rowStart, a_rowCols, a_colStart, a_colRows, a_rowLeft, a_rowUsed, a_queue, a_pivotCol, a_pivotRow, a_denseMask, a_denseValue) ((nI k), (nI cc), f_running, (nI e), seed, (nI n), f_state, a_tableDegree, a_tableWeight, a_source, a_ids, a_values, rm, rv) := fc_in hR
  have hk := hR.1.2.1
  rcases pk_ix v1 (n := k) (by omega) with h | h | ⟨j, hj, rfl⟩
  · exact br_t h (br_t h ⟨rfl, keep⟩)
  · obtain ⟨h1, h2⟩ := fc_ge h (by omega)
    exact br_f h1 (br_f h2 (br_f h1 (br_f h2 ⟨rfl, keep⟩)))
  · have h1 : ¬ nI j < 0 := nI_pos (by omega)
    have h2 : nI j < nI k := nI_lt hj (by omega)
    have hi : vp_in (nI j) 24 := vp_in_nI (by omega) (by omega)
    exact br_f h1 (br_t h2 ⟨hi, nm_e (br_f h1 (br_t h2 ⟨hi, nm_e ⟨rfl, fc_in hR⟩⟩))⟩)
theorem fc_v_word (hR : fc_R k cc e n f_allWords f_running f_weightTotal f_mixedSeed f_state f_rankFound f_peelMask seed a_tableDegree a_tableWeight a_tableEnd a_ids a_values a_masks a_expr a_constant) : wpX_word (fun r => wpY_word (fun r' => r' = r ∧ i_Rel kk ((nI k), (nI cc), f_allWords, f_running, (nI e), f_weightTotal, f_mixedSeed, (nI n), f_state, f_rankFound, f_peelMask, f_activeMask, f_inactiveMask, f_queueHead, f_queueTail, f_pivotCount, f_denseRank, f_contradiction, a_tableDegree, a_tableWeight, a_tableEnd, a_source, a_ids, a_values, a_masks, a_expr, a_constant, a_rowStart, a_rowCols, a_colStart, a_colRows, a_rowLeft, a_rowUsed, a_queue, a_pivotCol, a_pivotRow, a_denseMask, a_denseValue) ((nI k), (nI cc), f_running, (nI e), seed, (nI n), f_state, a_tableDegree, a_tableWeight, a_source, a_ids, a_values, rm, rv)) ((nI k), (nI cc), f_running, (nI e), seed, (nI n), f_state, a_tableDegree, a_tableWeight, a_source, a_ids, a_values, rm, rv) v1) ((nI k), (nI cc), f_allWords, f_running, (nI e), f_weightTotal, f_mixedSeed, (nI n), f_state, f_rankFound, f_peelMask, f_activeMask, f_inactiveMask, f_queueHead, f_queueTail, f_pivotCount, f_denseRank, f_contradiction, a_tableDegree, a_tableWeight, a_tableEnd, a_source, a_ids, a_values, a_masks, a_expr, a_constant, a_rowStart, a_rowCols, a_colStart, a_colRows, a_rowLeft, a_rowUsed, a_queue, a_pivotCol, a_pivotRow, a_denseMask, a_denseValue) v1 := by
  have keep : i_Rel kk ((nI k), (nI cc), f_allWords, f_running, (nI e), f_weightTotal, f_mixedSeed, (nI n), f_state, f_rankFound, f_peelMask, f_activeMask, f_inactiveMask, f_queueHead, f_queueTail, f_pivotCount, f_denseRank, f_contradiction, a_tableDegree, a_tableWeight, a_tableEnd, a_source, a_ids, a_values, a_masks, a_expr, a_constant, a_rowStart, a_rowCols, a_colStart, a_colRows, a_rowLeft, a_rowUsed, a_queue, a_pivotCol, a_pivotRow, a_denseMask, a_denseValue) ((nI k), (nI cc), f_running, (nI e), seed, (nI n), f_state, a_tableDegree, a_tableWeight, a_source, a_ids, a_values, rm, rv) := fc_in hR
  have hk := hR.1.2.1
  rcases pk_ix v1 (n := k) (by omega) with h | h | ⟨j, hj, rfl⟩
  · exact br_t h (br_t h ⟨rfl, keep⟩)
  · obtain ⟨h1, h2⟩ := fc_ge h (by omega)
    exact br_f h1 (br_f h2 (br_f h1 (br_f h2 ⟨rfl, keep⟩)))
  · have h1 : ¬ nI j < 0 := nI_pos (by omega)
    have h2 : nI j < nI k := nI_lt hj (by omega)
    have hi : vp_in (nI j) 24 := vp_in_nI (by omega) (by omega)
    exact br_f h1 (br_t h2 ⟨hi, br_f h1 (br_t h2 ⟨hi, rfl, keep⟩)⟩)
theorem fc_v_neighbours (hR : fc_R k cc e n f_allWords f_running f_weightTotal f_mixedSeed f_state f_rankFound f_peelMask seed a_tableDegree a_tableWeight a_tableEnd a_ids a_values a_masks a_expr a_constant) : wpX_neighbours (fun r => wpY_neighbours (fun r' => r' = r ∧ i_Rel kk ((nI k), (nI cc), f_allWords, f_running, (nI e), f_weightTotal, f_mixedSeed, (nI n), f_state, f_rankFound, f_peelMask, f_activeMask, f_inactiveMask, f_queueHead, f_queueTail, f_pivotCount, f_denseRank, f_contradiction, a_tableDegree, a_tableWeight, a_tableEnd, a_source, a_ids, a_values, a_masks, a_expr, a_constant, a_rowStart, a_rowCols, a_colStart, a_colRows, a_rowLeft, a_rowUsed, a_queue, a_pivotCol, a_pivotRow, a_denseMask, a_denseValue) ((nI k), (nI cc), f_running, (nI e), seed, (nI n), f_state, a_tableDegree, a_tableWeight, a_source, a_ids, a_values, rm, rv)) ((nI k), (nI cc), f_running, (nI e), seed, (nI n), f_state, a_tableDegree, a_tableWeight, a_source, a_ids, a_values, rm, rv) v1) ((nI k), (nI cc), f_allWords, f_running, (nI e), f_weightTotal, f_mixedSeed, (nI n), f_state, f_rankFound, f_peelMask, f_activeMask, f_inactiveMask, f_queueHead, f_queueTail, f_pivotCount, f_denseRank, f_contradiction, a_tableDegree, a_tableWeight, a_tableEnd, a_source, a_ids, a_values, a_masks, a_expr, a_constant, a_rowStart, a_rowCols, a_colStart, a_colRows, a_rowLeft, a_rowUsed, a_queue, a_pivotCol, a_pivotRow, a_denseMask, a_denseValue) v1 := by
  have keep : i_Rel kk ((nI k), (nI cc), f_allWords, f_running, (nI e), f_weightTotal, f_mixedSeed, (nI n), f_state, f_rankFound, f_peelMask, f_activeMask, f_inactiveMask, f_queueHead, f_queueTail, f_pivotCount, f_denseRank, f_contradiction, a_tableDegree, a_tableWeight, a_tableEnd, a_source, a_ids, a_values, a_masks, a_expr, a_constant, a_rowStart, a_rowCols, a_colStart, a_colRows, a_rowLeft, a_rowUsed, a_queue, a_pivotCol, a_pivotRow, a_denseMask, a_denseValue) ((nI k), (nI cc), f_running, (nI e), seed, (nI n), f_state, a_tableDegree, a_tableWeight, a_source, a_ids, a_values, rm, rv) := fc_in hR
  by_cases h0 : f_running = 0
  · exact fc_X0nb h0 (fc_Y0nb h0 ⟨rfl, keep⟩)
  · exact fc_Xnb h0 (fc_R_run hR h0) (fc_Ynb h0 (fc_R_run hR h0) ⟨rfl, keep⟩)
theorem fc_v_emit (hR : fc_R k cc e n f_allWords f_running f_weightTotal f_mixedSeed f_state f_rankFound f_peelMask seed a_tableDegree a_tableWeight a_tableEnd a_ids a_values a_masks a_expr a_constant) : wpX_emit (fun r => wpY_emit (fun r' => r' = r ∧ i_Rel kk ((nI k), (nI cc), f_allWords, f_running, (nI e), f_weightTotal, f_mixedSeed, (nI n), f_state, f_rankFound, f_peelMask, f_activeMask, f_inactiveMask, f_queueHead, f_queueTail, f_pivotCount, f_denseRank, f_contradiction, a_tableDegree, a_tableWeight, a_tableEnd, a_source, a_ids, a_values, a_masks, a_expr, a_constant, a_rowStart, a_rowCols, a_colStart, a_colRows, a_rowLeft, a_rowUsed, a_queue, a_pivotCol, a_pivotRow, a_denseMask, a_denseValue) ((nI k), (nI cc), f_running, (nI e), seed, (nI n), f_state, a_tableDegree, a_tableWeight, a_source, a_ids, a_values, rm, rv)) ((nI k), (nI cc), f_running, (nI e), seed, (nI n), f_state, a_tableDegree, a_tableWeight, a_source, a_ids, a_values, rm, rv) v1) ((nI k), (nI cc), f_allWords, f_running, (nI e), f_weightTotal, f_mixedSeed, (nI n), f_state, f_rankFound, f_peelMask, f_activeMask, f_inactiveMask, f_queueHead, f_queueTail, f_pivotCount, f_denseRank, f_contradiction, a_tableDegree, a_tableWeight, a_tableEnd, a_source, a_ids, a_values, a_masks, a_expr, a_constant, a_rowStart, a_rowCols, a_colStart, a_colRows, a_rowLeft, a_rowUsed, a_queue, a_pivotCol, a_pivotRow, a_denseMask, a_denseValue) v1 := by
  have keep : i_Rel kk ((nI k), (nI cc), f_allWords, f_running, (nI e), f_weightTotal, f_mixedSeed, (nI n), f_state, f_rankFound, f_peelMask, f_activeMask, f_inactiveMask, f_queueHead, f_queueTail, f_pivotCount, f_denseRank, f_contradiction, a_tableDegree, a_tableWeight, a_tableEnd, a_source, a_ids, a_values, a_masks, a_expr, a_constant, a_rowStart, a_rowCols, a_colStart, a_colRows, a_rowLeft, a_rowUsed, a_queue, a_pivotCol, a_pivotRow, a_denseMask, a_denseValue) ((nI k), (nI cc), f_running, (nI e), seed, (nI n), f_state, a_tableDegree, a_tableWeight, a_source, a_ids, a_values, rm, rv) := fc_in hR
  have hk := hR.1.2.1
  unfold wpX_emit
  by_cases h0 : f_running = 0
  · refine fc_X0nb h0 (fc_Xencode hk (fc_Y0emit hk h0 ⟨?_, keep⟩))
    rw [fc_fx_m0]
  · exact fc_Xnb h0 (fc_R_run hR h0) (fc_Xencode hk (fc_Yemit h0 (fc_R_run hR h0) ⟨rfl, keep⟩))
theorem fc_R_app {id val : Int32} (hR : fc_R k cc e n f_allWords f_running f_weightTotal f_mixedSeed f_state f_rankFound f_peelMask seed a_tableDegree a_tableWeight a_tableEnd a_ids a_values a_masks a_expr a_constant) (hr : ¬ f_running = 0) (hn : n < cc) : fc_R k cc e (n + 1) f_allWords f_running f_weightTotal f_mixedSeed 0 f_rankFound f_peelMask seed a_tableDegree a_tableWeight a_tableEnd (upd a_ids n id) (upd a_values n val) (upd a_masks n (fc_nb k e a_tableDegree a_tableWeight seed id)) a_expr a_constant := by
  obtain ⟨⟨k1, k2, c1, c2, c3, e1⟩, r2, r3, r4, r5, r6, r7, r8, r9⟩ := hR
  refine ⟨⟨k1, k2, c1, c2, hn, e1⟩, r2, r3, r4, r5, fun z => absurd z hr, r7, fun i hi => ?_, Or.inl rfl⟩
  by_cases ei : i = n
  · rw [ei, pk_us, pk_us]
  · rw [pk_un ei, pk_un ei]; exact r8 i (by omega)
theorem fc_Xapp {post : SX → Prop} {id val m : Int32} (hn : n < 48) (h : post ((nI k), (nI cc), f_allWords, f_running, (nI e), f_weightTotal, f_mixedSeed, (nI (n + 1)), 0, f_rankFound, f_peelMask, f_activeMask, f_inactiveMask, f_queueHead, f_queueTail, f_pivotCount, f_denseRank, f_contradiction, a_tableDegree, a_tableWeight, a_tableEnd, a_source, (upd a_ids n id), (upd a_values n val), (upd a_masks n m), a_expr, a_constant, a_rowStart, a_rowCols, a_colStart, a_colRows, a_rowLeft, a_rowUsed, a_queue, a_pivotCol, a_pivotRow, a_denseMask, a_denseValue)) : wpX_append post ((nI k), (nI cc), f_allWords, f_running, (nI e), f_weightTotal, f_mixedSeed, (nI n), f_state, f_rankFound, f_peelMask, f_activeMask, f_inactiveMask, f_queueHead, f_queueTail, f_pivotCount, f_denseRank, f_contradiction, a_tableDegree, a_tableWeight, a_tableEnd, a_source, a_ids, a_values, a_masks, a_expr, a_constant, a_rowStart, a_rowCols, a_colStart, a_colRows, a_rowLeft, a_rowUsed, a_queue, a_pivotCol, a_pivotRow, a_denseMask, a_denseValue) id val m := by
  have i1 : vp_in (nI n) 48 := vp_in_nI hn (by omega)
  refine ⟨i1, ?_⟩
  rw [nI_clamp (n := n) (by omega)]
  exact nm_e ⟨i1, nm_e ⟨i1, nm_e (nm_r (nI_1 n) h)⟩⟩
theorem fc_v_accept (hR : fc_R k cc e n f_allWords f_running f_weightTotal f_mixedSeed f_state f_rankFound f_peelMask seed a_tableDegree a_tableWeight a_tableEnd a_ids a_values a_masks a_expr a_constant) : wpX_accept (fun r u' => wpY_accept (fun r' v' => r' = r ∧ i_Rel kk u' v') ((nI k), (nI cc), f_running, (nI e), seed, (nI n), f_state, a_tableDegree, a_tableWeight, a_source, a_ids, a_values, rm, rv) v1 v2) ((nI k), (nI cc), f_allWords, f_running, (nI e), f_weightTotal, f_mixedSeed, (nI n), f_state, f_rankFound, f_peelMask, f_activeMask, f_inactiveMask, f_queueHead, f_queueTail, f_pivotCount, f_denseRank, f_contradiction, a_tableDegree, a_tableWeight, a_tableEnd, a_source, a_ids, a_values, a_masks, a_expr, a_constant, a_rowStart, a_rowCols, a_colStart, a_colRows, a_rowLeft, a_rowUsed, a_queue, a_pivotCol, a_pivotRow, a_denseMask, a_denseValue) v1 v2 := by
  have keep : i_Rel kk ((nI k), (nI cc), f_allWords, f_running, (nI e), f_weightTotal, f_mixedSeed, (nI n), f_state, f_rankFound, f_peelMask, f_activeMask, f_inactiveMask, f_queueHead, f_queueTail, f_pivotCount, f_denseRank, f_contradiction, a_tableDegree, a_tableWeight, a_tableEnd, a_source, a_ids, a_values, a_masks, a_expr, a_constant, a_rowStart, a_rowCols, a_colStart, a_colRows, a_rowLeft, a_rowUsed, a_queue, a_pivotCol, a_pivotRow, a_denseMask, a_denseValue) ((nI k), (nI cc), f_running, (nI e), seed, (nI n), f_state, a_tableDegree, a_tableWeight, a_source, a_ids, a_values, rm, rv) := fc_in hR
  have hc := hR.1.2.2.2.1
  have hn := hR.1.2.2.2.2.1
  by_cases h0 : f_running = 0
  · exact br_t h0 (br_t h0 ⟨rfl, keep⟩)
  · refine br_f h0 (fc_Xfind (by omega) ?_)
    rcases fc_find_r a_ids v1 n with hf | ⟨p, hp, hf⟩
    · rw [hf]
      refine br_t (by decide) (pk_lt n cc (fun hl => ?_) (fun hl => ?_))
      · refine fc_Xnb h0 (fc_R_run hR h0) (fc_Xapp (by omega) (br_f h0 (fc_Yfind (by omega) ?_)))
        rw [hf]
        refine br_t (by decide) (br_t (nI_lt hl (by omega)) ⟨vp_in_nI (by omega) (by omega), ?_⟩)
        rw [nI_clamp (n := n) (by omega)]
        exact nm_e ⟨vp_in_nI (by omega) (by omega), nm_e (nm_r (nI_1 n) ⟨rfl, fc_in (fc_R_app hR h0 hl)⟩)⟩
      · refine br_f h0 (fc_Yfind (by omega) ?_)
        rw [hf]
        exact br_t (by decide) (br_f (nI_nlt hl (by omega)) ⟨rfl, keep⟩)
    · rw [hf]
      refine br_f (nI_pos (by omega)) (br_f h0 (fc_Yfind (by omega) ?_))
      rw [hf]
      exact br_f (nI_pos (by omega)) ⟨rfl, keep⟩
theorem fc_Yfull {post : Int32 → SY → Prop} {x1 : Int32} {a cnt : Nat} (hc : cc ≤ 48) (hn : n = cc) (hm : cnt ≤ 16) (ha : a ≤ 16) (h0 : a = 0 → post (nI a) ((nI k), (nI cc), f_running, (nI e), seed, (nI n), f_state, a_tableDegree, a_tableWeight, a_source, a_ids, a_values, rm, rv)) (h1 : a ≠ 0 → post (nI a) ((nI k), (nI cc), f_running, (nI e), seed, (nI n), 0, a_tableDegree, a_tableWeight, a_source, a_ids, a_values, rm, rv)) :
    ∀ d j : Nat, j + d = cnt → wY_transfer_28 post x1 (nI cnt) (nI k) (nI cc) f_running (nI e) seed f_state (d + 1) (nI a) (nI j) (nI n) a_tableDegree a_tableWeight a_source a_ids a_values rm rv := by
  intro d
  induction d with
  | zero =>
    intro j hj
    refine br_t (nI_le (by omega) (by omega)) (pk_le a 0 (fun z => h0 (by omega)) (fun z => h1 (by omega)))
  | succ d ih =>
    intro j hj
    refine br_f (nI_ge (by omega) (by omega)) (nm_e (fc_Yfind (by omega) ?_))
    rcases fc_find_r a_ids (x1 + nI j) n with hf | ⟨p, hp, hf⟩
    · rw [hf]
      exact br_f (by decide) (br_t (nI_le (by omega) (by omega)) (nm_r (nI_1 j) (ih (j + 1) (by omega))))
    · rw [hf]
      exact br_t (nI_pos' (by omega)) (nm_r (nI_1 j) (ih (j + 1) (by omega)))
/-- the two loops of transfer: one outcome -/
theorem fc_tr {x1 st : Int32} {cnt : Nat} (hm : cnt ≤ 16) (hr : ¬ f_running = 0) : ∀ (d j a n : Nat) (f_state : Int32) (a_ids a_values a_masks : Nat → Int32), j + d = cnt → a ≤ j → fc_R k cc e n f_allWords f_running f_weightTotal f_mixedSeed f_state f_rankFound f_peelMask seed a_tableDegree a_tableWeight a_tableEnd a_ids a_values a_masks a_expr a_constant → (a = 0 → f_state = st) → (a ≠ 0 → f_state = 0) →
    ∃ (r : Int32) (u' : SX) (v' : SY), i_Rel kk u' v' ∧ (∀ post : Int32 → SX → Prop, post r u' → wX_transfer_28 post x1 (nI cnt) (d + 1) (nI a) (nI j) (nI k) (nI cc) f_allWords f_running (nI e) f_weightTotal f_mixedSeed (nI n) f_state f_rankFound f_peelMask f_activeMask f_inactiveMask f_queueHead f_queueTail f_pivotCount f_denseRank f_contradiction a_tableDegree a_tableWeight a_tableEnd a_source a_ids a_values a_masks a_expr a_constant a_rowStart a_rowCols a_colStart a_colRows a_rowLeft a_rowUsed a_queue a_pivotCol a_pivotRow a_denseMask a_denseValue) ∧
      (∀ post : Int32 → SY → Prop, post r v' → wY_transfer_28 post x1 (nI cnt) (nI k) (nI cc) f_running (nI e) seed st (d + 1) (nI a) (nI j) (nI n) a_tableDegree a_tableWeight a_source a_ids a_values rm rv) := by
  intro d
  induction d with
  | zero =>
    intro j a n f_state a_ids a_values a_masks hj ha hR h0 h1
    have hjc : nI cnt ≤ nI j := nI_le (by omega) (by omega)
    refine ⟨nI a, ((nI k), (nI cc), f_allWords, f_running, (nI e), f_weightTotal, f_mixedSeed, (nI n), f_state, f_rankFound, f_peelMask, f_activeMask, f_inactiveMask, f_queueHead, f_queueTail, f_pivotCount, f_denseRank, f_contradiction, a_tableDegree, a_tableWeight, a_tableEnd, a_source, a_ids, a_values, a_masks, a_expr, a_constant, a_rowStart, a_rowCols, a_colStart, a_colRows, a_rowLeft, a_rowUsed, a_queue, a_pivotCol, a_pivotRow, a_denseMask, a_denseValue), ((nI k), (nI cc), f_running, (nI e), seed, (nI n), f_state, a_tableDegree, a_tableWeight, a_source, a_ids, a_values, rm, rv), fc_in hR, fun post hp => br_t hjc hp, fun post hp => br_t hjc (pk_le a 0 (fun z => ?_) (fun z => ?_))⟩
    · rw [← h0 (by omega)]; exact hp
    · rw [h1 (by omega)] at hp; exact hp
  | succ d ih =>
    intro j a n f_state a_ids a_values a_masks hj ha hR h0 h1
    have hjc : ¬ nI cnt ≤ nI j := nI_ge (by omega) (by omega)
    have hcc := hR.1.2.2.2.1
    have hn := hR.1.2.2.2.2.1
    rcases fc_find_r a_ids (x1 + nI j) n with hf | ⟨p, hp, hf⟩
    · rcases Nat.lt_or_ge n cc with hl | hl
      · obtain ⟨r, u', v', g1, g2, g3⟩ := ih (j + 1) (a + 1) (n + 1) 0 (upd a_ids n (x1 + nI j)) (upd a_values n (fc_fx a_source (bt (fc_nb k e a_tableDegree a_tableWeight seed (x1 + nI j))) k)) (upd a_masks n (fc_nb k e a_tableDegree a_tableWeight seed (x1 + nI j))) (by omega) (by omega) (fc_R_app hR hr hl) (fun z => by omega) (fun _ => rfl)
        refine ⟨r, u', v', g1, fun post hp => ?_, fun post hp => ?_⟩
        · refine br_f hjc (nm_e (fc_Xfind (by omega) ?_))
          rw [hf]
          exact br_f (by decide) (br_t (nI_lt hl (by omega)) (fc_Xnb hr (fc_R_run hR hr) (fc_Xencode hR.1.2.1 (fc_Xapp (by omega) (nm_r (nI_1 a) (nm_r (nI_1 j) (g2 post hp)))))))
        · refine br_f hjc (nm_e (fc_Yfind (by omega) ?_))
          rw [hf]
          refine br_f (by decide) (br_f (nI_ge hl (by omega)) (fc_Yemit hr (fc_R_run hR hr) ⟨vp_in_nI (by omega) (by omega), ?_⟩))
          rw [nI_clamp (n := n) (by omega)]
          exact nm_e ⟨vp_in_nI (by omega) (by omega), nm_e (nm_r (nI_1 n) (nm_r (nI_1 a) (nm_r (nI_1 j) (g3 post hp))))⟩
      · refine ⟨nI a, ((nI k), (nI cc), f_allWords, f_running, (nI e), f_weightTotal, f_mixedSeed, (nI n), f_state, f_rankFound, f_peelMask, f_activeMask, f_inactiveMask, f_queueHead, f_queueTail, f_pivotCount, f_denseRank, f_contradiction, a_tableDegree, a_tableWeight, a_tableEnd, a_source, a_ids, a_values, a_masks, a_expr, a_constant, a_rowStart, a_rowCols, a_colStart, a_colRows, a_rowLeft, a_rowUsed, a_queue, a_pivotCol, a_pivotRow, a_denseMask, a_denseValue), ((nI k), (nI cc), f_running, (nI e), seed, (nI n), f_state, a_tableDegree, a_tableWeight, a_source, a_ids, a_values, rm, rv), fc_in hR, fun post hp => ?_, fun post hp => ?_⟩
        · refine br_f hjc (nm_e (fc_Xfind (by omega) ?_))
          rw [hf]
          exact br_f (by decide) (br_f (nI_nlt hl (by omega)) hp)
        · refine fc_Yfull hcc (by omega) hm (by omega) (fun z => ?_) (fun z => ?_) (d + 1) j (by omega)
          · rw [← h0 z]; exact hp
          · rw [h1 z] at hp; exact hp
    · obtain ⟨r, u', v', g1, g2, g3⟩ := ih (j + 1) a n f_state a_ids a_values a_masks (by omega) (by omega) hR h0 h1
      refine ⟨r, u', v', g1, fun post hp => ?_, fun post hp => ?_⟩
      · refine br_f hjc (nm_e (fc_Xfind (by omega) ?_))
        rw [hf]
        exact br_t (nI_pos' (by omega)) (nm_r (nI_1 j) (g2 post hp))
      · refine br_f hjc (nm_e (fc_Yfind (by omega) ?_))
        rw [hf]
        exact br_t (nI_pos' (by omega)) (nm_r (nI_1 j) (g3 post hp))
theorem fc_v_transfer (hR : fc_R k cc e n f_allWords f_running f_weightTotal f_mixedSeed f_state f_rankFound f_peelMask seed a_tableDegree a_tableWeight a_tableEnd a_ids a_values a_masks a_expr a_constant) : wpX_transfer (fun r u' => wpY_transfer (fun r' v' => r' = r ∧ i_Rel kk u' v') ((nI k), (nI cc), f_running, (nI e), seed, (nI n), f_state, a_tableDegree, a_tableWeight, a_source, a_ids, a_values, rm, rv) v1 v2) ((nI k), (nI cc), f_allWords, f_running, (nI e), f_weightTotal, f_mixedSeed, (nI n), f_state, f_rankFound, f_peelMask, f_activeMask, f_inactiveMask, f_queueHead, f_queueTail, f_pivotCount, f_denseRank, f_contradiction, a_tableDegree, a_tableWeight, a_tableEnd, a_source, a_ids, a_values, a_masks, a_expr, a_constant, a_rowStart, a_rowCols, a_colStart, a_colRows, a_rowLeft, a_rowUsed, a_queue, a_pivotCol, a_pivotRow, a_denseMask, a_denseValue) v1 v2 := by
  have keep : i_Rel kk ((nI k), (nI cc), f_allWords, f_running, (nI e), f_weightTotal, f_mixedSeed, (nI n), f_state, f_rankFound, f_peelMask, f_activeMask, f_inactiveMask, f_queueHead, f_queueTail, f_pivotCount, f_denseRank, f_contradiction, a_tableDegree, a_tableWeight, a_tableEnd, a_source, a_ids, a_values, a_masks, a_expr, a_constant, a_rowStart, a_rowCols, a_colStart, a_colRows, a_rowLeft, a_rowUsed, a_queue, a_pivotCol, a_pivotRow, a_denseMask, a_denseValue) ((nI k), (nI cc), f_running, (nI e), seed, (nI n), f_state, a_tableDegree, a_tableWeight, a_source, a_ids, a_values, rm, rv) := fc_in hR
  by_cases h0 : f_running = 0
  · exact br_t h0 (br_t h0 ⟨rfl, keep⟩)
  · by_cases h1 : v2 < 1
    · exact br_f h0 (br_t h1 (br_f h0 (br_t h1 ⟨rfl, keep⟩)))
    · by_cases h2 : v2 ≤ 16
      · have p2 : ¬ v2 < 0 := fun z => h1 (Int32.lt_trans z (by decide))
        obtain ⟨w, hw, rfl⟩ := nI_of p2
        have w2 : w ≤ 16 := (nI_leI (b := 16) hw (by omega)).mp h2
        obtain ⟨r, u', v', g1, g2, g3⟩ := fc_tr (kk := kk) (x1 := v1) (st := f_state) (cnt := w) (cc := cc) (rm := rm) (rv := rv) (a_source := a_source) w2 h0 w 0 0 n f_state a_ids a_values a_masks (Nat.zero_add w) (Nat.le_refl _) hR (fun _ => rfl) (fun z => absurd rfl z)
        exact br_f h0 (br_f h1 (br_t h2 ⟨_, g2 _ (br_f h0 (br_f h1 (br_t h2 ⟨_, g3 _ ⟨rfl, g1⟩⟩)))⟩))
      · exact br_f h0 (br_f h1 (br_f h2 (br_f h0 (br_f h1 (br_f h2 ⟨rfl, keep⟩)))))
theorem fc_Xfg {post : Int32 → SX → Prop} {p : Nat} {i0 v0 m0 : Nat → Int32} (hn : n ≤ 48) (hp : p < n) (h : post 0 ((nI k), (nI cc), f_allWords, f_running, (nI e), f_weightTotal, f_mixedSeed, (nI (n - 1)), 0, f_rankFound, f_peelMask, f_activeMask, f_inactiveMask, f_queueHead, f_queueTail, f_pivotCount, f_denseRank, f_contradiction, a_tableDegree, a_tableWeight, a_tableEnd, a_source, (fc_sh i0 p (n - 1 - p)), (fc_sh v0 p (n - 1 - p)), (fc_sh m0 p (n - 1 - p)), a_expr, a_constant, a_rowStart, a_rowCols, a_colStart, a_colRows, a_rowLeft, a_rowUsed, a_queue, a_pivotCol, a_pivotRow, a_denseMask, a_denseValue)) :
    ∀ d t : Nat, p + 1 + t + d = n → wX_forget_26 post (nI k) (nI cc) f_allWords f_running (nI e) f_weightTotal f_mixedSeed (nI n) f_state f_rankFound f_peelMask f_activeMask f_inactiveMask f_queueHead f_queueTail f_pivotCount f_denseRank f_contradiction (d + 1) (nI (p + 1 + t)) a_tableDegree a_tableWeight a_tableEnd a_source (fc_sh i0 p t) (fc_sh v0 p t) (fc_sh m0 p t) a_expr a_constant a_rowStart a_rowCols a_colStart a_colRows a_rowLeft a_rowUsed a_queue a_pivotCol a_pivotRow a_denseMask a_denseValue := by
  intro d
  induction d with
  | zero =>
    intro t ht
    have et : n - 1 - p = t := by omega
    rw [et] at h
    exact br_t (nI_le (by omega) (by omega)) (nm_r (pk_sub (a := n) (b := 1) (by omega)) h)
  | succ d ih =>
    intro t ht
    have e1 : nI (p + 1 + t) - 1 = nI (p + t) := by
      have : p + 1 + t = p + t + 1 := by omega
      rw [this, nI_pred]
    have i1 : vp_in (nI (p + 1 + t)) 48 := vp_in_nI (by omega) (by omega)
    have i2 : vp_in (nI (p + t)) 48 := vp_in_nI (by omega) (by omega)
    refine br_f (nI_ge (by omega) (by omega)) ⟨i1, ?_⟩
    rw [e1, nI_clamp (n := p + t) (by omega), nI_clamp (n := p + 1 + t) (by omega)]
    have e2 : p + 1 + t = p + t + 1 := by omega
    have := ih (t + 1) (by omega)
    have e3 : p + 1 + (t + 1) = p + t + 1 + 1 := by omega
    rw [e3] at this
    refine ⟨i2, nm_e ⟨i1, i2, nm_e ⟨i1, i2, nm_e (nm_r (nI_1 _) ?_)⟩⟩⟩
    rw [e2] at *
    exact this
theorem fc_Yfg {post : Int32 → SY → Prop} {p : Nat} {i0 v0 : Nat → Int32} (hn : n ≤ 48) (hp : p < n) (h : post 0 ((nI k), (nI cc), f_running, (nI e), seed, (nI (n - 1)), 0, a_tableDegree, a_tableWeight, a_source, (fc_sh i0 p (n - 1 - p)), (fc_sh v0 p (n - 1 - p)), rm, rv)) :
    ∀ d t : Nat, p + 1 + t + d = n → wY_forget_24 post (nI k) (nI cc) f_running (nI e) seed (nI n) f_state (d + 1) (nI (p + t)) a_tableDegree a_tableWeight a_source (fc_sh i0 p t) (fc_sh v0 p t) rm rv := by
  have en : nI n - 1 = nI (n - 1) := pk_sub (a := n) (b := 1) (by omega)
  intro d
  induction d with
  | zero =>
    intro t ht
    have et : n - 1 - p = t := by omega
    rw [et] at h
    exact br_t (by rw [en]; exact nI_le (by omega) (by omega)) (nm_r en h)
  | succ d ih =>
    intro t ht
    have i1 : vp_in (nI (p + t) + 1) 48 := by rw [nI_1]; exact vp_in_nI (by omega) (by omega)
    have i2 : vp_in (nI (p + t)) 48 := vp_in_nI (by omega) (by omega)
    refine br_f (by rw [en]; exact nI_ge (by omega) (by omega)) ⟨i1, ?_⟩
    rw [nI_1, nI_clamp (n := p + t) (by omega), nI_clamp (n := p + t + 1) (by omega)]
    exact ⟨i2, nm_e ⟨by rw [← nI_1]; exact i1, i2, nm_e (nm_e (ih (t + 1) (by omega)))⟩⟩
theorem fc_R_fg {p : Nat} (hR : fc_R k cc e n f_allWords f_running f_weightTotal f_mixedSeed f_state f_rankFound f_peelMask seed a_tableDegree a_tableWeight a_tableEnd a_ids a_values a_masks a_expr a_constant) (hr : ¬ f_running = 0) (hp : p < n) : fc_R k cc e (n - 1) f_allWords f_running f_weightTotal f_mixedSeed 0 f_rankFound f_peelMask seed a_tableDegree a_tableWeight a_tableEnd (fc_sh a_ids p (n - 1 - p)) (fc_sh a_values p (n - 1 - p)) (fc_sh a_masks p (n - 1 - p)) a_expr a_constant := by
  obtain ⟨⟨k1, k2, c1, c2, c3, e1⟩, r2, r3, r4, r5, r6, r7, r8, r9⟩ := hR
  refine ⟨⟨k1, k2, c1, c2, by omega, e1⟩, r2, r3, r4, r5, fun z => absurd z hr, r7, fun i hi => ?_, Or.inl rfl⟩
  rw [fc_sh_e, fc_sh_e]
  by_cases z : p ≤ i ∧ i < p + (n - 1 - p)
  · rw [if_pos z, if_pos z]; exact r8 (i + 1) (by omega)
  · rw [if_neg z, if_neg z]; exact r8 i (by omega)
theorem fc_v_forget (hR : fc_R k cc e n f_allWords f_running f_weightTotal f_mixedSeed f_state f_rankFound f_peelMask seed a_tableDegree a_tableWeight a_tableEnd a_ids a_values a_masks a_expr a_constant) : wpX_forget (fun r u' => wpY_forget (fun r' v' => r' = r ∧ i_Rel kk u' v') ((nI k), (nI cc), f_running, (nI e), seed, (nI n), f_state, a_tableDegree, a_tableWeight, a_source, a_ids, a_values, rm, rv) v1) ((nI k), (nI cc), f_allWords, f_running, (nI e), f_weightTotal, f_mixedSeed, (nI n), f_state, f_rankFound, f_peelMask, f_activeMask, f_inactiveMask, f_queueHead, f_queueTail, f_pivotCount, f_denseRank, f_contradiction, a_tableDegree, a_tableWeight, a_tableEnd, a_source, a_ids, a_values, a_masks, a_expr, a_constant, a_rowStart, a_rowCols, a_colStart, a_colRows, a_rowLeft, a_rowUsed, a_queue, a_pivotCol, a_pivotRow, a_denseMask, a_denseValue) v1 := by
  have keep : i_Rel kk ((nI k), (nI cc), f_allWords, f_running, (nI e), f_weightTotal, f_mixedSeed, (nI n), f_state, f_rankFound, f_peelMask, f_activeMask, f_inactiveMask, f_queueHead, f_queueTail, f_pivotCount, f_denseRank, f_contradiction, a_tableDegree, a_tableWeight, a_tableEnd, a_source, a_ids, a_values, a_masks, a_expr, a_constant, a_rowStart, a_rowCols, a_colStart, a_colRows, a_rowLeft, a_rowUsed, a_queue, a_pivotCol, a_pivotRow, a_denseMask, a_denseValue) ((nI k), (nI cc), f_running, (nI e), seed, (nI n), f_state, a_tableDegree, a_tableWeight, a_source, a_ids, a_values, rm, rv) := fc_in hR
  have hc := hR.1.2.2.2.1
  have hn := hR.1.2.2.2.2.1
  by_cases h0 : f_running = 0
  · exact br_t h0 (br_t h0 ⟨rfl, keep⟩)
  · refine br_f h0 (fc_Xfind (by omega) ?_)
    rcases fc_find_r a_ids v1 n with hf | ⟨p, hp, hf⟩
    · rw [hf]
      refine br_f (by decide) (br_f h0 (fc_Yfind (by omega) ?_))
      rw [hf]
      exact br_f (by decide) ⟨rfl, keep⟩
    · rw [hf]
      refine br_t (nI_pos' (by omega)) (nm_r (nI_1 p) ⟨n - 1 - p + 1, fc_Xfg (i0 := a_ids) (v0 := a_values) (m0 := a_masks) (by omega) hp ?_ (n - 1 - p) 0 (by omega)⟩)
      refine br_f h0 (fc_Yfind (by omega) ?_)
      rw [hf]
      exact br_t (nI_pos' (by omega)) ⟨n - 1 - p + 1, fc_Yfg (i0 := a_ids) (v0 := a_values) (by omega) hp ⟨rfl, fc_in (fc_R_fg hR h0 hp)⟩ (n - 1 - p) 0 (by omega)⟩
theorem fc_v_heldCount (hR : fc_R k cc e n f_allWords f_running f_weightTotal f_mixedSeed f_state f_rankFound f_peelMask seed a_tableDegree a_tableWeight a_tableEnd a_ids a_values a_masks a_expr a_constant) : wpX_heldCount (fun r => wpY_heldCount (fun r' => r' = r ∧ i_Rel kk ((nI k), (nI cc), f_allWords, f_running, (nI e), f_weightTotal, f_mixedSeed, (nI n), f_state, f_rankFound, f_peelMask, f_activeMask, f_inactiveMask, f_queueHead, f_queueTail, f_pivotCount, f_denseRank, f_contradiction, a_tableDegree, a_tableWeight, a_tableEnd, a_source, a_ids, a_values, a_masks, a_expr, a_constant, a_rowStart, a_rowCols, a_colStart, a_colRows, a_rowLeft, a_rowUsed, a_queue, a_pivotCol, a_pivotRow, a_denseMask, a_denseValue) ((nI k), (nI cc), f_running, (nI e), seed, (nI n), f_state, a_tableDegree, a_tableWeight, a_source, a_ids, a_values, rm, rv)) ((nI k), (nI cc), f_running, (nI e), seed, (nI n), f_state, a_tableDegree, a_tableWeight, a_source, a_ids, a_values, rm, rv)) ((nI k), (nI cc), f_allWords, f_running, (nI e), f_weightTotal, f_mixedSeed, (nI n), f_state, f_rankFound, f_peelMask, f_activeMask, f_inactiveMask, f_queueHead, f_queueTail, f_pivotCount, f_denseRank, f_contradiction, a_tableDegree, a_tableWeight, a_tableEnd, a_source, a_ids, a_values, a_masks, a_expr, a_constant, a_rowStart, a_rowCols, a_colStart, a_colRows, a_rowLeft, a_rowUsed, a_queue, a_pivotCol, a_pivotRow, a_denseMask, a_denseValue) := And.intro rfl (fc_in hR)
theorem fc_v_heldId (hR : fc_R k cc e n f_allWords f_running f_weightTotal f_mixedSeed f_state f_rankFound f_peelMask seed a_tableDegree a_tableWeight a_tableEnd a_ids a_values a_masks a_expr a_constant) : wpX_heldId (fun r => wpY_heldId (fun r' => r' = r ∧ i_Rel kk ((nI k), (nI cc), f_allWords, f_running, (nI e), f_weightTotal, f_mixedSeed, (nI n), f_state, f_rankFound, f_peelMask, f_activeMask, f_inactiveMask, f_queueHead, f_queueTail, f_pivotCount, f_denseRank, f_contradiction, a_tableDegree, a_tableWeight, a_tableEnd, a_source, a_ids, a_values, a_masks, a_expr, a_constant, a_rowStart, a_rowCols, a_colStart, a_colRows, a_rowLeft, a_rowUsed, a_queue, a_pivotCol, a_pivotRow, a_denseMask, a_denseValue) ((nI k), (nI cc), f_running, (nI e), seed, (nI n), f_state, a_tableDegree, a_tableWeight, a_source, a_ids, a_values, rm, rv)) ((nI k), (nI cc), f_running, (nI e), seed, (nI n), f_state, a_tableDegree, a_tableWeight, a_source, a_ids, a_values, rm, rv) v1) ((nI k), (nI cc), f_allWords, f_running, (nI e), f_weightTotal, f_mixedSeed, (nI n), f_state, f_rankFound, f_peelMask, f_activeMask, f_inactiveMask, f_queueHead, f_queueTail, f_pivotCount, f_denseRank, f_contradiction, a_tableDegree, a_tableWeight, a_tableEnd, a_source, a_ids, a_values, a_masks, a_expr, a_constant, a_rowStart, a_rowCols, a_colStart, a_colRows, a_rowLeft, a_rowUsed, a_queue, a_pivotCol, a_pivotRow, a_denseMask, a_denseValue) v1 := by
  have keep : i_Rel kk ((nI k), (nI cc), f_allWords, f_running, (nI e), f_weightTotal, f_mixedSeed, (nI n), f_state, f_rankFound, f_peelMask, f_activeMask, f_inactiveMask, f_queueHead, f_queueTail, f_pivotCount, f_denseRank, f_contradiction, a_tableDegree, a_tableWeight, a_tableEnd, a_source, a_ids, a_values, a_masks, a_expr, a_constant, a_rowStart, a_rowCols, a_colStart, a_colRows, a_rowLeft, a_rowUsed, a_queue, a_pivotCol, a_pivotRow, a_denseMask, a_denseValue) ((nI k), (nI cc), f_running, (nI e), seed, (nI n), f_state, a_tableDegree, a_tableWeight, a_source, a_ids, a_values, rm, rv) := fc_in hR
  have hc := hR.1.2.2.2.1
  have hn := hR.1.2.2.2.2.1
  rcases pk_ix v1 (n := n) (by omega) with h | h | ⟨j, hj, rfl⟩
  · exact br_t h (br_t h ⟨rfl, keep⟩)
  · obtain ⟨h1, h2⟩ := fc_ge h (by omega)
    exact br_f h1 (br_f h2 (br_f h1 (br_f h2 ⟨rfl, keep⟩)))
  · have h1 : ¬ nI j < 0 := nI_pos (by omega)
    have h2 : nI j < nI n := nI_lt hj (by omega)
    have hi : vp_in (nI j) 48 := vp_in_nI (by omega) (by omega)
    exact br_f h1 (br_t h2 ⟨hi, br_f h1 (br_t h2 ⟨hi, rfl, keep⟩)⟩)
theorem fc_v_heldValue (hR : fc_R k cc e n f_allWords f_running f_weightTotal f_mixedSeed f_state f_rankFound f_peelMask seed a_tableDegree a_tableWeight a_tableEnd a_ids a_values a_masks a_expr a_constant) : wpX_heldValue (fun r => wpY_heldValue (fun r' => r' = r ∧ i_Rel kk ((nI k), (nI cc), f_allWords, f_running, (nI e), f_weightTotal, f_mixedSeed, (nI n), f_state, f_rankFound, f_peelMask, f_activeMask, f_inactiveMask, f_queueHead, f_queueTail, f_pivotCount, f_denseRank, f_contradiction, a_tableDegree, a_tableWeight, a_tableEnd, a_source, a_ids, a_values, a_masks, a_expr, a_constant, a_rowStart, a_rowCols, a_colStart, a_colRows, a_rowLeft, a_rowUsed, a_queue, a_pivotCol, a_pivotRow, a_denseMask, a_denseValue) ((nI k), (nI cc), f_running, (nI e), seed, (nI n), f_state, a_tableDegree, a_tableWeight, a_source, a_ids, a_values, rm, rv)) ((nI k), (nI cc), f_running, (nI e), seed, (nI n), f_state, a_tableDegree, a_tableWeight, a_source, a_ids, a_values, rm, rv) v1) ((nI k), (nI cc), f_allWords, f_running, (nI e), f_weightTotal, f_mixedSeed, (nI n), f_state, f_rankFound, f_peelMask, f_activeMask, f_inactiveMask, f_queueHead, f_queueTail, f_pivotCount, f_denseRank, f_contradiction, a_tableDegree, a_tableWeight, a_tableEnd, a_source, a_ids, a_values, a_masks, a_expr, a_constant, a_rowStart, a_rowCols, a_colStart, a_colRows, a_rowLeft, a_rowUsed, a_queue, a_pivotCol, a_pivotRow, a_denseMask, a_denseValue) v1 := by
  have keep : i_Rel kk ((nI k), (nI cc), f_allWords, f_running, (nI e), f_weightTotal, f_mixedSeed, (nI n), f_state, f_rankFound, f_peelMask, f_activeMask, f_inactiveMask, f_queueHead, f_queueTail, f_pivotCount, f_denseRank, f_contradiction, a_tableDegree, a_tableWeight, a_tableEnd, a_source, a_ids, a_values, a_masks, a_expr, a_constant, a_rowStart, a_rowCols, a_colStart, a_colRows, a_rowLeft, a_rowUsed, a_queue, a_pivotCol, a_pivotRow, a_denseMask, a_denseValue) ((nI k), (nI cc), f_running, (nI e), seed, (nI n), f_state, a_tableDegree, a_tableWeight, a_source, a_ids, a_values, rm, rv) := fc_in hR
  have hc := hR.1.2.2.2.1
  have hn := hR.1.2.2.2.2.1
  rcases pk_ix v1 (n := n) (by omega) with h | h | ⟨j, hj, rfl⟩
  · exact br_t h (br_t h ⟨rfl, keep⟩)
  · obtain ⟨h1, h2⟩ := fc_ge h (by omega)
    exact br_f h1 (br_f h2 (br_f h1 (br_f h2 ⟨rfl, keep⟩)))
  · have h1 : ¬ nI j < 0 := nI_pos (by omega)
    have h2 : nI j < nI n := nI_lt hj (by omega)
    have hi : vp_in (nI j) 48 := vp_in_nI (by omega) (by omega)
    exact br_f h1 (br_t h2 ⟨hi, br_f h1 (br_t h2 ⟨hi, rfl, keep⟩)⟩)
theorem fc_v_status (hR : fc_R k cc e n f_allWords f_running f_weightTotal f_mixedSeed f_state f_rankFound f_peelMask seed a_tableDegree a_tableWeight a_tableEnd a_ids a_values a_masks a_expr a_constant) : wpX_status (fun r => wpY_status (fun r' => r' = r ∧ i_Rel kk ((nI k), (nI cc), f_allWords, f_running, (nI e), f_weightTotal, f_mixedSeed, (nI n), f_state, f_rankFound, f_peelMask, f_activeMask, f_inactiveMask, f_queueHead, f_queueTail, f_pivotCount, f_denseRank, f_contradiction, a_tableDegree, a_tableWeight, a_tableEnd, a_source, a_ids, a_values, a_masks, a_expr, a_constant, a_rowStart, a_rowCols, a_colStart, a_colRows, a_rowLeft, a_rowUsed, a_queue, a_pivotCol, a_pivotRow, a_denseMask, a_denseValue) ((nI k), (nI cc), f_running, (nI e), seed, (nI n), f_state, a_tableDegree, a_tableWeight, a_source, a_ids, a_values, rm, rv)) ((nI k), (nI cc), f_running, (nI e), seed, (nI n), f_state, a_tableDegree, a_tableWeight, a_source, a_ids, a_values, rm, rv)) ((nI k), (nI cc), f_allWords, f_running, (nI e), f_weightTotal, f_mixedSeed, (nI n), f_state, f_rankFound, f_peelMask, f_activeMask, f_inactiveMask, f_queueHead, f_queueTail, f_pivotCount, f_denseRank, f_contradiction, a_tableDegree, a_tableWeight, a_tableEnd, a_source, a_ids, a_values, a_masks, a_expr, a_constant, a_rowStart, a_rowCols, a_colStart, a_colRows, a_rowLeft, a_rowUsed, a_queue, a_pivotCol, a_pivotRow, a_denseMask, a_denseValue) := And.intro rfl (fc_in hR)
end
end
section
/-! the methods that decode and ask -/
theorem fc_Dec_rank {k n : Nat} {M V : Nat → Int32} {st rf pm : Int32} {E K : Nat → Int32} (h : fc_Dec k n M V st rf pm E K) {r : Nat} {T : Nat → Bool} (hb : fc_Base k (fc_Q n M V) T) (hc : fc_cnt T k = r) :
    rf = nI r ∧ (st = 1 ∨ (st = 3 ∧ r = k) ∨ (st = 2 ∧ r ≠ k)) := by
  obtain ⟨⟨r', T', e1, b', c', s'⟩, _⟩ := h
  have e : r' = r := fc_rank (fun _ _ => fc_Qx) b' hb c' hc
  rw [e] at e1 s'
  exact ⟨e1, s'⟩
theorem fc_Dec_st {k n : Nat} {M V : Nat → Int32} {st rf pm : Int32} {E K : Nat → Int32} (h : fc_Dec k n M V st rf pm E K) {r : Nat} {T : Nat → Bool} {st' : Int32} (hb : fc_Base k (fc_Q n M V) T) (hc : fc_cnt T k = r)
    (hs : (st' = 1 ∧ ∃ v, v ≠ 0 ∧ fc_Sp n M V 0 v) ∨ (¬ (∃ v, v ≠ 0 ∧ fc_Sp n M V 0 v) ∧ ((st' = 3 ∧ r = k) ∨ (st' = 2 ∧ r ≠ k)))) : st' = st := by
  have e := (fc_Dec_rank h hb hc).2
  rcases hs with ⟨a, b⟩ | ⟨a, b⟩
  · rw [a, h.2.1.mpr b]
  · have n1 : ¬ st = 1 := fun z => a (h.2.1.mp z)
    rcases e.resolve_left n1 with ⟨x1, x2⟩ | ⟨x1, x2⟩
    · rcases b with ⟨y1, y2⟩ | ⟨y1, y2⟩
      · rw [x1, y1]
      · exact absurd x2 y2
    · rcases b with ⟨y1, y2⟩ | ⟨y1, y2⟩
      · exact absurd y2 x2
      · rw [x1, y1]
theorem fc_Dec_cases {k n : Nat} {M V : Nat → Int32} {st rf pm : Int32} {E K : Nat → Int32} (h : fc_Dec k n M V st rf pm E K) : st = 1 ∨ ((st = 2 ∨ st = 3) ∧ ¬ st = 1 ∧ ¬ ∃ v, v ≠ 0 ∧ fc_Sp n M V 0 v) := by
  obtain ⟨⟨r, T, _, _, _, s⟩, i, _⟩ := h
  by_cases z : st = 1
  · exact Or.inl z
  · refine Or.inr ⟨?_, z, fun q => z (i.mpr q)⟩
    rcases s.resolve_left z with w | w
    · exact Or.inr w.1
    · exact Or.inl w.1
theorem fc_Dec_full {k n : Nat} {M V : Nat → Int32} {st rf pm : Int32} {E K : Nat → Int32} (hk : k ≤ 32) (hM : ∀ i, i < n → fc_In k (M i)) (h : fc_Dec k n M V st rf pm E K) (hs : st = 3) {m : Int32} (hm : fc_In k m) : fc_Q n M V m := by
  obtain ⟨⟨r, T, _, b, c, s⟩, _⟩ := h
  have e : r = k := by
    rcases s with w | w | w
    · rw [hs] at w; exact absurd w (by decide)
    · exact w.2
    · rw [hs] at w; exact absurd w.1 (by decide)
  rw [e] at c
  exact fc_full hk hM b c hm
section
variable {k cc e n : Nat} {f_allWords f_running f_weightTotal f_mixedSeed f_state f_rankFound f_peelMask f_activeMask f_inactiveMask f_queueHead f_queueTail f_pivotCount f_denseRank f_contradiction seed : Int32} {a_tableDegree a_tableWeight a_tableEnd a_source a_ids a_values a_masks a_expr a_constant a_rowStart a_rowCols a_colStart a_colRows a_rowLeft a_rowUsed a_queue a_pivotCol a_pivotRow a_denseMask a_denseValue rm rv : Nat → Int32}
variable {kk : Nat} {v1 v2 : Int32}
theorem fc_R_cg {st rf pm : Int32} {E K : Nat → Int32} (hR : fc_R k cc e n f_allWords f_running f_weightTotal f_mixedSeed f_state f_rankFound f_peelMask seed a_tableDegree a_tableWeight a_tableEnd a_ids a_values a_masks a_expr a_constant) (hr : ¬ f_running = 0) (hD : fc_Dec k n a_masks a_values st rf pm E K) : fc_R k cc e n f_allWords f_running f_weightTotal f_mixedSeed st rf pm seed a_tableDegree a_tableWeight a_tableEnd a_ids a_values a_masks E K := by
  obtain ⟨r1, r2, r3, r4, r5, r6, r7, r8, r9⟩ := hR
  exact ⟨r1, r2, r3, r4, r5, fun z => absurd z hr, r7, r8, Or.inr hD⟩
theorem fc_v_decode (hR : fc_R k cc e n f_allWords f_running f_weightTotal f_mixedSeed f_state f_rankFound f_peelMask seed a_tableDegree a_tableWeight a_tableEnd a_ids a_values a_masks a_expr a_constant) : wpX_decode (fun r u' => wpY_decode (fun r' v' => r' = r ∧ i_Rel kk u' v') ((nI k), (nI cc), f_running, (nI e), seed, (nI n), f_state, a_tableDegree, a_tableWeight, a_source, a_ids, a_values, rm, rv)) ((nI k), (nI cc), f_allWords, f_running, (nI e), f_weightTotal, f_mixedSeed, (nI n), f_state, f_rankFound, f_peelMask, f_activeMask, f_inactiveMask, f_queueHead, f_queueTail, f_pivotCount, f_denseRank, f_contradiction, a_tableDegree, a_tableWeight, a_tableEnd, a_source, a_ids, a_values, a_masks, a_expr, a_constant, a_rowStart, a_rowCols, a_colStart, a_colRows, a_rowLeft, a_rowUsed, a_queue, a_pivotCol, a_pivotRow, a_denseMask, a_denseValue) := by
  have keep : i_Rel kk ((nI k), (nI cc), f_allWords, f_running, (nI e), f_weightTotal, f_mixedSeed, (nI n), f_state, f_rankFound, f_peelMask, f_activeMask, f_inactiveMask, f_queueHead, f_queueTail, f_pivotCount, f_denseRank, f_contradiction, a_tableDegree, a_tableWeight, a_tableEnd, a_source, a_ids, a_values, a_masks, a_expr, a_constant, a_rowStart, a_rowCols, a_colStart, a_colRows, a_rowLeft, a_rowUsed, a_queue, a_pivotCol, a_pivotRow, a_denseMask, a_denseValue) ((nI k), (nI cc), f_running, (nI e), seed, (nI n), f_state, a_tableDegree, a_tableWeight, a_source, a_ids, a_values, rm, rv) := fc_in hR
  have hk := hR.1.2.1
  have hc := hR.1.2.2.2.1
  have hn := hR.1.2.2.2.2.1
  by_cases h0 : f_running = 0
  · exact br_t h0 (br_t h0 ⟨rfl, keep⟩)
  · by_cases hs : f_state = 0
    · refine fc_Xdecode (by omega) hk hR.2.1 h0 hs (fc_R_mI hR) fun st rf pm A I x y pcn dr ct E K rs rc cs cr rl ru aq apc apr dm dv hD => ?_
      refine fc_Ydecode (by omega) h0 (fc_R_run hR h0) hR.2.2.2.2.2.2.2.1 fun r T st' rm rv hb hct hst => ?_
      have e := fc_Dec_st hD hb hct hst
      subst e
      exact ⟨rfl, fc_in (fc_R_cg hR h0 hD)⟩
    · refine br_f h0 (br_f hs (fc_Ydecode (by omega) h0 (fc_R_run hR h0) hR.2.2.2.2.2.2.2.1 fun r T st' rm rv hb hct hst => ?_))
      have e := fc_Dec_st (fc_R_dec hR hs).2 hb hct hst
      subst e
      exact ⟨rfl, fc_in hR⟩
theorem fc_v_rank (hR : fc_R k cc e n f_allWords f_running f_weightTotal f_mixedSeed f_state f_rankFound f_peelMask seed a_tableDegree a_tableWeight a_tableEnd a_ids a_values a_masks a_expr a_constant) : wpX_rank (fun r => wpY_rank (fun r' v' => r' = r ∧ i_Rel kk ((nI k), (nI cc), f_allWords, f_running, (nI e), f_weightTotal, f_mixedSeed, (nI n), f_state, f_rankFound, f_peelMask, f_activeMask, f_inactiveMask, f_queueHead, f_queueTail, f_pivotCount, f_denseRank, f_contradiction, a_tableDegree, a_tableWeight, a_tableEnd, a_source, a_ids, a_values, a_masks, a_expr, a_constant, a_rowStart, a_rowCols, a_colStart, a_colRows, a_rowLeft, a_rowUsed, a_queue, a_pivotCol, a_pivotRow, a_denseMask, a_denseValue) v') ((nI k), (nI cc), f_running, (nI e), seed, (nI n), f_state, a_tableDegree, a_tableWeight, a_source, a_ids, a_values, rm, rv)) ((nI k), (nI cc), f_allWords, f_running, (nI e), f_weightTotal, f_mixedSeed, (nI n), f_state, f_rankFound, f_peelMask, f_activeMask, f_inactiveMask, f_queueHead, f_queueTail, f_pivotCount, f_denseRank, f_contradiction, a_tableDegree, a_tableWeight, a_tableEnd, a_source, a_ids, a_values, a_masks, a_expr, a_constant, a_rowStart, a_rowCols, a_colStart, a_colRows, a_rowLeft, a_rowUsed, a_queue, a_pivotCol, a_pivotRow, a_denseMask, a_denseValue) := by
  have hc := hR.1.2.2.2.1
  have hn := hR.1.2.2.2.2.1
  by_cases hs : f_state = 0
  · exact br_t hs (br_t hs ⟨rfl, fc_in hR⟩)
  · obtain ⟨h0, hD⟩ := fc_R_dec hR hs
    refine br_f hs (fc_Yrank (by omega) h0 (fc_R_run hR h0) hR.2.2.2.2.2.2.2.1 hs fun r T rm rv hb hct => ⟨?_, fc_in hR⟩)
    exact ((fc_Dec_rank hD hb hct).1).symm
theorem fc_v_peelable (hR : fc_R k cc e n f_allWords f_running f_weightTotal f_mixedSeed f_state f_rankFound f_peelMask seed a_tableDegree a_tableWeight a_tableEnd a_ids a_values a_masks a_expr a_constant) : wpX_peelable (fun r => wpY_peelable (fun r' v' => r' = r ∧ i_Rel kk ((nI k), (nI cc), f_allWords, f_running, (nI e), f_weightTotal, f_mixedSeed, (nI n), f_state, f_rankFound, f_peelMask, f_activeMask, f_inactiveMask, f_queueHead, f_queueTail, f_pivotCount, f_denseRank, f_contradiction, a_tableDegree, a_tableWeight, a_tableEnd, a_source, a_ids, a_values, a_masks, a_expr, a_constant, a_rowStart, a_rowCols, a_colStart, a_colRows, a_rowLeft, a_rowUsed, a_queue, a_pivotCol, a_pivotRow, a_denseMask, a_denseValue) v') ((nI k), (nI cc), f_running, (nI e), seed, (nI n), f_state, a_tableDegree, a_tableWeight, a_source, a_ids, a_values, rm, rv) v1) ((nI k), (nI cc), f_allWords, f_running, (nI e), f_weightTotal, f_mixedSeed, (nI n), f_state, f_rankFound, f_peelMask, f_activeMask, f_inactiveMask, f_queueHead, f_queueTail, f_pivotCount, f_denseRank, f_contradiction, a_tableDegree, a_tableWeight, a_tableEnd, a_source, a_ids, a_values, a_masks, a_expr, a_constant, a_rowStart, a_rowCols, a_colStart, a_colRows, a_rowLeft, a_rowUsed, a_queue, a_pivotCol, a_pivotRow, a_denseMask, a_denseValue) v1 := by
  have keep : i_Rel kk ((nI k), (nI cc), f_allWords, f_running, (nI e), f_weightTotal, f_mixedSeed, (nI n), f_state, f_rankFound, f_peelMask, f_activeMask, f_inactiveMask, f_queueHead, f_queueTail, f_pivotCount, f_denseRank, f_contradiction, a_tableDegree, a_tableWeight, a_tableEnd, a_source, a_ids, a_values, a_masks, a_expr, a_constant, a_rowStart, a_rowCols, a_colStart, a_colRows, a_rowLeft, a_rowUsed, a_queue, a_pivotCol, a_pivotRow, a_denseMask, a_denseValue) ((nI k), (nI cc), f_running, (nI e), seed, (nI n), f_state, a_tableDegree, a_tableWeight, a_source, a_ids, a_values, rm, rv) := fc_in hR
  have hk := hR.1.2.1
  have hc := hR.1.2.2.2.1
  have hn := hR.1.2.2.2.2.1
  by_cases hs : f_state = 0
  · exact br_t hs (br_t hs ⟨rfl, keep⟩)
  · obtain ⟨h0, hD⟩ := fc_R_dec hR hs
    rcases pk_ix v1 (n := k) (by omega) with h | h | ⟨j, hj, rfl⟩
    · exact br_f hs (br_t h (br_f hs (br_t h ⟨rfl, keep⟩)))
    · obtain ⟨h1, h2⟩ := fc_ge h (by omega)
      exact br_f hs (br_f h1 (br_f h2 (br_f hs (br_f h1 (br_f h2 ⟨rfl, keep⟩)))))
    · have hP := hD.2.2.2.2 j hj
      refine br_f hs (br_f (nI_pos (by omega)) (br_t (nI_lt hj (by omega)) (fc_Xhas (by omega) (fun hb => ⟨rfl, ?_⟩) (fun hb => ⟨rfl, ?_⟩) _)))
      · have np : ¬ fc_Peel k n a_masks j := fun q => by rw [hP.mpr q] at hb; cases hb
        exact fc_Ypeel (by omega) h0 (fc_R_run hR h0) hR.2.2.2.2.2.2.2.1 hs hj (fun q => absurd q np) (fun _ rm rv => ⟨rfl, fc_in hR⟩)
      · exact fc_Ypeel (by omega) h0 (fc_R_run hR h0) hR.2.2.2.2.2.2.2.1 hs hj (fun _ rm rv => ⟨rfl, fc_in hR⟩) (fun q => absurd (hP.mp hb) q)
/-- states 0 and 1: nothing is known -/
theorem fc_Ysk0 {post : Int32 → SY → Prop} {m : Int32} (hs : f_state = 0 ∨ f_state = 1) (h : post 0 ((nI k), (nI cc), f_running, (nI e), seed, (nI n), f_state, a_tableDegree, a_tableWeight, a_source, a_ids, a_values, rm, rv)) : wpY_sumKnown post ((nI k), (nI cc), f_running, (nI e), seed, (nI n), f_state, a_tableDegree, a_tableWeight, a_source, a_ids, a_values, rm, rv) m := by
  rcases hs with z | z
  · exact br_t z h
  · have n0 : ¬ f_state = 0 := fun q => by rw [z] at q; exact absurd q (by decide)
    exact br_f n0 (br_t z h)
theorem fc_Ysv0 {post : Int32 → SY → Prop} {m : Int32} (hs : f_state = 0 ∨ f_state = 1) (h : post 0 ((nI k), (nI cc), f_running, (nI e), seed, (nI n), f_state, a_tableDegree, a_tableWeight, a_source, a_ids, a_values, rm, rv)) : wpY_sumValue post ((nI k), (nI cc), f_running, (nI e), seed, (nI n), f_state, a_tableDegree, a_tableWeight, a_source, a_ids, a_values, rm, rv) m := by
  unfold wpY_sumValue
  exact fc_Ysk0 hs (br_t rfl h)
theorem fc_01 (hs : f_state = 0 ∨ f_state = 1) : ¬ (f_state = 2 ∨ f_state = 3) := by
  rcases hs with z | z <;> rw [z] <;> decide
theorem fc_R_st (hR : fc_R k cc e n f_allWords f_running f_weightTotal f_mixedSeed f_state f_rankFound f_peelMask seed a_tableDegree a_tableWeight a_tableEnd a_ids a_values a_masks a_expr a_constant) : (f_state = 0 ∨ f_state = 1) ∨ ((f_state = 2 ∨ f_state = 3) ∧ ¬ f_state = 0 ∧ ¬ f_state = 1 ∧ (¬ f_running = 0) ∧ fc_Dec k n a_masks a_values f_state f_rankFound f_peelMask a_expr a_constant ∧ ¬ ∃ v, v ≠ 0 ∧ fc_Sp n a_masks a_values 0 v) := by
  by_cases hs : f_state = 0
  · exact Or.inl (Or.inl hs)
  · obtain ⟨h0, hD⟩ := fc_R_dec hR hs
    rcases fc_Dec_cases hD with z | ⟨z1, z2, z3⟩
    · exact Or.inl (Or.inr z)
    · exact Or.inr ⟨z1, hs, z2, h0, hD, z3⟩
theorem fc_v_decoded (hR : fc_R k cc e n f_allWords f_running f_weightTotal f_mixedSeed f_state f_rankFound f_peelMask seed a_tableDegree a_tableWeight a_tableEnd a_ids a_values a_masks a_expr a_constant) : wpX_decoded (fun r => wpY_decoded (fun r' v' => r' = r ∧ i_Rel kk ((nI k), (nI cc), f_allWords, f_running, (nI e), f_weightTotal, f_mixedSeed, (nI n), f_state, f_rankFound, f_peelMask, f_activeMask, f_inactiveMask, f_queueHead, f_queueTail, f_pivotCount, f_denseRank, f_contradiction, a_tableDegree, a_tableWeight, a_tableEnd, a_source, a_ids, a_values, a_masks, a_expr, a_constant, a_rowStart, a_rowCols, a_colStart, a_colRows, a_rowLeft, a_rowUsed, a_queue, a_pivotCol, a_pivotRow, a_denseMask, a_denseValue) v') ((nI k), (nI cc), f_running, (nI e), seed, (nI n), f_state, a_tableDegree, a_tableWeight, a_source, a_ids, a_values, rm, rv) v1) ((nI k), (nI cc), f_allWords, f_running, (nI e), f_weightTotal, f_mixedSeed, (nI n), f_state, f_rankFound, f_peelMask, f_activeMask, f_inactiveMask, f_queueHead, f_queueTail, f_pivotCount, f_denseRank, f_contradiction, a_tableDegree, a_tableWeight, a_tableEnd, a_source, a_ids, a_values, a_masks, a_expr, a_constant, a_rowStart, a_rowCols, a_colStart, a_colRows, a_rowLeft, a_rowUsed, a_queue, a_pivotCol, a_pivotRow, a_denseMask, a_denseValue) v1 := by
  have keep : i_Rel kk ((nI k), (nI cc), f_allWords, f_running, (nI e), f_weightTotal, f_mixedSeed, (nI n), f_state, f_rankFound, f_peelMask, f_activeMask, f_inactiveMask, f_queueHead, f_queueTail, f_pivotCount, f_denseRank, f_contradiction, a_tableDegree, a_tableWeight, a_tableEnd, a_source, a_ids, a_values, a_masks, a_expr, a_constant, a_rowStart, a_rowCols, a_colStart, a_colRows, a_rowLeft, a_rowUsed, a_queue, a_pivotCol, a_pivotRow, a_denseMask, a_denseValue) ((nI k), (nI cc), f_running, (nI e), seed, (nI n), f_state, a_tableDegree, a_tableWeight, a_source, a_ids, a_values, rm, rv) := fc_in hR
  have hk := hR.1.2.1
  have hc := hR.1.2.2.2.1
  have hn := hR.1.2.2.2.2.1
  rcases pk_ix v1 (n := k) (by omega) with h | h | ⟨j, hj, rfl⟩
  · exact br_t h (br_t h ⟨rfl, keep⟩)
  · obtain ⟨h1, h2⟩ := fc_ge h (by omega)
    exact br_f h1 (br_t h (br_f h1 (br_f h2 ⟨rfl, keep⟩)))
  · have h1 : ¬ nI j < 0 := nI_pos (by omega)
    have h2 : nI j < nI k := nI_lt hj (by omega)
    have hi : vp_in (nI j) 24 := vp_in_nI (by omega) (by omega)
    rcases fc_R_st hR with hs | ⟨s1, s2, s3, h0, hD, hu⟩
    · exact br_f h1 (br_f (nI_ge hj (by omega)) (fc_Xsolv (fun q => absurd q (fc_01 hs)) (fun _ => br_t rfl (br_f h1 (br_t h2 (fc_Ysv0 hs ⟨rfl, keep⟩))))))
    · have hI : fc_In k (fc_bit j) := fc_Inb hj (by omega)
      obtain ⟨d1, d2⟩ := fc_Dec_known (by omega) hD hI
      rw [fc_fx_bit hj (by omega)] at d1 d2
      rw [fc_fx_bit hj (by omega)] at d1
      refine br_f h1 (br_f (nI_ge hj (by omega)) (fc_Xsolv (fun _ => br_f (by decide) ⟨hi, ?_⟩) (fun q => absurd s1 q)))
      rw [nI_clamp (n := j) (by omega)]
      refine br_c (fun z => ⟨hi, br_f h1 (br_t h2 (fc_YsumV (m := fc_bit j) (by omega) h0 (fc_R_run hR h0) hR.2.2.2.2.2.2.2.1 s2 s3 (fun v hv rm rv => ⟨fc_uniq hu hv (d1 z), fc_in hR⟩) (fun q => absurd ⟨_, d1 z⟩ q)))⟩) (fun z => ?_)
      exact br_f h1 (br_t h2 (fc_YsumV (m := fc_bit j) (by omega) h0 (fc_R_run hR h0) hR.2.2.2.2.2.2.2.1 s2 s3 (fun v hv => absurd (d2 ⟨v, hv⟩) z) (fun q rm rv => ⟨rfl, fc_in hR⟩)))
theorem fc_v_sumKnown (hR : fc_R k cc e n f_allWords f_running f_weightTotal f_mixedSeed f_state f_rankFound f_peelMask seed a_tableDegree a_tableWeight a_tableEnd a_ids a_values a_masks a_expr a_constant) : wpX_sumKnown (fun r => wpY_sumKnown (fun r' v' => r' = r ∧ i_Rel kk ((nI k), (nI cc), f_allWords, f_running, (nI e), f_weightTotal, f_mixedSeed, (nI n), f_state, f_rankFound, f_peelMask, f_activeMask, f_inactiveMask, f_queueHead, f_queueTail, f_pivotCount, f_denseRank, f_contradiction, a_tableDegree, a_tableWeight, a_tableEnd, a_source, a_ids, a_values, a_masks, a_expr, a_constant, a_rowStart, a_rowCols, a_colStart, a_colRows, a_rowLeft, a_rowUsed, a_queue, a_pivotCol, a_pivotRow, a_denseMask, a_denseValue) v') ((nI k), (nI cc), f_running, (nI e), seed, (nI n), f_state, a_tableDegree, a_tableWeight, a_source, a_ids, a_values, rm, rv) v1) ((nI k), (nI cc), f_allWords, f_running, (nI e), f_weightTotal, f_mixedSeed, (nI n), f_state, f_rankFound, f_peelMask, f_activeMask, f_inactiveMask, f_queueHead, f_queueTail, f_pivotCount, f_denseRank, f_contradiction, a_tableDegree, a_tableWeight, a_tableEnd, a_source, a_ids, a_values, a_masks, a_expr, a_constant, a_rowStart, a_rowCols, a_colStart, a_colRows, a_rowLeft, a_rowUsed, a_queue, a_pivotCol, a_pivotRow, a_denseMask, a_denseValue) v1 := by
  have keep : i_Rel kk ((nI k), (nI cc), f_allWords, f_running, (nI e), f_weightTotal, f_mixedSeed, (nI n), f_state, f_rankFound, f_peelMask, f_activeMask, f_inactiveMask, f_queueHead, f_queueTail, f_pivotCount, f_denseRank, f_contradiction, a_tableDegree, a_tableWeight, a_tableEnd, a_source, a_ids, a_values, a_masks, a_expr, a_constant, a_rowStart, a_rowCols, a_colStart, a_colRows, a_rowLeft, a_rowUsed, a_queue, a_pivotCol, a_pivotRow, a_denseMask, a_denseValue) ((nI k), (nI cc), f_running, (nI e), seed, (nI n), f_state, a_tableDegree, a_tableWeight, a_source, a_ids, a_values, rm, rv) := fc_in hR
  have hc := hR.1.2.2.2.1
  have hn := hR.1.2.2.2.2.1
  rcases fc_R_st hR with hs | ⟨s1, s2, s3, h0, hD, hu⟩
  · unfold wpX_sumKnown
    exact fc_Xsolv (fun q => absurd q (fc_01 hs)) (fun _ => br_t rfl (fc_Ysk0 hs ⟨rfl, keep⟩))
  · refine fc_XsumK hR.1.2.1 hR.2.1 s1 (fc_R_mI hR) hD (fun q => ?_) (fun q => ?_)
    · exact fc_YsumK (by omega) h0 (fc_R_run hR h0) hR.2.2.2.2.2.2.2.1 s2 s3 (fun _ rm rv => ⟨rfl, fc_in hR⟩) (fun z => absurd q z)
    · exact fc_YsumK (by omega) h0 (fc_R_run hR h0) hR.2.2.2.2.2.2.2.1 s2 s3 (fun z => absurd z q) (fun _ rm rv => ⟨rfl, fc_in hR⟩)
theorem fc_v_sumValue (hR : fc_R k cc e n f_allWords f_running f_weightTotal f_mixedSeed f_state f_rankFound f_peelMask seed a_tableDegree a_tableWeight a_tableEnd a_ids a_values a_masks a_expr a_constant) : wpX_sumValue (fun r => wpY_sumValue (fun r' v' => r' = r ∧ i_Rel kk ((nI k), (nI cc), f_allWords, f_running, (nI e), f_weightTotal, f_mixedSeed, (nI n), f_state, f_rankFound, f_peelMask, f_activeMask, f_inactiveMask, f_queueHead, f_queueTail, f_pivotCount, f_denseRank, f_contradiction, a_tableDegree, a_tableWeight, a_tableEnd, a_source, a_ids, a_values, a_masks, a_expr, a_constant, a_rowStart, a_rowCols, a_colStart, a_colRows, a_rowLeft, a_rowUsed, a_queue, a_pivotCol, a_pivotRow, a_denseMask, a_denseValue) v') ((nI k), (nI cc), f_running, (nI e), seed, (nI n), f_state, a_tableDegree, a_tableWeight, a_source, a_ids, a_values, rm, rv) v1) ((nI k), (nI cc), f_allWords, f_running, (nI e), f_weightTotal, f_mixedSeed, (nI n), f_state, f_rankFound, f_peelMask, f_activeMask, f_inactiveMask, f_queueHead, f_queueTail, f_pivotCount, f_denseRank, f_contradiction, a_tableDegree, a_tableWeight, a_tableEnd, a_source, a_ids, a_values, a_masks, a_expr, a_constant, a_rowStart, a_rowCols, a_colStart, a_colRows, a_rowLeft, a_rowUsed, a_queue, a_pivotCol, a_pivotRow, a_denseMask, a_denseValue) v1 := by
  have keep : i_Rel kk ((nI k), (nI cc), f_allWords, f_running, (nI e), f_weightTotal, f_mixedSeed, (nI n), f_state, f_rankFound, f_peelMask, f_activeMask, f_inactiveMask, f_queueHead, f_queueTail, f_pivotCount, f_denseRank, f_contradiction, a_tableDegree, a_tableWeight, a_tableEnd, a_source, a_ids, a_values, a_masks, a_expr, a_constant, a_rowStart, a_rowCols, a_colStart, a_colRows, a_rowLeft, a_rowUsed, a_queue, a_pivotCol, a_pivotRow, a_denseMask, a_denseValue) ((nI k), (nI cc), f_running, (nI e), seed, (nI n), f_state, a_tableDegree, a_tableWeight, a_source, a_ids, a_values, rm, rv) := fc_in hR
  have hc := hR.1.2.2.2.1
  have hn := hR.1.2.2.2.2.1
  rcases fc_R_st hR with hs | ⟨s1, s2, s3, h0, hD, hu⟩
  · unfold wpX_sumValue wpX_sumKnown
    exact fc_Xsolv (fun q => absurd q (fc_01 hs)) (fun _ => br_t rfl (br_t rfl (fc_Ysv0 hs ⟨rfl, keep⟩)))
  · refine fc_XsumV hR.1.2.1 hR.2.1 s1 (fc_R_mI hR) hD (fun v hv => ?_) (fun q => ?_)
    · exact fc_YsumV (by omega) h0 (fc_R_run hR h0) hR.2.2.2.2.2.2.2.1 s2 s3 (fun w hw rm rv => ⟨fc_uniq hu hw hv, fc_in hR⟩) (fun z => absurd ⟨v, hv⟩ z)
    · exact fc_YsumV (by omega) h0 (fc_R_run hR h0) hR.2.2.2.2.2.2.2.1 s2 s3 (fun w hw => absurd ⟨w, hw⟩ q) (fun _ rm rv => ⟨rfl, fc_in hR⟩)
theorem fc_Y20n {post : Int32 → SY → Prop} (hR : fc_R k cc e n f_allWords f_running f_weightTotal f_mixedSeed f_state f_rankFound f_peelMask seed a_tableDegree a_tableWeight a_tableEnd a_ids a_values a_masks a_expr a_constant) (h0 : ¬ f_running = 0) (s2 : ¬ f_state = 0) (s3 : ¬ f_state = 1) (hq : ∀ m, fc_In k m → fc_Q n a_masks a_values m) (h : ∀ rm rv : Nat → Int32, post (-9) ((nI k), (nI cc), f_running, (nI e), seed, (nI n), f_state, a_tableDegree, a_tableWeight, a_source, a_ids, a_values, rm, rv)) :
    ∀ (d j : Nat) (rm rv : Nat → Int32), j + d = 16 → wY_nextUseful_20 post v1 (d + 1) (nI j) (nI k) (nI cc) f_running (nI e) seed (nI n) f_state a_tableDegree a_tableWeight a_source a_ids a_values rm rv := by
  have hk := hR.1.2.1
  have hc := hR.1.2.2.2.1
  have hn := hR.1.2.2.2.2.1
  intro d
  induction d with
  | zero => intro j rm rv hj; exact br_t (nI_le (a := 16) (by omega) (by omega)) (h rm rv)
  | succ d ih =>
    intro j rm rv hj
    refine br_f (nI_ge (b := 16) (by omega) (by omega)) (fc_Ynb h0 (fc_R_run hR h0) (fc_YsumK (by omega) h0 (fc_R_run hR h0) hR.2.2.2.2.2.2.2.1 s2 s3 (fun _ rm rv => br_f (by decide) (nm_r (nI_1 j) (ih (j + 1) rm rv (by omega)))) (fun q => absurd (hq _ (fc_nb_In hR.1.1 (by omega))) q)))
theorem fc_nu (hR : fc_R k cc e n f_allWords f_running f_weightTotal f_mixedSeed f_state f_rankFound f_peelMask seed a_tableDegree a_tableWeight a_tableEnd a_ids a_values a_masks a_expr a_constant) (h0 : ¬ f_running = 0) (s1 : f_state = 2 ∨ f_state = 3) (s2 : ¬ f_state = 0) (s3 : ¬ f_state = 1) (hD : fc_Dec k n a_masks a_values f_state f_rankFound f_peelMask a_expr a_constant) :
    ∀ d j : Nat, j + d = 16 → ∃ r : Int32, (∀ post : Int32 → Prop, post r → wX_nextUseful_23 post v1 (nI k) (nI cc) f_allWords f_running (nI e) f_weightTotal f_mixedSeed (nI n) f_state f_rankFound f_peelMask f_activeMask f_inactiveMask f_queueHead f_queueTail f_pivotCount f_denseRank f_contradiction a_tableDegree a_tableWeight a_tableEnd a_source a_ids a_values a_masks a_expr a_constant a_rowStart a_rowCols a_colStart a_colRows a_rowLeft a_rowUsed a_queue a_pivotCol a_pivotRow a_denseMask a_denseValue (d + 1) (nI j)) ∧ (∀ post : Int32 → SY → Prop, (∀ rm rv : Nat → Int32, post r ((nI k), (nI cc), f_running, (nI e), seed, (nI n), f_state, a_tableDegree, a_tableWeight, a_source, a_ids, a_values, rm, rv)) → ∀ rm rv : Nat → Int32, wY_nextUseful_20 post v1 (d + 1) (nI j) (nI k) (nI cc) f_running (nI e) seed (nI n) f_state a_tableDegree a_tableWeight a_source a_ids a_values rm rv) := by
  have hk := hR.1.2.1
  have hc := hR.1.2.2.2.1
  have hn := hR.1.2.2.2.2.1
  intro d
  induction d with
  | zero =>
    intro j hj
    have hx : (16 : Int32) ≤ nI j := nI_le (a := 16) (by omega) (by omega)
    exact ⟨-9, fun post hp => br_t hx hp, fun post hp rm rv => br_t hx (hp rm rv)⟩
  | succ d ih =>
    intro j hj
    have hx : ¬ (16 : Int32) ≤ nI j := nI_ge (b := 16) (by omega) (by omega)
    by_cases q : fc_Q n a_masks a_values (fc_nb k e a_tableDegree a_tableWeight seed (v1 + nI j))
    · obtain ⟨r, gX, gY⟩ := ih (j + 1) (by omega)
      refine ⟨r, fun post hp => br_f hx (fc_Xnb h0 (fc_R_run hR h0) (fc_XsumK hk hR.2.1 s1 (fc_R_mI hR) hD (fun _ => br_f (by decide) (nm_r (nI_1 j) (gX post hp))) (fun z => absurd q z))),
        fun post hp rm rv => br_f hx (fc_Ynb h0 (fc_R_run hR h0) (fc_YsumK (by omega) h0 (fc_R_run hR h0) hR.2.2.2.2.2.2.2.1 s2 s3 (fun _ rm rv => br_f (by decide) (nm_r (nI_1 j) (gY post hp rm rv))) (fun z => absurd q z)))⟩
    · exact ⟨nI j, fun post hp => br_f hx (fc_Xnb h0 (fc_R_run hR h0) (fc_XsumK hk hR.2.1 s1 (fc_R_mI hR) hD (fun z => absurd z q) (fun _ => br_t rfl hp))),
        fun post hp rm rv => br_f hx (fc_Ynb h0 (fc_R_run hR h0) (fc_YsumK (by omega) h0 (fc_R_run hR h0) hR.2.2.2.2.2.2.2.1 s2 s3 (fun z => absurd z q) (fun _ rm rv => br_t rfl (hp rm rv))))⟩
theorem fc_v_nextUseful (hR : fc_R k cc e n f_allWords f_running f_weightTotal f_mixedSeed f_state f_rankFound f_peelMask seed a_tableDegree a_tableWeight a_tableEnd a_ids a_values a_masks a_expr a_constant) : wpX_nextUseful (fun r => wpY_nextUseful (fun r' v' => r' = r ∧ i_Rel kk ((nI k), (nI cc), f_allWords, f_running, (nI e), f_weightTotal, f_mixedSeed, (nI n), f_state, f_rankFound, f_peelMask, f_activeMask, f_inactiveMask, f_queueHead, f_queueTail, f_pivotCount, f_denseRank, f_contradiction, a_tableDegree, a_tableWeight, a_tableEnd, a_source, a_ids, a_values, a_masks, a_expr, a_constant, a_rowStart, a_rowCols, a_colStart, a_colRows, a_rowLeft, a_rowUsed, a_queue, a_pivotCol, a_pivotRow, a_denseMask, a_denseValue) v') ((nI k), (nI cc), f_running, (nI e), seed, (nI n), f_state, a_tableDegree, a_tableWeight, a_source, a_ids, a_values, rm, rv) v1) ((nI k), (nI cc), f_allWords, f_running, (nI e), f_weightTotal, f_mixedSeed, (nI n), f_state, f_rankFound, f_peelMask, f_activeMask, f_inactiveMask, f_queueHead, f_queueTail, f_pivotCount, f_denseRank, f_contradiction, a_tableDegree, a_tableWeight, a_tableEnd, a_source, a_ids, a_values, a_masks, a_expr, a_constant, a_rowStart, a_rowCols, a_colStart, a_colRows, a_rowLeft, a_rowUsed, a_queue, a_pivotCol, a_pivotRow, a_denseMask, a_denseValue) v1 := by
  have keep : i_Rel kk ((nI k), (nI cc), f_allWords, f_running, (nI e), f_weightTotal, f_mixedSeed, (nI n), f_state, f_rankFound, f_peelMask, f_activeMask, f_inactiveMask, f_queueHead, f_queueTail, f_pivotCount, f_denseRank, f_contradiction, a_tableDegree, a_tableWeight, a_tableEnd, a_source, a_ids, a_values, a_masks, a_expr, a_constant, a_rowStart, a_rowCols, a_colStart, a_colRows, a_rowLeft, a_rowUsed, a_queue, a_pivotCol, a_pivotRow, a_denseMask, a_denseValue) ((nI k), (nI cc), f_running, (nI e), seed, (nI n), f_state, a_tableDegree, a_tableWeight, a_source, a_ids, a_values, rm, rv) := fc_in hR
  have hk := hR.1.2.1
  unfold wpX_nextUseful
  rcases fc_R_st hR with hs | ⟨s1, s2, s3, h0, hD, hu⟩
  · refine fc_Xsolv (fun q => absurd q (fc_01 hs)) (fun _ => br_t rfl ?_)
    rcases hs with z | z
    · exact br_t z ⟨rfl, keep⟩
    · have n0 : ¬ f_state = 0 := fun q => by rw [z] at q; exact absurd q (by decide)
      exact br_f n0 (br_t z ⟨rfl, keep⟩)
  · refine fc_Xsolv (fun _ => br_f (by decide) ?_) (fun q => absurd s1 q)
    by_cases h3 : f_state = 3
    · exact br_t h3 (br_f s2 (br_f s3 ⟨_, fc_Y20n hR h0 s2 s3 (fun m hm => fc_Dec_full (by omega) (fc_R_mI hR) hD h3 hm) (fun rm rv => ⟨rfl, fc_in hR⟩) 16 0 rm rv rfl⟩))
    · obtain ⟨r, gX, gY⟩ := fc_nu (v1 := v1) (cc := cc) (a_source := a_source) hR h0 s1 s2 s3 hD 16 0 rfl
      exact br_f h3 ⟨_, gX _ (br_f s2 (br_f s3 ⟨_, gY _ (fun rm rv => ⟨rfl, fc_in hR⟩) rm rv⟩))⟩
end
end
section
/-! what is owed -/
theorem fc_clamp (x : Int32) (M : Nat) (h1 : 1 ≤ M) (hM : M < 2 ^ 31) : ∃ j, 1 ≤ j ∧ j ≤ M ∧ ((¬ 1 ≤ x ∧ j = 1) ∨ (1 ≤ x ∧ x ≤ nI M ∧ x = nI j) ∨ (1 ≤ x ∧ ¬ x ≤ nI M ∧ j = M)) := by
  by_cases z : 1 ≤ x
  · by_cases y : x ≤ nI M
    · have p : ¬ x < 0 := Int32.not_lt.mpr (Int32.le_trans (by decide) z)
      obtain ⟨j, hj, rfl⟩ := nI_of p
      exact ⟨j, (nI_leI (a := 1) (by omega) hj).mp z, (nI_leI hj hM).mp y, Or.inr (Or.inl ⟨z, y, rfl⟩)⟩
    · exact ⟨M, h1, Nat.le_refl _, Or.inr (Or.inr ⟨z, y, rfl⟩)⟩
  · exact ⟨1, Nat.le_refl _, h1, Or.inl ⟨z, rfl⟩⟩
theorem fc_Xclamp {post : Int32 → Prop} {x : Int32} {M j : Nat} (h : (¬ 1 ≤ x ∧ j = 1) ∨ (1 ≤ x ∧ x ≤ nI M ∧ x = nI j) ∨ (1 ≤ x ∧ ¬ x ≤ nI M ∧ j = M)) (hp : post (nI j)) : ∀ u : SX, wpX_clamp post u x (nI M)
  | (_, _, _, _, _, _, _, _, _, _, _, _, _, _, _, _, _, _, _, _, _, _, _, _, _, _, _, _, _, _, _, _, _, _, _, _, _, _) => by
    rcases h with ⟨a, b⟩ | ⟨a, b, c⟩ | ⟨a, b, c⟩
    · rw [b] at hp; exact br_f a hp
    · rw [← c] at hp; exact br_t a (br_t b hp)
    · rw [c] at hp; exact br_t a (br_f b hp)
section
variable {x2 : Int32} {j j' : Nat} {post : SY → Prop}
theorem fc_Y93 (hj : (¬ 1 ≤ x2 ∧ j' = 1) ∨ (1 ≤ x2 ∧ x2 ≤ nI 48 ∧ x2 = nI j') ∨ (1 ≤ x2 ∧ ¬ x2 ≤ nI 48 ∧ j' = 48)) (h : post (nI j, nI j', 0, 0, 0, 0, 0, (fun _ => 0), (fun _ => 0), (fun _ => 0), (fun _ => 0), (fun _ => 0), (fun _ => 0), (fun _ => 0))) :
    wY_init_93 post x2 (nI j) 0 0 0 0 0 0 (fun _ => 0) (fun _ => 0) (fun _ => 0) (fun _ => 0) (fun _ => 0) (fun _ => 0) (fun _ => 0) := by
  rcases hj with ⟨a, b⟩ | ⟨a, b, c⟩ | ⟨a, b, c⟩
  · rw [b] at h; exact br_f a (br_t (by decide) h)
  · rw [← c] at h; exact br_t a (br_t b h)
  · rw [c] at h; exact br_t a (br_f b h)
theorem fc_Yinit {x1 : Int32} (hi : (¬ 1 ≤ x1 ∧ j = 1) ∨ (1 ≤ x1 ∧ x1 ≤ nI 24 ∧ x1 = nI j) ∨ (1 ≤ x1 ∧ ¬ x1 ≤ nI 24 ∧ j = 24)) (hj : (¬ 1 ≤ x2 ∧ j' = 1) ∨ (1 ≤ x2 ∧ x2 ≤ nI 48 ∧ x2 = nI j') ∨ (1 ≤ x2 ∧ ¬ x2 ≤ nI 48 ∧ j' = 48))
    (h : post (nI j, nI j', 0, 0, 0, 0, 0, (fun _ => 0), (fun _ => 0), (fun _ => 0), (fun _ => 0), (fun _ => 0), (fun _ => 0), (fun _ => 0))) : wpY_init post x1 x2 := by
  have k := fc_Y93 (j := j) hj h
  rcases hi with ⟨a, b⟩ | ⟨a, b, c⟩ | ⟨a, b, c⟩
  · rw [b] at k; exact br_f a (br_t (by decide) k)
  · rw [← c] at k; exact br_t a (br_t b k)
  · rw [c] at k; exact br_t a (br_f b k)
end
theorem i_vc0 (k0 : Int32) (k1 : Int32) : wpX_init (fun u => wpY_init (fun v => i_Rel 2 u v) k0 k1) k0 k1 := by
  obtain ⟨j, a1, a2, a3⟩ := fc_clamp k0 24 (by omega) (by omega)
  obtain ⟨j', b1, b2, b3⟩ := fc_clamp k1 48 (by omega) (by omega)
  unfold wpX_init
  refine fc_Xclamp (M := 24) a3 (fc_Xclamp (M := 48) b3 ?_ _) _
  intro aw ew
  subst ew
  refine fc_Yinit a3 b3 ?_
  exact fc_in (k := j) (cc := j') (e := 0) (n := 0) (seed := 0) ⟨⟨a1, a2, b1, b2, Nat.zero_le _, Nat.zero_le _⟩, rfl, fun i hi => by omega, fun i hi => by omega, rfl, fun _ => ⟨rfl, rfl⟩, fun z => absurd rfl z, fun i hi => by omega, Or.inl rfl⟩
theorem i_vc_addDegree {k : Nat} {u : SX} {v : SY} (I : i_Rel k u v) (hk : k + 3 ≤ 1538) (v1 : Int32) (v2 : Int32) : wpX_addDegree (fun r u' => wpY_addDegree (fun r' v' => r' = r ∧ i_Rel (k + 3) u' v') v v1 v2) u v1 v2 :=
  fc_el (P := fun u v => wpX_addDegree (fun r u' => wpY_addDegree (fun r' v' => r' = r ∧ i_Rel (k + 3) u' v') v v1 v2) u v1 v2) (fun _ _ _ _ _ _ _ _ _ _ _ _ _ _ _ _ _ _ _ _ _ _ _ _ _ _ _ _ _ _ _ _ _ _ _ _ _ _ _ _ _ hR => fc_v_addDegree hR) I
theorem i_vc_tableEntry {k : Nat} {u : SX} {v : SY} (I : i_Rel k u v) (hk : k + 3 ≤ 1538) (v1 : Int32) : wpX_tableEntry (fun r => wpY_tableEntry (fun r' => r' = r ∧ i_Rel (k + 3) u v) v v1) u v1 :=
  fc_el (P := fun u v => wpX_tableEntry (fun r => wpY_tableEntry (fun r' => r' = r ∧ i_Rel (k + 3) u v) v v1) u v1) (fun _ _ _ _ _ _ _ _ _ _ _ _ _ _ _ _ _ _ _ _ _ _ _ _ _ _ _ _ _ _ _ _ _ _ _ _ _ _ _ _ _ hR => fc_v_tableEntry hR) I
theorem i_vc_start {k : Nat} {u : SX} {v : SY} (I : i_Rel k u v) (hk : k + 3 ≤ 1538) (v1 : Int32) : wpX_start (fun r u' => wpY_start (fun r' v' => r' = r ∧ i_Rel (k + 3) u' v') v v1) u v1 :=
  fc_el (P := fun u v => wpX_start (fun r u' => wpY_start (fun r' v' => r' = r ∧ i_Rel (k + 3) u' v') v v1) u v1) (fun _ _ _ _ _ _ _ _ _ _ _ _ _ _ _ _ _ _ _ _ _ _ _ _ _ _ _ _ _ _ _ _ _ _ _ _ _ _ _ _ _ hR => fc_v_start hR) I
theorem i_vc_reset {k : Nat} {u : SX} {v : SY} (I : i_Rel k u v) (hk : k + 3 ≤ 1538) : wpX_reset (fun u' => wpY_reset (fun v' => i_Rel (k + 3) u' v') v) u :=
  fc_el (P := fun u v => wpX_reset (fun u' => wpY_reset (fun v' => i_Rel (k + 3) u' v') v) u) (fun _ _ _ _ _ _ _ _ _ _ _ _ _ _ _ _ _ _ _ _ _ _ _ _ _ _ _ _ _ _ _ _ _ _ _ _ _ _ _ _ _ hR => fc_v_reset hR) I
theorem i_vc_setWord {k : Nat} {u : SX} {v : SY} (I : i_Rel k u v) (hk : k + 3 ≤ 1538) (v1 : Int32) (v2 : Int32) : wpX_setWord (fun r u' => wpY_setWord (fun r' v' => r' = r ∧ i_Rel (k + 3) u' v') v v1 v2) u v1 v2 :=
  fc_el (P := fun u v => wpX_setWord (fun r u' => wpY_setWord (fun r' v' => r' = r ∧ i_Rel (k + 3) u' v') v v1 v2) u v1 v2) (fun _ _ _ _ _ _ _ _ _ _ _ _ _ _ _ _ _ _ _ _ _ _ _ _ _ _ _ _ _ _ _ _ _ _ _ _ _ _ _ _ _ hR => fc_v_setWord hR) I
theorem i_vc_word {k : Nat} {u : SX} {v : SY} (I : i_Rel k u v) (hk : k + 3 ≤ 1538) (v1 : Int32) : wpX_word (fun r => wpY_word (fun r' => r' = r ∧ i_Rel (k + 3) u v) v v1) u v1 :=
  fc_el (P := fun u v => wpX_word (fun r => wpY_word (fun r' => r' = r ∧ i_Rel (k + 3) u v) v v1) u v1) (fun _ _ _ _ _ _ _ _ _ _ _ _ _ _ _ _ _ _ _ _ _ _ _ _ _ _ _ _ _ _ _ _ _ _ _ _ _ _ _ _ _ hR => fc_v_word hR) I
theorem i_vc_neighbours {k : Nat} {u : SX} {v : SY} (I : i_Rel k u v) (hk : k + 3 ≤ 1538) (v1 : Int32) : wpX_neighbours (fun r => wpY_neighbours (fun r' => r' = r ∧ i_Rel (k + 3) u v) v v1) u v1 :=
  fc_el (P := fun u v => wpX_neighbours (fun r => wpY_neighbours (fun r' => r' = r ∧ i_Rel (k + 3) u v) v v1) u v1) (fun _ _ _ _ _ _ _ _ _ _ _ _ _ _ _ _ _ _ _ _ _ _ _ _ _ _ _ _ _ _ _ _ _ _ _ _ _ _ _ _ _ hR => fc_v_neighbours hR) I
theorem i_vc_emit {k : Nat} {u : SX} {v : SY} (I : i_Rel k u v) (hk : k + 3 ≤ 1538) (v1 : Int32) : wpX_emit (fun r => wpY_emit (fun r' => r' = r ∧ i_Rel (k + 3) u v) v v1) u v1 :=
  fc_el (P := fun u v => wpX_emit (fun r => wpY_emit (fun r' => r' = r ∧ i_Rel (k + 3) u v) v v1) u v1) (fun _ _ _ _ _ _ _ _ _ _ _ _ _ _ _ _ _ _ _ _ _ _ _ _ _ _ _ _ _ _ _ _ _ _ _ _ _ _ _ _ _ hR => fc_v_emit hR) I
theorem i_vc_accept {k : Nat} {u : SX} {v : SY} (I : i_Rel k u v) (hk : k + 3 ≤ 1538) (v1 : Int32) (v2 : Int32) : wpX_accept (fun r u' => wpY_accept (fun r' v' => r' = r ∧ i_Rel (k + 3) u' v') v v1 v2) u v1 v2 :=
  fc_el (P := fun u v => wpX_accept (fun r u' => wpY_accept (fun r' v' => r' = r ∧ i_Rel (k + 3) u' v') v v1 v2) u v1 v2) (fun _ _ _ _ _ _ _ _ _ _ _ _ _ _ _ _ _ _ _ _ _ _ _ _ _ _ _ _ _ _ _ _ _ _ _ _ _ _ _ _ _ hR => fc_v_accept hR) I
theorem i_vc_transfer {k : Nat} {u : SX} {v : SY} (I : i_Rel k u v) (hk : k + 3 ≤ 1538) (v1 : Int32) (v2 : Int32) : wpX_transfer (fun r u' => wpY_transfer (fun r' v' => r' = r ∧ i_Rel (k + 3) u' v') v v1 v2) u v1 v2 :=
  fc_el (P := fun u v => wpX_transfer (fun r u' => wpY_transfer (fun r' v' => r' = r ∧ i_Rel (k + 3) u' v') v v1 v2) u v1 v2) (fun _ _ _ _ _ _ _ _ _ _ _ _ _ _ _ _ _ _ _ _ _ _ _ _ _ _ _ _ _ _ _ _ _ _ _ _ _ _ _ _ _ hR => fc_v_transfer hR) I
theorem i_vc_forget {k : Nat} {u : SX} {v : SY} (I : i_Rel k u v) (hk : k + 3 ≤ 1538) (v1 : Int32) : wpX_forget (fun r u' => wpY_forget (fun r' v' => r' = r ∧ i_Rel (k + 3) u' v') v v1) u v1 :=
  fc_el (P := fun u v => wpX_forget (fun r u' => wpY_forget (fun r' v' => r' = r ∧ i_Rel (k + 3) u' v') v v1) u v1) (fun _ _ _ _ _ _ _ _ _ _ _ _ _ _ _ _ _ _ _ _ _ _ _ _ _ _ _ _ _ _ _ _ _ _ _ _ _ _ _ _ _ hR => fc_v_forget hR) I
theorem i_vc_heldCount {k : Nat} {u : SX} {v : SY} (I : i_Rel k u v) (hk : k + 3 ≤ 1538) : wpX_heldCount (fun r => wpY_heldCount (fun r' => r' = r ∧ i_Rel (k + 3) u v) v) u :=
  fc_el (P := fun u v => wpX_heldCount (fun r => wpY_heldCount (fun r' => r' = r ∧ i_Rel (k + 3) u v) v) u) (fun _ _ _ _ _ _ _ _ _ _ _ _ _ _ _ _ _ _ _ _ _ _ _ _ _ _ _ _ _ _ _ _ _ _ _ _ _ _ _ _ _ hR => fc_v_heldCount hR) I
theorem i_vc_heldId {k : Nat} {u : SX} {v : SY} (I : i_Rel k u v) (hk : k + 3 ≤ 1538) (v1 : Int32) : wpX_heldId (fun r => wpY_heldId (fun r' => r' = r ∧ i_Rel (k + 3) u v) v v1) u v1 :=
  fc_el (P := fun u v => wpX_heldId (fun r => wpY_heldId (fun r' => r' = r ∧ i_Rel (k + 3) u v) v v1) u v1) (fun _ _ _ _ _ _ _ _ _ _ _ _ _ _ _ _ _ _ _ _ _ _ _ _ _ _ _ _ _ _ _ _ _ _ _ _ _ _ _ _ _ hR => fc_v_heldId hR) I
theorem i_vc_heldValue {k : Nat} {u : SX} {v : SY} (I : i_Rel k u v) (hk : k + 3 ≤ 1538) (v1 : Int32) : wpX_heldValue (fun r => wpY_heldValue (fun r' => r' = r ∧ i_Rel (k + 3) u v) v v1) u v1 :=
  fc_el (P := fun u v => wpX_heldValue (fun r => wpY_heldValue (fun r' => r' = r ∧ i_Rel (k + 3) u v) v v1) u v1) (fun _ _ _ _ _ _ _ _ _ _ _ _ _ _ _ _ _ _ _ _ _ _ _ _ _ _ _ _ _ _ _ _ _ _ _ _ _ _ _ _ _ hR => fc_v_heldValue hR) I
theorem i_vc_decode {k : Nat} {u : SX} {v : SY} (I : i_Rel k u v) (hk : k + 3 ≤ 1538) : wpX_decode (fun r u' => wpY_decode (fun r' v' => r' = r ∧ i_Rel (k + 3) u' v') v) u :=
  fc_el (P := fun u v => wpX_decode (fun r u' => wpY_decode (fun r' v' => r' = r ∧ i_Rel (k + 3) u' v') v) u) (fun _ _ _ _ _ _ _ _ _ _ _ _ _ _ _ _ _ _ _ _ _ _ _ _ _ _ _ _ _ _ _ _ _ _ _ _ _ _ _ _ _ hR => fc_v_decode hR) I
theorem i_vc_status {k : Nat} {u : SX} {v : SY} (I : i_Rel k u v) (hk : k + 3 ≤ 1538) : wpX_status (fun r => wpY_status (fun r' => r' = r ∧ i_Rel (k + 3) u v) v) u :=
  fc_el (P := fun u v => wpX_status (fun r => wpY_status (fun r' => r' = r ∧ i_Rel (k + 3) u v) v) u) (fun _ _ _ _ _ _ _ _ _ _ _ _ _ _ _ _ _ _ _ _ _ _ _ _ _ _ _ _ _ _ _ _ _ _ _ _ _ _ _ _ _ hR => fc_v_status hR) I
theorem i_vc_rank {k : Nat} {u : SX} {v : SY} (I : i_Rel k u v) (hk : k + 3 ≤ 1538) : wpX_rank (fun r => wpY_rank (fun r' v' => r' = r ∧ i_Rel (k + 3) u v') v) u :=
  fc_el (P := fun u v => wpX_rank (fun r => wpY_rank (fun r' v' => r' = r ∧ i_Rel (k + 3) u v') v) u) (fun _ _ _ _ _ _ _ _ _ _ _ _ _ _ _ _ _ _ _ _ _ _ _ _ _ _ _ _ _ _ _ _ _ _ _ _ _ _ _ _ _ hR => fc_v_rank hR) I
theorem i_vc_peelable {k : Nat} {u : SX} {v : SY} (I : i_Rel k u v) (hk : k + 3 ≤ 1538) (v1 : Int32) : wpX_peelable (fun r => wpY_peelable (fun r' v' => r' = r ∧ i_Rel (k + 3) u v') v v1) u v1 :=
  fc_el (P := fun u v => wpX_peelable (fun r => wpY_peelable (fun r' v' => r' = r ∧ i_Rel (k + 3) u v') v v1) u v1) (fun _ _ _ _ _ _ _ _ _ _ _ _ _ _ _ _ _ _ _ _ _ _ _ _ _ _ _ _ _ _ _ _ _ _ _ _ _ _ _ _ _ hR => fc_v_peelable hR) I
theorem i_vc_decoded {k : Nat} {u : SX} {v : SY} (I : i_Rel k u v) (hk : k + 3 ≤ 1538) (v1 : Int32) : wpX_decoded (fun r => wpY_decoded (fun r' v' => r' = r ∧ i_Rel (k + 3) u v') v v1) u v1 :=
  fc_el (P := fun u v => wpX_decoded (fun r => wpY_decoded (fun r' v' => r' = r ∧ i_Rel (k + 3) u v') v v1) u v1) (fun _ _ _ _ _ _ _ _ _ _ _ _ _ _ _ _ _ _ _ _ _ _ _ _ _ _ _ _ _ _ _ _ _ _ _ _ _ _ _ _ _ hR => fc_v_decoded hR) I
theorem i_vc_sumKnown {k : Nat} {u : SX} {v : SY} (I : i_Rel k u v) (hk : k + 3 ≤ 1538) (v1 : Int32) : wpX_sumKnown (fun r => wpY_sumKnown (fun r' v' => r' = r ∧ i_Rel (k + 3) u v') v v1) u v1 :=
  fc_el (P := fun u v => wpX_sumKnown (fun r => wpY_sumKnown (fun r' v' => r' = r ∧ i_Rel (k + 3) u v') v v1) u v1) (fun _ _ _ _ _ _ _ _ _ _ _ _ _ _ _ _ _ _ _ _ _ _ _ _ _ _ _ _ _ _ _ _ _ _ _ _ _ _ _ _ _ hR => fc_v_sumKnown hR) I
theorem i_vc_sumValue {k : Nat} {u : SX} {v : SY} (I : i_Rel k u v) (hk : k + 3 ≤ 1538) (v1 : Int32) : wpX_sumValue (fun r => wpY_sumValue (fun r' v' => r' = r ∧ i_Rel (k + 3) u v') v v1) u v1 :=
  fc_el (P := fun u v => wpX_sumValue (fun r => wpY_sumValue (fun r' v' => r' = r ∧ i_Rel (k + 3) u v') v v1) u v1) (fun _ _ _ _ _ _ _ _ _ _ _ _ _ _ _ _ _ _ _ _ _ _ _ _ _ _ _ _ _ _ _ _ _ _ _ _ _ _ _ _ _ hR => fc_v_sumValue hR) I
theorem i_vc_nextUseful {k : Nat} {u : SX} {v : SY} (I : i_Rel k u v) (hk : k + 3 ≤ 1538) (v1 : Int32) : wpX_nextUseful (fun r => wpY_nextUseful (fun r' v' => r' = r ∧ i_Rel (k + 3) u v') v v1) u v1 :=
  fc_el (P := fun u v => wpX_nextUseful (fun r => wpY_nextUseful (fun r' v' => r' = r ∧ i_Rel (k + 3) u v') v v1) u v1) (fun _ _ _ _ _ _ _ _ _ _ _ _ _ _ _ _ _ _ _ _ _ _ _ _ _ _ _ _ _ _ _ _ _ _ _ _ _ _ _ _ _ hR => fc_v_nextUseful hR) I
end
