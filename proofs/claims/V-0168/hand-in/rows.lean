section
/-! pure rows to paste: stores, nI and lN arithmetic, masks, shifts, narrowing, branches by naturals (pk_le, pk_lt, pk_eq), loops (lp1 .. lp16: the measure of the state; rp1 ..: recursion), negatives. Take what you need -/
theorem pk_us {f : Nat → Int32} {k : Nat} {x : Int32} : upd f k x k = x := if_pos rfl
theorem pk_un {f : Nat → Int32} {k j : Nat} {x : Int32} (h : j ≠ k) : upd f k x j = f j := if_neg h
theorem pk_uLs {f : Nat → Int64} {k : Nat} {x : Int64} : vp_updL f k x k = x := if_pos rfl
theorem pk_uLn {f : Nat → Int64} {k j : Nat} {x : Int64} (h : j ≠ k) : vp_updL f k x j = f j := if_neg h
theorem pk_sub {a b : Nat} (h : b ≤ a) : nI a - nI b = nI (a - b) := by
  obtain ⟨c, rfl⟩ : ∃ c, a = c + b := ⟨a - b, by omega⟩
  rw [← nI_add, Int32.add_sub_cancel, Nat.add_sub_cancel]
theorem pk_m1 (n : Nat) : nI (n + 1) + (-1) = nI n := by
  rw [← nI_1, Int32.add_assoc, show (1 : Int32) + (-1) = 0 from rfl, Int32.add_zero]
theorem pk_mul (a b : Nat) : nI a * nI b = nI (a * b) := (Int32.ofNat_mul a b).symm
theorem pk_div {a d : Nat} (ha : a < 2 ^ 31) (h0 : 0 < d) (hd : d < 2 ^ 31) : nI a / nI d = nI (a / d) := by
  apply Int32.toInt_inj.mp
  rw [lg_idiv_nonneg (by rw [nI_toInt ha]; omega) (by rw [nI_toInt hd]; omega), nI_toInt ha, nI_toInt hd, nI_toInt (Nat.lt_of_le_of_lt (Nat.div_le_self a d) ha)]
  first | rfl | exact (Int.natCast_ediv _ _).symm
theorem pk_rem {a d : Nat} (ha : a < 2 ^ 31) (h0 : 0 < d) (hd : d < 2 ^ 31) : nI a - nI a / nI d * nI d = nI (a % d) := by
  rw [pk_div ha h0 hd, pk_mul, pk_sub (Nat.div_mul_le_self a d)]
  exact congrArg nI (by have := Nat.div_add_mod' a d; omega)
theorem pk_sub_toInt {a b : Nat} (ha : a < 2 ^ 30) (hb : b < 2 ^ 30) : (nI a - nI b).toInt = (a : Int) - b := by
  rw [Int32.toInt_sub, nI_toInt (by omega), nI_toInt (by omega)]
  exact Int.bmod_eq_of_le (by omega) (by omega)
theorem pk_sneg {a b : Nat} (hb : b < 2 ^ 30) (h : a < b) : nI a - nI b < 0 := by
  rw [Int32.lt_iff_toInt_lt, pk_sub_toInt (by omega) hb, show (0 : Int32).toInt = 0 from by decide]
  omega
theorem pk_ix (x : Int32) {n : Nat} (hn : n < 2 ^ 31) : x < 0 ∨ nI n ≤ x ∨ ∃ j : Nat, j < n ∧ x = nI j := by
  by_cases h : x < 0
  · exact Or.inl h
  · obtain ⟨j, hj, rfl⟩ := nI_of h
    by_cases h2 : j < n
    · exact Or.inr (Or.inr ⟨j, h2, rfl⟩)
    · exact Or.inr (Or.inl (nI_le (by omega) hj))
theorem pk_le {x y : Int32} {A B : Prop} (a b : Nat) (f : a ≤ b → A) (g : b < a → B) (hx : x = nI a := by rfl) (hy : y = nI b := by rfl) (ha : a < 2 ^ 31 := by omega) (hb : b < 2 ^ 31 := by omega) : (x ≤ y → A) ∧ (¬ x ≤ y → B) := by
  subst hx hy
  rw [nI_leI ha hb]
  exact ⟨f, fun z => g (by omega)⟩
theorem pk_lt {x y : Int32} {A B : Prop} (a b : Nat) (f : a < b → A) (g : b ≤ a → B) (hx : x = nI a := by rfl) (hy : y = nI b := by rfl) (ha : a < 2 ^ 31 := by omega) (hb : b < 2 ^ 31 := by omega) : (x < y → A) ∧ (¬ x < y → B) := by
  subst hx hy
  rw [nI_ltI ha hb]
  exact ⟨f, fun z => g (by omega)⟩
theorem pk_eq {x y : Int32} {A B : Prop} (a b : Nat) (f : a = b → A) (g : a ≠ b → B) (hx : x = nI a := by rfl) (hy : y = nI b := by rfl) (ha : a < 2 ^ 31 := by omega) (hb : b < 2 ^ 31 := by omega) : (x = y → A) ∧ (¬ x = y → B) := by
  subst hx hy
  rw [nI_eq ha hb]
  exact ⟨f, g⟩
theorem pk_in {x : Int32} (n N : Nat) (h : n < N) (hx : x = nI n := by rfl) (hN : N < 2 ^ 31 := by omega) : vp_in x N := by
  subst hx
  exact vp_in_nI h hN
theorem pk_cl {x : Int32} (n : Nat) (hx : x = nI n := by rfl) (h : n < 2 ^ 31 := by omega) : x.toNatClampNeg = n := by
  subst hx
  exact nI_clamp h
theorem pk_tn {n : Nat} (h : n < 2 ^ 32) : (nI n).toBitVec.toNat = n := Nat.mod_eq_of_lt h
theorem pk_and (x : Int32) {m : Int32} (k : Nat) (hm : m.toBitVec.toNat = 2 ^ k - 1) : x &&& m = nI (x.toBitVec.toNat % 2 ^ k) := by
  apply Int32.toBitVec_inj.mp
  apply BitVec.eq_of_toNat_eq
  rw [Int32.toBitVec_and, BitVec.toNat_and, hm, Nat.and_two_pow_sub_one_eq_mod]
  show _ = (BitVec.ofNat 32 _).toNat
  rw [BitVec.toNat_ofNat]
  exact (Nat.mod_eq_of_lt (Nat.lt_of_le_of_lt (Nat.mod_le _ _) x.toBitVec.isLt)).symm
theorem pk_andN {n : Nat} (h : n < 2 ^ 32) {m : Int32} (k : Nat) (hm : m.toBitVec.toNat = 2 ^ k - 1) : nI n &&& m = nI (n % 2 ^ k) := by
  rw [pk_and _ k hm, pk_tn h]
theorem pk_andE (x : Int32) {m : Int32} (k : Nat) (hm : m.toBitVec.toNat = 2 ^ k - 1) : ∃ j : Nat, j < 2 ^ k ∧ x &&& m = nI j := ⟨_, Nat.mod_lt _ (Nat.two_pow_pos k), pk_and x k hm⟩
theorem pk_andIn (x : Int32) {m : Int32} (k : Nat) (hm : m.toBitVec.toNat = 2 ^ k - 1) (hk : k ≤ 30) : vp_in (x &&& m) (2 ^ k) := by
  obtain ⟨j, hj, e⟩ := pk_andE x k hm
  rw [e]
  exact vp_in_nI hj (Nat.lt_of_le_of_lt (Nat.pow_le_pow_right (by decide) hk) (by decide))
theorem pk_shl (a s : Int32) (k : Nat) (hs : (s.toBitVec.smod 32).toNat = k) : (a <<< s).toBitVec.toNat = a.toBitVec.toNat * 2 ^ k % 2 ^ 32 := by
  show (a.toBitVec <<< (s.toBitVec.smod 32).toNat).toNat = _
  rw [hs, BitVec.toNat_shiftLeft, Nat.shiftLeft_eq]
theorem pk_shlN {n : Nat} (s : Int32) (k : Nat) (hs : (s.toBitVec.smod 32).toNat = k) (h : n * 2 ^ k < 2 ^ 32) : nI n <<< s = nI (n * 2 ^ k) := by
  apply Int32.toBitVec_inj.mp
  apply BitVec.eq_of_toNat_eq
  have hn : n < 2 ^ 32 := Nat.lt_of_le_of_lt (Nat.le_mul_of_pos_right n (Nat.two_pow_pos k)) h
  rw [pk_shl _ _ k hs, pk_tn hn, pk_tn h, Nat.mod_eq_of_lt h]
theorem pk_shr (a s : Int32) (k : Nat) (hs : (s.toBitVec.smod 32).toNat = k) : (a >>> s).toInt = a.toInt >>> k := by
  show (a.toBitVec.sshiftRight (s.toBitVec.smod 32).toNat).toInt = _
  rw [hs, BitVec.toInt_sshiftRight]
  rfl
theorem pk_shrN {n : Nat} (h : n < 2 ^ 31) (s : Int32) (k : Nat) (hs : (s.toBitVec.smod 32).toNat = k) : nI n >>> s = nI (n / 2 ^ k) := by
  apply Int32.toInt_inj.mp
  have h2 : n / 2 ^ k ≤ n := Nat.div_le_self _ _
  rw [pk_shr _ _ k hs, nI_toInt h, nI_toInt (by omega), Int.shiftRight_eq_div_pow]
  rfl
theorem pk_ushr (x s : Int32) (k : Nat) (hs : ((s.toUInt32 &&& Int32.toUInt32 31).toBitVec % 32).toNat = k) : (x.toUInt32 >>> (s.toUInt32 &&& Int32.toUInt32 31)).toInt32.toBitVec.toNat = x.toBitVec.toNat / 2 ^ k := by
  have e : (x.toUInt32 >>> (s.toUInt32 &&& Int32.toUInt32 31)).toInt32.toBitVec = x.toBitVec >>> k := by
    rw [← hs]
    exact UInt32.toBitVec_shiftRight _ _
  rw [e, BitVec.toNat_ushiftRight, Nat.shiftRight_eq_div_pow]
theorem pk_ushrN {n : Nat} (hn : n < 2 ^ 32) (s : Int32) (k : Nat) (hs : ((s.toUInt32 &&& Int32.toUInt32 31).toBitVec % 32).toNat = k) : ((nI n).toUInt32 >>> (s.toUInt32 &&& Int32.toUInt32 31)).toInt32 = nI (n / 2 ^ k) := by
  apply Int32.toBitVec_inj.mp
  apply BitVec.eq_of_toNat_eq
  rw [pk_ushr _ s k hs, pk_tn hn, pk_tn (Nat.lt_of_le_of_lt (Nat.div_le_self _ _) hn)]
theorem pk_loop {σ : Type} (W : Nat → Nat → σ → Prop) (I : Nat → σ → Prop) (e i0 : Nat) (s : σ) (hi : i0 ≤ e) (h0 : I i0 s) (hx : ∀ n s, I e s → W (n + 1) e s)
    (hs : ∀ n i s, i < e → I i s → (∀ s', I (i + 1) s' → W n (i + 1) s') → W (n + 1) i s) : ∃ n, W n i0 s :=
  ⟨e + 1, loop_i W I e hx hs (e + 1) i0 s hi (by omega) h0⟩
theorem pk_loopD {σ : Type} (W : Nat → Nat → σ → Prop) (I : Nat → σ → Prop) (hx : ∀ n s, I 0 s → W (n + 1) 0 s)
    (hs : ∀ n i s, I (i + 1) s → (∀ s', I i s' → W n i s') → W (n + 1) (i + 1) s) : ∀ (e : Nat) (s : σ), I e s → W (e + 1) e s := by
  intro e
  induction e with
  | zero => exact fun s h => hx 0 s h
  | succ e ih => exact fun s h => hs (e + 1) e s h (fun s' h' => ih s' h')
/-! ===== Int32 by its bits: bt x i ===== -/
def bt (x : Int32) (i : Nat) : Bool := x.toBitVec.getLsbD i
theorem b_ext {x y : Int32} (h : ∀ i, i < 32 → bt x i = bt y i) : x = y := Int32.toBitVec_inj.mp (BitVec.eq_of_getLsbD_eq (fun i hi => h i hi))
theorem b_or (x y : Int32) (i : Nat) : bt (x ||| y) i = (bt x i || bt y i) := by unfold bt; rw [Int32.toBitVec_or, BitVec.getLsbD_or]
theorem b_and (x y : Int32) (i : Nat) : bt (x &&& y) i = (bt x i && bt y i) := by unfold bt; rw [Int32.toBitVec_and, BitVec.getLsbD_and]
theorem b_xor (x y : Int32) (i : Nat) : bt (x ^^^ y) i = (bt x i ^^ bt y i) := by unfold bt; rw [Int32.toBitVec_xor, BitVec.getLsbD_xor]
theorem b_big {x : Int32} {i : Nat} (h : 32 ≤ i) : bt x i = false := BitVec.getLsbD_of_ge _ _ h
theorem b_255 (i : Nat) : bt 255 i = decide (i < 8) := by
  rcases Nat.lt_or_ge i 32 with h | h
  · exact (by decide +kernel : ∀ i, i < 32 → bt 255 i = decide (i < 8)) i h
  · rw [b_big h, decide_eq_false (by omega)]
theorem b_65535 (i : Nat) : bt 65535 i = decide (i < 16) := by
  rcases Nat.lt_or_ge i 32 with h | h
  · exact (by decide +kernel : ∀ i, i < 32 → bt 65535 i = decide (i < 16)) i h
  · rw [b_big h, decide_eq_false (by omega)]
theorem b_m1 : ∀ i, i < 32 → bt (-1) i = true := by decide +kernel
theorem b_0 (i : Nat) : bt 0 i = false := BitVec.getLsbD_zero
theorem s_l : ∀ n, n < 32 → ((nI n &&& 31).toBitVec.smod 32).toNat = n := by decide +kernel
theorem s_u : ∀ n, n < 32 → (((nI n).toUInt32 &&& Int32.toUInt32 31).toBitVec % 32).toNat = n := by decide +kernel
theorem b_shl (n : Nat) (hn : n < 32) (x : Int32) {i : Nat} (hi : i < 32) : bt (x <<< (nI n &&& 31)) i = (decide (n ≤ i) && bt x (i - n)) := by
  unfold bt
  rw [Int32.toBitVec_shiftLeft]
  show (x.toBitVec <<< ((nI n &&& 31).toBitVec.smod 32).toNat).getLsbD i = _
  rw [s_l n hn, BitVec.getLsbD_shiftLeft]
  rcases Nat.lt_or_ge i n with h | h
  · simp [h, Nat.not_le.mpr h]
  · simp [hi, h, Nat.not_lt.mpr h]
theorem b_ushr (n : Nat) (hn : n < 32) (x : Int32) (i : Nat) : bt ((x.toUInt32 >>> ((nI n).toUInt32 &&& Int32.toUInt32 31)).toInt32) i = bt x (n + i) := by
  show (x.toUInt32 >>> ((nI n).toUInt32 &&& Int32.toUInt32 31)).toBitVec.getLsbD i = x.toUInt32.toBitVec.getLsbD (n + i)
  rw [UInt32.toBitVec_shiftRight]
  show (x.toUInt32.toBitVec >>> (((nI n).toUInt32 &&& Int32.toUInt32 31).toBitVec % 32).toNat).getLsbD i = _
  rw [s_u n hn, BitVec.getLsbD_ushiftRight]
theorem b_sshr (n : Nat) (hn : n < 32) (x : Int32) {i : Nat} (hi : i < 32) : bt (x >>> (nI n &&& 31)) i = if n + i < 32 then bt x (n + i) else bt x 31 := by
  unfold bt
  rw [Int32.toBitVec_shiftRight]
  show (x.toBitVec.sshiftRight ((nI n &&& 31).toBitVec.smod 32).toNat).getLsbD i = _
  rw [s_l n hn, BitVec.getLsbD_sshiftRight, BitVec.msb_eq_getLsbD_last]
  simp [hi]
theorem b_shl8 (x : Int32) {i : Nat} (hi : i < 32) : bt (x <<< ((8 : Int32) &&& 31)) i = (decide (8 ≤ i) && bt x (i - 8)) := b_shl 8 (by omega) x hi
theorem b_shl16 (x : Int32) {i : Nat} (hi : i < 32) : bt (x <<< ((16 : Int32) &&& 31)) i = (decide (16 ≤ i) && bt x (i - 16)) := b_shl 16 (by omega) x hi
theorem b_shl24 (x : Int32) {i : Nat} (hi : i < 32) : bt (x <<< ((24 : Int32) &&& 31)) i = (decide (24 ≤ i) && bt x (i - 24)) := b_shl 24 (by omega) x hi
theorem b_sshr8 (x : Int32) {i : Nat} (hi : i < 32) : bt (x >>> ((8 : Int32) &&& 31)) i = if 8 + i < 32 then bt x (8 + i) else bt x 31 := b_sshr 8 (by omega) x hi
/-! ===== nI under and, xor, >>>, one bit, 65535 ===== -/
theorem nx_and (a b : Nat) : nI a &&& nI b = nI (a &&& b) := by
  apply Int32.toBitVec_inj.1
  show BitVec.ofNat 32 a &&& BitVec.ofNat 32 b = BitVec.ofNat 32 (a &&& b)
  apply BitVec.eq_of_getLsbD_eq
  intro i hi
  simp [hi]
theorem nx_xor (a b : Nat) : nI a ^^^ nI b = nI (a ^^^ b) := by
  apply Int32.toBitVec_inj.1
  show BitVec.ofNat 32 a ^^^ BitVec.ofNat 32 b = BitVec.ofNat 32 (a ^^^ b)
  apply BitVec.eq_of_getLsbD_eq
  intro i hi
  simp [hi]
theorem nx_cnt : ∀ j : Fin 32, (UInt32.ofNat j.val &&& Int32.toUInt32 31).toNat % 32 = j.val := by decide +kernel
end
section
/-! the pure part: levels, run length, the sample machine, the field machine -/
theorem ab_up (f : Nat → Int32) (k : Nat) : upd f k (f k) = f := by
  funext j
  by_cases h : j = k
  · subst h; rw [pk_us]
  · rw [pk_un h]
theorem ab_uu (f : Nat → Int32) (k : Nat) (x y : Int32) : upd (upd f k x) k y = upd f k y := by
  funext j
  by_cases h : j = k
  · subst h; rw [pk_us, pk_us]
  · rw [pk_un h, pk_un h, pk_un h]
theorem ab_upE {f : Nat → Int32} {k : Nat} {x : Int32} (h : f k = x) : upd f k x = f := by rw [← h, ab_up]
/-- a level -/
def ab_bit (x : Int32) : Prop := x = 0 ∨ x = 1
/-- the level before sample i -/
def ab_lst (g : Nat → Int32) : Nat → Int32
  | 0 => 1
  | i + 1 => g i
/-- equal samples at the end of the first i -/
def ab_R (g : Nat → Int32) : Nat → Nat
  | 0 => 0
  | i + 1 => if g i = ab_lst g i then ab_R g i + 1 else 1
theorem ab_R_s (g : Nat → Int32) (i : Nat) : ab_R g (i + 1) = if g i = ab_lst g i then ab_R g i + 1 else 1 := rfl
theorem ab_R_le (g : Nat → Int32) (i : Nat) : ab_R g i ≤ i := by
  induction i with
  | zero => exact Nat.le_refl 0
  | succ i ih => rw [ab_R_s]; split <;> omega
theorem ab_R_pos (g : Nat → Int32) (i : Nat) : 1 ≤ ab_R g (i + 1) := by rw [ab_R_s]; split <;> omega
theorem ab_alike (g : Nat → Int32) (m : Nat) : 5 ≤ ab_R g (m + 5) ↔ (g (m + 4) = g (m + 3) ∧ g (m + 3) = g (m + 2) ∧ g (m + 2) = g (m + 1) ∧ g (m + 1) = g m) := by
  have h1 := ab_R_pos g m
  have e2 : ab_R g (m + 2) = if g (m + 1) = g m then ab_R g (m + 1) + 1 else 1 := rfl
  have e3 : ab_R g (m + 3) = if g (m + 2) = g (m + 1) then ab_R g (m + 2) + 1 else 1 := rfl
  have e4 : ab_R g (m + 4) = if g (m + 3) = g (m + 2) then ab_R g (m + 3) + 1 else 1 := rfl
  have e5 : ab_R g (m + 5) = if g (m + 4) = g (m + 3) then ab_R g (m + 4) + 1 else 1 := rfl
  by_cases a4 : g (m + 4) = g (m + 3)
  · rw [if_pos a4] at e5
    by_cases a3 : g (m + 3) = g (m + 2)
    · rw [if_pos a3] at e4
      by_cases a2 : g (m + 2) = g (m + 1)
      · rw [if_pos a2] at e3
        by_cases a1 : g (m + 1) = g m
        · rw [if_pos a1] at e2
          exact ⟨fun _ => ⟨a4, a3, a2, a1⟩, fun _ => by omega⟩
        · rw [if_neg a1] at e2
          exact ⟨fun h => by omega, fun h => absurd h.2.2.2 a1⟩
      · rw [if_neg a2] at e3
        exact ⟨fun h => by omega, fun h => absurd h.2.2.1 a2⟩
    · rw [if_neg a3] at e4
      exact ⟨fun h => by omega, fun h => absurd h.2.1 a3⟩
  · rw [if_neg a4] at e5
    exact ⟨fun h => by omega, fun h => absurd h.1 a4⟩
/-! ===== the length ===== -/
def ab_code (b : Nat → Int32) : Int32 := b 15 * 8 + b 16 * 4 + b 17 * 2 + b 18
def ab_lI (c : Int32) : Int32 := if c ≤ 4 then c else 4
def ab_n (b : Nat → Int32) : Nat := (ab_lI (ab_code b)).toNatClampNeg
theorem ab_lI_bits {x y z w : Int32} (hx : ab_bit x) (hy : ab_bit y) (hz : ab_bit z) (hw : ab_bit w) : ∃ n : Nat, n ≤ 4 ∧ ab_lI (x * 8 + y * 4 + z * 2 + w) = nI n := by
  rcases hx with rfl | rfl <;> rcases hy with rfl | rfl <;> rcases hz with rfl | rfl <;> rcases hw with rfl | rfl <;>
  first
  | exact ⟨0, by omega, by decide⟩
  | exact ⟨1, by omega, by decide⟩
  | exact ⟨2, by omega, by decide⟩
  | exact ⟨3, by omega, by decide⟩
  | exact ⟨4, by omega, by decide⟩
theorem ab_n_ok {b : Nat → Int32} (h : ∀ j, ab_bit (b j)) : ab_n b ≤ 4 ∧ ab_lI (ab_code b) = nI (ab_n b) := by
  obtain ⟨n, hn, e⟩ := ab_lI_bits (h 15) (h 16) (h 17) (h 18)
  have e' : ab_lI (ab_code b) = nI n := e
  have e2 : ab_n b = n := by unfold ab_n; rw [e', nI_clamp (by omega)]
  rw [e2]
  exact ⟨hn, e'⟩
theorem ab_code_cg {b b' : Nat → Int32} (h : ∀ j, j < 19 → b j = b' j) : ab_code b = ab_code b' := by
  unfold ab_code
  rw [h 15 (by omega), h 16 (by omega), h 17 (by omega), h 18 (by omega)]
theorem ab_n_cg {b b' : Nat → Int32} (h : ∀ j, j < 19 → b j = b' j) : ab_n b = ab_n b' := by
  unfold ab_n
  rw [ab_code_cg h]
theorem ab_n_up {b : Nat → Int32} {k : Nat} {x : Int32} (h : 19 ≤ k) : ab_n (upd b k x) = ab_n b :=
  ab_n_cg (fun j hj => pk_un (by omega))
/-! ===== the sample machine: (body bits done, 0 in the body or 1 + tail bits done, body bits) ===== -/
def ab_st (g : Nat → Int32) : Nat → Nat × Nat × (Nat → Int32)
  | 0 => (0, 0, fun _ => 0)
  | i + 1 =>
    if (ab_st g i).2.1 = 0 then
      if 5 ≤ ab_R g i then
        ((ab_st g i).1, (if ab_R g (i + 1) < 5 ∧ (ab_st g i).1 = 34 + 8 * ab_n (ab_st g i).2.2 then 1 else 0), (ab_st g i).2.2)
      else
        ((ab_st g i).1 + 1, (if ab_R g (i + 1) < 5 ∧ (ab_st g i).1 + 1 = 34 + 8 * ab_n (upd (ab_st g i).2.2 (ab_st g i).1 (g i)) then 1 else 0), upd (ab_st g i).2.2 (ab_st g i).1 (g i))
    else ((ab_st g i).1, (ab_st g i).2.1 + 1, (ab_st g i).2.2)
def ab_k (g : Nat → Int32) (i : Nat) : Nat := (ab_st g i).1
def ab_t (g : Nat → Int32) (i : Nat) : Nat := (ab_st g i).2.1
def ab_b (g : Nat → Int32) (i : Nat) : Nat → Int32 := (ab_st g i).2.2
theorem ab_s_tail {g : Nat → Int32} {i : Nat} (h : ¬ ab_t g i = 0) : ab_k g (i + 1) = ab_k g i ∧ ab_t g (i + 1) = ab_t g i + 1 ∧ ab_b g (i + 1) = ab_b g i := by
  have e : ab_st g (i + 1) = (ab_k g i, ab_t g i + 1, ab_b g i) := if_neg h
  refine ⟨?_, ?_, ?_⟩
  · show (ab_st g (i + 1)).1 = _; rw [e]
  · show (ab_st g (i + 1)).2.1 = _; rw [e]
  · show (ab_st g (i + 1)).2.2 = _; rw [e]
theorem ab_s_stuff {g : Nat → Int32} {i : Nat} (h : ab_t g i = 0) (hr : 5 ≤ ab_R g i) : ab_k g (i + 1) = ab_k g i ∧ ab_t g (i + 1) = (if ab_R g (i + 1) < 5 ∧ ab_k g i = 34 + 8 * ab_n (ab_b g i) then 1 else 0) ∧ ab_b g (i + 1) = ab_b g i := by
  have e : ab_st g (i + 1) = (ab_k g i, (if ab_R g (i + 1) < 5 ∧ ab_k g i = 34 + 8 * ab_n (ab_b g i) then 1 else 0), ab_b g i) := (if_pos h).trans (if_pos hr)
  refine ⟨?_, ?_, ?_⟩
  · show (ab_st g (i + 1)).1 = _; rw [e]
  · show (ab_st g (i + 1)).2.1 = _; rw [e]
  · show (ab_st g (i + 1)).2.2 = _; rw [e]
theorem ab_s_body {g : Nat → Int32} {i : Nat} (h : ab_t g i = 0) (hr : ¬ 5 ≤ ab_R g i) : ab_k g (i + 1) = ab_k g i + 1 ∧ ab_t g (i + 1) = (if ab_R g (i + 1) < 5 ∧ ab_k g i + 1 = 34 + 8 * ab_n (upd (ab_b g i) (ab_k g i) (g i)) then 1 else 0) ∧ ab_b g (i + 1) = upd (ab_b g i) (ab_k g i) (g i) := by
  have e : ab_st g (i + 1) = (ab_k g i + 1, (if ab_R g (i + 1) < 5 ∧ ab_k g i + 1 = 34 + 8 * ab_n (upd (ab_b g i) (ab_k g i) (g i)) then 1 else 0), upd (ab_b g i) (ab_k g i) (g i)) := (if_pos h).trans (if_neg hr)
  refine ⟨?_, ?_, ?_⟩
  · show (ab_st g (i + 1)).1 = _; rw [e]
  · show (ab_st g (i + 1)).2.1 = _; rw [e]
  · show (ab_st g (i + 1)).2.2 = _; rw [e]
theorem ab_cg0 {g g' : Nat → Int32} (i : Nat) (h : ∀ x, x < i → g x = g' x) : ab_lst g i = ab_lst g' i ∧ ab_R g i = ab_R g' i ∧ ab_st g i = ab_st g' i := by
  induction i with
  | zero => exact ⟨rfl, rfl, rfl⟩
  | succ i ih =>
    obtain ⟨h1, h2, h3⟩ := ih (fun x hx => h x (by omega))
    have hi := h i (by omega)
    have hR : ab_R g (i + 1) = ab_R g' (i + 1) := by rw [ab_R_s, ab_R_s, hi, h1, h2]
    refine ⟨hi, hR, ?_⟩
    simp only [ab_st, h3, h2, hR, hi]
theorem ab_cg {g g' : Nat → Int32} {i : Nat} (h : ∀ x, x < i → g x = g' x) : ab_lst g i = ab_lst g' i ∧ ab_R g i = ab_R g' i ∧ ab_k g i = ab_k g' i ∧ ab_t g i = ab_t g' i ∧ ab_b g i = ab_b g' i := by
  obtain ⟨h1, h2, h3⟩ := ab_cg0 i h
  refine ⟨h1, h2, ?_, ?_, ?_⟩
  · unfold ab_k; rw [h3]
  · unfold ab_t; rw [h3]
  · unfold ab_b; rw [h3]
/-- the samples are levels, and no stuff bit is wrong -/
def ab_ok (g : Nat → Int32) (L : Nat) : Prop := ∀ i, i < L → ab_bit (g i) ∧ (ab_t g i = 0 → 5 ≤ ab_R g i → ¬ g i = ab_lst g i)
theorem ab_ok_le {g : Nat → Int32} {L M : Nat} (h : ab_ok g L) (hM : M ≤ L) : ab_ok g M := fun i hi => h i (by omega)
theorem ab_ok_cg {g g' : Nat → Int32} {L : Nat} (e : ∀ x, x < L → g x = g' x) (h : ab_ok g L) : ab_ok g' L := by
  intro i hi
  obtain ⟨c1, c2, c3, c4, c5⟩ := ab_cg (g := g) (g' := g') (i := i) (fun x hx => e x (by omega))
  obtain ⟨a, b⟩ := h i hi
  rw [← e i hi, ← c4, ← c2, ← c1]
  exact ⟨a, b⟩
theorem ab_ok_s {g : Nat → Int32} {L : Nat} (h : ab_ok g L) {s : Int32} (hs : ab_bit s) (hq : ab_t g L = 0 → 5 ≤ ab_R g L → ¬ s = ab_lst g L) : ab_ok (upd g L s) (L + 1) := by
  have e : ∀ x, x < L → g x = upd g L s x := fun x hx => (pk_un (by omega)).symm
  have h' := ab_ok_cg e h
  intro i hi
  by_cases hl : i = L
  · subst hl
    obtain ⟨c1, c2, c3, c4, c5⟩ := ab_cg e
    rw [pk_us, ← c4, ← c2, ← c1]
    exact ⟨hs, hq⟩
  · exact h' i (by omega)
theorem ab_lst_bit {g : Nat → Int32} {L i : Nat} (h : ab_ok g L) (hi : i ≤ L) : ab_bit (ab_lst g i) := by
  cases i with
  | zero => exact Or.inr rfl
  | succ i => exact (h i (by omega)).1
theorem ab_b_bit {g : Nat → Int32} {L : Nat} (h : ab_ok g L) (i : Nat) (hi : i ≤ L) (j : Nat) : ab_bit (ab_b g i j) := by
  induction i with
  | zero => exact Or.inl rfl
  | succ i ih =>
    have ih := ih (by omega)
    by_cases ht : ab_t g i = 0
    · by_cases hr : 5 ≤ ab_R g i
      · rw [(ab_s_stuff ht hr).2.2]; exact ih
      · rw [(ab_s_body ht hr).2.2]
        by_cases hj : j = ab_k g i
        · subst hj; rw [pk_us]; exact (h i (by omega)).1
        · rw [pk_un hj]; exact ih
    · rw [(ab_s_tail ht).2.2]; exact ih
theorem ab_bnd {g : Nat → Int32} {L : Nat} (h : ab_ok g L) (i : Nat) (hi : i ≤ L) :
    (ab_t g i = 0 → 4 * i + ab_R g i ≤ 5 * ab_k g i ∧ ab_R g i ≤ 5) ∧ (¬ ab_t g i = 0 → 4 * i + 5 ≤ 5 * ab_k g i + 4 * ab_t g i)
    ∧ ab_k g i ≤ 34 + 8 * ab_n (ab_b g i) ∧ (ab_k g i = 34 + 8 * ab_n (ab_b g i) → ¬ ab_t g i = 0 ∨ 5 ≤ ab_R g i) ∧ (¬ ab_t g i = 0 → ab_k g i = 34 + 8 * ab_n (ab_b g i)) := by
  induction i with
  | zero =>
    refine ⟨fun _ => ⟨Nat.le_refl _, Nat.zero_le _⟩, fun z => absurd rfl z, ?_, ?_, fun z => absurd rfl z⟩
    · show 0 ≤ _; omega
    · intro z
      have z' : 0 = 34 + 8 * ab_n (ab_b g 0) := z
      omega
  | succ i ih =>
    obtain ⟨a1, a2, a3, a4, a5⟩ := ih (by omega)
    have hp := ab_R_pos g i
    by_cases ht : ab_t g i = 0
    · obtain ⟨b1, b2⟩ := a1 ht
      by_cases hr : 5 ≤ ab_R g i
      · obtain ⟨c1, c2, c3⟩ := ab_s_stuff ht hr
        have hq := (h i (by omega)).2 ht hr
        have e1 : ab_R g (i + 1) = 1 := by rw [ab_R_s, if_neg hq]
        rw [c1, c2, c3, e1]
        by_cases hk : ab_k g i = 34 + 8 * ab_n (ab_b g i)
        · rw [if_pos ⟨by omega, hk⟩]
          exact ⟨fun z => absurd z (by omega), fun _ => by omega, a3, fun _ => Or.inl (by omega), fun _ => hk⟩
        · rw [if_neg (fun z => hk z.2)]
          exact ⟨fun _ => ⟨by omega, by omega⟩, fun z => absurd rfl z, a3, fun z => absurd z hk, fun z => absurd rfl z⟩
      · obtain ⟨c1, c2, c3⟩ := ab_s_body ht hr
        have hk : ab_k g i < 34 + 8 * ab_n (ab_b g i) := by
          rcases Nat.lt_or_ge (ab_k g i) (34 + 8 * ab_n (ab_b g i)) with z | z
          · exact z
          · rcases a4 (by omega) with y | y
            · exact absurd ht y
            · exact absurd y hr
        have hk2 : ab_k g i + 1 ≤ 34 + 8 * ab_n (upd (ab_b g i) (ab_k g i) (g i)) := by
          rcases Nat.lt_or_ge (ab_k g i) 19 with z | z
          · omega
          · rw [ab_n_up z]; omega
        have e1 : ab_R g (i + 1) ≤ ab_R g i + 1 ∧ ab_R g (i + 1) ≤ 5 := by
          rw [ab_R_s]; split <;> omega
        rw [c1, c2, c3]
        by_cases hd : ab_R g (i + 1) < 5 ∧ ab_k g i + 1 = 34 + 8 * ab_n (upd (ab_b g i) (ab_k g i) (g i))
        · rw [if_pos hd]
          exact ⟨fun z => absurd z (by omega), fun _ => by omega, hk2, fun _ => Or.inl (by omega), fun _ => hd.2⟩
        · rw [if_neg hd]
          refine ⟨fun _ => ⟨by omega, e1.2⟩, fun z => absurd rfl z, hk2, fun z => Or.inr ?_, fun z => absurd rfl z⟩
          rcases Nat.lt_or_ge (ab_R g (i + 1)) 5 with y | y
          · exact absurd ⟨y, z⟩ hd
          · exact y
    · obtain ⟨c1, c2, c3⟩ := ab_s_tail ht
      have b1 := a2 ht
      have b2 := a5 ht
      rw [c1, c2, c3]
      exact ⟨fun z => absurd z (by omega), fun _ => by omega, a3, fun _ => Or.inl (by omega), fun _ => b2⟩
/-- bounds in numbers -/
theorem ab_bd {g : Nat → Int32} {L : Nat} (h : ab_ok g L) : ab_n (ab_b g L) ≤ 4 ∧ ab_k g L ≤ 66 ∧ 4 * L ≤ 330 + 4 * ab_t g L := by
  obtain ⟨a1, a2, a3, a4, a5⟩ := ab_bnd h L (Nat.le_refl L)
  have hn := (ab_n_ok (ab_b_bit h L (Nat.le_refl L))).1
  refine ⟨hn, by omega, ?_⟩
  by_cases ht : ab_t g L = 0
  · have := a1 ht; omega
  · have := a2 ht; omega
end
section
/-! shifts and the field machine -/
theorem ab_b1 (i : Nat) : bt 1 i = decide (i = 0) := by
  rcases Nat.lt_or_ge i 32 with h | h
  · exact (by decide +kernel : ∀ i, i < 32 → bt 1 i = decide (i = 0)) i h
  · rw [b_big h, decide_eq_false (by omega)]
/-- one bit: the unsigned shift and the signed one -/
theorem ab_shr (x : Int32) {k : Nat} (hk : k < 32) : ((x.toUInt32 >>> ((nI k).toUInt32 &&& Int32.toUInt32 31)).toInt32 &&& 1) = ((x >>> (nI k &&& 31)) &&& 1) := by
  apply b_ext
  intro i hi
  rw [b_and, b_and, b_ushr k hk, b_sshr k hk _ hi, ab_b1]
  by_cases h : i = 0
  · subst h; rw [if_pos (by omega)]
  · rw [decide_eq_false h, Bool.and_false, Bool.and_false]
theorem ab_and1 (x : Int32) : ab_bit (x &&& 1) := by
  obtain ⟨j, hj, e⟩ := pk_andE x (m := 1) 1 (by decide)
  have : j = 0 ∨ j = 1 := by omega
  rcases this with rfl | rfl
  · exact Or.inl e
  · exact Or.inr e
theorem ab_xor {x y : Int32} (hx : ab_bit x) (hy : ab_bit y) : ab_bit (x ^^^ y) := by
  rcases hx with rfl | rfl <;> rcases hy with rfl | rfl <;> first | exact Or.inl (by decide) | exact Or.inr (by decide)
/-- shift in one bit -/
def ab_sh (x s : Int32) : Int32 := (x <<< ((1 : Int32) &&& 31)) ||| s
theorem ab_dbl (x : Int32) : x <<< ((1 : Int32) &&& 31) = x * 2 := by
  apply Int32.toBitVec_inj.mp
  apply BitVec.eq_of_toNat_eq
  rw [pk_shl x ((1 : Int32) &&& 31) 1 (by decide), Int32.toBitVec_mul, BitVec.toNat_mul]
  rfl
theorem ab_sh_eq (x : Int32) {s : Int32} (h : ab_bit s) : ab_sh x s = x * 2 + s := by
  unfold ab_sh
  rw [ab_dbl]
  rcases h with rfl | rfl
  · rw [Int32.or_zero, Int32.add_zero]
  · apply Int32.toBitVec_inj.mp
    apply BitVec.eq_of_toNat_eq
    rw [Int32.toBitVec_or, Int32.toBitVec_add, BitVec.toNat_or, BitVec.toNat_add, Int32.toBitVec_mul, BitVec.toNat_mul]
    show (x.toBitVec.toNat * 2 % 2 ^ 32) ||| 1 = ((x.toBitVec.toNat * 2 % 2 ^ 32) + 1) % 2 ^ 32
    generalize x.toBitVec.toNat = y
    have e : y * 2 % 2 ^ 32 = (y % 2 ^ 31) <<< 1 := by rw [Nat.shiftLeft_eq]; omega
    have e2 := Nat.shiftLeft_add_eq_or_of_lt (i := 1) (b := 1) (by omega) (y % 2 ^ 31)
    rw [e, ← e2, Nat.shiftLeft_eq]
    omega
/-- one step of the checksum -/
def ab_cst (c b : Int32) : Int32 :=
  if b ^^^ ((c >>> ((14 : Int32) &&& 31)) &&& 1) = 1 then ((c <<< ((1 : Int32) &&& 31)) &&& 32767) ^^^ 17817 else (c <<< ((1 : Int32) &&& 31)) &&& 32767
/-- one body bit into the fields (crc, crcSeen, seenId, seenCode, seenData) -/
def ab_ms (k : Nat) (m : Int32 × Int32 × Int32 × Int32 × Int32) (s : Int32) : Int32 × Int32 × Int32 × Int32 × Int32 :=
  if k < 19 then (ab_cst m.1 s, m.2.1, (if 1 ≤ k ∧ k ≤ 11 then ab_sh m.2.2.1 s else m.2.2.1), (if 15 ≤ k then ab_sh m.2.2.2.1 s else m.2.2.2.1), m.2.2.2.2)
  else if 19 + 8 * ab_lI m.2.2.2.1 ≤ nI k then (m.1, ab_sh m.2.1 s, m.2.2.1, m.2.2.2.1, m.2.2.2.2)
  else (ab_cst m.1 s, m.2.1, m.2.2.1, m.2.2.2.1, ab_sh m.2.2.2.2 s)
def ab_m (b : Nat → Int32) : Nat → Int32 × Int32 × Int32 × Int32 × Int32
  | 0 => (0, 0, 0, 0, 0)
  | k + 1 => ab_ms k (ab_m b k) (b k)
theorem ab_m_s (b : Nat → Int32) (k : Nat) : ab_m b (k + 1) = ab_ms k (ab_m b k) (b k) := rfl
def ab_crc (b : Nat → Int32) : Nat → Int32
  | 0 => 0
  | k + 1 => ab_cst (ab_crc b k) (b k)
def ab_num (b : Nat → Int32) (a : Nat) : Nat → Int32
  | 0 => 0
  | k + 1 => ab_sh (ab_num b a k) (b (a + k))
theorem ab_crc_s (b : Nat → Int32) (k : Nat) : ab_crc b (k + 1) = ab_cst (ab_crc b k) (b k) := rfl
theorem ab_num_s (b : Nat → Int32) (a k : Nat) : ab_num b a (k + 1) = ab_sh (ab_num b a k) (b (a + k)) := rfl
theorem ab_m_cg {b b' : Nat → Int32} (k : Nat) (h : ∀ j, j < k → b j = b' j) : ab_m b k = ab_m b' k := by
  induction k with
  | zero => rfl
  | succ k ih => rw [ab_m_s, ab_m_s, ih (fun j hj => h j (by omega)), h k (by omega)]
theorem ab_crc_cg {b b' : Nat → Int32} (k : Nat) (h : ∀ j, j < k → b j = b' j) : ab_crc b k = ab_crc b' k := by
  induction k with
  | zero => rfl
  | succ k ih => rw [ab_crc_s, ab_crc_s, ih (fun j hj => h j (by omega)), h k (by omega)]
theorem ab_num_cg {b b' : Nat → Int32} (a k : Nat) (h : ∀ j, j < a + k → b j = b' j) : ab_num b a k = ab_num b' a k := by
  induction k with
  | zero => rfl
  | succ k ih => rw [ab_num_s, ab_num_s, ih (fun j hj => h j (by omega)), h (a + k) (by omega)]
theorem ab_m_head (b : Nat → Int32) (k : Nat) (h : k ≤ 19) : ab_m b k = (ab_crc b k, 0, ab_num b 1 (if k ≤ 12 then k - 1 else 11), ab_num b 15 (k - 15), 0) := by
  induction k with
  | zero => rfl
  | succ k ih =>
    rw [ab_m_s, ih (by omega)]
    unfold ab_ms
    rw [if_pos (by omega)]
    dsimp only
    rw [← ab_crc_s]
    have e1 : (if 1 ≤ k ∧ k ≤ 11 then ab_sh (ab_num b 1 (if k ≤ 12 then k - 1 else 11)) (b k) else ab_num b 1 (if k ≤ 12 then k - 1 else 11)) = ab_num b 1 (if k + 1 ≤ 12 then k + 1 - 1 else 11) := by
      by_cases h1 : 1 ≤ k ∧ k ≤ 11
      · rw [if_pos h1, if_pos (by omega), if_pos (by omega)]
        obtain ⟨c, rfl⟩ : ∃ c, k = c + 1 := ⟨k - 1, by omega⟩
        show ab_sh (ab_num b 1 c) (b (c + 1)) = ab_num b 1 (c + 1)
        rw [ab_num_s, Nat.add_comm 1 c]
      · rw [if_neg h1]
        by_cases h2 : k = 0
        · subst h2; rfl
        · rw [if_neg (show ¬ k + 1 ≤ 12 by omega)]
          by_cases h3 : k ≤ 12
          · have : k = 12 := by omega
            subst this; rfl
          · rw [if_neg h3]
    have e2 : (if 15 ≤ k then ab_sh (ab_num b 15 (k - 15)) (b k) else ab_num b 15 (k - 15)) = ab_num b 15 (k + 1 - 15) := by
      by_cases h1 : 15 ≤ k
      · rw [if_pos h1]
        obtain ⟨c, rfl⟩ : ∃ c, k = 15 + c := ⟨k - 15, by omega⟩
        rw [show 15 + c - 15 = c by omega, show 15 + c + 1 - 15 = c + 1 by omega, ab_num_s]
      · rw [if_neg h1, show k - 15 = 0 by omega, show k + 1 - 15 = 0 by omega]
    rw [e1, e2]
theorem ab_num4 {b : Nat → Int32} (h : ∀ j, ab_bit (b j)) : ab_num b 15 4 = ab_code b := by
  unfold ab_code
  show ab_sh (ab_sh (ab_sh (ab_sh 0 (b 15)) (b 16)) (b 17)) (b 18) = _
  have h1 := h 15
  have h2 := h 16
  have h3 := h 17
  have h4 := h 18
  rcases h1 with e1 | e1 <;> rcases h2 with e2 | e2 <;> rcases h3 with e3 | e3 <;> rcases h4 with e4 | e4 <;> rw [e1, e2, e3, e4] <;> decide
theorem ab_lit19 (n : Nat) : (19 : Int32) + 8 * nI n = nI (19 + 8 * n) := by
  show nI 19 + nI 8 * nI n = _
  rw [pk_mul, nI_add]
theorem ab_lit34 (n : Nat) : (34 : Int32) + 8 * nI n = nI (34 + 8 * n) := by
  show nI 34 + nI 8 * nI n = _
  rw [pk_mul, nI_add]
theorem ab_lit8 (n : Nat) : (8 : Int32) * nI n = nI (8 * n) := by
  show nI 8 * nI n = _
  rw [pk_mul]
theorem ab_m_data {b : Nat → Int32} (h : ∀ j, ab_bit (b j)) (d : Nat) (hd : d ≤ 8 * ab_n b) : ab_m b (19 + d) = (ab_crc b (19 + d), 0, ab_num b 1 11, ab_num b 15 4, ab_num b 19 d) := by
  obtain ⟨hn, hl⟩ := ab_n_ok h
  induction d with
  | zero => exact ab_m_head b 19 (by omega)
  | succ d ih =>
    rw [show 19 + (d + 1) = (19 + d) + 1 by omega, ab_m_s, ih (by omega)]
    unfold ab_ms
    rw [if_neg (by omega)]
    dsimp only
    rw [if_neg, ← ab_crc_s, ← ab_num_s]
    rw [ab_num4 h, hl, ab_lit19]
    exact nI_ge (by omega) (by omega)
theorem ab_m_tail {b : Nat → Int32} (h : ∀ j, ab_bit (b j)) (d : Nat) (hd : d ≤ 15) : ab_m b (19 + 8 * ab_n b + d) = (ab_crc b (19 + 8 * ab_n b), ab_num b (19 + 8 * ab_n b) d, ab_num b 1 11, ab_num b 15 4, ab_num b 19 (8 * ab_n b)) := by
  obtain ⟨hn, hl⟩ := ab_n_ok h
  induction d with
  | zero => exact ab_m_data h (8 * ab_n b) (Nat.le_refl _)
  | succ d ih =>
    rw [show 19 + 8 * ab_n b + (d + 1) = (19 + 8 * ab_n b + d) + 1 by omega, ab_m_s, ih (by omega)]
    unfold ab_ms
    rw [if_neg (by omega)]
    dsimp only
    rw [if_pos, ← ab_num_s]
    rw [ab_num4 h, hl, ab_lit19]
    exact nI_le (by omega) (by omega)
/-- seenCode is the code from body bit 19 on -/
theorem ab_m_sc {b : Nat → Int32} (h : ∀ j, ab_bit (b j)) {k : Nat} (hk : 19 ≤ k) (hk2 : k ≤ 34 + 8 * ab_n b) : (ab_m b k).2.2.2.1 = ab_code b := by
  rw [← ab_num4 h]
  rcases Nat.lt_or_ge k (19 + 8 * ab_n b) with z | z
  · obtain ⟨d, rfl⟩ : ∃ d, k = 19 + d := ⟨k - 19, by omega⟩
    rw [ab_m_data h d (by omega)]
  · obtain ⟨d, rfl⟩ : ∃ d, k = 19 + 8 * ab_n b + d := ⟨k - (19 + 8 * ab_n b), by omega⟩
    rw [ab_m_tail h d (by omega)]
/-- X's fields stand for the samples -/
def ab_X (g : Nat → Int32) (L : Nat) (bd rl ll td cr cs si sc sd : Int32) : Prop :=
  bd = nI (ab_k g L) ∧ td = (if ab_t g L = 0 then -1 else nI (ab_t g L - 1)) ∧ (ab_t g L = 0 → rl = nI (ab_R g L) ∧ ll = ab_lst g L)
  ∧ (cr, cs, si, sc, sd) = ab_m (ab_b g L) (ab_k g L)
theorem ab_X_cg {g g' : Nat → Int32} {L : Nat} {bd rl ll td cr cs si sc sd : Int32} (e : ∀ x, x < L → g x = g' x) (h : ab_X g L bd rl ll td cr cs si sc sd) : ab_X g' L bd rl ll td cr cs si sc sd := by
  obtain ⟨c1, c2, c3, c4, c5⟩ := ab_cg e
  unfold ab_X at h ⊢
  rw [← c1, ← c2, ← c3, ← c4, ← c5]
  exact h
/-- a tail sample -/
theorem ab_X_tail {g : Nat → Int32} {L : Nat} {bd rl ll td cr cs si sc sd : Int32} (h : ab_X g L bd rl ll td cr cs si sc sd) (ht : ¬ ab_t g L = 0) (s : Int32) : ab_X (upd g L s) (L + 1) bd rl ll (td + 1) cr cs si sc sd := by
  have h := ab_X_cg (g' := upd g L s) (fun x hx => (pk_un (by omega)).symm) h
  obtain ⟨c1, c2, c3, c4, c5⟩ := ab_cg (g := g) (g' := upd g L s) (i := L) (fun x hx => (pk_un (by omega)).symm)
  rw [c4] at ht
  generalize upd g L s = q at h ht
  obtain ⟨a1, a2, a3⟩ := ab_s_tail ht
  obtain ⟨h1, h2, h3, h4⟩ := h
  unfold ab_X
  rw [a1, a2, a3, if_neg (by omega)]
  rw [if_neg ht] at h2
  refine ⟨h1, ?_, fun z => absurd z (by omega), h4⟩
  rw [h2, nI_1]
  exact congrArg nI (by omega)
/-- a body sample: what X's absorb does -/
theorem ab_X_step {g : Nat → Int32} {L : Nat} {bd rl ll td cr cs si sc sd : Int32} (h : ab_X g L bd rl ll td cr cs si sc sd) (ht : ab_t g L = 0) {s : Int32} (hok : ab_ok (upd g L s) (L + 1)) :
    ab_X (upd g L s) (L + 1) (nI (if 5 ≤ ab_R g L then ab_k g L else ab_k g L + 1)) (nI (if s = ab_lst g L then ab_R g L + 1 else 1)) s
      (if (if s = ab_lst g L then ab_R g L + 1 else 1) < 5 ∧ 34 ≤ (if 5 ≤ ab_R g L then ab_k g L else ab_k g L + 1) ∧ nI (if 5 ≤ ab_R g L then ab_k g L else ab_k g L + 1) = 34 + 8 * ab_lI (if 5 ≤ ab_R g L then (cr, cs, si, sc, sd) else ab_ms (ab_k g L) (cr, cs, si, sc, sd) s).2.2.2.1 then 0 else -1)
      (if 5 ≤ ab_R g L then (cr, cs, si, sc, sd) else ab_ms (ab_k g L) (cr, cs, si, sc, sd) s).1
      (if 5 ≤ ab_R g L then (cr, cs, si, sc, sd) else ab_ms (ab_k g L) (cr, cs, si, sc, sd) s).2.1
      (if 5 ≤ ab_R g L then (cr, cs, si, sc, sd) else ab_ms (ab_k g L) (cr, cs, si, sc, sd) s).2.2.1
      (if 5 ≤ ab_R g L then (cr, cs, si, sc, sd) else ab_ms (ab_k g L) (cr, cs, si, sc, sd) s).2.2.2.1
      (if 5 ≤ ab_R g L then (cr, cs, si, sc, sd) else ab_ms (ab_k g L) (cr, cs, si, sc, sd) s).2.2.2.2 := by
  have h := ab_X_cg (g' := upd g L s) (fun x hx => (pk_un (by omega)).symm) h
  obtain ⟨c1, c2, c3, c4, c5⟩ := ab_cg (g := g) (g' := upd g L s) (i := L) (fun x hx => (pk_un (by omega)).symm)
  rw [c4] at ht
  rw [c1, c2, c3]
  have es : upd g L s L = s := pk_us
  generalize upd g L s = q at h ht hok es
  subst es
  obtain ⟨h1, h2, h3, h4⟩ := h
  have eR : ab_R q (L + 1) = (if q L = ab_lst q L then ab_R q L + 1 else 1) := rfl
  rw [← eR]
  have hb := ab_b_bit hok (L + 1) (Nat.le_refl _)
  obtain ⟨hn, hl⟩ := ab_n_ok hb
  obtain ⟨z1, z2, z3, z4, z5⟩ := ab_bnd hok (L + 1) (Nat.le_refl _)
  rw [h4]
  have key : ∀ m, m = ab_m (ab_b q (L + 1)) (ab_k q (L + 1)) → ab_t q (L + 1) = (if ab_R q (L + 1) < 5 ∧ ab_k q (L + 1) = 34 + 8 * ab_n (ab_b q (L + 1)) then 1 else 0) → ab_X q (L + 1) (nI (ab_k q (L + 1))) (nI (ab_R q (L + 1))) (q L) (if ab_R q (L + 1) < 5 ∧ 34 ≤ ab_k q (L + 1) ∧ nI (ab_k q (L + 1)) = 34 + 8 * ab_lI m.2.2.2.1 then 0 else -1) m.1 m.2.1 m.2.2.1 m.2.2.2.1 m.2.2.2.2 := by
    intro m em et
    refine ⟨rfl, ?_, fun _ => ⟨rfl, rfl⟩, em⟩
    rw [em, et]
    by_cases hd : ab_R q (L + 1) < 5 ∧ ab_k q (L + 1) = 34 + 8 * ab_n (ab_b q (L + 1))
    · rw [if_pos hd, if_pos, if_neg (by omega)]
      · rfl
      · refine ⟨hd.1, by omega, ?_⟩
        rw [ab_m_sc hb (by omega) (by omega), hl, ab_lit34, ← hd.2]
    · rw [if_neg hd, if_neg, if_pos rfl]
      intro hc
      apply hd
      refine ⟨hc.1, ?_⟩
      have hc2 := hc.2.2
      rw [ab_m_sc hb (by omega) (by omega), hl, ab_lit34, nI_eq (by omega) (by omega)] at hc2
      exact hc2
  by_cases hr : 5 ≤ ab_R q L
  · obtain ⟨a1, a2, a3⟩ := ab_s_stuff ht hr
    rw [if_pos hr, if_pos hr, ← a1]
    rw [← a1, ← a3] at a2
    exact key _ (by rw [a1, a3]) a2
  · obtain ⟨a1, a2, a3⟩ := ab_s_body ht hr
    rw [if_neg hr, if_neg hr, ← a1]
    rw [← a1, ← a3] at a2
    refine key _ ?_ a2
    rw [a1, a3, ab_m_s, pk_us, ab_m_cg (b := upd (ab_b q L) (ab_k q L) (q L)) (b' := ab_b q L) (ab_k q L) (fun j hj => pk_un (by omega))]
theorem ab_X_0 (g : Nat → Int32) : ab_X g 0 0 0 1 (-1) 0 0 0 0 0 := ⟨rfl, rfl, fun _ => ⟨rfl, rfl⟩, rfl⟩
/-- what stands in the fields in the tail -/
theorem ab_X_end {g : Nat → Int32} {L : Nat} {bd rl ll td cr cs si sc sd : Int32} (h : ab_X g L bd rl ll td cr cs si sc sd) (hok : ab_ok g L) (ht : ¬ ab_t g L = 0) :
    cr = ab_crc (ab_b g L) (19 + 8 * ab_n (ab_b g L)) ∧ cs = ab_num (ab_b g L) (19 + 8 * ab_n (ab_b g L)) 15 ∧ si = ab_num (ab_b g L) 1 11 ∧ sc = ab_code (ab_b g L) ∧ sd = ab_num (ab_b g L) 19 (8 * ab_n (ab_b g L)) ∧ ab_k g L = 34 + 8 * ab_n (ab_b g L) := by
  obtain ⟨h1, h2, h3, h4⟩ := h
  have hb := ab_b_bit hok L (Nat.le_refl L)
  have hk := (ab_bnd hok L (Nat.le_refl L)).2.2.2.2 ht
  rw [hk, show 34 + 8 * ab_n (ab_b g L) = 19 + 8 * ab_n (ab_b g L) + 15 by omega, ab_m_tail hb 15 (by omega), ab_num4 hb] at h4
  injection h4 with e1 h4
  injection h4 with e2 h4
  injection h4 with e3 h4
  injection h4 with e4 e5
  exact ⟨e1, e2, e3, e4, e5, hk⟩
end
section
/-! the frame's bits, the sender, the wire -/
/-- head and data bits of a frame -/
def ab_Fh (id dat : Int32) (n : Nat) (j : Nat) : Int32 :=
  if j = 0 then 0 else if j ≤ 11 then (id >>> (nI (11 - j) &&& 31)) &&& 1 else if j ≤ 14 then 0 else if j < 19 then (nI n >>> (nI (18 - j) &&& 31)) &&& 1
  else (dat >>> (nI (18 + 8 * n - j) &&& 31)) &&& 1
/-- the body of a frame -/
def ab_F (id dat : Int32) (n : Nat) (j : Nat) : Int32 :=
  if j < 19 + 8 * n then ab_Fh id dat n j else (ab_crc (ab_Fh id dat n) (19 + 8 * n) >>> (nI (33 + 8 * n - j) &&& 31)) &&& 1
theorem ab_Fh_bit (id dat : Int32) (n j : Nat) : ab_bit (ab_Fh id dat n j) := by
  unfold ab_Fh
  split
  · exact Or.inl rfl
  · split
    · exact ab_and1 _
    · split
      · exact Or.inl rfl
      · split <;> exact ab_and1 _
theorem ab_F_bit (id dat : Int32) (n j : Nat) : ab_bit (ab_F id dat n j) := by
  unfold ab_F
  split
  · exact ab_Fh_bit id dat n j
  · exact ab_and1 _
theorem ab_F_lo {id dat : Int32} {n j : Nat} (h : j < 19 + 8 * n) : ab_F id dat n j = ab_Fh id dat n j := if_pos h
theorem ab_F_hi {id dat : Int32} {n j : Nat} (h : ¬ j < 19 + 8 * n) : ab_F id dat n j = (ab_crc (ab_Fh id dat n) (19 + 8 * n) >>> (nI (33 + 8 * n - j) &&& 31)) &&& 1 := if_neg h
theorem ab_Fh_0 {id dat : Int32} {n : Nat} : ab_Fh id dat n 0 = 0 := rfl
theorem ab_Fh_id {id dat : Int32} {n j : Nat} (h0 : ¬ j = 0) (h : j ≤ 11) : ab_Fh id dat n j = (id >>> (nI (11 - j) &&& 31)) &&& 1 := by
  unfold ab_Fh; rw [if_neg h0, if_pos h]
theorem ab_Fh_z {id dat : Int32} {n j : Nat} (h0 : ¬ j ≤ 11) (h : j ≤ 14) : ab_Fh id dat n j = 0 := by
  unfold ab_Fh; rw [if_neg (by omega), if_neg h0, if_pos h]
theorem ab_Fh_n {id dat : Int32} {n j : Nat} (h0 : ¬ j ≤ 14) (h : j < 19) : ab_Fh id dat n j = (nI n >>> (nI (18 - j) &&& 31)) &&& 1 := by
  unfold ab_Fh; rw [if_neg (by omega), if_neg (by omega), if_neg h0, if_pos h]
theorem ab_Fh_d {id dat : Int32} {n j : Nat} (h0 : ¬ j < 19) : ab_Fh id dat n j = (dat >>> (nI (18 + 8 * n - j) &&& 31)) &&& 1 := by
  unfold ab_Fh; rw [if_neg (by omega), if_neg (by omega), if_neg (by omega), if_neg h0]
theorem ab_Fh_code {id dat : Int32} {n : Nat} (hn : n ≤ 4) : ab_code (ab_Fh id dat n) = nI n := by
  unfold ab_code
  rw [ab_Fh_n (by omega) (by omega), ab_Fh_n (by omega) (by omega), ab_Fh_n (by omega) (by omega), ab_Fh_n (by omega) (by omega)]
  have : n = 0 ∨ n = 1 ∨ n = 2 ∨ n = 3 ∨ n = 4 := by omega
  rcases this with rfl | rfl | rfl | rfl | rfl <;> decide
theorem ab_lI_n {n : Nat} (hn : n ≤ 4) : ab_lI (nI n) = nI n := by
  have : n = 0 ∨ n = 1 ∨ n = 2 ∨ n = 3 ∨ n = 4 := by omega
  rcases this with rfl | rfl | rfl | rfl | rfl <;> decide
theorem ab_Fh_len {id dat : Int32} {n : Nat} (hn : n ≤ 4) : ab_n (ab_Fh id dat n) = n := by
  unfold ab_n
  rw [ab_Fh_code hn, ab_lI_n hn, nI_clamp (by omega)]
theorem ab_F_len {id dat : Int32} {n : Nat} (hn : n ≤ 4) : ab_n (ab_F id dat n) = n := by
  rw [ab_n_cg (b' := ab_Fh id dat n) (fun j hj => ab_F_lo (by omega)), ab_Fh_len hn]
/-- the next wire bit -/
def ab_nx (F g : Nat → Int32) (L : Nat) : Int32 := if 5 ≤ ab_R g L then 1 - ab_lst g L else F (ab_k g L)
/-- a sender's samples are its frame's bits -/
def ab_SG (F g : Nat → Int32) (L : Nat) : Prop := ∀ i, i < L → ab_t g i = 0 → ¬ 5 ≤ ab_R g i → g i = F (ab_k g i)
theorem ab_SG_cg {F g g' : Nat → Int32} {L : Nat} (e : ∀ x, x < L → g x = g' x) (h : ab_SG F g L) : ab_SG F g' L := by
  intro i hi
  obtain ⟨c1, c2, c3, c4, c5⟩ := ab_cg (g := g) (g' := g') (i := i) (fun x hx => e x (by omega))
  have := h i hi
  rw [← e i hi, ← c4, ← c2, ← c3]
  exact this
theorem ab_SG_s {F g : Nat → Int32} {L : Nat} (h : ab_SG F g L) {s : Int32} (hs : ab_t g L = 0 → ¬ 5 ≤ ab_R g L → s = F (ab_k g L)) : ab_SG F (upd g L s) (L + 1) := by
  have e : ∀ x, x < L → g x = upd g L s x := fun x hx => (pk_un (by omega)).symm
  have h' := ab_SG_cg e h
  intro i hi
  by_cases hl : i = L
  · subst hl
    obtain ⟨c1, c2, c3, c4, c5⟩ := ab_cg e
    rw [pk_us, ← c4, ← c2, ← c3]
    exact hs
  · exact h' i (by omega)
theorem ab_bF {F g : Nat → Int32} {L : Nat} (h : ab_SG F g L) (i : Nat) (hi : i ≤ L) : ∀ x, x < ab_k g i → ab_b g i x = F x := by
  induction i with
  | zero => intro x hx; exact absurd hx (Nat.not_lt_zero x)
  | succ i ih =>
    have ih := ih (by omega)
    by_cases ht : ab_t g i = 0
    · by_cases hr : 5 ≤ ab_R g i
      · obtain ⟨a1, a2, a3⟩ := ab_s_stuff ht hr
        rw [a1, a3]; exact ih
      · obtain ⟨a1, a2, a3⟩ := ab_s_body ht hr
        rw [a1, a3]
        intro x hx
        by_cases hk : x = ab_k g i
        · subst hk; rw [pk_us]; exact h i (by omega) ht hr
        · rw [pk_un hk]; exact ih x (by omega)
    · obtain ⟨a1, a2, a3⟩ := ab_s_tail ht
      rw [a1, a3]; exact ih
theorem ab_flip {x y : Int32} (hx : ab_bit x) (hy : ab_bit y) (h : ¬ x = y) : x = 1 - y := by
  rcases hx with rfl | rfl <;> rcases hy with rfl | rfl
  · exact absurd rfl h
  · decide
  · decide
  · exact absurd rfl h
theorem ab_flip_ne {y : Int32} (hy : ab_bit y) : ¬ 1 - y = y := by
  rcases hy with rfl | rfl <;> decide
theorem ab_flip_bit {y : Int32} (hy : ab_bit y) : ab_bit (1 - y) := by
  rcases hy with rfl | rfl
  · exact Or.inr (by decide)
  · exact Or.inl (by decide)
/-- the reference's wire, up to e -/
def ab_wi (F w fr : Nat → Int32) (e : Nat) : Prop := ∀ i, i < e → ab_t w i = 0 ∧ w i = ab_nx F w i ∧ fr i = nI (if 5 ≤ ab_R w i then ab_k w i - 1 else ab_k w i)
theorem ab_agree {F g w fr : Nat → Int32} {L e : Nat} (hok : ab_ok g L) (hs : ab_SG F g L) (hw : ab_wi F w fr e) (i : Nat) (hL : i ≤ L) (he : i ≤ e) : ∀ x, x < i → g x = w x := by
  induction i with
  | zero => intro x hx; exact absurd hx (Nat.not_lt_zero x)
  | succ i ih =>
    have ih := ih (by omega) (by omega)
    intro x hx
    by_cases hxi : x = i
    · subst hxi
      obtain ⟨c1, c2, c3, c4, c5⟩ := ab_cg ih
      obtain ⟨w1, w2, w3⟩ := hw x (by omega)
      have ht : ab_t g x = 0 := by rw [c4]; exact w1
      rw [w2]
      unfold ab_nx
      rw [← c1, ← c2, ← c3]
      by_cases hr : 5 ≤ ab_R g x
      · rw [if_pos hr]
        exact ab_flip (hok x (by omega)).1 (ab_lst_bit hok (by omega)) ((hok x (by omega)).2 ht hr)
      · rw [if_neg hr]
        exact hs x (by omega) ht hr
    · exact ih x (by omega)
theorem ab_wire_lt {F g w fr : Nat → Int32} {L e : Nat} (hok : ab_ok g L) (hs : ab_SG F g L) (hw : ab_wi F w fr e) (h : L < e) :
    ab_t g L = 0 ∧ w L = ab_nx F g L ∧ fr L = nI (if 5 ≤ ab_R g L then ab_k g L - 1 else ab_k g L) := by
  obtain ⟨c1, c2, c3, c4, c5⟩ := ab_cg (ab_agree hok hs hw L (Nat.le_refl L) (by omega))
  have := hw L h
  unfold ab_nx at this ⊢
  rw [c1, c2, c3, c4]
  exact this
theorem ab_tail_inc {g : Nat → Int32} {e : Nat} (h : ab_t g e = 1) (d : Nat) : ab_t g (e + d) = d + 1 := by
  induction d with
  | zero => exact h
  | succ d ih =>
    have := (ab_s_tail (g := g) (i := e + d) (by omega)).2.1
    rw [show e + (d + 1) = e + d + 1 by omega, this, ih]
theorem ab_wire_ge {F g w fr : Nat → Int32} {L e : Nat} (hok : ab_ok g L) (hs : ab_SG F g L) (hw : ab_wi F w fr e) (he : ab_t w e = 1) (h : e ≤ L) : ab_t g L = L - e + 1 := by
  obtain ⟨c1, c2, c3, c4, c5⟩ := ab_cg (ab_agree hok hs hw e h (Nat.le_refl e))
  obtain ⟨d, rfl⟩ : ∃ d, L = e + d := ⟨L - e, by omega⟩
  rw [ab_tail_inc (by rw [c4]; exact he) d]
  omega
/-- the reference's loop over the body bits: at put p, body bit j -/
def ab_WI (F : Nat → Int32) (n : Nat) (w fr : Nat → Int32) (p j : Nat) : Prop :=
  ab_wi F w fr p ∧ ab_k w p = j ∧ ab_R w p < 5 ∧ ab_t w p = (if j = 34 + 8 * n then 1 else 0) ∧ 4 * p + ab_R w p ≤ 5 * j ∧ (∀ x, x < j → ab_b w p x = F x)
theorem ab_WI_0 (F : Nat → Int32) (n : Nat) (w fr : Nat → Int32) : ab_WI F n w fr 0 0 := by
  refine ⟨fun i hi => absurd hi (Nat.not_lt_zero i), rfl, by show (0 : Nat) < 5; omega, ?_, Nat.le_refl _, fun x hx => absurd hx (Nat.not_lt_zero x)⟩
  rw [if_neg (by omega)]; rfl
theorem ab_wi_up {F w fr : Nat → Int32} {p : Nat} (h : ab_wi F w fr p) (x y : Int32) : ab_wi F (upd w p x) (upd fr p y) p := by
  intro i hi
  obtain ⟨c1, c2, c3, c4, c5⟩ := ab_cg (g := w) (g' := upd w p x) (i := i) (fun z hz => (pk_un (by omega)).symm)
  have := h i hi
  unfold ab_nx at this ⊢
  rw [← c1, ← c2, ← c3, ← c4, pk_un (by omega), pk_un (by omega)]
  exact this
/-- one body bit onto the wire -/
theorem ab_WI_1 {F w fr : Nat → Int32} {n p j : Nat} (hn : ab_n F = n) (h : ab_WI F n w fr p j) (hj : j < 34 + 8 * n) :
    ab_wi F (upd w p (F j)) (upd fr p (nI j)) (p + 1) ∧ ab_k (upd w p (F j)) (p + 1) = j + 1 ∧ 4 * (p + 1) + ab_R (upd w p (F j)) (p + 1) ≤ 5 * (j + 1) ∧ ab_R (upd w p (F j)) (p + 1) ≤ 5 ∧
    (∀ x, x < j + 1 → ab_b (upd w p (F j)) (p + 1) x = F x) ∧ (j + 1 = 34 + 8 * ab_n (ab_b (upd w p (F j)) (p + 1)) ↔ j + 1 = 34 + 8 * n) ∧
    ab_t (upd w p (F j)) (p + 1) = (if ab_R (upd w p (F j)) (p + 1) < 5 ∧ j + 1 = 34 + 8 * n then 1 else 0) := by
  obtain ⟨h1, h2, h3, h4, h5, h6⟩ := h
  have e : ∀ x, x < p → w x = upd w p (F j) x := fun x hx => (pk_un (by omega)).symm
  obtain ⟨c1, c2, c3, c4, c5⟩ := ab_cg e
  have hwi := ab_wi_up h1 (F j) (nI j)
  have es : upd w p (F j) p = F j := pk_us
  have ef : upd fr p (nI j) p = nI j := pk_us
  rw [c3] at h2
  rw [c2] at h3 h5
  rw [c4, if_neg (by omega)] at h4
  rw [c5] at h6
  generalize upd w p (F j) = q at *
  generalize upd fr p (nI j) = fq at *
  have hr : ¬ 5 ≤ ab_R q p := by omega
  obtain ⟨a1, a2, a3⟩ := ab_s_body h4 hr
  have hR : ab_R q (p + 1) ≤ ab_R q p + 1 := by rw [ab_R_s]; split <;> omega
  have hb : ∀ x, x < j + 1 → ab_b q (p + 1) x = F x := by
    intro x hx
    rw [a3, h2]
    by_cases hk : x = j
    · subst hk; rw [pk_us, es]
    · rw [pk_un hk]; exact h6 x (by omega)
  have hd : j + 1 = 34 + 8 * ab_n (ab_b q (p + 1)) ↔ j + 1 = 34 + 8 * n := by
    rcases Nat.lt_or_ge (j + 1) 34 with z | z
    · exact ⟨fun y => by omega, fun y => by omega⟩
    · have : ab_n (ab_b q (p + 1)) = n := by
        rw [← hn]
        exact ab_n_cg (fun x hx => hb x (by omega))
      rw [this]
  refine ⟨?_, by rw [a1, h2], by omega, by omega, hb, hd, ?_⟩
  · intro i hi
    by_cases hp : i = p
    · subst hp
      refine ⟨h4, ?_, ?_⟩
      · unfold ab_nx; rw [if_neg hr, h2, es]
      · rw [if_neg hr, h2, ef]
    · exact hwi i (by omega)
  · rw [a2, ← a3, h2]
    by_cases z : ab_R q (p + 1) < 5 ∧ j + 1 = 34 + 8 * n
    · rw [if_pos z, if_pos ⟨z.1, hd.mpr z.2⟩]
    · rw [if_neg z, if_neg (fun y => z ⟨y.1, hd.mp y.2⟩)]
/-- no stuff bit behind it -/
theorem ab_WI_n {F w fr : Nat → Int32} {n p j : Nat} (hn : ab_n F = n) (h : ab_WI F n w fr p j) (hj : j < 34 + 8 * n) (hr : ¬ 5 ≤ ab_R (upd w p (F j)) (p + 1)) :
    ab_WI F n (upd w p (F j)) (upd fr p (nI j)) (p + 1) (j + 1) := by
  obtain ⟨a1, a2, a3, a4, a5, a6, a7⟩ := ab_WI_1 hn h hj
  refine ⟨a1, a2, by omega, ?_, a3, a5⟩
  rw [a7]
  by_cases z : j + 1 = 34 + 8 * n
  · rw [if_pos z, if_pos ⟨by omega, z⟩]
  · rw [if_neg z, if_neg (fun y => z y.2)]
/-- a stuff bit behind it -/
theorem ab_WI_s {F w fr : Nat → Int32} {n p j : Nat} (hF : ∀ x, ab_bit (F x)) (hn : ab_n F = n) (h : ab_WI F n w fr p j) (hj : j < 34 + 8 * n) (hr : 5 ≤ ab_R (upd w p (F j)) (p + 1)) :
    ab_WI F n (upd (upd w p (F j)) (p + 1) (1 - F j)) (upd (upd fr p (nI j)) (p + 1) (nI j)) (p + 2) (j + 1) := by
  obtain ⟨a1, a2, a3, a4, a5, a6, a7⟩ := ab_WI_1 hn h hj
  have es : upd w p (F j) p = F j := pk_us
  generalize upd w p (F j) = q at *
  generalize upd fr p (nI j) = fq at *
  rw [if_neg (by omega)] at a7
  have e : ∀ x, x < p + 1 → q x = upd q (p + 1) (1 - F j) x := fun x hx => (pk_un (by omega)).symm
  obtain ⟨c1, c2, c3, c4, c5⟩ := ab_cg e
  have hwi := ab_wi_up a1 (1 - F j) (nI j)
  have hl : ab_lst q (p + 1) = F j := es
  have es2 : upd q (p + 1) (1 - F j) (p + 1) = 1 - F j := pk_us
  have ef2 : upd fq (p + 1) (nI j) (p + 1) = nI j := pk_us
  rw [c1] at hl
  rw [c2] at a3 a4 hr
  rw [c3] at a2
  rw [c4] at a7
  rw [c5] at a5 a6
  generalize upd q (p + 1) (1 - F j) = r at *
  generalize upd fq (p + 1) (nI j) = fs at *
  obtain ⟨b1, b2, b3⟩ := ab_s_stuff a7 hr
  have hR : ab_R r (p + 2) = 1 := by
    rw [show p + 2 = (p + 1) + 1 from rfl, ab_R_s, hl, es2, if_neg (ab_flip_ne (hF j))]
  refine ⟨?_, by rw [show p + 2 = (p + 1) + 1 from rfl, b1, a2], by omega, ?_, by omega, ?_⟩
  · intro i hi
    by_cases hp : i = p + 1
    · subst hp
      refine ⟨a7, ?_, ?_⟩
      · unfold ab_nx; rw [if_pos hr, es2, hl]
      · rw [if_pos hr, a2, ef2]; rfl
    · exact hwi i (by omega)
  · rw [show p + 2 = (p + 1) + 1 from rfl, b2, a2]
    have hR' : ab_R r (p + 1 + 1) = 1 := hR
    by_cases z : j + 1 = 34 + 8 * n
    · rw [if_pos z, if_pos ⟨by omega, a6.mpr z⟩]
    · rw [if_neg z, if_neg (fun y => z (a6.mp y.2))]
  · rw [show p + 2 = (p + 1) + 1 from rfl, b3]; exact a5
theorem ab_WI_bd {F w fr : Nat → Int32} {n p j : Nat} (h : ab_WI F n w fr p j) (hn : n ≤ 4) (hj : j ≤ 34 + 8 * n) : p ≤ 82 := by
  obtain ⟨h1, h2, h3, h4, h5, h6⟩ := h
  omega
/-- the sender's next body bit: what X reads -/
theorem ab_send_k {F g : Nat → Int32} {L n : Nat} (hok : ab_ok g L) (hs : ab_SG F g L) (hn : ab_n F = n) (ht : ab_t g L = 0) (hr : ¬ 5 ≤ ab_R g L) : ab_k g L < 34 + 8 * n := by
  obtain ⟨a1, a2, a3, a4, a5⟩ := ab_bnd hok L (Nat.le_refl L)
  have hb := ab_bF hs L (Nat.le_refl L)
  rcases Nat.lt_or_ge (ab_k g L) 34 with z | z
  · omega
  · have e : ab_n (ab_b g L) = n := by
      rw [← hn]
      exact ab_n_cg (fun x hx => hb x (by omega))
    rw [e] at a3 a4
    rcases Nat.lt_or_ge (ab_k g L) (34 + 8 * n) with y | y
    · exact y
    · rcases a4 (by omega) with x | x
      · exact absurd ht x
      · exact absurd x hr
theorem ab_send_crc {id dat : Int32} {g : Nat → Int32} {L n : Nat} {bd rl ll td cr cs si sc sd : Int32} (h : ab_X g L bd rl ll td cr cs si sc sd) (hn : n ≤ 4) (hok : ab_ok g L) (hs : ab_SG (ab_F id dat n) g L) (ht : ab_t g L = 0)
    (hk : 19 + 8 * n ≤ ab_k g L) (hk2 : ab_k g L < 34 + 8 * n) : cr = ab_crc (ab_Fh id dat n) (19 + 8 * n) := by
  obtain ⟨h1, h2, h3, h4⟩ := h
  have hbb := ab_b_bit hok L (Nat.le_refl L)
  have hb := ab_bF hs L (Nat.le_refl L)
  have e : ab_n (ab_b g L) = n := by
    rw [← ab_F_len (id := id) (dat := dat) hn]
    exact ab_n_cg (fun x hx => hb x (by omega))
  obtain ⟨d, hd⟩ : ∃ d, ab_k g L = 19 + 8 * ab_n (ab_b g L) + d := ⟨ab_k g L - (19 + 8 * n), by omega⟩
  rw [hd, ab_m_tail hbb d (by omega)] at h4
  injection h4 with e1 h4
  rw [e1, e]
  apply ab_crc_cg
  intro x hx
  rw [hb x (by omega), ab_F_lo (by omega)]
end
section
/-! the relation: one node's values; the whole -/
/-- the slot that is chosen among q pending frames -/
def ab_c1 (q : Nat) (f : Nat → Int32) : Nat := if 1 < q ∧ f 1 < f 0 then 1 else 0
def ab_ch (q : Nat) (f : Nat → Int32) : Nat := if 2 < q ∧ f 2 < f (ab_c1 q f) then 2 else ab_c1 q f
theorem ab_c1_lt {q : Nat} (f : Nat → Int32) (h : 1 ≤ q) : ab_c1 q f < q := by
  unfold ab_c1
  split <;> omega
theorem ab_ch_lt {q : Nat} (f : Nat → Int32) (h : 1 ≤ q) : ab_ch q f < q := by
  have := ab_c1_lt f h
  unfold ab_ch
  split
  · omega
  · exact this
theorem ab_c1_cg {q : Nat} {f f' : Nat → Int32} (h0 : 1 ≤ q) (h : ∀ k, k < q → f k = f' k) : ab_c1 q f = ab_c1 q f' := by
  unfold ab_c1
  by_cases h1 : 1 < q
  · rw [h 0 (by omega), h 1 h1]
  · rw [if_neg (fun z => h1 z.1), if_neg (fun z => h1 z.1)]
theorem ab_ch_cg {q : Nat} {f f' : Nat → Int32} (h0 : 1 ≤ q) (h : ∀ k, k < q → f k = f' k) : ab_ch q f = ab_ch q f' := by
  have hl := ab_c1_lt f' h0
  unfold ab_ch
  rw [ab_c1_cg h0 h, h _ hl]
  by_cases h2 : 2 < q
  · rw [h 2 h2]
  · rw [if_neg (fun z => h2 z.1), if_neg (fun z => h2 z.1)]
/-- node j's part of an array with w cells a node -/
def ab_v (w : Nat) (a : Nat → Int32) (j : Nat) : Nat → Int32 := fun k => if k < w then a (j * w + k) else 0
theorem ab_v_at {w : Nat} {a : Nat → Int32} {j k : Nat} (h : k < w) : ab_v w a j k = a (j * w + k) := if_pos h
theorem ab_v_ne {w i j k s : Nat} (h : j ≠ i) (hk : k < w) (hs : s < w) : j * w + k ≠ i * w + s := by
  rcases Nat.lt_or_gt_of_ne h with z | z
  · have := Nat.mul_le_mul_right w (show j + 1 ≤ i by omega)
    rw [Nat.add_mul, Nat.one_mul] at this
    omega
  · have := Nat.mul_le_mul_right w (show i + 1 ≤ j by omega)
    rw [Nat.add_mul, Nat.one_mul] at this
    omega
theorem ab_v_un {w : Nat} {a : Nat → Int32} {i j s : Nat} {x : Int32} (h : j ≠ i) (hs : s < w) : ab_v w (upd a (i * w + s) x) j = ab_v w a j := by
  funext k
  by_cases hk : k < w
  · rw [ab_v_at hk, ab_v_at hk, pk_un (ab_v_ne h hk hs)]
  · unfold ab_v; rw [if_neg hk, if_neg hk]
theorem ab_v_us {w : Nat} {a : Nat → Int32} {i s : Nat} {x : Int32} (hs : s < w) : ab_v w (upd a (i * w + s) x) i = upd (ab_v w a i) s x := by
  funext k
  by_cases hk : k < w
  · rw [ab_v_at hk]
    by_cases e : k = s
    · subst e; rw [pk_us, pk_us]
    · rw [pk_un e, pk_un (by omega), ab_v_at hk]
  · rw [pk_un (by omega)]
    unfold ab_v; rw [if_neg hk, if_neg hk]
theorem ab_v_cg {w : Nat} {a a' : Nat → Int32} {j : Nat} (h : ∀ k, k < w → a' (j * w + k) = a (j * w + k)) : ab_v w a' j = ab_v w a j := by
  funext k
  by_cases hk : k < w
  · rw [ab_v_at hk, ab_v_at hk, h k hk]
  · unfold ab_v; rw [if_neg hk, if_neg hk]
/-- what stands at all times -/
def rl_B (r p b : Int32) (px py nx ny dx dy kx ri rn bx rd : Nat → Int32) : Prop :=
  r ≤ 255 ∧ (∃ c : Nat, c ≤ 3 ∧ p = nI c ∧ ∀ k, k < c → px k = py k ∧ nx k = ny k ∧ dx k = dy k ∧ ∃ n : Nat, n ≤ 4 ∧ ny k = nI n)
  ∧ (∃ c : Nat, c ≤ 8 ∧ b = nI c ∧ ∀ k, k < c → kx k = ri k * 8 + rn k ∧ bx k = rd k)
/-- by the activity -/
def rl_C (a m qx qy fx fy : Int32) : Prop :=
  (∃ n : Nat, n < 7 ∧ a = nI n) ∧ (a = 5 ∨ a = 6 → ∃ q : Nat, q ≤ 10 ∧ qx = nI q ∧ qy = nI q) ∧ (a = 6 → ∃ n : Nat, 1 ≤ n ∧ n ≤ 16 ∧ m = nI n) ∧ (a = 3 ∨ a = 4 → fx = fy)
/-- the frame machine, and the sender's frame -/
def rl_M (D : Prop) (a tk le bd rl ll td cr cs si sc sd ss cu d p : Int32) (py ny dy g : Nat → Int32) : Prop :=
  a = 1 ∨ a = 2 → ∃ L : Nat, tk = nI L ∧ le = nI L ∧ ab_ok g L ∧ ab_t g L ≤ 10 ∧ ab_X g L bd rl ll td cr cs si sc sd ∧ (a = 2 → ab_t g L ≤ 9)
    ∧ (a = 1 → ∃ c q n : Nat, ss = nI c ∧ cu = nI c ∧ p = nI q ∧ c < q ∧ q ≤ 3 ∧ n ≤ 4 ∧ ny c = nI n ∧ ab_SG (ab_F (py c) (dy c) n) g L
      ∧ (D → ab_t g L = 0 → d = ab_nx (ab_F (py c) (dy c) n) g L))
/-- a controller that starts -/
def rl_D (D : Prop) (a h d cu p : Int32) (py : Nat → Int32) : Prop :=
  D → a = 0 → d = 0 → h = 0 ∧ ∃ q : Nat, 1 ≤ q ∧ q ≤ 3 ∧ p = nI q ∧ cu = nI (ab_ch q py)
/-- one node -/
def rl_N (D : Prop) (a r h m qx qy fx fy tk le bd rl ll td cr cs si sc sd ss cu d p b : Int32) (px py nx ny dx dy kx ri rn bx rd g : Nat → Int32) : Prop :=
  rl_B r p b px py nx ny dx dy kx ri rn bx rd ∧ rl_C a m qx qy fx fy ∧ rl_M D a tk le bd rl ll td cr cs si sc sd ss cu d p py ny dy g ∧ rl_D D a h d cu p py
theorem rl_M_w {D D' : Prop} {a tk le bd rl ll td cr cs si sc sd ss cu d p : Int32} {py ny dy g : Nat → Int32} (hD : D' → D) (h : rl_M D a tk le bd rl ll td cr cs si sc sd ss cu d p py ny dy g) : rl_M D' a tk le bd rl ll td cr cs si sc sd ss cu d p py ny dy g := by
  intro ha
  obtain ⟨L, h1, h2, h3, h4, h5, h6, h7⟩ := h ha
  refine ⟨L, h1, h2, h3, h4, h5, h6, fun a1 => ?_⟩
  obtain ⟨c, q, n, e1, e2, e3, e4, e5, e6, e7, e8, e9⟩ := h7 a1
  exact ⟨c, q, n, e1, e2, e3, e4, e5, e6, e7, e8, fun d => e9 (hD d)⟩
theorem rl_w {D D' : Prop} {a r h m qx qy fx fy tk le bd rl ll td cr cs si sc sd ss cu d p b : Int32} {px py nx ny dx dy kx ri rn bx rd g : Nat → Int32} (hD : D' → D)
    (H : rl_N D a r h m qx qy fx fy tk le bd rl ll td cr cs si sc sd ss cu d p b px py nx ny dx dy kx ri rn bx rd g) : rl_N D' a r h m qx qy fx fy tk le bd rl ll td cr cs si sc sd ss cu d p b px py nx ny dx dy kx ri rn bx rd g :=
  ⟨H.1, H.2.1, rl_M_w hD H.2.2.1, fun d => H.2.2.2 (hD d)⟩
/-- the parameters -/
def rl_P (N : Nat) (nc pl gc : Int32) : Prop := nc = nI N ∧ 2 ≤ N ∧ N ≤ 4 ∧ ∃ P G : Nat, pl = nI P ∧ 8 ≤ P ∧ P ≤ 128 ∧ gc = nI G ∧ 1 ≤ G ∧ G ≤ 16
/-- the trace -/
def rl_T (tn : Int32) (tx ty : Nat → Int32) : Prop := ∃ T : Nat, T < 128 ∧ tn = nI T ∧ ∀ b, b < 128 → (tx ((T + 127 - b) % 128) = 0 → ty b = 1) ∧ (¬ tx ((T + 127 - b) % 128) = 0 → ty b = 0)
/-- the whole; D: the nodes whose driven level is known -/
def rl_R (N : Nat) (D : Nat → Prop) (u : SX) (v : SY) : Prop :=
  match u with
  | (k1, k2, k3, k4, k5, k6, k7, k8, k9, k10, k11, k12, k13, nc, pl, ol, gc, tn, ac, te, re, ho, er, se, lo, de, qx, mi, fx, dr, tk, bd, rl, ll, td, cr, cs, si, sc, sd, ss, pc, px, nx, dx, bc, kx, bx, tx) =>
    match v with
    | (nc', pl', ol', gc', ac', te', re', ho', er', lo', se', de', qy, mi', fy, cu, dr', pc', bc', py, ny, dy, ri, rn, rd, le, sn, ty, bo, wi, fr) =>
      (nc' = nc ∧ pl' = pl ∧ ol' = ol ∧ gc' = gc ∧ ac' = ac ∧ te' = te ∧ re' = re ∧ ho' = ho ∧ er' = er ∧ lo' = lo ∧ se' = se ∧ de' = de ∧ mi' = mi ∧ dr' = dr ∧ pc' = pc ∧ bc' = bc)
      ∧ rl_P N nc pl gc ∧ rl_T tn tx ty ∧ ∀ j, j < 4 → rl_N (D j) (ac j) (re j) (ho j) (mi j) (qx j) (qy j) (fx j) (fy j) (tk j) (le j) (bd j) (rl j) (ll j) (td j) (cr j) (cs j) (si j) (sc j) (sd j) (ss j) (cu j) (dr j) (pc j) (bc j) (ab_v 3 px j) (ab_v 3 py j) (ab_v 3 nx j) (ab_v 3 ny j) (ab_v 3 dx j) (ab_v 3 dy j) (ab_v 8 kx j) (ab_v 8 ri j) (ab_v 8 rn j) (ab_v 8 bx j) (ab_v 8 rd j) (ab_v 128 sn j)
section
variable {k1 k2 k3 k4 k5 k6 k7 k8 k9 k10 k11 k12 k13 nc pl ol gc tn : Int32} {ac te re ho er se lo de qx mi fx dr tk bd rl ll td cr cs si sc sd ss pc px nx dx bc kx bx tx : Nat → Int32} {qy fy cu py ny dy ri rn rd le sn ty bo wi fr : Nat → Int32}
theorem rl_mk {N : Nat} {D : Nat → Prop} (h1 : rl_P N nc pl gc) (h2 : rl_T tn tx ty) (h3 : ∀ j, j < 4 → rl_N (D j) (ac j) (re j) (ho j) (mi j) (qx j) (qy j) (fx j) (fy j) (tk j) (le j) (bd j) (rl j) (ll j) (td j) (cr j) (cs j) (si j) (sc j) (sd j) (ss j) (cu j) (dr j) (pc j) (bc j) (ab_v 3 px j) (ab_v 3 py j) (ab_v 3 nx j) (ab_v 3 ny j) (ab_v 3 dx j) (ab_v 3 dy j) (ab_v 8 kx j) (ab_v 8 ri j) (ab_v 8 rn j) (ab_v 8 bx j) (ab_v 8 rd j) (ab_v 128 sn j)) : rl_R N D (k1, k2, k3, k4, k5, k6, k7, k8, k9, k10, k11, k12, k13, nc, pl, ol, gc, tn, ac, te, re, ho, er, se, lo, de, qx, mi, fx, dr, tk, bd, rl, ll, td, cr, cs, si, sc, sd, ss, pc, px, nx, dx, bc, kx, bx, tx) (nc, pl, ol, gc, ac, te, re, ho, er, lo, se, de, qy, mi, fy, cu, dr, pc, bc, py, ny, dy, ri, rn, rd, le, sn, ty, bo, wi, fr) :=
  ⟨⟨rfl, rfl, rfl, rfl, rfl, rfl, rfl, rfl, rfl, rfl, rfl, rfl, rfl, rfl, rfl, rfl⟩, h1, h2, h3⟩
end
theorem rl_el {N : Nat} {D : Nat → Prop} {P : SX → SY → Prop} (h : ∀ {k1 k2 k3 k4 k5 k6 k7 k8 k9 k10 k11 k12 k13 nc pl ol gc tn : Int32} {ac te re ho er se lo de qx mi fx dr tk bd rl ll td cr cs si sc sd ss pc px nx dx bc kx bx tx : Nat → Int32} {qy fy cu py ny dy ri rn rd le sn ty bo wi fr : Nat → Int32}, rl_P N nc pl gc → rl_T tn tx ty → (∀ j, j < 4 → rl_N (D j) (ac j) (re j) (ho j) (mi j) (qx j) (qy j) (fx j) (fy j) (tk j) (le j) (bd j) (rl j) (ll j) (td j) (cr j) (cs j) (si j) (sc j) (sd j) (ss j) (cu j) (dr j) (pc j) (bc j) (ab_v 3 px j) (ab_v 3 py j) (ab_v 3 nx j) (ab_v 3 ny j) (ab_v 3 dx j) (ab_v 3 dy j) (ab_v 8 kx j) (ab_v 8 ri j) (ab_v 8 rn j) (ab_v 8 bx j) (ab_v 8 rd j) (ab_v 128 sn j)) → P (k1, k2, k3, k4, k5, k6, k7, k8, k9, k10, k11, k12, k13, nc, pl, ol, gc, tn, ac, te, re, ho, er, se, lo, de, qx, mi, fx, dr, tk, bd, rl, ll, td, cr, cs, si, sc, sd, ss, pc, px, nx, dx, bc, kx, bx, tx) (nc, pl, ol, gc, ac, te, re, ho, er, lo, se, de, qy, mi, fy, cu, dr, pc, bc, py, ny, dy, ri, rn, rd, le, sn, ty, bo, wi, fr)) {u : SX} {v : SY} (H : rl_R N D u v) : P u v := by
  obtain ⟨k1, k2, k3, k4, k5, k6, k7, k8, k9, k10, k11, k12, k13, nc, pl, ol, gc, tn, ac, te, re, ho, er, se, lo, de, qx, mi, fx, dr, tk, bd, rl, ll, td, cr, cs, si, sc, sd, ss, pc, px, nx, dx, bc, kx, bx, tx⟩ := u
  obtain ⟨nc', pl', ol', gc', ac', te', re', ho', er', lo', se', de', qy, mi', fy, cu, dr', pc', bc', py, ny, dy, ri, rn, rd, le, sn, ty, bo, wi, fr⟩ := v
  obtain ⟨⟨e1, e2, e3, e4, e5, e6, e7, e8, e9, e10, e11, e12, e13, e14, e15, e16⟩, h1, h2, h3⟩ := H
  subst e1 e2 e3 e4 e5 e6 e7 e8 e9 e10 e11 e12 e13 e14 e15 e16
  exact h h1 h2 h3
/-- split off node i -/
theorem rl_sp {P : Nat → Prop} (i : Nat) (hi : P i) (h : ∀ j, j < 4 → j ≠ i → P j) : ∀ j, j < 4 → P j := by
  intro j hj
  by_cases e : j = i
  · subst e; exact hi
  · exact h j hj e
/-- both sides end, in related states -/
def lk_E (N : Nat) (D : Nat → Prop) (WX : (SX → Prop) → Prop) (WY : (SY → Prop) → Prop) : Prop := ∃ u v, rl_R N D u v ∧ (∀ post, post u → WX post) ∧ (∀ post, post v → WY post)
theorem xw_eta (post : SX → Prop) (u : SX) (h : post u) : (match u with | (k1, k2, k3, k4, k5, k6, k7, k8, k9, k10, k11, k12, k13, nc, pl, ol, gc, tn, ac, te, re, ho, er, se, lo, de, qx, mi, fx, dr, tk, bd, rl, ll, td, cr, cs, si, sc, sd, ss, pc, px, nx, dx, bc, kx, bx, tx) => post (k1, k2, k3, k4, k5, k6, k7, k8, k9, k10, k11, k12, k13, nc, pl, ol, gc, tn, ac, te, re, ho, er, se, lo, de, qx, mi, fx, dr, tk, bd, rl, ll, td, cr, cs, si, sc, sd, ss, pc, px, nx, dx, bc, kx, bx, tx)) := h
theorem yw_eta (post : SY → Prop) (u : SY) (h : post u) : (match u with | (nc, pl, ol, gc, ac, te, re, ho, er, lo, se, de, qy, mi, fy, cu, dr, pc, bc, py, ny, dy, ri, rn, rd, le, sn, ty, bo, wi, fr) => post (nc, pl, ol, gc, ac, te, re, ho, er, lo, se, de, qy, mi, fy, cu, dr, pc, bc, py, ny, dy, ri, rn, rd, le, sn, ty, bo, wi, fr)) := h
end
section
/-! X's walks: errors, counters -/
theorem ab_in4 {i : Nat} (hi : i < 4) : vp_in (nI i) 4 := vp_in_nI hi (by omega)
theorem ab_cl {i : Nat} (hi : i < 4) : (nI i).toNatClampNeg = i := nI_clamp (by omega)
def ab_pas (pl t r : Int32) : Int32 := if pl ≤ t then 1 else if r < pl then 0 else 1
def ab_h8 (w : Int32) : Int32 := if w = 0 then 0 else 8
def ab_T (kd w t : Int32) : Int32 := if kd = 5 ∧ ¬ w = 0 then t else t + 8
def ab_inc (r b : Int32) : Int32 := if r + b ≤ 255 then r + b else 255
section
variable {k1 k2 k3 k4 k5 k6 k7 k8 k9 k10 k11 k12 k13 nc pl ol gc tn : Int32} {ac te re ho er se lo de qx mi fx dr tk bd rl ll td cr cs si sc sd ss pc px nx dx bc kx bx tx : Nat → Int32} {i : Nat}
theorem xw_pas (hi : i < 4) {post : Int32 → Prop} (h : post (ab_pas pl (te i) (re i))) : wpX_countersPassive post (k1, k2, k3, k4, k5, k6, k7, k8, k9, k10, k11, k12, k13, nc, pl, ol, gc, tn, ac, te, re, ho, er, se, lo, de, qx, mi, fx, dr, tk, bd, rl, ll, td, cr, cs, si, sc, sd, ss, pc, px, nx, dx, bc, kx, bx, tx) (nI i) := by
  simp only [wpX_countersPassive, ab_cl hi, ab_in4 hi, true_and, forall_eq]
  unfold ab_pas at h
  by_cases h1 : pl ≤ te i
  · rw [if_pos h1] at h; exact br_t h1 h
  · rw [if_neg h1] at h
    refine br_f h1 ?_
    by_cases h2 : re i < pl
    · rw [if_pos h2] at h; exact br_t h2 h
    · rw [if_neg h2] at h; exact br_f h2 h
theorem xw_hold (hi : i < 4) {post : SX → Prop} (h : post (k1, k2, k3, k4, k5, k6, k7, k8, k9, k10, k11, k12, k13, nc, pl, ol, gc, tn, ac, te, re, upd ho i (ab_h8 (ab_pas pl (te i) (re i))), er, se, lo, de, qx, mi, fx, dr, tk, bd, rl, ll, td, cr, cs, si, sc, sd, ss, pc, px, nx, dx, bc, kx, bx, tx)) : wpX_holdByCondition post (k1, k2, k3, k4, k5, k6, k7, k8, k9, k10, k11, k12, k13, nc, pl, ol, gc, tn, ac, te, re, ho, er, se, lo, de, qx, mi, fx, dr, tk, bd, rl, ll, td, cr, cs, si, sc, sd, ss, pc, px, nx, dx, bc, kx, bx, tx) (nI i) := by
  simp only [wpX_holdByCondition]
  refine xw_pas hi ?_
  simp only [ab_cl hi, ab_in4 hi, true_and, forall_eq]
  unfold ab_h8 at h
  by_cases h1 : ab_pas pl (te i) (re i) = 0
  · rw [if_pos h1] at h; exact br_t h1 h
  · rw [if_neg h1] at h; exact br_f h1 h
theorem xw_wait (hi : i < 4) {q : Int32} {post : SX → Prop} (h : post (k1, k2, k3, k4, k5, k6, k7, k8, k9, k10, k11, k12, k13, nc, pl, ol, gc, tn, upd ac i 5, te, re, ho, er, se, lo, de, upd qx i q, mi, fx, dr, tk, bd, rl, ll, td, cr, cs, si, sc, sd, ss, pc, px, nx, dx, bc, kx, bx, tx)) : wpX_waitWith post (k1, k2, k3, k4, k5, k6, k7, k8, k9, k10, k11, k12, k13, nc, pl, ol, gc, tn, ac, te, re, ho, er, se, lo, de, qx, mi, fx, dr, tk, bd, rl, ll, td, cr, cs, si, sc, sd, ss, pc, px, nx, dx, bc, kx, bx, tx) (nI i) q := by
  simp only [wpX_waitWith, ab_cl hi, ab_in4 hi, true_and, forall_eq]
  exact h
theorem xw_raise (hi : i < 4) {q : Int32} {post : SX → Prop} (h : post (k1, k2, k3, k4, k5, k6, k7, k8, k9, k10, k11, k12, k13, nc, pl, ol, gc, tn, ac, te, upd re i (ab_inc (re i) q), ho, er, se, lo, de, qx, mi, fx, dr, tk, bd, rl, ll, td, cr, cs, si, sc, sd, ss, pc, px, nx, dx, bc, kx, bx, tx)) : wpX_raiseRec post (k1, k2, k3, k4, k5, k6, k7, k8, k9, k10, k11, k12, k13, nc, pl, ol, gc, tn, ac, te, re, ho, er, se, lo, de, qx, mi, fx, dr, tk, bd, rl, ll, td, cr, cs, si, sc, sd, ss, pc, px, nx, dx, bc, kx, bx, tx) (nI i) q := by
  simp only [wpX_raiseRec, ab_cl hi, ab_in4 hi, true_and, forall_eq]
  unfold ab_inc at h
  by_cases h1 : re i + q ≤ 255
  · rw [if_pos h1] at h; exact br_t h1 h
  · rw [if_neg h1] at h; exact br_f h1 h
theorem xw_serr33 (hi : i < 4) {w T : Int32} {post : SX → Prop} (hT : te i = T)
    (h1 : T < ol → w = 0 → post (k1, k2, k3, k4, k5, k6, k7, k8, k9, k10, k11, k12, k13, nc, pl, ol, gc, tn, upd ac i 3, te, re, upd ho i (ab_h8 (ab_pas pl T (re i))), er, se, lo, de, qx, mi, upd fx i 7, dr, tk, bd, rl, ll, td, cr, cs, si, sc, sd, ss, pc, px, nx, dx, bc, kx, bx, tx))
    (h2 : T < ol → ¬ w = 0 → post (k1, k2, k3, k4, k5, k6, k7, k8, k9, k10, k11, k12, k13, nc, pl, ol, gc, tn, upd ac i 5, te, re, upd ho i (ab_h8 (ab_pas pl T (re i))), er, se, lo, de, upd qx i 0, mi, fx, dr, tk, bd, rl, ll, td, cr, cs, si, sc, sd, ss, pc, px, nx, dx, bc, kx, bx, tx))
    (h3 : ¬ T < ol → post (k1, k2, k3, k4, k5, k6, k7, k8, k9, k10, k11, k12, k13, nc, pl, ol, gc, tn, upd ac i 6, te, re, upd ho i 0, er, se, lo, de, upd qx i 0, upd mi i gc, fx, dr, tk, bd, rl, ll, td, cr, cs, si, sc, sd, ss, pc, px, nx, dx, bc, kx, bx, tx)) : wX_senderError_33 post (nI i) w k1 k2 k3 k4 k5 k6 k7 k8 k9 k10 k11 k12 k13 nc pl ol gc tn ac te re ho er se lo de qx mi fx dr tk bd rl ll td cr cs si sc sd ss pc px nx dx bc kx bx tx := by
  subst hT
  simp only [wX_senderError_33, ab_cl hi, ab_in4 hi, true_and, forall_eq]
  refine br_c (fun c => ?_) (fun c => h3 c)
  refine xw_hold hi ?_
  simp only [ab_cl hi, ab_in4 hi, true_and, forall_eq]
  refine br_c (fun z => h1 c z) (fun z => ?_)
  exact xw_wait hi (h2 c z)
theorem xw_serr (hi : i < 4) {kd w T : Int32} {post : SX → Prop} (hw : ab_pas pl (te i) (re i) = w) (hT : ab_T kd w (te i) = T)
    (h1 : T < ol → w = 0 → post (k1, k2, k3, k4, k5, k6, k7, k8, k9, k10, k11, k12, k13, nc, pl, ol, gc, tn, upd ac i 3, upd te i T, re, upd ho i (ab_h8 (ab_pas pl T (re i))), upd er i kd, se, lo, de, qx, mi, upd fx i 7, dr, tk, bd, rl, ll, td, cr, cs, si, sc, sd, ss, pc, px, nx, dx, bc, kx, bx, tx))
    (h2 : T < ol → ¬ w = 0 → post (k1, k2, k3, k4, k5, k6, k7, k8, k9, k10, k11, k12, k13, nc, pl, ol, gc, tn, upd ac i 5, upd te i T, re, upd ho i (ab_h8 (ab_pas pl T (re i))), upd er i kd, se, lo, de, upd qx i 0, mi, fx, dr, tk, bd, rl, ll, td, cr, cs, si, sc, sd, ss, pc, px, nx, dx, bc, kx, bx, tx))
    (h3 : ¬ T < ol → post (k1, k2, k3, k4, k5, k6, k7, k8, k9, k10, k11, k12, k13, nc, pl, ol, gc, tn, upd ac i 6, upd te i T, re, upd ho i 0, upd er i kd, se, lo, de, upd qx i 0, upd mi i gc, fx, dr, tk, bd, rl, ll, td, cr, cs, si, sc, sd, ss, pc, px, nx, dx, bc, kx, bx, tx)) : wpX_senderError post (k1, k2, k3, k4, k5, k6, k7, k8, k9, k10, k11, k12, k13, nc, pl, ol, gc, tn, ac, te, re, ho, er, se, lo, de, qx, mi, fx, dr, tk, bd, rl, ll, td, cr, cs, si, sc, sd, ss, pc, px, nx, dx, bc, kx, bx, tx) (nI i) kd := by
  simp only [wpX_senderError]
  refine xw_pas hi ?_
  simp only [ab_cl hi, ab_in4 hi, true_and, forall_eq, hw]
  unfold ab_T at hT
  by_cases hk : kd = 5 ∧ ¬ w = 0
  · rw [if_pos hk] at hT
    subst hT
    rw [ab_up te i] at h1 h2 h3
    exact br_t hk.1 (br_f hk.2 (xw_serr33 hi rfl h1 h2 h3))
  · rw [if_neg hk] at hT
    subst hT
    have key : wX_senderError_22 post (nI i) w k1 k2 k3 k4 k5 k6 k7 k8 k9 k10 k11 k12 k13 nc pl ol gc tn ac te re ho (upd er i kd) se lo de qx mi fx dr tk bd rl ll td cr cs si sc sd ss pc px nx dx bc kx bx tx := by
      simp only [wX_senderError_22, ab_cl hi, ab_in4 hi, true_and, forall_eq]
      exact xw_serr33 hi pk_us h1 h2 h3
    refine br_c (fun e => ?_) (fun _ => key)
    by_cases hw0 : w = 0
    · exact br_t hw0 key
    · exact absurd ⟨e, hw0⟩ hk
theorem xw_rerr (hi : i < 4) {kd w : Int32} {post : SX → Prop} (hw : ab_pas pl (te i) (re i) = w)
    (h1 : w = 0 → post (k1, k2, k3, k4, k5, k6, k7, k8, k9, k10, k11, k12, k13, nc, pl, ol, gc, tn, upd ac i 4, te, upd re i (ab_inc (re i) 1), ho, upd er i kd, se, lo, de, qx, mi, upd fx i 7, dr, tk, bd, rl, ll, td, cr, cs, si, sc, sd, ss, pc, px, nx, dx, bc, kx, bx, tx))
    (h2 : ¬ w = 0 → post (k1, k2, k3, k4, k5, k6, k7, k8, k9, k10, k11, k12, k13, nc, pl, ol, gc, tn, upd ac i 5, te, upd re i (ab_inc (re i) 1), ho, upd er i kd, se, lo, de, upd qx i 0, mi, fx, dr, tk, bd, rl, ll, td, cr, cs, si, sc, sd, ss, pc, px, nx, dx, bc, kx, bx, tx)) : wpX_receiverError post (k1, k2, k3, k4, k5, k6, k7, k8, k9, k10, k11, k12, k13, nc, pl, ol, gc, tn, ac, te, re, ho, er, se, lo, de, qx, mi, fx, dr, tk, bd, rl, ll, td, cr, cs, si, sc, sd, ss, pc, px, nx, dx, bc, kx, bx, tx) (nI i) kd := by
  simp only [wpX_receiverError]
  refine xw_pas hi ?_
  simp only [ab_cl hi, ab_in4 hi, true_and, forall_eq, hw]
  refine xw_raise hi ?_
  simp only [ab_cl hi, ab_in4 hi, true_and, forall_eq]
  refine br_c (fun z => h1 z) (fun z => ?_)
  exact xw_wait hi (h2 z)
end
end
section
/-! X's walks: the frame machine -/
section
variable {k1 k2 k3 k4 k5 k6 k7 k8 k9 k10 k11 k12 k13 nc pl ol gc tn : Int32} {ac te re ho er se lo de qx mi fx dr tk bd rl ll td cr cs si sc sd ss pc px nx dx bc kx bx tx : Nat → Int32} {i : Nat}
theorem xw_begin (hi : i < 4) {post : SX → Prop} (h : post (k1, k2, k3, k4, k5, k6, k7, k8, k9, k10, k11, k12, k13, nc, pl, ol, gc, tn, ac, te, re, ho, er, se, lo, de, qx, mi, fx, dr, upd tk i 0, upd bd i 0, upd rl i 0, upd ll i 1, upd td i (-1), upd cr i 0, upd cs i 0, upd si i 0, upd sc i 0, upd sd i 0, ss, pc, px, nx, dx, bc, kx, bx, tx)) : wpX_beginFrame post (k1, k2, k3, k4, k5, k6, k7, k8, k9, k10, k11, k12, k13, nc, pl, ol, gc, tn, ac, te, re, ho, er, se, lo, de, qx, mi, fx, dr, tk, bd, rl, ll, td, cr, cs, si, sc, sd, ss, pc, px, nx, dx, bc, kx, bx, tx) (nI i) := by
  simp only [wpX_beginFrame, ab_cl hi, ab_in4 hi, true_and, forall_eq]
  exact h
theorem xw_stepc (hi : i < 4) {s : Int32} {post : SX → Prop} (h : post (k1, k2, k3, k4, k5, k6, k7, k8, k9, k10, k11, k12, k13, nc, pl, ol, gc, tn, ac, te, re, ho, er, se, lo, de, qx, mi, fx, dr, tk, bd, rl, ll, td, upd cr i (ab_cst (cr i) s), cs, si, sc, sd, ss, pc, px, nx, dx, bc, kx, bx, tx)) : wpX_stepChecksum post (k1, k2, k3, k4, k5, k6, k7, k8, k9, k10, k11, k12, k13, nc, pl, ol, gc, tn, ac, te, re, ho, er, se, lo, de, qx, mi, fx, dr, tk, bd, rl, ll, td, cr, cs, si, sc, sd, ss, pc, px, nx, dx, bc, kx, bx, tx) (nI i) s := by
  simp only [wpX_stepChecksum, ab_cl hi, ab_in4 hi, true_and, forall_eq]
  have e : (((cr i).toUInt32 >>> ((14 : Int32).toUInt32 &&& Int32.toUInt32 31)).toInt32 &&& 1) = ((cr i >>> ((14 : Int32) &&& 31)) &&& 1) := ab_shr (cr i) (k := 14) (by omega)
  rw [e]
  unfold ab_cst at h
  by_cases h1 : s ^^^ (((cr i) >>> ((14 : Int32) &&& 31)) &&& 1) = 1
  · rw [if_pos h1] at h; exact br_t h1 h
  · rw [if_neg h1] at h; exact br_f h1 h
theorem xw_slen (hi : i < 4) {post : Int32 → Prop} (h : post (ab_lI (sc i))) : wpX_seenLength post (k1, k2, k3, k4, k5, k6, k7, k8, k9, k10, k11, k12, k13, nc, pl, ol, gc, tn, ac, te, re, ho, er, se, lo, de, qx, mi, fx, dr, tk, bd, rl, ll, td, cr, cs, si, sc, sd, ss, pc, px, nx, dx, bc, kx, bx, tx) (nI i) := by
  simp only [wpX_seenLength, ab_cl hi, ab_in4 hi, true_and, forall_eq]
  unfold ab_lI at h
  by_cases h1 : sc i ≤ 4
  · rw [if_pos h1] at h; exact br_t h1 h
  · rw [if_neg h1] at h; exact br_f h1 h
theorem xw_tbb74 (hi : i < 4) {s : Int32} {post : SX → Prop} (h : post (k1, k2, k3, k4, k5, k6, k7, k8, k9, k10, k11, k12, k13, nc, pl, ol, gc, tn, ac, te, re, ho, er, se, lo, de, qx, mi, fx, dr, tk, bd, rl, ll, td, upd cr i (ab_cst (cr i) s), cs, si, sc, sd, ss, pc, px, nx, dx, bc, kx, bx, tx)) : wX_takeBodyBit_74 post (nI i) s k1 k2 k3 k4 k5 k6 k7 k8 k9 k10 k11 k12 k13 nc pl ol gc tn ac te re ho er se lo de qx mi fx dr tk bd rl ll td cr cs si sc sd ss pc px nx dx bc kx bx tx := by
  simp only [wX_takeBodyBit_74]
  exact xw_stepc hi h
theorem xw_tbb (hi : i < 4) {k : Nat} (hk : bd i = nI k) (hkb : k < 1000) {s : Int32} {m : Int32 × Int32 × Int32 × Int32 × Int32} (hm : ab_ms k (cr i, cs i, si i, sc i, sd i) s = m) {post : SX → Prop}
    (h : post (k1, k2, k3, k4, k5, k6, k7, k8, k9, k10, k11, k12, k13, nc, pl, ol, gc, tn, ac, te, re, ho, er, se, lo, de, qx, mi, fx, dr, tk, upd bd i (nI (k + 1)), rl, ll, td, upd cr i m.1, upd cs i m.2.1, upd si i m.2.2.1, upd sc i m.2.2.2.1, upd sd i m.2.2.2.2, ss, pc, px, nx, dx, bc, kx, bx, tx)) : wpX_takeBodyBit post (k1, k2, k3, k4, k5, k6, k7, k8, k9, k10, k11, k12, k13, nc, pl, ol, gc, tn, ac, te, re, ho, er, se, lo, de, qx, mi, fx, dr, tk, bd, rl, ll, td, cr, cs, si, sc, sd, ss, pc, px, nx, dx, bc, kx, bx, tx) (nI i) s := by
  unfold ab_ms at hm
  simp only [wpX_takeBodyBit, ab_cl hi, ab_in4 hi, true_and, forall_eq, hk, nI_1]
  by_cases h19 : k < 19
  · rw [if_pos h19] at hm
    refine br_f (nI_ge (b := 19) h19 (by omega)) ?_
    by_cases h1 : k < 1
    · refine br_t (nI_lt (b := 1) h1 (by omega)) ?_
      simp only [wX_takeBodyBit_52, ab_cl hi, ab_in4 hi, true_and, forall_eq]
      refine br_t (nI_lt (b := 15) (by omega) (by omega)) ?_
      rw [if_neg (by omega), if_neg (by omega)] at hm
      subst hm
      simp only [ab_up] at h
      exact xw_tbb74 hi h
    · refine br_f (nI_nlt (b := 1) (by omega) (by omega)) ?_
      by_cases h11 : 11 < k
      · refine br_t (nI_lt (a := 11) h11 (by omega)) ?_
        simp only [wX_takeBodyBit_52, ab_cl hi, ab_in4 hi, true_and, forall_eq]
        rw [if_neg (show ¬ (1 ≤ k ∧ k ≤ 11) by omega)] at hm
        by_cases h15 : k < 15
        · refine br_t (nI_lt (b := 15) h15 (by omega)) ?_
          rw [if_neg (by omega)] at hm
          subst hm
          simp only [ab_up] at h
          exact xw_tbb74 hi h
        · refine br_f (nI_nlt (b := 15) (by omega) (by omega)) ?_
          rw [if_pos (by omega)] at hm
          subst hm
          simp only [ab_up] at h
          exact xw_tbb74 hi h
      · refine br_f (nI_nlt (a := 11) (by omega) (by omega)) ?_
        rw [if_pos (show 1 ≤ k ∧ k ≤ 11 by omega), if_neg (by omega)] at hm
        subst hm
        simp only [ab_up] at h
        exact xw_tbb74 hi h
  · rw [if_neg h19] at hm
    refine br_t (nI_le (a := 19) (by omega) (by omega)) ?_
    refine xw_slen hi ?_
    by_cases hd : 19 + 8 * ab_lI (sc i) ≤ nI k
    · rw [if_pos hd] at hm
      subst hm
      simp only [ab_up] at h
      exact br_t hd h
    · rw [if_neg hd] at hm
      subst hm
      simp only [ab_up] at h
      refine br_f hd ?_
      exact xw_stepc hi h
theorem xw_abs79 (hi : i < 4) {k r : Nat} (hk : bd i = nI k) (hkb : k < 1000) (hr : rl i = nI r) (hrb : r < 1000) {post : Int32 → SX → Prop} {t : Int32}
    (ht : (if r < 5 ∧ 34 ≤ k ∧ nI k = 34 + 8 * ab_lI (sc i) then 0 else td i) = t) (h : post 1 (k1, k2, k3, k4, k5, k6, k7, k8, k9, k10, k11, k12, k13, nc, pl, ol, gc, tn, ac, te, re, ho, er, se, lo, de, qx, mi, fx, dr, tk, bd, rl, ll, upd td i t, cr, cs, si, sc, sd, ss, pc, px, nx, dx, bc, kx, bx, tx)) : wX_absorb_79 post (nI i) k1 k2 k3 k4 k5 k6 k7 k8 k9 k10 k11 k12 k13 nc pl ol gc tn ac te re ho er se lo de qx mi fx dr tk bd rl ll td cr cs si sc sd ss pc px nx dx bc kx bx tx := by
  simp only [wX_absorb_79]
  refine xw_slen hi ?_
  simp only [ab_cl hi, ab_in4 hi, true_and, forall_eq, hk, hr]
  by_cases h34 : k < 34
  · rw [if_neg (fun z => by omega)] at ht
    subst ht
    rw [ab_up] at h
    exact br_t (nI_lt (b := 34) h34 (by omega)) h
  · refine br_f (nI_nlt (b := 34) (by omega) (by omega)) ?_
    by_cases he : nI k = 34 + 8 * ab_lI (sc i)
    · refine br_t he ?_
      by_cases h5 : r < 5
      · rw [if_pos ⟨h5, by omega, he⟩] at ht
        subst ht
        exact br_f (nI_ge (b := 5) h5 (by omega)) h
      · rw [if_neg (fun z => h5 z.1)] at ht
        subst ht
        rw [ab_up] at h
        exact br_t (nI_le (a := 5) (by omega) (by omega)) h
    · rw [if_neg (fun z => he z.2.2)] at ht
      subst ht
      rw [ab_up] at h
      exact br_f he h
theorem xw_abs62 (hi : i < 4) {k r : Nat} (hk : bd i = nI k) (hkb : k < 500) {r' : Nat} (hr : rl i = nI r') (hrb : r' < 1000) {s z : Int32} (hz : z = 0 ↔ ¬ 5 ≤ r) {post : Int32 → SX → Prop} {t : Int32} {k' : Nat} {m : Int32 × Int32 × Int32 × Int32 × Int32}
    (hk' : (if 5 ≤ r then k else k + 1) = k') (hm : (if 5 ≤ r then (cr i, cs i, si i, sc i, sd i) else ab_ms k (cr i, cs i, si i, sc i, sd i) s) = m)
    (ht : (if r' < 5 ∧ 34 ≤ k' ∧ nI k' = 34 + 8 * ab_lI m.2.2.2.1 then 0 else td i) = t)
    (h : post 1 (k1, k2, k3, k4, k5, k6, k7, k8, k9, k10, k11, k12, k13, nc, pl, ol, gc, tn, ac, te, re, ho, er, se, lo, de, qx, mi, fx, dr, tk, upd bd i (nI k'), rl, upd ll i s, upd td i t, upd cr i m.1, upd cs i m.2.1, upd si i m.2.2.1, upd sc i m.2.2.2.1, upd sd i m.2.2.2.2, ss, pc, px, nx, dx, bc, kx, bx, tx)) : wX_absorb_62 post (nI i) s z k1 k2 k3 k4 k5 k6 k7 k8 k9 k10 k11 k12 k13 nc pl ol gc tn ac te re ho er se lo de qx mi fx dr tk bd rl ll td cr cs si sc sd ss pc px nx dx bc kx bx tx := by
  simp only [wX_absorb_62, ab_cl hi, ab_in4 hi, true_and, forall_eq]
  by_cases h5 : 5 ≤ r
  · rw [if_pos h5] at hk' hm
    subst hk' hm
    refine br_f (fun e => hz.mp e h5) ?_
    rw [← hk] at h
    simp only [ab_up] at h
    exact xw_abs79 hi hk (by omega) hr hrb ht h
  · rw [if_neg h5] at hk' hm
    subst hk'
    refine br_t (hz.mpr h5) ?_
    refine xw_tbb hi hk (by omega) hm ?_
    show wX_absorb_79 post (nI i) k1 k2 k3 k4 k5 k6 k7 k8 k9 k10 k11 k12 k13 nc pl ol gc tn ac te re ho er se lo de qx mi fx dr tk (upd bd i (nI (k + 1))) rl (upd ll i s) td (upd cr i m.1) (upd cs i m.2.1) (upd si i m.2.2.1) (upd sc i m.2.2.2.1) (upd sd i m.2.2.2.2) ss pc px nx dx bc kx bx tx
    refine xw_abs79 hi (k := k + 1) (r := r') (t := t) pk_us (by omega) hr hrb ?_ h
    rw [pk_us]
    exact ht
theorem xw_abs (hi : i < 4) {k r : Nat} (hk : bd i = nI k) (hkb : k < 500) (hr : rl i = nI r) (hrb : r < 500) {s : Int32} (hq : 5 ≤ r → ¬ s = ll i) {post : Int32 → SX → Prop} {t : Int32} {k' r' : Nat} {m : Int32 × Int32 × Int32 × Int32 × Int32}
    (hk' : (if 5 ≤ r then k else k + 1) = k') (hr' : (if s = ll i then r + 1 else 1) = r') (hm : (if 5 ≤ r then (cr i, cs i, si i, sc i, sd i) else ab_ms k (cr i, cs i, si i, sc i, sd i) s) = m)
    (ht : (if r' < 5 ∧ 34 ≤ k' ∧ nI k' = 34 + 8 * ab_lI m.2.2.2.1 then 0 else td i) = t)
    (h : post 1 (k1, k2, k3, k4, k5, k6, k7, k8, k9, k10, k11, k12, k13, nc, pl, ol, gc, tn, ac, te, re, ho, er, se, lo, de, qx, mi, fx, dr, tk, upd bd i (nI k'), upd rl i (nI r'), upd ll i s, upd td i t, upd cr i m.1, upd cs i m.2.1, upd si i m.2.2.1, upd sc i m.2.2.2.1, upd sd i m.2.2.2.2, ss, pc, px, nx, dx, bc, kx, bx, tx)) : wpX_absorb post (k1, k2, k3, k4, k5, k6, k7, k8, k9, k10, k11, k12, k13, nc, pl, ol, gc, tn, ac, te, re, ho, er, se, lo, de, qx, mi, fx, dr, tk, bd, rl, ll, td, cr, cs, si, sc, sd, ss, pc, px, nx, dx, bc, kx, bx, tx) (nI i) s := by
  have key : ∀ z : Int32, (z = 0 ↔ ¬ 5 ≤ r) → wX_absorb_32 post (nI i) s z k1 k2 k3 k4 k5 k6 k7 k8 k9 k10 k11 k12 k13 nc pl ol gc tn ac te re ho er se lo de qx mi fx dr tk bd rl ll td cr cs si sc sd ss pc px nx dx bc kx bx tx := by
    intro z hz
    simp only [wX_absorb_32, ab_cl hi, ab_in4 hi, true_and, forall_eq, hr, nI_1]
    by_cases hs : s = ll i
    · rw [if_pos hs] at hr'
      subst hr'
      refine br_t hs ?_
      exact xw_abs62 hi (r := r) hk hkb pk_us (by omega) hz hk' hm ht h
    · rw [if_neg hs] at hr'
      subst hr'
      refine br_f hs ?_
      exact xw_abs62 hi (r := r) (r' := 1) hk hkb pk_us (by omega) hz hk' hm ht h
  simp only [wpX_absorb, ab_cl hi, ab_in4 hi, true_and, forall_eq, hr]
  by_cases h5 : 5 ≤ r
  · refine br_f (nI_nlt (b := 5) h5 (by omega)) ?_
    simp only [wX_absorb_15, ab_cl hi, ab_in4 hi, true_and, forall_eq]
    refine br_f (by decide) ?_
    exact br_f (hq h5) (key 1 ⟨fun e => absurd e (by decide), fun e => absurd h5 e⟩)
  · refine br_t (nI_lt (b := 5) (by omega) (by omega)) ?_
    simp only [wX_absorb_15, ab_cl hi, ab_in4 hi, true_and, forall_eq]
    exact br_t trivial (key 0 ⟨fun _ => h5, fun _ => rfl⟩)
theorem xw_abs_bad (hi : i < 4) {r : Nat} (hr : rl i = nI r) (hrb : r < 500) (h5 : 5 ≤ r) {s : Int32} (hq : s = ll i) {post : Int32 → SX → Prop} (h : post 0 (k1, k2, k3, k4, k5, k6, k7, k8, k9, k10, k11, k12, k13, nc, pl, ol, gc, tn, ac, te, re, ho, er, se, lo, de, qx, mi, fx, dr, tk, bd, rl, ll, td, cr, cs, si, sc, sd, ss, pc, px, nx, dx, bc, kx, bx, tx)) : wpX_absorb post (k1, k2, k3, k4, k5, k6, k7, k8, k9, k10, k11, k12, k13, nc, pl, ol, gc, tn, ac, te, re, ho, er, se, lo, de, qx, mi, fx, dr, tk, bd, rl, ll, td, cr, cs, si, sc, sd, ss, pc, px, nx, dx, bc, kx, bx, tx) (nI i) s := by
  simp only [wpX_absorb, ab_cl hi, ab_in4 hi, true_and, forall_eq, hr]
  refine br_f (nI_nlt (b := 5) h5 (by omega)) ?_
  simp only [wX_absorb_15, ab_cl hi, ab_in4 hi, true_and, forall_eq]
  exact br_f (by decide) (br_t hq h)
theorem xw_arb (hi : i < 4) {k r : Nat} (hk : bd i = nI k) (hkb : k < 500) (hr : rl i = nI r) (hrb : r < 500) {post : Int32 → Prop} (h : post (if (if 5 ≤ r then k - 1 else k) ≤ 11 then 1 else 0)) (hk1 : 5 ≤ r → 1 ≤ k) : wpX_inArbitration post (k1, k2, k3, k4, k5, k6, k7, k8, k9, k10, k11, k12, k13, nc, pl, ol, gc, tn, ac, te, re, ho, er, se, lo, de, qx, mi, fx, dr, tk, bd, rl, ll, td, cr, cs, si, sc, sd, ss, pc, px, nx, dx, bc, kx, bx, tx) (nI i) := by
  simp only [wpX_inArbitration, ab_cl hi, ab_in4 hi, true_and, forall_eq, hr, hk]
  by_cases h5 : 5 ≤ r
  · rw [if_pos h5] at h
    have := hk1 h5
    refine br_f (nI_nlt (b := 5) h5 (by omega)) ?_
    by_cases hc : 12 < k
    · rw [if_neg (by omega)] at h; exact br_t (nI_lt (a := 12) hc (by omega)) h
    · rw [if_pos (by omega)] at h; exact br_f (nI_nlt (a := 12) (by omega) (by omega)) h
  · rw [if_neg h5] at h
    refine br_t (nI_lt (b := 5) (by omega) (by omega)) ?_
    by_cases hc : 11 < k
    · rw [if_neg (by omega)] at h; exact br_t (nI_lt (a := 11) hc (by omega)) h
    · rw [if_pos (by omega)] at h; exact br_f (nI_nlt (a := 11) (by omega) (by omega)) h
end
end
section
/-! X's walks: slots, ends of frames, levels, the trace -/
theorem ab_m3 (i : Nat) : nI i * (3 : Int32) = nI (i * 3) := pk_mul i 3
theorem ab_m8 (i : Nat) : nI i * (8 : Int32) = nI (i * 8) := pk_mul i 8
theorem ab_m128 (i : Nat) : nI i * (128 : Int32) = nI (i * 128) := pk_mul i 128
def ab_rte (t : Nat) (d s c e : Int32) : Int32 := if t = 1 then (if d = 0 ∧ s = 1 then 1 else 0) else if t = 2 ∧ ¬ c = e then 4 else if s = 0 then 3 else 0
def ab_acc (pl r : Int32) : Int32 := if r ≤ 0 then r else if pl ≤ r then pl - 1 else r - 1
def ab_dec (t : Int32) : Int32 := if t ≤ 0 then t else t - 1
/-- n cells from x on take the next cell's content -/
def ab_sf (a : Nat → Int32) (x : Nat) : Nat → (Nat → Int32)
  | 0 => a
  | n + 1 => ab_sf (upd a x (a (x + 1))) (x + 1) n
theorem ab_sf_at (n : Nat) : ∀ (a : Nat → Int32) (x y : Nat), ab_sf a x n y = if x ≤ y ∧ y < x + n then a (y + 1) else a y := by
  induction n with
  | zero => intro a x y; rw [if_neg (by omega)]; rfl
  | succ n ih =>
    intro a x y
    show ab_sf (upd a x (a (x + 1))) (x + 1) n y = _
    rw [ih]
    by_cases h : x + 1 ≤ y ∧ y < x + 1 + n
    · rw [if_pos h, if_pos (by omega), pk_un (by omega)]
    · rw [if_neg h]
      by_cases e : y = x
      · subst e; rw [pk_us, if_pos (by omega)]
      · rw [pk_un e, if_neg (by omega)]
section
variable {k1 k2 k3 k4 k5 k6 k7 k8 k9 k10 k11 k12 k13 nc pl ol gc tn : Int32} {ac te re ho er se lo de qx mi fx dr tk bd rl ll td cr cs si sc sd ss pc px nx dx bc kx bx tx : Nat → Int32} {i : Nat}
theorem xw_ch9s (hi : i < 4) {q b k n : Nat} (hq : pc i = nI q) (hq3 : q ≤ 3) (hk3 : k < 3) (hb : b < 3) {post : Int32 → Prop}
    (h : wX_chooseSlot_9 post (nI i) (nI (i * 3)) k1 k2 k3 k4 k5 k6 k7 k8 k9 k10 k11 k12 k13 nc pl ol gc tn ac te re ho er se lo de qx mi fx dr tk bd rl ll td cr cs si sc sd ss pc px nx dx bc kx bx tx n (nI (if k < q ∧ ab_v 3 px i k < ab_v 3 px i b then k else b)) (nI (k + 1))) : wX_chooseSlot_9 post (nI i) (nI (i * 3)) k1 k2 k3 k4 k5 k6 k7 k8 k9 k10 k11 k12 k13 nc pl ol gc tn ac te re ho er se lo de qx mi fx dr tk bd rl ll td cr cs si sc sd ss pc px nx dx bc kx bx tx (n + 1) (nI b) (nI k) := by
  simp only [wX_chooseSlot_9, ab_cl hi, ab_in4 hi, true_and, forall_eq, hq, nI_add, nI_1]
  refine br_f (nI_ge (b := 3) hk3 (by omega)) ?_
  by_cases c : q ≤ k
  · rw [if_neg (by omega)] at h; exact br_t (nI_le c (by omega)) h
  · refine br_f (nI_ge (by omega) (by omega)) ?_
    simp only [nI_clamp (show i * 3 + k < 2 ^ 31 by omega), nI_clamp (show i * 3 + b < 2 ^ 31 by omega)]
    refine ⟨vp_in_nI (by omega) (by omega), vp_in_nI (by omega) (by omega), ?_⟩
    rw [ab_v_at hk3, ab_v_at hb] at h
    by_cases d : px (i * 3 + b) ≤ px (i * 3 + k)
    · rw [if_neg (fun z => absurd d (Int32.not_le.mpr z.2))] at h; exact br_t d h
    · rw [if_pos ⟨by omega, Int32.not_le.mp d⟩] at h; exact br_f d h
theorem xw_choose (hi : i < 4) {q : Nat} (hq : pc i = nI q) (hq3 : q ≤ 3) {post : Int32 → Prop} (h : post (nI (ab_ch q (ab_v 3 px i)))) : wpX_chooseSlot post (k1, k2, k3, k4, k5, k6, k7, k8, k9, k10, k11, k12, k13, nc, pl, ol, gc, tn, ac, te, re, ho, er, se, lo, de, qx, mi, fx, dr, tk, bd, rl, ll, td, cr, cs, si, sc, sd, ss, pc, px, nx, dx, bc, kx, bx, tx) (nI i) := by
  simp only [wpX_chooseSlot, forall_eq, ab_m3]
  refine ⟨3, ?_⟩
  have h2 : wX_chooseSlot_9 post (nI i) (nI (i * 3)) k1 k2 k3 k4 k5 k6 k7 k8 k9 k10 k11 k12 k13 nc pl ol gc tn ac te re ho er se lo de qx mi fx dr tk bd rl ll td cr cs si sc sd ss pc px nx dx bc kx bx tx 3 (nI 0) (nI 1) := by
    refine xw_ch9s hi hq hq3 (by omega) (by omega) ?_
    refine xw_ch9s hi hq hq3 (by omega) (by split <;> omega) ?_
    simp only [wX_chooseSlot_9]
    exact br_t (nI_le (a := 3) (by omega) (by omega)) h
  exact h2
theorem xw_match (hi : i < 4) {post : Int32 → Prop} (h : post (if cr i = cs i then 1 else 0)) : wpX_checksumMatched post (k1, k2, k3, k4, k5, k6, k7, k8, k9, k10, k11, k12, k13, nc, pl, ol, gc, tn, ac, te, re, ho, er, se, lo, de, qx, mi, fx, dr, tk, bd, rl, ll, td, cr, cs, si, sc, sd, ss, pc, px, nx, dx, bc, kx, bx, tx) (nI i) := by
  simp only [wpX_checksumMatched, ab_cl hi, ab_in4 hi, true_and, forall_eq]
  by_cases e : cr i = cs i
  · rw [if_pos e] at h; exact br_t e h
  · rw [if_neg e] at h; exact br_f e h
theorem xw_rte (hi : i < 4) {t : Nat} (ht : td i = nI t) (htb : t < 100) {s : Int32} {post : Int32 → Prop} (h : post (ab_rte t (dr i) s (cr i) (cs i))) : wpX_receiverTailError post (k1, k2, k3, k4, k5, k6, k7, k8, k9, k10, k11, k12, k13, nc, pl, ol, gc, tn, ac, te, re, ho, er, se, lo, de, qx, mi, fx, dr, tk, bd, rl, ll, td, cr, cs, si, sc, sd, ss, pc, px, nx, dx, bc, kx, bx, tx) (nI i) s := by
  have k45 : ab_rte t (dr i) s (cr i) (cs i) = (if s = 0 then (3 : Int32) else 0) → wX_receiverTailError_45 post s (nI t) k1 k2 k3 k4 k5 k6 k7 k8 k9 k10 k11 k12 k13 nc pl ol gc tn ac te re ho er se lo de qx mi fx dr tk bd rl ll td cr cs si sc sd ss pc px nx dx bc kx bx tx := by
    intro e
    rw [e] at h
    simp only [wX_receiverTailError_45]
    refine br_f (nI_pos (by omega)) ?_
    by_cases z : s = 0
    · rw [if_pos z] at h; exact br_t z h
    · rw [if_neg z] at h; exact br_f z h
  simp only [wpX_receiverTailError, ab_cl hi, ab_in4 hi, true_and, forall_eq, ht]
  by_cases h1 : t = 1
  · unfold ab_rte at h
    rw [if_pos h1] at h
    subst h1
    refine br_t rfl ?_
    by_cases hd : dr i = 0
    · refine br_t hd ?_
      by_cases hs : s = 1
      · rw [if_pos ⟨hd, hs⟩] at h; exact br_t hs h
      · rw [if_neg (fun z => hs z.2)] at h; exact br_f hs h
    · rw [if_neg (fun z => hd z.1)] at h; exact br_f hd h
  · refine br_f (fun z => h1 ((nI_eq (b := 1) (by omega) (by omega)).mp z)) ?_
    by_cases h2 : t = 2
    · have e2 : nI t = 2 := congrArg nI h2
      refine br_t e2 ?_
      refine xw_match hi ?_
      by_cases e : cr i = cs i
      · rw [if_pos e]
        have hE : ab_rte t (dr i) s (cr i) (cs i) = (if s = 0 then (3 : Int32) else 0) := by
          unfold ab_rte
          rw [if_neg h1, if_neg (show ¬ (t = 2 ∧ ¬ cr i = cs i) from fun z => z.2 e)]
        exact br_f (by decide) (k45 hE)
      · rw [if_neg e]
        have hE : ab_rte t (dr i) s (cr i) (cs i) = 4 := by
          unfold ab_rte
          rw [if_neg h1, if_pos (show (t = 2 ∧ ¬ cr i = cs i) from ⟨h2, e⟩)]
        rw [hE] at h
        exact br_t rfl h
    · refine br_f (fun z => h2 ((nI_eq (b := 2) (by omega) (by omega)).mp z)) ?_
      have hE : ab_rte t (dr i) s (cr i) (cs i) = (if s = 0 then (3 : Int32) else 0) := by
        unfold ab_rte
        rw [if_neg h1, if_neg (show ¬ (t = 2 ∧ ¬ cr i = cs i) from fun z => h2 z.1)]
      exact k45 hE
theorem xw_acc75 (hi : i < 4) {P : Nat} (hP : pl = nI P) (hP0 : 1 ≤ P) (hP1 : P < 1000) {post : SX → Prop} (h : post (k1, k2, k3, k4, k5, k6, k7, k8, k9, k10, k11, k12, k13, nc, pl, ol, gc, tn, upd ac i 5, te, upd re i (ab_acc pl (re i)), ho, er, se, lo, de, upd qx i 7, mi, fx, dr, tk, bd, rl, ll, td, cr, cs, si, sc, sd, ss, pc, px, nx, dx, bc, kx, bx, tx)) : wX_frameAccepted_75 post (nI i) k1 k2 k3 k4 k5 k6 k7 k8 k9 k10 k11 k12 k13 nc pl ol gc tn ac te re ho er se lo de qx mi fx dr tk bd rl ll td cr cs si sc sd ss pc px nx dx bc kx bx tx := by
  have hp : ¬ pl ≤ 0 := by rw [hP]; exact nI_nle (by omega) (by omega)
  simp only [wX_frameAccepted_75, ab_cl hi, ab_in4 hi, true_and, forall_eq]
  unfold ab_acc at h
  by_cases c : re i ≤ pl
  · refine br_t c ?_
    simp only [wX_frameAccepted_98, ab_cl hi, ab_in4 hi, true_and, forall_eq]
    by_cases z : re i ≤ 0
    · rw [if_pos z, ab_up] at h
      refine br_t z ?_
      simp only [wX_frameAccepted_117]
      exact xw_wait hi h
    · rw [if_neg z] at h
      refine br_f z ?_
      simp only [wX_frameAccepted_117]
      refine xw_wait hi ?_
      by_cases e : pl ≤ re i
      · have e2 : pl - 1 = re i - 1 := by rw [Int32.le_antisymm e c]
        rw [if_pos e, e2] at h; exact h
      · rw [if_neg e] at h; exact h
  · refine br_f c ?_
    simp only [wX_frameAccepted_98, ab_cl hi, ab_in4 hi, true_and, forall_eq, pk_us]
    refine br_f hp ?_
    have c2 : pl ≤ re i := Int32.le_of_lt (Int32.not_le.mp c)
    have c3 : ¬ re i ≤ 0 := fun z => hp (Int32.le_trans c2 z)
    rw [if_neg c3, if_pos c2] at h
    simp only [ab_uu, wX_frameAccepted_117]
    exact xw_wait hi h
theorem xw_acc (hi : i < 4) {P : Nat} (hP : pl = nI P) (hP0 : 1 ≤ P) (hP1 : P < 1000) {c : Nat} (hc : bc i = nI c) (hc8 : c < 8) {post : SX → Prop}
    (h : post (k1, k2, k3, k4, k5, k6, k7, k8, k9, k10, k11, k12, k13, nc, pl, ol, gc, tn, upd ac i 5, te, upd re i (ab_acc pl (re i)), ho, er, se, lo, de, upd qx i 7, mi, fx, dr, tk, bd, rl, ll, td, cr, cs, si, sc, sd, ss, pc, px, nx, dx, upd bc i (nI (c + 1)), upd kx (i * 8 + c) (si i * 8 + ab_lI (sc i)), upd bx (i * 8 + c) (sd i), tx)) : wpX_frameAccepted post (k1, k2, k3, k4, k5, k6, k7, k8, k9, k10, k11, k12, k13, nc, pl, ol, gc, tn, ac, te, re, ho, er, se, lo, de, qx, mi, fx, dr, tk, bd, rl, ll, td, cr, cs, si, sc, sd, ss, pc, px, nx, dx, bc, kx, bx, tx) (nI i) := by
  simp only [wpX_frameAccepted, ab_cl hi, ab_in4 hi, true_and, forall_eq, hc, ab_m8, nI_add, nI_1, nI_clamp (show i * 8 + c < 2 ^ 31 by omega)]
  refine br_t (nI_lt (b := 8) hc8 (by omega)) ?_
  refine xw_slen hi ?_
  have hv : vp_in (nI (i * 8 + c)) 32 := vp_in_nI (by omega) (by omega)
  refine ⟨hv, hv, ?_⟩
  exact xw_acc75 hi hP hP0 hP1 h
theorem xw_acc_full (hi : i < 4) {P : Nat} (hP : pl = nI P) (hP0 : 1 ≤ P) (hP1 : P < 1000) {c : Nat} (hc : bc i = nI c) (hcb : c < 1000) (hc8 : ¬ c < 8) {post : SX → Prop}
    (h : post (k1, k2, k3, k4, k5, k6, k7, k8, k9, k10, k11, k12, k13, nc, pl, ol, gc, tn, upd ac i 5, te, upd re i (ab_acc pl (re i)), ho, er, se, upd lo i (lo i + 1), de, upd qx i 7, mi, fx, dr, tk, bd, rl, ll, td, cr, cs, si, sc, sd, ss, pc, px, nx, dx, bc, kx, bx, tx)) : wpX_frameAccepted post (k1, k2, k3, k4, k5, k6, k7, k8, k9, k10, k11, k12, k13, nc, pl, ol, gc, tn, ac, te, re, ho, er, se, lo, de, qx, mi, fx, dr, tk, bd, rl, ll, td, cr, cs, si, sc, sd, ss, pc, px, nx, dx, bc, kx, bx, tx) (nI i) := by
  simp only [wpX_frameAccepted, ab_cl hi, ab_in4 hi, true_and, forall_eq, hc]
  refine br_f (nI_nlt (b := 8) (by omega) (by omega)) ?_
  exact xw_acc75 hi hP hP0 hP1 h
theorem xw_rem7 (hi : i < 4) {post : SX → Prop} (d : Nat) : ∀ (px nx dx : Nat → Int32) (k n : Nat), k + d = 2 → d < n →
    post (k1, k2, k3, k4, k5, k6, k7, k8, k9, k10, k11, k12, k13, nc, pl, ol, gc, tn, ac, te, re, ho, er, se, lo, de, qx, mi, fx, dr, tk, bd, rl, ll, td, cr, cs, si, sc, sd, ss, upd pc i (pc i - 1), ab_sf px (i * 3 + k) d, ab_sf nx (i * 3 + k) d, ab_sf dx (i * 3 + k) d, bc, kx, bx, tx) → wX_removePending_7 post (nI i) (nI (i * 3)) k1 k2 k3 k4 k5 k6 k7 k8 k9 k10 k11 k12 k13 nc pl ol gc tn n (nI k) ac te re ho er se lo de qx mi fx dr tk bd rl ll td cr cs si sc sd ss pc px nx dx bc kx bx tx := by
  induction d with
  | zero =>
    intro px nx dx k n hk hn h
    obtain ⟨n, rfl⟩ : ∃ c, n = c + 1 := ⟨n - 1, by omega⟩
    simp only [wX_removePending_7, ab_cl hi, ab_in4 hi, true_and, forall_eq]
    exact br_t (nI_le (a := 2) (by omega) (by omega)) h
  | succ d ih =>
    intro px nx dx k n hk hn h
    obtain ⟨n, rfl⟩ : ∃ c, n = c + 1 := ⟨n - 1, by omega⟩
    simp only [wX_removePending_7, ab_cl hi, ab_in4 hi, true_and, forall_eq, nI_add, nI_1, nI_clamp (show i * 3 + k < 2 ^ 31 by omega), nI_clamp (show i * 3 + k + 1 < 2 ^ 31 by omega)]
    refine br_f (nI_ge (b := 2) (by omega) (by omega)) ?_
    have hv : vp_in (nI (i * 3 + k)) 12 := vp_in_nI (by omega) (by omega)
    have hv1 : vp_in (nI (i * 3 + k + 1)) 12 := vp_in_nI (by omega) (by omega)
    refine ⟨hv1, hv, hv1, hv, hv1, hv, ?_⟩
    exact ih _ _ _ (k + 1) n (by omega) (by omega) h
theorem xw_rem (hi : i < 4) {c : Nat} (hc3 : c ≤ 2) {post : SX → Prop} (h : post (k1, k2, k3, k4, k5, k6, k7, k8, k9, k10, k11, k12, k13, nc, pl, ol, gc, tn, ac, te, re, ho, er, se, lo, de, qx, mi, fx, dr, tk, bd, rl, ll, td, cr, cs, si, sc, sd, ss, upd pc i (pc i - 1), ab_sf px (i * 3 + c) (2 - c), ab_sf nx (i * 3 + c) (2 - c), ab_sf dx (i * 3 + c) (2 - c), bc, kx, bx, tx)) : wpX_removePending post (k1, k2, k3, k4, k5, k6, k7, k8, k9, k10, k11, k12, k13, nc, pl, ol, gc, tn, ac, te, re, ho, er, se, lo, de, qx, mi, fx, dr, tk, bd, rl, ll, td, cr, cs, si, sc, sd, ss, pc, px, nx, dx, bc, kx, bx, tx) (nI i) (nI c) := by
  simp only [wpX_removePending, forall_eq, ab_m3]
  exact ⟨3, xw_rem7 hi (2 - c) _ _ _ c 3 (by omega) (by omega) h⟩
theorem xw_sent19 (hi : i < 4) {c : Nat} (hc : ss i = nI c) (hc3 : c ≤ 2) {T : Int32} (hT : te i = T) {post : SX → Prop}
    (h : post (k1, k2, k3, k4, k5, k6, k7, k8, k9, k10, k11, k12, k13, nc, pl, ol, gc, tn, upd ac i 5, te, re, upd ho i (ab_h8 (ab_pas pl T (re i))), er, upd se i (se i + 1), lo, de, upd qx i 8, mi, fx, dr, tk, bd, rl, ll, td, cr, cs, si, sc, sd, ss, upd pc i (pc i - 1), ab_sf px (i * 3 + c) (2 - c), ab_sf nx (i * 3 + c) (2 - c), ab_sf dx (i * 3 + c) (2 - c), bc, kx, bx, tx)) : wX_frameSent_19 post (nI i) k1 k2 k3 k4 k5 k6 k7 k8 k9 k10 k11 k12 k13 nc pl ol gc tn ac te re ho er se lo de qx mi fx dr tk bd rl ll td cr cs si sc sd ss pc px nx dx bc kx bx tx := by
  subst hT
  simp only [wX_frameSent_19, ab_cl hi, ab_in4 hi, true_and, forall_eq, hc]
  refine xw_rem hi hc3 ?_
  dsimp only
  refine xw_hold hi ?_
  dsimp only
  exact xw_wait hi h
theorem xw_sent (hi : i < 4) {c : Nat} (hc : ss i = nI c) (hc3 : c ≤ 2) {T : Int32} (hT : ab_dec (te i) = T) {post : SX → Prop}
    (h : post (k1, k2, k3, k4, k5, k6, k7, k8, k9, k10, k11, k12, k13, nc, pl, ol, gc, tn, upd ac i 5, upd te i T, re, upd ho i (ab_h8 (ab_pas pl T (re i))), er, upd se i (se i + 1), lo, de, upd qx i 8, mi, fx, dr, tk, bd, rl, ll, td, cr, cs, si, sc, sd, ss, upd pc i (pc i - 1), ab_sf px (i * 3 + c) (2 - c), ab_sf nx (i * 3 + c) (2 - c), ab_sf dx (i * 3 + c) (2 - c), bc, kx, bx, tx)) : wpX_frameSent post (k1, k2, k3, k4, k5, k6, k7, k8, k9, k10, k11, k12, k13, nc, pl, ol, gc, tn, ac, te, re, ho, er, se, lo, de, qx, mi, fx, dr, tk, bd, rl, ll, td, cr, cs, si, sc, sd, ss, pc, px, nx, dx, bc, kx, bx, tx) (nI i) := by
  simp only [wpX_frameSent, ab_cl hi, ab_in4 hi, true_and, forall_eq]
  unfold ab_dec at hT
  by_cases z : te i ≤ 0
  · rw [if_pos z] at hT
    subst hT
    rw [ab_up te i] at h
    exact br_t z (xw_sent19 hi hc hc3 rfl h)
  · rw [if_neg z] at hT
    subst hT
    exact br_f z (xw_sent19 hi hc hc3 pk_us h)
theorem xw_nbb (hi : i < 4) {c k n : Nat} (hc : ss i = nI c) (hc3 : c < 3) (hk : bd i = nI k) (hn : nx (i * 3 + c) = nI n) (hn4 : n ≤ 4) (hk2 : k < 34 + 8 * n)
    (hcr : 19 + 8 * n ≤ k → cr i = ab_crc (ab_Fh (px (i * 3 + c)) (dx (i * 3 + c)) n) (19 + 8 * n)) {post : Int32 → Prop} (h : post (ab_F (px (i * 3 + c)) (dx (i * 3 + c)) n k)) : wpX_nextBodyBit post (k1, k2, k3, k4, k5, k6, k7, k8, k9, k10, k11, k12, k13, nc, pl, ol, gc, tn, ac, te, re, ho, er, se, lo, de, qx, mi, fx, dr, tk, bd, rl, ll, td, cr, cs, si, sc, sd, ss, pc, px, nx, dx, bc, kx, bx, tx) (nI i) := by
  have hv : vp_in (nI (i * 3 + c)) 12 := vp_in_nI (by omega) (by omega)
  simp only [wpX_nextBodyBit, ab_cl hi, ab_in4 hi, true_and, forall_eq, hc, hk, ab_m3, nI_add, nI_clamp (show i * 3 + c < 2 ^ 31 by omega), hn, ab_lit19, hv]
  by_cases h0 : k = 0
  · subst h0
    rw [ab_F_lo (by omega), ab_Fh_0] at h
    exact br_t rfl h
  · refine br_f (nI_ne0 (by omega) (by omega)) ?_
    by_cases h11 : 11 < k
    · refine br_t (nI_lt (a := 11) h11 (by omega)) ?_
      by_cases h14 : 14 < k
      · refine br_t (nI_lt (a := 14) h14 (by omega)) ?_
        by_cases h19 : 19 ≤ k
        · refine br_t (nI_le (a := 19) h19 (by omega)) ?_
          by_cases hd : 19 + 8 * n ≤ k
          · refine br_t (nI_le hd (by omega)) ?_
            have e : ((nI (19 + 8 * n) + 15) - 1) - nI k = nI (33 + 8 * n - k) := by
              show ((nI (19 + 8 * n) + nI 15) - nI 1) - nI k = _
              rw [nI_add, pk_sub (by omega), pk_sub (by omega)]
              exact congrArg nI (by omega)
            rw [e, ab_shr _ (by omega), hcr hd]
            rw [ab_F_hi (by omega)] at h
            exact h
          · refine br_f (nI_ge (by omega) (by omega)) ?_
            have e : (nI (19 + 8 * n) - 1) - nI k = nI (18 + 8 * n - k) := by
              show (nI (19 + 8 * n) - nI 1) - nI k = _
              rw [pk_sub (by omega), pk_sub (by omega)]
              exact congrArg nI (by omega)
            rw [e, ab_shr _ (by omega)]
            rw [ab_F_lo (by omega), ab_Fh_d (by omega)] at h
            exact h
        · refine br_f (nI_ge (b := 19) (by omega) (by omega)) ?_
          have e : (18 : Int32) - nI k = nI (18 - k) := pk_sub (a := 18) (by omega)
          rw [e, ab_shr _ (by omega)]
          rw [ab_F_lo (by omega), ab_Fh_n (by omega) (by omega)] at h
          exact h
      · refine br_f (nI_nlt (a := 14) (by omega) (by omega)) ?_
        rw [ab_F_lo (by omega), ab_Fh_z (by omega) (by omega)] at h
        exact h
    · refine br_f (nI_nlt (a := 11) (by omega) (by omega)) ?_
      have e : (11 : Int32) - nI k = nI (11 - k) := pk_sub (a := 11) (by omega)
      rw [e, ab_shr _ (by omega)]
      rw [ab_F_lo (by omega), ab_Fh_id h0 (by omega)] at h
      exact h
theorem xw_lv0 (hi : i < 4) (ha : ac i = 0) {post : Int32 → Prop} (h : post (if ho i = 0 ∧ ¬ pc i ≤ 0 then 0 else 1)) : wpX_levelOf post (k1, k2, k3, k4, k5, k6, k7, k8, k9, k10, k11, k12, k13, nc, pl, ol, gc, tn, ac, te, re, ho, er, se, lo, de, qx, mi, fx, dr, tk, bd, rl, ll, td, cr, cs, si, sc, sd, ss, pc, px, nx, dx, bc, kx, bx, tx) (nI i) := by
  simp only [wpX_levelOf, ab_cl hi, ab_in4 hi, true_and, forall_eq, ha, wX_levelOf_35, wX_levelOf_36, wX_levelOf_109]
  refine br_t trivial ?_
  by_cases z : ho i = 0
  · refine br_t z ?_
    by_cases y : pc i ≤ 0
    · rw [if_neg (fun x => x.2 y)] at h; exact br_t y (br_t trivial h)
    · rw [if_pos ⟨z, y⟩] at h; exact br_f y (br_f (by decide) h)
  · rw [if_neg (fun x => z x.1)] at h; exact br_f z (br_t trivial h)
theorem xw_lv1 (hi : i < 4) (ha : ac i = 1) {post : Int32 → Prop} (h : wpX_nextWireBit post (k1, k2, k3, k4, k5, k6, k7, k8, k9, k10, k11, k12, k13, nc, pl, ol, gc, tn, ac, te, re, ho, er, se, lo, de, qx, mi, fx, dr, tk, bd, rl, ll, td, cr, cs, si, sc, sd, ss, pc, px, nx, dx, bc, kx, bx, tx) (nI i)) : wpX_levelOf post (k1, k2, k3, k4, k5, k6, k7, k8, k9, k10, k11, k12, k13, nc, pl, ol, gc, tn, ac, te, re, ho, er, se, lo, de, qx, mi, fx, dr, tk, bd, rl, ll, td, cr, cs, si, sc, sd, ss, pc, px, nx, dx, bc, kx, bx, tx) (nI i) := by
  simp only [wpX_levelOf, ab_cl hi, ab_in4 hi, true_and, forall_eq, ha]
  exact br_f (by decide) (br_t trivial h)
theorem xw_lv2 (hi : i < 4) (ha : ac i = 2) {post : Int32 → Prop} (h : post (if td i = 1 ∧ cr i = cs i then 0 else 1)) : wpX_levelOf post (k1, k2, k3, k4, k5, k6, k7, k8, k9, k10, k11, k12, k13, nc, pl, ol, gc, tn, ac, te, re, ho, er, se, lo, de, qx, mi, fx, dr, tk, bd, rl, ll, td, cr, cs, si, sc, sd, ss, pc, px, nx, dx, bc, kx, bx, tx) (nI i) := by
  simp only [wpX_levelOf, ab_cl hi, ab_in4 hi, true_and, forall_eq, ha, wX_levelOf_78, wX_levelOf_79, wX_levelOf_109]
  refine br_f (by decide) (br_f (by decide) (br_t trivial ?_))
  by_cases z : td i = 1
  · refine br_t z (xw_match hi ?_)
    by_cases y : cr i = cs i
    · rw [if_pos y]; rw [if_pos ⟨z, y⟩] at h; exact br_f (by decide) (br_f (by decide) h)
    · rw [if_neg y]; rw [if_neg (fun x => y x.2)] at h; exact br_t rfl (br_t trivial h)
  · rw [if_neg (fun x => z x.1)] at h; exact br_f z (br_t trivial h)
theorem xw_lv34 (hi : i < 4) (ha : ac i = 3 ∨ ac i = 4) {post : Int32 → Prop} (h : post (if fx i ≤ 1 then 1 else 0)) : wpX_levelOf post (k1, k2, k3, k4, k5, k6, k7, k8, k9, k10, k11, k12, k13, nc, pl, ol, gc, tn, ac, te, re, ho, er, se, lo, de, qx, mi, fx, dr, tk, bd, rl, ll, td, cr, cs, si, sc, sd, ss, pc, px, nx, dx, bc, kx, bx, tx) (nI i) := by
  have key : wX_levelOf_93 post (nI i) k1 k2 k3 k4 k5 k6 k7 k8 k9 k10 k11 k12 k13 nc pl ol gc tn ac te re ho er se lo de qx mi fx dr tk bd rl ll td cr cs si sc sd ss pc px nx dx bc kx bx tx := by
    simp only [wX_levelOf_93, ab_cl hi, ab_in4 hi, true_and, forall_eq, wX_levelOf_108, wX_levelOf_109]
    by_cases z : fx i ≤ 1
    · rw [if_pos z] at h; exact br_t z (br_t trivial h)
    · rw [if_neg z] at h; exact br_f z (br_f (by decide) h)
  rcases ha with ha | ha
  · simp only [wpX_levelOf, ab_cl hi, ab_in4 hi, true_and, forall_eq, ha]
    exact br_f (by decide) (br_f (by decide) (br_f (by decide) (br_t trivial key)))
  · simp only [wpX_levelOf, ab_cl hi, ab_in4 hi, true_and, forall_eq, ha]
    exact br_f (by decide) (br_f (by decide) (br_f (by decide) (br_f (by decide) (br_t trivial key))))
theorem xw_lv56 (hi : i < 4) (ha : ac i = 5 ∨ ac i = 6) {post : Int32 → Prop} (h : post 1) : wpX_levelOf post (k1, k2, k3, k4, k5, k6, k7, k8, k9, k10, k11, k12, k13, nc, pl, ol, gc, tn, ac, te, re, ho, er, se, lo, de, qx, mi, fx, dr, tk, bd, rl, ll, td, cr, cs, si, sc, sd, ss, pc, px, nx, dx, bc, kx, bx, tx) (nI i) := by
  rcases ha with ha | ha
  · simp only [wpX_levelOf, ab_cl hi, ab_in4 hi, true_and, forall_eq, ha, wX_levelOf_109]
    exact br_f (by decide) (br_f (by decide) (br_f (by decide) (br_f (by decide) (br_f (by decide) (br_t trivial h)))))
  · simp only [wpX_levelOf, ab_cl hi, ab_in4 hi, true_and, forall_eq, ha, wX_levelOf_109]
    exact br_f (by decide) (br_f (by decide) (br_f (by decide) (br_f (by decide) (br_f (by decide) (br_t trivial h)))))
theorem xw_note {T : Nat} (hT : tn = nI T) (hTb : T < 128) {s : Int32} {post : SX → Prop} (h : post (k1, k2, k3, k4, k5, k6, k7, k8, k9, k10, k11, k12, k13, nc, pl, ol, gc, nI ((T + 1) % 128), ac, te, re, ho, er, se, lo, de, qx, mi, fx, dr, tk, bd, rl, ll, td, cr, cs, si, sc, sd, ss, pc, px, nx, dx, bc, kx, bx, upd tx T (if s = 0 then 1 else 0))) : wpX_noteLine post (k1, k2, k3, k4, k5, k6, k7, k8, k9, k10, k11, k12, k13, nc, pl, ol, gc, tn, ac, te, re, ho, er, se, lo, de, qx, mi, fx, dr, tk, bd, rl, ll, td, cr, cs, si, sc, sd, ss, pc, px, nx, dx, bc, kx, bx, tx) s := by
  have hv : vp_in (nI T) 128 := vp_in_nI hTb (by omega)
  have e : nI (T + 1) &&& (127 : Int32) = nI ((T + 1) % 128) := pk_andN (by omega) 7 (by decide)
  simp only [wpX_noteLine, wX_noteLine_17, hT, hv, true_and, forall_eq, nI_clamp (show T < 2 ^ 31 by omega), nI_1, e]
  by_cases z : s = 0
  · rw [if_pos z] at h; exact br_t z h
  · rw [if_neg z] at h; exact br_f z h
end
end
section
/-! Y's walks: errors, counters, reading the body -/
theorem ab_pas_01 (pl t r : Int32) : ab_pas pl t r = 0 ∨ ab_pas pl t r = 1 := by
  unfold ab_pas
  split
  · exact Or.inr rfl
  · split
    · exact Or.inl rfl
    · exact Or.inr rfl
section
variable {nc pl ol gc : Int32} {ac te re ho er lo se de qy mi fy cu dr pc bc py ny dy ri rn rd le sn ty bo wi fr : Nat → Int32} {i : Nat}
theorem yw_bad (hi : i < 4) {N : Nat} (hN : nc = nI N) (hN4 : N ≤ 4) (hiN : i < N) {post : Int32 → Prop} (h : post 0) : wpY_bad post (nc, pl, ol, gc, ac, te, re, ho, er, lo, se, de, qy, mi, fy, cu, dr, pc, bc, py, ny, dy, ri, rn, rd, le, sn, ty, bo, wi, fr) (nI i) := by
  simp only [wpY_bad, hN]
  exact br_f (nI_pos (by omega)) (br_t (nI_lt hiN (by omega)) h)
theorem yw_cond (hi : i < 4) {N : Nat} (hN : nc = nI N) (hN4 : N ≤ 4) (hiN : i < N) (ha : ¬ ac i = 6) {post : Int32 → Prop} (h : post (ab_pas pl (te i) (re i))) : wpY_condition post (nc, pl, ol, gc, ac, te, re, ho, er, lo, se, de, qy, mi, fy, cu, dr, pc, bc, py, ny, dy, ri, rn, rd, le, sn, ty, bo, wi, fr) (nI i) := by
  simp only [wpY_condition]
  refine yw_bad hi hN hN4 hiN ?_
  simp only [ab_cl hi, ab_in4 hi, true_and, forall_eq]
  refine br_t trivial (br_f ha ?_)
  unfold ab_pas at h
  by_cases h1 : pl ≤ te i
  · rw [if_pos h1] at h; exact br_t h1 h
  · rw [if_neg h1] at h
    refine br_f h1 ?_
    by_cases h2 : re i < pl
    · rw [if_pos h2] at h; exact br_t h2 h
    · rw [if_neg h2] at h; exact br_f h2 h
theorem yw_pause (hi : i < 4) {q : Int32} {post : SY → Prop} (h : post (nc, pl, ol, gc, upd ac i 5, te, re, ho, er, lo, se, de, upd qy i q, mi, fy, cu, dr, pc, bc, py, ny, dy, ri, rn, rd, le, sn, ty, bo, wi, fr)) : wpY_pause post (nc, pl, ol, gc, ac, te, re, ho, er, lo, se, de, qy, mi, fy, cu, dr, pc, bc, py, ny, dy, ri, rn, rd, le, sn, ty, bo, wi, fr) (nI i) q := by
  simp only [wpY_pause, ab_cl hi, ab_in4 hi, true_and, forall_eq]
  exact h
theorem yw_flag (hi : i < 4) {w a : Int32} {post : SY → Prop} (h1 : w = 0 → post (nc, pl, ol, gc, upd ac i a, te, re, ho, er, lo, se, de, qy, mi, upd fy i 7, cu, dr, pc, bc, py, ny, dy, ri, rn, rd, le, sn, ty, bo, wi, fr)) (h2 : ¬ w = 0 → post (nc, pl, ol, gc, upd ac i 5, te, re, ho, er, lo, se, de, upd qy i 0, mi, upd fy i 7, cu, dr, pc, bc, py, ny, dy, ri, rn, rd, le, sn, ty, bo, wi, fr)) : wpY_flag post (nc, pl, ol, gc, ac, te, re, ho, er, lo, se, de, qy, mi, fy, cu, dr, pc, bc, py, ny, dy, ri, rn, rd, le, sn, ty, bo, wi, fr) (nI i) w a := by
  simp only [wpY_flag, ab_cl hi, ab_in4 hi, true_and, forall_eq]
  refine br_c (fun z => h1 z) (fun z => ?_)
  refine yw_pause hi ?_
  have := h2 z
  rw [ab_uu]
  exact this
theorem yw_serr42 (hi : i < 4) {N : Nat} (hN : nc = nI N) (hN4 : N ≤ 4) (hiN : i < N) (ha : ¬ ac i = 6) {w T : Int32} {post : SY → Prop} (hT : te i = T)
    (h1 : T < ol → w = 0 → post (nc, pl, ol, gc, upd ac i 3, te, re, upd ho i (ab_h8 (ab_pas pl T (re i))), er, lo, se, de, qy, mi, upd fy i 7, cu, dr, pc, bc, py, ny, dy, ri, rn, rd, le, sn, ty, bo, wi, fr))
    (h2 : T < ol → ¬ w = 0 → post (nc, pl, ol, gc, upd ac i 5, te, re, upd ho i (ab_h8 (ab_pas pl T (re i))), er, lo, se, de, upd qy i 0, mi, upd fy i 7, cu, dr, pc, bc, py, ny, dy, ri, rn, rd, le, sn, ty, bo, wi, fr))
    (h3 : ¬ T < ol → post (nc, pl, ol, gc, upd ac i 6, te, re, upd ho i 0, er, lo, se, de, upd qy i 0, upd mi i gc, fy, cu, dr, pc, bc, py, ny, dy, ri, rn, rd, le, sn, ty, bo, wi, fr)) : wY_senderError_42 post (nI i) w nc pl ol gc ac te re ho er lo se de qy mi fy cu dr pc bc py ny dy ri rn rd le sn ty bo wi fr := by
  subst hT
  simp only [wY_senderError_42, ab_cl hi, ab_in4 hi, true_and, forall_eq]
  refine br_c (fun c => ?_) (fun c => h3 c)
  refine yw_cond hi hN hN4 hiN ha ?_
  have h1 := h1 c
  have h2 := h2 c
  unfold ab_h8 at h1 h2
  rcases ab_pas_01 pl (te i) (re i) with e | e
  · rw [if_pos e] at h1 h2
    refine br_f (by rw [e]; decide) ?_
    simp only [wY_senderError_108, ab_cl hi, ab_in4 hi, true_and, forall_eq]
    exact yw_flag hi h1 h2
  · rw [if_neg (by rw [e]; decide)] at h1 h2
    refine br_t e ?_
    simp only [wY_senderError_108, ab_cl hi, ab_in4 hi, true_and, forall_eq]
    exact yw_flag hi h1 h2
theorem yw_serr14 (hi : i < 4) {N : Nat} (hN : nc = nI N) (hN4 : N ≤ 4) (hiN : i < N) (ha : ¬ ac i = 6) {kd w T : Int32} {post : SY → Prop} (hT : ab_T kd w (te i) = T)
    (h1 : T < ol → w = 0 → post (nc, pl, ol, gc, upd ac i 3, upd te i T, re, upd ho i (ab_h8 (ab_pas pl T (re i))), upd er i kd, lo, se, de, qy, mi, upd fy i 7, cu, dr, pc, bc, py, ny, dy, ri, rn, rd, le, sn, ty, bo, wi, fr))
    (h2 : T < ol → ¬ w = 0 → post (nc, pl, ol, gc, upd ac i 5, upd te i T, re, upd ho i (ab_h8 (ab_pas pl T (re i))), upd er i kd, lo, se, de, upd qy i 0, mi, upd fy i 7, cu, dr, pc, bc, py, ny, dy, ri, rn, rd, le, sn, ty, bo, wi, fr))
    (h3 : ¬ T < ol → post (nc, pl, ol, gc, upd ac i 6, upd te i T, re, upd ho i 0, upd er i kd, lo, se, de, upd qy i 0, upd mi i gc, fy, cu, dr, pc, bc, py, ny, dy, ri, rn, rd, le, sn, ty, bo, wi, fr)) : wY_senderError_14 post (nI i) kd w nc pl ol gc ac te re ho er lo se de qy mi fy cu dr pc bc py ny dy ri rn rd le sn ty bo wi fr := by
  simp only [wY_senderError_14, ab_cl hi, ab_in4 hi, true_and, forall_eq]
  unfold ab_T at hT
  by_cases hk : kd = 5 ∧ ¬ w = 0
  · rw [if_pos hk] at hT
    subst hT
    rw [ab_up te i] at h1 h2 h3
    exact br_t hk.1 (br_f hk.2 (yw_serr42 hi hN hN4 hiN ha rfl h1 h2 h3))
  · rw [if_neg hk] at hT
    subst hT
    have key : wY_senderError_31 post (nI i) w nc pl ol gc ac te re ho (upd er i kd) lo se de qy mi fy cu dr pc bc py ny dy ri rn rd le sn ty bo wi fr := by
      simp only [wY_senderError_31, ab_cl hi, ab_in4 hi, true_and, forall_eq]
      exact yw_serr42 hi hN hN4 hiN ha pk_us h1 h2 h3
    refine br_c (fun e => ?_) (fun _ => key)
    by_cases hw0 : w = 0
    · exact br_t hw0 key
    · exact absurd ⟨e, hw0⟩ hk
theorem yw_serr (hi : i < 4) {N : Nat} (hN : nc = nI N) (hN4 : N ≤ 4) (hiN : i < N) (ha : ¬ ac i = 6) {kd w T : Int32} {post : SY → Prop} (hw : ab_pas pl (te i) (re i) = w) (hT : ab_T kd w (te i) = T)
    (h1 : T < ol → w = 0 → post (nc, pl, ol, gc, upd ac i 3, upd te i T, re, upd ho i (ab_h8 (ab_pas pl T (re i))), upd er i kd, lo, se, de, qy, mi, upd fy i 7, cu, dr, pc, bc, py, ny, dy, ri, rn, rd, le, sn, ty, bo, wi, fr))
    (h2 : T < ol → ¬ w = 0 → post (nc, pl, ol, gc, upd ac i 5, upd te i T, re, upd ho i (ab_h8 (ab_pas pl T (re i))), upd er i kd, lo, se, de, upd qy i 0, mi, upd fy i 7, cu, dr, pc, bc, py, ny, dy, ri, rn, rd, le, sn, ty, bo, wi, fr))
    (h3 : ¬ T < ol → post (nc, pl, ol, gc, upd ac i 6, upd te i T, re, upd ho i 0, upd er i kd, lo, se, de, upd qy i 0, upd mi i gc, fy, cu, dr, pc, bc, py, ny, dy, ri, rn, rd, le, sn, ty, bo, wi, fr)) : wpY_senderError post (nc, pl, ol, gc, ac, te, re, ho, er, lo, se, de, qy, mi, fy, cu, dr, pc, bc, py, ny, dy, ri, rn, rd, le, sn, ty, bo, wi, fr) (nI i) kd := by
  simp only [wpY_senderError]
  refine yw_cond hi hN hN4 hiN ha ?_
  rcases ab_pas_01 pl (te i) (re i) with e | e
  · have e' : w = 0 := hw.symm.trans e
    subst e'
    exact br_f (by rw [e]; decide) (yw_serr14 hi hN hN4 hiN ha hT h1 h2 h3)
  · have e' : w = 1 := hw.symm.trans e
    subst e'
    exact br_t e (yw_serr14 hi hN hN4 hiN ha hT h1 h2 h3)
theorem ab_inc_1 {r : Int32} (h : r ≤ 255) : (255 ≤ r → ab_inc r 1 = r) ∧ (¬ 255 ≤ r → ab_inc r 1 = r + 1) := by
  refine ⟨fun h1 => ?_, fun h1 => ?_⟩
  · rw [Int32.le_antisymm h h1]; decide
  · unfold ab_inc
    rw [if_pos]
    have a1 := Int32.le_iff_toInt_le.mp h
    have a2 : ¬ (255 : Int32).toInt ≤ r.toInt := fun z => h1 (Int32.le_iff_toInt_le.mpr z)
    have a3 := r.le_toInt
    rw [show (255 : Int32).toInt = 255 by decide] at a1 a2
    rw [Int32.le_iff_toInt_le, Int32.toInt_add, show (255 : Int32).toInt = 255 by decide, show (1 : Int32).toInt = 1 by decide, Int.bmod_eq_of_le (by omega) (by omega)]
    omega
theorem ab_inc_le {r b : Int32} : ab_inc r b ≤ 255 := by
  unfold ab_inc
  split
  · assumption
  · exact Int32.le_refl _
theorem yw_rerr14 (hi : i < 4) {kd w : Int32} (hr : re i ≤ 255) {post : SY → Prop}
    (h1 : w = 0 → post (nc, pl, ol, gc, upd ac i 4, te, upd re i (ab_inc (re i) 1), ho, upd er i kd, lo, se, de, qy, mi, upd fy i 7, cu, dr, pc, bc, py, ny, dy, ri, rn, rd, le, sn, ty, bo, wi, fr))
    (h2 : ¬ w = 0 → post (nc, pl, ol, gc, upd ac i 5, te, upd re i (ab_inc (re i) 1), ho, upd er i kd, lo, se, de, upd qy i 0, mi, upd fy i 7, cu, dr, pc, bc, py, ny, dy, ri, rn, rd, le, sn, ty, bo, wi, fr)) : wY_receiverError_14 post (nI i) kd w nc pl ol gc ac te re ho er lo se de qy mi fy cu dr pc bc py ny dy ri rn rd le sn ty bo wi fr := by
  simp only [wY_receiverError_14, ab_cl hi, ab_in4 hi, true_and, forall_eq, wY_receiverError_44]
  by_cases c : 255 ≤ re i
  · rw [(ab_inc_1 hr).1 c, ab_up re i] at h1 h2
    exact br_t c (yw_flag hi h1 h2)
  · rw [(ab_inc_1 hr).2 c] at h1 h2
    exact br_f c (yw_flag hi h1 h2)
theorem yw_rerr (hi : i < 4) {N : Nat} (hN : nc = nI N) (hN4 : N ≤ 4) (hiN : i < N) (ha : ¬ ac i = 6) {kd w : Int32} (hr : re i ≤ 255) {post : SY → Prop} (hw : ab_pas pl (te i) (re i) = w)
    (h1 : w = 0 → post (nc, pl, ol, gc, upd ac i 4, te, upd re i (ab_inc (re i) 1), ho, upd er i kd, lo, se, de, qy, mi, upd fy i 7, cu, dr, pc, bc, py, ny, dy, ri, rn, rd, le, sn, ty, bo, wi, fr))
    (h2 : ¬ w = 0 → post (nc, pl, ol, gc, upd ac i 5, te, upd re i (ab_inc (re i) 1), ho, upd er i kd, lo, se, de, upd qy i 0, mi, upd fy i 7, cu, dr, pc, bc, py, ny, dy, ri, rn, rd, le, sn, ty, bo, wi, fr)) : wpY_receiverError post (nc, pl, ol, gc, ac, te, re, ho, er, lo, se, de, qy, mi, fy, cu, dr, pc, bc, py, ny, dy, ri, rn, rd, le, sn, ty, bo, wi, fr) (nI i) kd := by
  simp only [wpY_receiverError]
  refine yw_cond hi hN hN4 hiN ha ?_
  rcases ab_pas_01 pl (te i) (re i) with e | e
  · have e' : w = 0 := hw.symm.trans e
    subst e'
    exact br_f (by rw [e]; decide) (yw_rerr14 hi hr h1 h2)
  · have e' : w = 1 := hw.symm.trans e
    subst e'
    exact br_t e (yw_rerr14 hi hr h1 h2)
theorem yw_keep (hi : i < 4) {L : Nat} (hL : le i = nI L) (hL1 : L < 127) {s : Int32} {post : SY → Prop} (h : post (nc, pl, ol, gc, ac, te, re, ho, er, lo, se, de, qy, mi, fy, cu, dr, pc, bc, py, ny, dy, ri, rn, rd, upd le i (nI (L + 1)), upd sn (i * 128 + L) s, ty, bo, wi, fr)) : wpY_keep post (nc, pl, ol, gc, ac, te, re, ho, er, lo, se, de, qy, mi, fy, cu, dr, pc, bc, py, ny, dy, ri, rn, rd, le, sn, ty, bo, wi, fr) (nI i) s := by
  have hv : vp_in (nI (i * 128 + L)) 512 := vp_in_nI (by omega) (by omega)
  simp only [wpY_keep, ab_cl hi, ab_in4 hi, true_and, forall_eq, hL, ab_m128, nI_add, nI_1, nI_clamp (show i * 128 + L < 2 ^ 31 by omega), hv]
  exact br_t (nI_lt (b := 127) hL1 (by omega)) h
theorem yw_acc150 (hi : i < 4) {post : SY → Prop} (h : post (nc, pl, ol, gc, upd ac i 5, te, upd re i (ab_acc pl (re i)), ho, er, lo, se, de, upd qy i 7, mi, fy, cu, dr, pc, bc, py, ny, dy, ri, rn, rd, le, sn, ty, bo, wi, fr)) : wY_accepted_150 post (nI i) nc pl ol gc ac te re ho er lo se de qy mi fy cu dr pc bc py ny dy ri rn rd le sn ty bo wi fr := by
  simp only [wY_accepted_150, ab_cl hi, ab_in4 hi, true_and, forall_eq]
  unfold ab_acc at h
  by_cases z : re i ≤ 0
  · rw [if_pos z, ab_up re i] at h
    refine br_t z ?_
    simp only [wY_accepted_193]
    exact yw_pause hi h
  · rw [if_neg z] at h
    refine br_f z ?_
    by_cases c : pl ≤ re i
    · rw [if_pos c] at h
      refine br_t c ?_
      simp only [wY_accepted_190, wY_accepted_193, ab_cl hi, ab_in4 hi, true_and, forall_eq]
      exact yw_pause hi h
    · rw [if_neg c] at h
      refine br_f c ?_
      simp only [wY_accepted_190, wY_accepted_193, ab_cl hi, ab_in4 hi, true_and, forall_eq]
      exact yw_pause hi h
theorem yw_len {post : Int32 → Prop} (h : post (ab_lI (ab_code bo))) : wpY_lengthRead post (nc, pl, ol, gc, ac, te, re, ho, er, lo, se, de, qy, mi, fy, cu, dr, pc, bc, py, ny, dy, ri, rn, rd, le, sn, ty, bo, wi, fr) := by
  simp only [wpY_lengthRead, forall_eq]
  unfold ab_lI ab_code at h
  by_cases c : bo 15 * 8 + bo 16 * 4 + bo 17 * 2 + bo 18 ≤ 4
  · rw [if_pos c] at h; exact br_t c h
  · rw [if_neg c] at h; exact br_f c h
theorem yw_ck15 {E : Nat} (hE : E ≤ 128) {post : Int32 → Prop} (h : post (ab_crc bo E)) (d : Nat) : ∀ j n, j + d = E → d < n → wY_checksum_15 post (nI E) nc pl ol gc ac te re ho er lo se de qy mi fy cu dr pc bc py ny dy ri rn rd le sn ty bo wi fr n (ab_crc bo j) (nI j) := by
  induction d with
  | zero =>
    intro j n hj hn
    obtain ⟨n, rfl⟩ : ∃ c, n = c + 1 := ⟨n - 1, by omega⟩
    have : j = E := by omega
    subst this
    simp only [wY_checksum_15]
    exact br_t (Int32.le_refl _) h
  | succ d ih =>
    intro j n hj hn
    obtain ⟨n, rfl⟩ : ∃ c, n = c + 1 := ⟨n - 1, by omega⟩
    have hv : vp_in (nI j) 128 := vp_in_nI (by omega) (by omega)
    have ih := ih (j + 1) n (by omega) (by omega)
    rw [ab_crc_s] at ih
    unfold ab_cst at ih
    simp only [wY_checksum_15, hv, true_and, forall_eq, nI_clamp (show j < 2 ^ 31 by omega), nI_1]
    refine br_f (nI_ge (by omega) (by omega)) ?_
    by_cases c : bo j ^^^ ((ab_crc bo j >>> ((14 : Int32) &&& 31)) &&& 1) = 1
    · rw [if_pos c] at ih; exact br_t c ih
    · rw [if_neg c] at ih; exact br_f c ih
theorem yw_ck {m : Nat} (hm : ab_lI (ab_code bo) = nI m) (hm4 : m ≤ 4) {post : Int32 → Prop} (h : post (ab_crc bo (19 + 8 * m))) : wpY_checksum post (nc, pl, ol, gc, ac, te, re, ho, er, lo, se, de, qy, mi, fy, cu, dr, pc, bc, py, ny, dy, ri, rn, rd, le, sn, ty, bo, wi, fr) := by
  simp only [wpY_checksum]
  refine yw_len ?_
  simp only [forall_eq, hm, ab_lit19]
  exact ⟨19 + 8 * m + 1, yw_ck15 (by omega) h (19 + 8 * m) 0 _ (by omega) (by omega)⟩
theorem yw_mt15 {m : Nat} (hm : ab_lI (ab_code bo) = nI m) (hm4 : m ≤ 4) (hb : ∀ j, j < 15 → ab_bit (bo (19 + 8 * m + j))) {post : Int32 → Prop} (h : post (if ab_num bo (19 + 8 * m) 15 = ab_crc bo (19 + 8 * m) then 1 else 0)) (d : Nat) :
    ∀ j n, j + d = 15 → d < n → wY_matched_15 post (nI (19 + 8 * m)) nc pl ol gc ac te re ho er lo se de qy mi fy cu dr pc bc py ny dy ri rn rd le sn ty bo wi fr n (ab_num bo (19 + 8 * m) j) (nI j) := by
  induction d with
  | zero =>
    intro j n hj hn
    obtain ⟨n, rfl⟩ : ∃ c, n = c + 1 := ⟨n - 1, by omega⟩
    have : j = 15 := by omega
    subst this
    simp only [wY_matched_15]
    refine br_t (nI_le (a := 15) (by omega) (by omega)) ?_
    refine yw_ck hm hm4 ?_
    by_cases c : ab_num bo (19 + 8 * m) 15 = ab_crc bo (19 + 8 * m)
    · rw [if_pos c] at h; exact br_t c h
    · rw [if_neg c] at h; exact br_f c h
  | succ d ih =>
    intro j n hj hn
    obtain ⟨n, rfl⟩ : ∃ c, n = c + 1 := ⟨n - 1, by omega⟩
    have hv : vp_in (nI (19 + 8 * m + j)) 128 := vp_in_nI (by omega) (by omega)
    have ih := ih (j + 1) n (by omega) (by omega)
    rw [ab_num_s, ab_sh_eq _ (hb j (by omega))] at ih
    simp only [wY_matched_15, hv, true_and, forall_eq, nI_add, nI_clamp (show 19 + 8 * m + j < 2 ^ 31 by omega), nI_1]
    exact br_f (nI_ge (b := 15) (by omega) (by omega)) ih
theorem yw_match {m : Nat} (hm : ab_lI (ab_code bo) = nI m) (hm4 : m ≤ 4) (hb : ∀ j, j < 15 → ab_bit (bo (19 + 8 * m + j))) {post : Int32 → Prop} (h : post (if ab_num bo (19 + 8 * m) 15 = ab_crc bo (19 + 8 * m) then 1 else 0)) : wpY_matched post (nc, pl, ol, gc, ac, te, re, ho, er, lo, se, de, qy, mi, fy, cu, dr, pc, bc, py, ny, dy, ri, rn, rd, le, sn, ty, bo, wi, fr) := by
  simp only [wpY_matched]
  refine yw_len ?_
  simp only [forall_eq, hm, ab_lit19]
  exact ⟨16, yw_mt15 hm hm4 hb h 15 0 _ (by omega) (by omega)⟩
end
end
section
/-! Y's walks: what the next sample is -/
/-- the kind of the next sample -/
def ab_kd (g : Nat → Int32) (L : Nat) : Int32 := if ab_t g L = 0 then (if 5 ≤ ab_R g L then -2 else -1) else nI (ab_t g L - 1)
/-- the length of the body as far as it is known -/
def ab_W (k : Nat) (b : Nat → Int32) : Int32 := if k < 19 then 999 else nI (34 + 8 * ab_n b)
/-- the loop's kind at its head -/
def ab_KI (g : Nat → Int32) (x : Nat) (kd : Int32) : Prop :=
  (kd < 0 ∧ ab_t g x = (if ab_R g x < 5 ∧ ab_k g x = 34 + 8 * ab_n (ab_b g x) then 1 else 0)) ∨ (∃ t : Nat, ab_t g x = t + 2 ∧ kd = nI t)
theorem ab_KI_0 (g : Nat → Int32) : ab_KI g 0 (-1) := by
  refine Or.inl ⟨by decide, ?_⟩
  rw [if_neg]
  · rfl
  · intro z
    have : 0 = 34 + 8 * ab_n (ab_b g 0) := z.2
    omega
theorem ab_at {w : Nat} {a : Nat → Int32} {i y : Nat} {x : Int32} (hy : y < w) (h : ab_v w a i y = x) : a (i * w + y) = x := by rw [← h, ab_v_at hy]
section
variable {nc pl ol gc : Int32} {ac te re ho er lo se de qy mi fy cu dr pc bc py ny dy ri rn rd le sn ty bo wi fr : Nat → Int32} {i : Nat}
theorem yw_alike {p0 p1 p2 p3 p4 : Int32} {post : Int32 → Prop} (h1 : (p0 = p1 ∧ p1 = p2 ∧ p2 = p3 ∧ p3 = p4) → post 1) (h0 : ¬ (p0 = p1 ∧ p1 = p2 ∧ p2 = p3 ∧ p3 = p4) → post 0) : wpY_alike post (nc, pl, ol, gc, ac, te, re, ho, er, lo, se, de, qy, mi, fy, cu, dr, pc, bc, py, ny, dy, ri, rn, rd, le, sn, ty, bo, wi, fr) p0 p1 p2 p3 p4 := by
  simp only [wpY_alike]
  refine br_c (fun a => br_c (fun b => br_c (fun c => br_c (fun d => h1 ⟨a, b, c, d⟩) (fun z => h0 (fun y => z y.2.2.2))) (fun z => h0 (fun y => z y.2.2.1))) (fun z => h0 (fun y => z y.2.1))) (fun z => h0 (fun y => z y.1))
/-- not a body bit, or the last round: the arrays stay -/
theorem yw_n123a (hi : i < 4) {x : Nat} {x2 x3 x4 x6 : Int32} {post : Int32 → SY → Prop} {J : Int32 → Int32 → Int32 → Int32 → (Nat → Int32) → (Nat → Int32) → (Nat → Int32) → (Nat → Int32) → (Nat → Int32) → (Nat → Int32) → (Nat → Int32) → (Nat → Int32) → (Nat → Int32) → (Nat → Int32) → (Nat → Int32) → (Nat → Int32) → (Nat → Int32) → (Nat → Int32) → (Nat → Int32) → (Nat → Int32) → (Nat → Int32) → (Nat → Int32) → (Nat → Int32) → (Nat → Int32) → (Nat → Int32) → (Nat → Int32) → (Nat → Int32) → (Nat → Int32) → (Nat → Int32) → (Nat → Int32) → (Nat → Int32) → Prop}
    (hc : x4 = -1 → le i ≤ nI x) (h : J x2 x3 x4 (nI (x + 1)) ac te re ho er lo se de qy mi fy cu dr pc bc py ny dy ri rn rd le sn ty bo wi fr) : wY_next_123 post J (nI i) x2 x3 x4 (nI x) x6 nc pl ol gc ac te re ho er lo se de qy mi fy cu dr pc bc py ny dy ri rn rd le sn ty bo wi fr := by
  simp only [wY_next_123, ab_cl hi, ab_in4 hi, true_and, forall_eq, nI_1]
  exact br_c (fun e => br_t (hc e) h) (fun _ => h)
/-- a body bit -/
theorem yw_n123b (hi : i < 4) {x k L : Nat} (hL : le i = nI L) (hx : x < L) (hL1 : L < 127) (hk : k < 128) {x3 W : Int32} (hW : (if k + 1 = 19 then 34 + 8 * ab_lI (ab_code (upd bo k (sn (i * 128 + x)))) else x3) = W)
    {post : Int32 → SY → Prop} {J : Int32 → Int32 → Int32 → Int32 → (Nat → Int32) → (Nat → Int32) → (Nat → Int32) → (Nat → Int32) → (Nat → Int32) → (Nat → Int32) → (Nat → Int32) → (Nat → Int32) → (Nat → Int32) → (Nat → Int32) → (Nat → Int32) → (Nat → Int32) → (Nat → Int32) → (Nat → Int32) → (Nat → Int32) → (Nat → Int32) → (Nat → Int32) → (Nat → Int32) → (Nat → Int32) → (Nat → Int32) → (Nat → Int32) → (Nat → Int32) → (Nat → Int32) → (Nat → Int32) → (Nat → Int32) → (Nat → Int32) → (Nat → Int32) → Prop}
    (h : J (nI (k + 1)) W (-1) (nI (x + 1)) ac te re ho er lo se de qy mi fy cu dr pc bc py ny dy ri rn rd le sn ty (upd bo k (sn (i * 128 + x))) wi fr) : wY_next_123 post J (nI i) (nI k) x3 (-1) (nI x) (nI (i * 128 + x)) nc pl ol gc ac te re ho er lo se de qy mi fy cu dr pc bc py ny dy ri rn rd le sn ty bo wi fr := by
  have hv : vp_in (nI (i * 128 + x)) 512 := vp_in_nI (by omega) (by omega)
  have hv2 : vp_in (nI k) 128 := vp_in_nI hk (by omega)
  simp only [wY_next_123, ab_cl hi, ab_in4 hi, true_and, forall_eq, nI_1, hL, hv, hv2, nI_clamp (show i * 128 + x < 2 ^ 31 by omega), nI_clamp (show k < 2 ^ 31 by omega)]
  refine br_t trivial (br_f (nI_ge hx (by omega)) ?_)
  by_cases c : k + 1 = 19
  · rw [if_pos c] at hW
    subst hW
    refine br_t (congrArg nI c) ?_
    refine yw_len ?_
    exact h
  · rw [if_neg c] at hW
    subst hW
    exact br_f (fun z => c ((nI_eq (b := 19) (by omega) (by omega)).mp z)) h
end
end
section
/-! Y's walks: next -/
theorem ab_subN {a b c : Nat} (h : a = c + b) : nI a - nI b = nI c := by
  rw [pk_sub (by omega)]
  exact congrArg nI (by omega)
theorem ab_t_le (g : Nat → Int32) (x : Nat) : ab_t g x ≤ x := by
  induction x with
  | zero => exact Nat.le_refl 0
  | succ x ih =>
    by_cases ht : ab_t g x = 0
    · by_cases hr : 5 ≤ ab_R g x
      · rw [(ab_s_stuff ht hr).2.1]; split <;> omega
      · rw [(ab_s_body ht hr).2.1]; split <;> omega
    · rw [(ab_s_tail ht).2.1]; omega
theorem ab_KI_s (g : Nat → Int32) (x : Nat) : ab_KI g (x + 1) (ab_kd g x) := by
  unfold ab_KI ab_kd
  by_cases ht : ab_t g x = 0
  · rw [if_pos ht]
    left
    by_cases hr : 5 ≤ ab_R g x
    · obtain ⟨a1, a2, a3⟩ := ab_s_stuff ht hr
      rw [if_pos hr, a1, a3]
      exact ⟨by decide, a2⟩
    · obtain ⟨a1, a2, a3⟩ := ab_s_body ht hr
      rw [if_neg hr, a1, a3]
      exact ⟨by decide, a2⟩
  · rw [if_neg ht]
    right
    exact ⟨ab_t g x - 1, by rw [(ab_s_tail ht).2.1]; omega, rfl⟩
section
variable {nc pl ol gc : Int32} {ac te re ho er lo se de qy mi fy cu dr pc bc py ny dy ri rn rd le sn ty bo wi fr : Nat → Int32} {i : Nat}
theorem yw_hd (hi : i < 4) {L x n : Nat} (hL : le i = nI L) (hL1 : L < 127) (hx : x ≤ L) {x2 x3 kd : Int32} {post : Int32 → SY → Prop}
    (hA : kd < 0 → 5 ≤ ab_R (ab_v 128 sn i) x → wY_next_123 post (wY_next_12 post (nI i) nc pl ol gc n) (nI i) x2 x3 (-2) (nI x) (nI (i * 128 + x)) nc pl ol gc ac te re ho er lo se de qy mi fy cu dr pc bc py ny dy ri rn rd le sn ty bo wi fr)
    (hB : kd < 0 → ¬ 5 ≤ ab_R (ab_v 128 sn i) x → wY_next_109 post (wY_next_12 post (nI i) nc pl ol gc n) (nI i) x2 x3 (nI x) (nI (i * 128 + x)) nc pl ol gc ac te re ho er lo se de qy mi fy cu dr pc bc py ny dy ri rn rd le sn ty bo wi fr)
    (hC : ¬ kd < 0 → wY_next_123 post (wY_next_12 post (nI i) nc pl ol gc n) (nI i) x2 x3 (kd + 1) (nI x) (nI (i * 128 + x)) nc pl ol gc ac te re ho er lo se de qy mi fy cu dr pc bc py ny dy ri rn rd le sn ty bo wi fr) : wY_next_12 post (nI i) nc pl ol gc (n + 1) x2 x3 kd (nI x) ac te re ho er lo se de qy mi fy cu dr pc bc py ny dy ri rn rd le sn ty bo wi fr := by
  simp only [wY_next_12, ab_cl hi, ab_in4 hi, true_and, forall_eq, hL, ab_m128, nI_add]
  refine br_f (nI_nlt hx (by omega)) ?_
  refine br_c (fun hk => ?_) (fun hk => hC hk)
  by_cases h5 : x < 5
  · refine br_t (nI_lt (b := 5) h5 (by omega)) (hB hk ?_)
    have := ab_R_le (ab_v 128 sn i) x
    omega
  · refine br_f (nI_nlt (b := 5) (by omega) (by omega)) ?_
    obtain ⟨m, rfl⟩ : ∃ m, x = m + 5 := ⟨x - 5, by omega⟩
    have e1 : nI (i * 128 + (m + 5)) - 1 = nI (i * 128 + (m + 4)) := ab_subN (b := 1) (by omega)
    have e2 : nI (i * 128 + (m + 5)) - 2 = nI (i * 128 + (m + 3)) := ab_subN (b := 2) (by omega)
    have e3 : nI (i * 128 + (m + 5)) - 3 = nI (i * 128 + (m + 2)) := ab_subN (b := 3) (by omega)
    have e4 : nI (i * 128 + (m + 5)) - 4 = nI (i * 128 + (m + 1)) := ab_subN (b := 4) (by omega)
    have e5 : nI (i * 128 + (m + 5)) - 5 = nI (i * 128 + m) := ab_subN (b := 5) (by omega)
    have ha := ab_alike (ab_v 128 sn i) m
    rw [ab_v_at (show m + 4 < 128 by omega), ab_v_at (show m + 3 < 128 by omega), ab_v_at (show m + 2 < 128 by omega), ab_v_at (show m + 1 < 128 by omega), ab_v_at (show m < 128 by omega)] at ha
    rw [e1, e2, e3, e4, e5]
    rw [nI_clamp (show i * 128 + (m + 4) < 2 ^ 31 by omega), nI_clamp (show i * 128 + (m + 3) < 2 ^ 31 by omega), nI_clamp (show i * 128 + (m + 2) < 2 ^ 31 by omega), nI_clamp (show i * 128 + (m + 1) < 2 ^ 31 by omega), nI_clamp (show i * 128 + m < 2 ^ 31 by omega)]
    refine ⟨vp_in_nI (by omega) (by omega), vp_in_nI (by omega) (by omega), vp_in_nI (by omega) (by omega), vp_in_nI (by omega) (by omega), vp_in_nI (by omega) (by omega), ?_⟩
    exact yw_alike (fun z => br_f (by decide) (hA hk (ha.mpr z))) (fun z => br_t rfl (hB hk (fun y => z (ha.mp y))))
theorem yw_it (hi : i < 4) {L x : Nat} (hL : le i = nI L) (hL1 : L < 127) (hx : x ≤ L) {g : Nat → Int32} (hg : ab_v 128 sn i = g) (hok : ab_ok g L) {kd : Int32} (hkd : ab_KI g x kd) (hbo : ∀ y, y < ab_k g x → bo y = ab_b g x y) :
    ∃ (bo1 : Nat → Int32) (x2 x3 : Int32), (x < L → x2 = nI (ab_k g (x + 1)) ∧ x3 = ab_W (ab_k g (x + 1)) (ab_b g (x + 1)) ∧ ∀ y, y < ab_k g (x + 1) → bo1 y = ab_b g (x + 1) y) ∧ (x = L → bo1 = bo)
      ∧ ∀ (post : Int32 → SY → Prop) (n : Nat), wY_next_12 post (nI i) nc pl ol gc n x2 x3 (ab_kd g x) (nI (x + 1)) ac te re ho er lo se de qy mi fy cu dr pc bc py ny dy ri rn rd le sn ty bo1 wi fr → wY_next_12 post (nI i) nc pl ol gc (n + 1) (nI (ab_k g x)) (ab_W (ab_k g x) (ab_b g x)) kd (nI x) ac te re ho er lo se de qy mi fy cu dr pc bc py ny dy ri rn rd le sn ty bo wi fr := by
  have hbd := ab_bd (ab_ok_le hok hx)
  rcases hkd with ⟨hk, ht⟩ | ⟨t, ht, hk⟩
  · by_cases hr : 5 ≤ ab_R g x
    · rw [if_neg (fun z => by omega)] at ht
      obtain ⟨a1, a2, a3⟩ := ab_s_stuff ht hr
      refine ⟨bo, nI (ab_k g x), ab_W (ab_k g x) (ab_b g x), fun _ => ⟨by rw [a1], by rw [a1, a3], by rw [a1, a3]; exact hbo⟩, fun _ => rfl, fun post n h => ?_⟩
      have e : ab_kd g x = -2 := by unfold ab_kd; rw [if_pos ht, if_pos hr]
      rw [e] at h
      refine yw_hd hi hL hL1 hx (fun _ _ => ?_) (fun _ z => absurd (by rw [hg]; exact hr) z) (fun z => absurd hk z)
      exact yw_n123a hi (fun z => absurd z (by decide)) h
    · by_cases hd : ab_k g x = 34 + 8 * ab_n (ab_b g x)
      · rw [if_pos ⟨by omega, hd⟩] at ht
        have htn : ¬ ab_t g x = 0 := by omega
        obtain ⟨a1, a2, a3⟩ := ab_s_tail htn
        refine ⟨bo, nI (ab_k g x), ab_W (ab_k g x) (ab_b g x), fun _ => ⟨by rw [a1], by rw [a1, a3], by rw [a1, a3]; exact hbo⟩, fun _ => rfl, fun post n h => ?_⟩
        have e : ab_kd g x = 0 := by unfold ab_kd; rw [if_neg htn, ht]; rfl
        rw [e] at h
        refine yw_hd hi hL hL1 hx (fun _ z => absurd (by rw [← hg]; exact z) hr) (fun _ _ => ?_) (fun z => absurd hk z)
        simp only [wY_next_109]
        refine br_t ?_ (yw_n123a hi (fun z => absurd z (by decide)) h)
        unfold ab_W
        rw [if_neg (by omega), ← hd]
      · rw [if_neg (fun z => hd z.2)] at ht
        obtain ⟨a1, a2, a3⟩ := ab_s_body ht hr
        have e : ab_kd g x = -1 := by unfold ab_kd; rw [if_pos ht, if_neg hr]
        have hW : ¬ nI (ab_k g x) = ab_W (ab_k g x) (ab_b g x) := by
          unfold ab_W
          by_cases c : ab_k g x < 19
          · rw [if_pos c]
            intro z
            have := (nI_eq (b := 999) (by omega) (by omega)).mp z
            omega
          · rw [if_neg c]
            intro z
            exact hd ((nI_eq (by omega) (by omega)).mp z)
        by_cases hxL : x < L
        · have hgx : sn (i * 128 + x) = g x := by rw [← hg, ab_v_at (by omega)]
          have hag : ∀ y, y < ab_k g (x + 1) → upd bo (ab_k g x) (sn (i * 128 + x)) y = ab_b g (x + 1) y := by
            rw [a1, a3, hgx]
            intro y hy
            by_cases c : y = ab_k g x
            · subst c; rw [pk_us, pk_us]
            · rw [pk_un c, pk_un c]; exact hbo y (by omega)
          have hbb := ab_b_bit hok (x + 1) (by omega)
          obtain ⟨hn, hl⟩ := ab_n_ok hbb
          refine ⟨upd bo (ab_k g x) (sn (i * 128 + x)), nI (ab_k g x + 1), ab_W (ab_k g (x + 1)) (ab_b g (x + 1)), fun _ => ⟨by rw [a1], rfl, hag⟩, fun z => absurd z (by omega), fun post n h => ?_⟩
          rw [e] at h
          refine yw_hd hi hL hL1 hx (fun _ z => absurd (by rw [← hg]; exact z) hr) (fun _ _ => ?_) (fun z => absurd hk z)
          simp only [wY_next_109]
          refine br_f hW (yw_n123b hi hL hxL hL1 (by omega) (W := ab_W (ab_k g (x + 1)) (ab_b g (x + 1))) ?_ h)
          by_cases c : ab_k g x + 1 = 19
          · rw [if_pos c, ab_code_cg (b' := ab_b g (x + 1)) (fun y hy => hag y (by omega)), hl, ab_lit34]
            unfold ab_W
            rw [if_neg (by omega)]
          · rw [if_neg c]
            unfold ab_W
            by_cases c2 : ab_k g x < 19
            · rw [if_pos c2, if_pos (by omega)]
            · rw [if_neg c2, if_neg (by omega), a3, ab_n_up (by omega)]
        · refine ⟨bo, nI (ab_k g x), ab_W (ab_k g x) (ab_b g x), fun z => absurd z hxL, fun _ => rfl, fun post n h => ?_⟩
          rw [e] at h
          refine yw_hd hi hL hL1 hx (fun _ z => absurd (by rw [← hg]; exact z) hr) (fun _ _ => ?_) (fun z => absurd hk z)
          simp only [wY_next_109]
          exact br_f hW (yw_n123a hi (fun _ => by rw [hL]; exact nI_le (by omega) (by omega)) h)
  · subst hk
    have htn : ¬ ab_t g x = 0 := by omega
    obtain ⟨a1, a2, a3⟩ := ab_s_tail htn
    refine ⟨bo, nI (ab_k g x), ab_W (ab_k g x) (ab_b g x), fun _ => ⟨by rw [a1], by rw [a1, a3], by rw [a1, a3]; exact hbo⟩, fun _ => rfl, fun post n h => ?_⟩
    have htb : t < 1000 := by have := ab_t_le g x; omega
    have e : ab_kd g x = nI t + 1 := by unfold ab_kd; rw [if_neg htn, ht, nI_1]; rfl
    rw [e] at h
    refine yw_hd hi hL hL1 hx (fun z _ => absurd z (nI_pos (by omega))) (fun z _ => absurd z (nI_pos (by omega))) (fun _ => ?_)
    refine yw_n123a hi (fun z => ?_) h
    rw [nI_1] at z
    exact absurd (show nI (t + 1) < 0 by rw [z]; decide) (nI_pos (by omega))
theorem yw_nextL (hi : i < 4) {L : Nat} (hL : le i = nI L) (hL1 : L < 127) {g : Nat → Int32} (hg : ab_v 128 sn i = g) (hok : ab_ok g L) (d : Nat) :
    ∀ (x : Nat) (bo : Nat → Int32) (kd : Int32), x + d = L → ab_KI g x kd → (∀ y, y < ab_k g x → bo y = ab_b g x y) →
      ∃ bo1 : Nat → Int32, (∀ y, y < ab_k g L → bo1 y = ab_b g L y) ∧ ∀ (post : Int32 → SY → Prop) (n : Nat), d + 1 < n → post (ab_kd g L) (nc, pl, ol, gc, ac, te, re, ho, er, lo, se, de, qy, mi, fy, cu, dr, pc, bc, py, ny, dy, ri, rn, rd, le, sn, ty, bo1, wi, fr) → wY_next_12 post (nI i) nc pl ol gc n (nI (ab_k g x)) (ab_W (ab_k g x) (ab_b g x)) kd (nI x) ac te re ho er lo se de qy mi fy cu dr pc bc py ny dy ri rn rd le sn ty bo wi fr := by
  induction d with
  | zero =>
    intro x bo kd hx hkd hbo
    have hx : x = L := by omega
    subst hx
    obtain ⟨bo1, x2, x3, q1, q2, q3⟩ := yw_it hi hL hL1 (Nat.le_refl x) hg hok hkd hbo
    have q2 := q2 rfl
    subst q2
    refine ⟨bo1, hbo, fun post n hn h => ?_⟩
    obtain ⟨n, rfl⟩ : ∃ c, n = c + 2 := ⟨n - 2, by omega⟩
    refine q3 post (n + 1) ?_
    simp only [wY_next_12, ab_cl hi, ab_in4 hi, true_and, forall_eq, hL]
    exact br_t (nI_lt (by omega) (by omega)) h
  | succ d ih =>
    intro x bo kd hx hkd hbo
    obtain ⟨bo1, x2, x3, q1, q2, q3⟩ := yw_it hi hL hL1 (by omega) hg hok hkd hbo
    obtain ⟨e2, e3, hbo1⟩ := q1 (by omega)
    subst e2 e3
    obtain ⟨bo2, r1, r2⟩ := ih (x + 1) bo1 (ab_kd g x) (by omega) (ab_KI_s g x) hbo1
    refine ⟨bo2, r1, fun post n hn h => ?_⟩
    obtain ⟨n, rfl⟩ : ∃ c, n = c + 1 := ⟨n - 1, by omega⟩
    exact q3 post n (r2 post n (by omega) h)
theorem yw_next (hi : i < 4) {L : Nat} (hL : le i = nI L) (hL1 : L < 127) {g : Nat → Int32} (hg : ab_v 128 sn i = g) (hok : ab_ok g L) :
    ∃ bo1 : Nat → Int32, (∀ y, y < ab_k g L → bo1 y = ab_b g L y) ∧ ∀ (post : Int32 → SY → Prop), post (ab_kd g L) (nc, pl, ol, gc, ac, te, re, ho, er, lo, se, de, qy, mi, fy, cu, dr, pc, bc, py, ny, dy, ri, rn, rd, le, sn, ty, bo1, wi, fr) → wpY_next post (nc, pl, ol, gc, ac, te, re, ho, er, lo, se, de, qy, mi, fy, cu, dr, pc, bc, py, ny, dy, ri, rn, rd, le, sn, ty, bo, wi, fr) (nI i) := by
  obtain ⟨bo1, r1, r2⟩ := yw_nextL (nc := nc) (pl := pl) (ol := ol) (gc := gc) (ac := ac) (te := te) (re := re) (ho := ho) (er := er) (lo := lo) (se := se) (de := de) (qy := qy) (mi := mi) (fy := fy) (cu := cu) (dr := dr) (pc := pc) (bc := bc) (py := py) (ny := ny) (dy := dy) (ri := ri) (rn := rn) (rd := rd) (ty := ty) (wi := wi) (fr := fr) hi hL hL1 hg hok L 0 bo (-1) (by omega) (ab_KI_0 g) (fun y hy => absurd hy (Nat.not_lt_zero y))
  refine ⟨bo1, r1, fun post h => ?_⟩
  simp only [wpY_next]
  exact ⟨L + 2, r2 post (L + 2) (by omega) h⟩
end
end
section
/-! Y's walks: building the wire -/
section
variable {nc pl ol gc : Int32} {ac te re ho er lo se de qy mi fy cu dr pc bc py ny dy ri rn rd le sn ty bo wi fr : Nat → Int32} {i : Nat}
theorem yw_bws {n p j m : Nat} (hn : n ≤ 4) (hj : j < 34 + 8 * n) (hp : p ≤ 100) {post : Int32 → SY → Prop}
    (hN : ¬ 5 ≤ ab_R (upd wi p (bo j)) (p + 1) → wY_buildWire_222 post (nI n) nc pl ol gc m (nI (p + 1)) (nI (j + 1)) ac te re ho er lo se de qy mi fy cu dr pc bc py ny dy ri rn rd le sn ty bo (upd wi p (bo j)) (upd fr p (nI j)))
    (hS : 5 ≤ ab_R (upd wi p (bo j)) (p + 1) → wY_buildWire_222 post (nI n) nc pl ol gc m (nI (p + 2)) (nI (j + 1)) ac te re ho er lo se de qy mi fy cu dr pc bc py ny dy ri rn rd le sn ty bo (upd (upd wi p (bo j)) (p + 1) (1 - bo j)) (upd (upd fr p (nI j)) (p + 1) (nI j))) : wY_buildWire_222 post (nI n) nc pl ol gc (m + 1) (nI p) (nI j) ac te re ho er lo se de qy mi fy cu dr pc bc py ny dy ri rn rd le sn ty bo wi fr := by
  have v1 : vp_in (nI j) 128 := vp_in_nI (by omega) (by omega)
  have v2 : vp_in (nI p) 128 := vp_in_nI (by omega) (by omega)
  have v3 : vp_in (nI (p + 1)) 128 := vp_in_nI (by omega) (by omega)
  simp only [wY_buildWire_222, ab_lit34, true_and, forall_eq, nI_1, v1, v2, v3, nI_clamp (show j < 2 ^ 31 by omega), nI_clamp (show p < 2 ^ 31 by omega), nI_clamp (show p + 1 < 2 ^ 31 by omega)]
  refine br_f (nI_ge (by omega) (by omega)) ?_
  by_cases h5 : p + 1 < 5
  · refine br_t (nI_lt (b := 5) h5 (by omega)) (hN ?_)
    have := ab_R_le (upd wi p (bo j)) (p + 1)
    omega
  · refine br_f (nI_nlt (b := 5) (by omega) (by omega)) ?_
    obtain ⟨m, rfl⟩ : ∃ m, p = m + 4 := ⟨p - 4, by omega⟩
    have e1 : nI (m + 4 + 1) - 1 = nI (m + 4) := ab_subN (b := 1) (by omega)
    have e2 : nI (m + 4 + 1) - 2 = nI (m + 3) := ab_subN (b := 2) (by omega)
    have e3 : nI (m + 4 + 1) - 3 = nI (m + 2) := ab_subN (b := 3) (by omega)
    have e4 : nI (m + 4 + 1) - 4 = nI (m + 1) := ab_subN (b := 4) (by omega)
    have e5 : nI (m + 4 + 1) - 5 = nI m := ab_subN (b := 5) (by omega)
    have ha := ab_alike (upd wi (m + 4) (bo j)) m
    rw [e1, e2, e3, e4, e5]
    rw [nI_clamp (show m + 4 < 2 ^ 31 by omega), nI_clamp (show m + 3 < 2 ^ 31 by omega), nI_clamp (show m + 2 < 2 ^ 31 by omega), nI_clamp (show m + 1 < 2 ^ 31 by omega), nI_clamp (show m < 2 ^ 31 by omega)]
    refine ⟨vp_in_nI (by omega) (by omega), vp_in_nI (by omega) (by omega), vp_in_nI (by omega) (by omega), vp_in_nI (by omega) (by omega), vp_in_nI (by omega) (by omega), ?_⟩
    exact yw_alike (fun z => br_f (by decide) (hS (ha.mpr z))) (fun z => br_t rfl (hN (fun y => z (ha.mp y))))
theorem yw_bw222 {n : Nat} (hn : n ≤ 4) {F : Nat → Int32} (hF : ∀ x, ab_bit (F x)) (hFn : ab_n F = n) (hbo : ∀ y, y < 34 + 8 * n → bo y = F y) (d : Nat) : ∀ (wi fr : Nat → Int32) (p j : Nat), j + d = 34 + 8 * n → ab_WI F n wi fr p j →
    ∃ (wi1 fr1 : Nat → Int32) (e : Nat), ab_wi F wi1 fr1 e ∧ ab_t wi1 e = 1 ∧ e ≤ 82 ∧ ∀ (post : Int32 → SY → Prop) (m : Nat), d < m → post (nI e) (nc, pl, ol, gc, ac, te, re, ho, er, lo, se, de, qy, mi, fy, cu, dr, pc, bc, py, ny, dy, ri, rn, rd, le, sn, ty, bo, wi1, fr1) → wY_buildWire_222 post (nI n) nc pl ol gc m (nI p) (nI j) ac te re ho er lo se de qy mi fy cu dr pc bc py ny dy ri rn rd le sn ty bo wi fr := by
  induction d with
  | zero =>
    intro wi fr p j hj h
    have hj : j = 34 + 8 * n := by omega
    refine ⟨wi, fr, p, h.1, ?_, ab_WI_bd h hn (by omega), fun post m hm hp => ?_⟩
    · rw [h.2.2.2.1, if_pos hj]
    · obtain ⟨m, rfl⟩ : ∃ c, m = c + 1 := ⟨m - 1, by omega⟩
      simp only [wY_buildWire_222, ab_lit34]
      exact br_t (nI_le (by omega) (by omega)) hp
  | succ d ih =>
    intro wi fr p j hj h
    have hp := ab_WI_bd h hn (by omega)
    have eb := hbo j (by omega)
    by_cases hr : 5 ≤ ab_R (upd wi p (F j)) (p + 1)
    · obtain ⟨wi1, fr1, e, q1, q2, q3, q4⟩ := ih _ _ (p + 2) (j + 1) (by omega) (ab_WI_s hF hFn h (by omega) hr)
      refine ⟨wi1, fr1, e, q1, q2, q3, fun post m hm hp => ?_⟩
      obtain ⟨m, rfl⟩ : ∃ c, m = c + 1 := ⟨m - 1, by omega⟩
      refine yw_bws hn (by omega) (by omega) (fun z => ?_) (fun _ => ?_)
      · rw [eb] at z; exact absurd hr z
      · rw [eb]; exact q4 post m (by omega) hp
    · obtain ⟨wi1, fr1, e, q1, q2, q3, q4⟩ := ih _ _ (p + 1) (j + 1) (by omega) (ab_WI_n hFn h (by omega) hr)
      refine ⟨wi1, fr1, e, q1, q2, q3, fun post m hm hp => ?_⟩
      obtain ⟨m, rfl⟩ : ∃ c, m = c + 1 := ⟨m - 1, by omega⟩
      refine yw_bws hn (by omega) (by omega) (fun _ => ?_) (fun z => ?_)
      · rw [eb]; exact q4 post m (by omega) hp
      · rw [eb] at z; exact absurd z hr
theorem yw_bw178 {n : Nat} (hn : n ≤ 4) {id dat : Int32} {F : Nat → Int32} (eF : F = ab_F id dat n) (d : Nat) : ∀ (bo : Nat → Int32) (j : Nat), j + d = 15 → (∀ y, y < 19 + 8 * n + j → bo y = F y) →
    ∃ (bo1 wi1 fr1 : Nat → Int32) (e : Nat), ab_wi F wi1 fr1 e ∧ ab_t wi1 e = 1 ∧ e ≤ 82 ∧ ∀ (post : Int32 → SY → Prop) (m : Nat), d < m → post (nI e) (nc, pl, ol, gc, ac, te, re, ho, er, lo, se, de, qy, mi, fy, cu, dr, pc, bc, py, ny, dy, ri, rn, rd, le, sn, ty, bo1, wi1, fr1) → wY_buildWire_178 post (nI n) (ab_crc (ab_Fh id dat n) (19 + 8 * n)) nc pl ol gc m (nI j) ac te re ho er lo se de qy mi fy cu dr pc bc py ny dy ri rn rd le sn ty bo wi fr := by
  induction d with
  | zero =>
    intro bo j hj hbo
    have hj : j = 15 := by omega
    subst hj
    obtain ⟨wi1, fr1, e, q1, q2, q3, q4⟩ := yw_bw222 (nc := nc) (pl := pl) (ol := ol) (gc := gc) (ac := ac) (te := te) (re := re) (ho := ho) (er := er) (lo := lo) (se := se) (de := de) (qy := qy) (mi := mi) (fy := fy) (cu := cu) (dr := dr) (pc := pc) (bc := bc) (py := py) (ny := ny) (dy := dy) (ri := ri) (rn := rn) (rd := rd) (le := le) (sn := sn) (ty := ty) hn (F := F) (by rw [eF]; exact ab_F_bit id dat n) (by rw [eF]; exact ab_F_len hn) (fun y hy => hbo y (by omega)) (34 + 8 * n) wi fr 0 0 (by omega) (ab_WI_0 F n wi fr)
    refine ⟨bo, wi1, fr1, e, q1, q2, q3, fun post m hm hp => ?_⟩
    obtain ⟨m, rfl⟩ : ∃ c, m = c + 1 := ⟨m - 1, by omega⟩
    simp only [wY_buildWire_178]
    exact br_t (nI_le (a := 15) (by omega) (by omega)) ⟨_, q4 post (34 + 8 * n + 1) (by omega) hp⟩
  | succ d ih =>
    intro bo j hj hbo
    have e1 : (14 : Int32) - nI j = nI (14 - j) := pk_sub (a := 14) (by omega)
    have hb : ∀ y, y < 19 + 8 * n + (j + 1) → upd bo (19 + 8 * n + j) ((ab_crc (ab_Fh id dat n) (19 + 8 * n) >>> (nI (14 - j) &&& 31)) &&& 1) y = F y := by
      intro y hy
      by_cases c : y = 19 + 8 * n + j
      · subst c
        rw [pk_us, eF, ab_F_hi (by omega), show 33 + 8 * n - (19 + 8 * n + j) = 14 - j by omega]
      · rw [pk_un c]; exact hbo y (by omega)
    obtain ⟨bo1, wi1, fr1, e, q1, q2, q3, q4⟩ := ih _ (j + 1) (by omega) hb
    refine ⟨bo1, wi1, fr1, e, q1, q2, q3, fun post m hm hp => ?_⟩
    obtain ⟨m, rfl⟩ : ∃ c, m = c + 1 := ⟨m - 1, by omega⟩
    have v : vp_in (nI (19 + 8 * n + j)) 128 := vp_in_nI (by omega) (by omega)
    simp only [wY_buildWire_178, ab_lit19, nI_add, v, true_and, forall_eq, nI_1, nI_clamp (show 19 + 8 * n + j < 2 ^ 31 by omega), e1]
    exact br_f (nI_ge (b := 15) (by omega) (by omega)) (q4 post m (by omega) hp)
theorem yw_bw126 {n a : Nat} (hn : n ≤ 4) (ha : a < 12) {F : Nat → Int32} (eF : F = ab_F (py a) (dy a) n) (d : Nat) : ∀ (bo : Nat → Int32) (j : Nat), j + d = 8 * n → (∀ y, y < 19 + j → bo y = ab_Fh (py a) (dy a) n y) →
    ∃ (bo1 wi1 fr1 : Nat → Int32) (e : Nat), ab_wi F wi1 fr1 e ∧ ab_t wi1 e = 1 ∧ e ≤ 82 ∧ ∀ (post : Int32 → SY → Prop) (m : Nat), d < m → post (nI e) (nc, pl, ol, gc, ac, te, re, ho, er, lo, se, de, qy, mi, fy, cu, dr, pc, bc, py, ny, dy, ri, rn, rd, le, sn, ty, bo1, wi1, fr1) → wY_buildWire_126 post (nI a) (nI n) nc pl ol gc m (nI j) ac te re ho er lo se de qy mi fy cu dr pc bc py ny dy ri rn rd le sn ty bo wi fr := by
  induction d with
  | zero =>
    intro bo j hj hbo
    have hj : j = 8 * n := by omega
    obtain ⟨bo1, wi1, fr1, e, q1, q2, q3, q4⟩ := yw_bw178 (nc := nc) (pl := pl) (ol := ol) (gc := gc) (ac := ac) (te := te) (re := re) (ho := ho) (er := er) (lo := lo) (se := se) (de := de) (qy := qy) (mi := mi) (fy := fy) (cu := cu) (dr := dr) (pc := pc) (bc := bc) (py := py) (ny := ny) (dy := dy) (ri := ri) (rn := rn) (rd := rd) (le := le) (sn := sn) (ty := ty) (wi := wi) (fr := fr) hn eF 15 bo 0 (by omega) (fun y hy => by rw [eF, ab_F_lo (by omega)]; exact hbo y (by omega))
    refine ⟨bo1, wi1, fr1, e, q1, q2, q3, fun post m hm hp => ?_⟩
    obtain ⟨m, rfl⟩ : ∃ c, m = c + 1 := ⟨m - 1, by omega⟩
    simp only [wY_buildWire_126, ab_lit8]
    refine br_t (nI_le (by omega) (by omega)) ?_
    refine yw_ck (m := n) ?_ hn ?_
    · rw [ab_code_cg (b' := ab_Fh (py a) (dy a) n) (fun y hy => hbo y (by omega)), ab_Fh_code hn, ab_lI_n hn]
    · rw [ab_crc_cg (b' := ab_Fh (py a) (dy a) n) (19 + 8 * n) (fun y hy => hbo y (by omega))]
      exact ⟨_, q4 post 16 (by omega) hp⟩
  | succ d ih =>
    intro bo j hj hbo
    have e1 : (nI (8 * n) - 1) - nI j = nI (8 * n - 1 - j) := by
      show (nI (8 * n) - nI 1) - nI j = _
      rw [pk_sub (by omega), pk_sub (by omega)]
    have hb : ∀ y, y < 19 + (j + 1) → upd bo (19 + j) ((dy a >>> (nI (8 * n - 1 - j) &&& 31)) &&& 1) y = ab_Fh (py a) (dy a) n y := by
      intro y hy
      by_cases c : y = 19 + j
      · subst c
        rw [pk_us, ab_Fh_d (by omega), show 18 + 8 * n - (19 + j) = 8 * n - 1 - j by omega]
      · rw [pk_un c]; exact hbo y (by omega)
    obtain ⟨bo1, wi1, fr1, e, q1, q2, q3, q4⟩ := ih _ (j + 1) (by omega) hb
    refine ⟨bo1, wi1, fr1, e, q1, q2, q3, fun post m hm hp => ?_⟩
    obtain ⟨m, rfl⟩ : ∃ c, m = c + 1 := ⟨m - 1, by omega⟩
    have v : vp_in (nI (19 + j)) 128 := vp_in_nI (by omega) (by omega)
    have v2 : vp_in (nI a) 12 := vp_in_nI ha (by omega)
    have e2 : (19 : Int32) + nI j = nI (19 + j) := nI_add 19 j
    simp only [wY_buildWire_126, ab_lit8, e2, v, v2, true_and, forall_eq, nI_1, nI_clamp (show 19 + j < 2 ^ 31 by omega), nI_clamp (show a < 2 ^ 31 by omega), e1]
    exact br_f (nI_ge (by omega) (by omega)) (q4 post m (by omega) hp)
theorem yw_bw93 {n a : Nat} (hn : n ≤ 4) (ha : a < 12) {F : Nat → Int32} (eF : F = ab_F (py a) (dy a) n) (d : Nat) : ∀ (bo : Nat → Int32) (j : Nat), j + d = 4 → (∀ y, y < 15 + j → bo y = ab_Fh (py a) (dy a) n y) →
    ∃ (bo1 wi1 fr1 : Nat → Int32) (e : Nat), ab_wi F wi1 fr1 e ∧ ab_t wi1 e = 1 ∧ e ≤ 82 ∧ ∀ (post : Int32 → SY → Prop) (m : Nat), d < m → post (nI e) (nc, pl, ol, gc, ac, te, re, ho, er, lo, se, de, qy, mi, fy, cu, dr, pc, bc, py, ny, dy, ri, rn, rd, le, sn, ty, bo1, wi1, fr1) → wY_buildWire_93 post (nI a) (nI n) nc pl ol gc m (nI j) ac te re ho er lo se de qy mi fy cu dr pc bc py ny dy ri rn rd le sn ty bo wi fr := by
  induction d with
  | zero =>
    intro bo j hj hbo
    obtain ⟨bo1, wi1, fr1, e, q1, q2, q3, q4⟩ := yw_bw126 (nc := nc) (pl := pl) (ol := ol) (gc := gc) (ac := ac) (te := te) (re := re) (ho := ho) (er := er) (lo := lo) (se := se) (de := de) (qy := qy) (mi := mi) (fy := fy) (cu := cu) (dr := dr) (pc := pc) (bc := bc) (py := py) (ny := ny) (dy := dy) (ri := ri) (rn := rn) (rd := rd) (le := le) (sn := sn) (ty := ty) (wi := wi) (fr := fr) hn ha eF (8 * n) bo 0 (by omega) (fun y hy => hbo y (by omega))
    refine ⟨bo1, wi1, fr1, e, q1, q2, q3, fun post m hm hp => ?_⟩
    obtain ⟨m, rfl⟩ : ∃ c, m = c + 1 := ⟨m - 1, by omega⟩
    simp only [wY_buildWire_93]
    exact br_t (nI_le (a := 4) (by omega) (by omega)) ⟨_, q4 post ((8 * n) + 1) (by omega) hp⟩
  | succ d ih =>
    intro bo j hj hbo
    have e1 : (3 : Int32) - nI j = nI (3 - j) := pk_sub (a := 3) (by omega)
    have hb : ∀ y, y < 15 + (j + 1) → upd bo (15 + j) ((nI n >>> (nI (3 - j) &&& 31)) &&& 1) y = ab_Fh (py a) (dy a) n y := by
      intro y hy
      by_cases c : y = 15 + j
      · subst c
        rw [pk_us, ab_Fh_n (by omega) (by omega), show 18 - (15 + j) = 3 - j by omega]
      · rw [pk_un c]; exact hbo y (by omega)
    obtain ⟨bo1, wi1, fr1, e, q1, q2, q3, q4⟩ := ih _ (j + 1) (by omega) hb
    refine ⟨bo1, wi1, fr1, e, q1, q2, q3, fun post m hm hp => ?_⟩
    obtain ⟨m, rfl⟩ : ∃ c, m = c + 1 := ⟨m - 1, by omega⟩
    have v : vp_in (nI (15 + j)) 128 := vp_in_nI (by omega) (by omega)
    have v2 : vp_in (nI a) 12 := vp_in_nI ha (by omega)
    have e2 : (15 : Int32) + nI j = nI (15 + j) := nI_add 15 j
    simp only [wY_buildWire_93, e2, v, v2, true_and, forall_eq, nI_1, nI_clamp (show 15 + j < 2 ^ 31 by omega), nI_clamp (show a < 2 ^ 31 by omega), e1]
    exact br_f (nI_ge (b := 4) (by omega) (by omega)) (q4 post m (by omega) hp)
theorem yw_bw67 {n a : Nat} (hn : n ≤ 4) (ha : a < 12) {F : Nat → Int32} (eF : F = ab_F (py a) (dy a) n) (d : Nat) : ∀ (bo : Nat → Int32) (j : Nat), j + d = 3 → (∀ y, y < 12 + j → bo y = ab_Fh (py a) (dy a) n y) →
    ∃ (bo1 wi1 fr1 : Nat → Int32) (e : Nat), ab_wi F wi1 fr1 e ∧ ab_t wi1 e = 1 ∧ e ≤ 82 ∧ ∀ (post : Int32 → SY → Prop) (m : Nat), d < m → post (nI e) (nc, pl, ol, gc, ac, te, re, ho, er, lo, se, de, qy, mi, fy, cu, dr, pc, bc, py, ny, dy, ri, rn, rd, le, sn, ty, bo1, wi1, fr1) → wY_buildWire_67 post (nI a) (nI n) nc pl ol gc m (nI j) ac te re ho er lo se de qy mi fy cu dr pc bc py ny dy ri rn rd le sn ty bo wi fr := by
  induction d with
  | zero =>
    intro bo j hj hbo
    obtain ⟨bo1, wi1, fr1, e, q1, q2, q3, q4⟩ := yw_bw93 (nc := nc) (pl := pl) (ol := ol) (gc := gc) (ac := ac) (te := te) (re := re) (ho := ho) (er := er) (lo := lo) (se := se) (de := de) (qy := qy) (mi := mi) (fy := fy) (cu := cu) (dr := dr) (pc := pc) (bc := bc) (py := py) (ny := ny) (dy := dy) (ri := ri) (rn := rn) (rd := rd) (le := le) (sn := sn) (ty := ty) (wi := wi) (fr := fr) hn ha eF 4 bo 0 (by omega) (fun y hy => hbo y (by omega))
    refine ⟨bo1, wi1, fr1, e, q1, q2, q3, fun post m hm hp => ?_⟩
    obtain ⟨m, rfl⟩ : ∃ c, m = c + 1 := ⟨m - 1, by omega⟩
    simp only [wY_buildWire_67]
    exact br_t (nI_le (a := 3) (by omega) (by omega)) ⟨_, q4 post (4 + 1) (by omega) hp⟩
  | succ d ih =>
    intro bo j hj hbo
    have hb : ∀ y, y < 12 + (j + 1) → upd bo (12 + j) 0 y = ab_Fh (py a) (dy a) n y := by
      intro y hy
      by_cases c : y = 12 + j
      · subst c
        rw [pk_us, ab_Fh_z (by omega) (by omega)]
      · rw [pk_un c]; exact hbo y (by omega)
    obtain ⟨bo1, wi1, fr1, e, q1, q2, q3, q4⟩ := ih _ (j + 1) (by omega) hb
    refine ⟨bo1, wi1, fr1, e, q1, q2, q3, fun post m hm hp => ?_⟩
    obtain ⟨m, rfl⟩ : ∃ c, m = c + 1 := ⟨m - 1, by omega⟩
    have v : vp_in (nI (12 + j)) 128 := vp_in_nI (by omega) (by omega)
    have v2 : vp_in (nI a) 12 := vp_in_nI ha (by omega)
    have e2 : (12 : Int32) + nI j = nI (12 + j) := nI_add 12 j
    simp only [wY_buildWire_67, e2, v, v2, true_and, forall_eq, nI_1, nI_clamp (show 12 + j < 2 ^ 31 by omega), nI_clamp (show a < 2 ^ 31 by omega)]
    exact br_f (nI_ge (b := 3) (by omega) (by omega)) (q4 post m (by omega) hp)
theorem yw_bw28 {n a : Nat} (hn : n ≤ 4) (ha : a < 12) {F : Nat → Int32} (eF : F = ab_F (py a) (dy a) n) (d : Nat) : ∀ (bo : Nat → Int32) (j : Nat), j + d = 11 → (∀ y, y < 1 + j → bo y = ab_Fh (py a) (dy a) n y) →
    ∃ (bo1 wi1 fr1 : Nat → Int32) (e : Nat), ab_wi F wi1 fr1 e ∧ ab_t wi1 e = 1 ∧ e ≤ 82 ∧ ∀ (post : Int32 → SY → Prop) (m : Nat), d < m → post (nI e) (nc, pl, ol, gc, ac, te, re, ho, er, lo, se, de, qy, mi, fy, cu, dr, pc, bc, py, ny, dy, ri, rn, rd, le, sn, ty, bo1, wi1, fr1) → wY_buildWire_28 post (nI a) (nI n) nc pl ol gc m (nI j) ac te re ho er lo se de qy mi fy cu dr pc bc py ny dy ri rn rd le sn ty bo wi fr := by
  induction d with
  | zero =>
    intro bo j hj hbo
    obtain ⟨bo1, wi1, fr1, e, q1, q2, q3, q4⟩ := yw_bw67 (nc := nc) (pl := pl) (ol := ol) (gc := gc) (ac := ac) (te := te) (re := re) (ho := ho) (er := er) (lo := lo) (se := se) (de := de) (qy := qy) (mi := mi) (fy := fy) (cu := cu) (dr := dr) (pc := pc) (bc := bc) (py := py) (ny := ny) (dy := dy) (ri := ri) (rn := rn) (rd := rd) (le := le) (sn := sn) (ty := ty) (wi := wi) (fr := fr) hn ha eF 3 bo 0 (by omega) (fun y hy => hbo y (by omega))
    refine ⟨bo1, wi1, fr1, e, q1, q2, q3, fun post m hm hp => ?_⟩
    obtain ⟨m, rfl⟩ : ∃ c, m = c + 1 := ⟨m - 1, by omega⟩
    simp only [wY_buildWire_28]
    exact br_t (nI_le (a := 11) (by omega) (by omega)) ⟨_, q4 post (3 + 1) (by omega) hp⟩
  | succ d ih =>
    intro bo j hj hbo
    have e1 : (10 : Int32) - nI j = nI (10 - j) := pk_sub (a := 10) (by omega)
    have hb : ∀ y, y < 1 + (j + 1) → upd bo (1 + j) ((py a >>> (nI (10 - j) &&& 31)) &&& 1) y = ab_Fh (py a) (dy a) n y := by
      intro y hy
      by_cases c : y = 1 + j
      · subst c
        rw [pk_us, ab_Fh_id (by omega) (by omega), show 11 - (1 + j) = 10 - j by omega]
      · rw [pk_un c]; exact hbo y (by omega)
    obtain ⟨bo1, wi1, fr1, e, q1, q2, q3, q4⟩ := ih _ (j + 1) (by omega) hb
    refine ⟨bo1, wi1, fr1, e, q1, q2, q3, fun post m hm hp => ?_⟩
    obtain ⟨m, rfl⟩ : ∃ c, m = c + 1 := ⟨m - 1, by omega⟩
    have v : vp_in (nI (1 + j)) 128 := vp_in_nI (by omega) (by omega)
    have v2 : vp_in (nI a) 12 := vp_in_nI ha (by omega)
    have e2 : (1 : Int32) + nI j = nI (1 + j) := nI_add 1 j
    simp only [wY_buildWire_28, e2, v, v2, true_and, forall_eq, nI_1, nI_clamp (show 1 + j < 2 ^ 31 by omega), nI_clamp (show a < 2 ^ 31 by omega), e1]
    exact br_f (nI_ge (b := 11) (by omega) (by omega)) (q4 post m (by omega) hp)
theorem yw_build (hi : i < 4) {c n : Nat} (hc : cu i = nI c) (hc3 : c < 3) (hny : ny (i * 3 + c) = nI n) (hn : n ≤ 4) {F : Nat → Int32} (eF : F = ab_F (py (i * 3 + c)) (dy (i * 3 + c)) n) :
    ∃ (bo1 wi1 fr1 : Nat → Int32) (e : Nat), ab_wi F wi1 fr1 e ∧ ab_t wi1 e = 1 ∧ e ≤ 82 ∧ ∀ (post : Int32 → SY → Prop), post (nI e) (nc, pl, ol, gc, ac, te, re, ho, er, lo, se, de, qy, mi, fy, cu, dr, pc, bc, py, ny, dy, ri, rn, rd, le, sn, ty, bo1, wi1, fr1) → wpY_buildWire post (nc, pl, ol, gc, ac, te, re, ho, er, lo, se, de, qy, mi, fy, cu, dr, pc, bc, py, ny, dy, ri, rn, rd, le, sn, ty, bo, wi, fr) (nI i) := by
  obtain ⟨bo1, wi1, fr1, e, q1, q2, q3, q4⟩ := yw_bw28 (nc := nc) (pl := pl) (ol := ol) (gc := gc) (ac := ac) (te := te) (re := re) (ho := ho) (er := er) (lo := lo) (se := se) (de := de) (qy := qy) (mi := mi) (fy := fy) (cu := cu) (dr := dr) (pc := pc) (bc := bc) (py := py) (ny := ny) (dy := dy) (ri := ri) (rn := rn) (rd := rd) (le := le) (sn := sn) (ty := ty) (wi := wi) (fr := fr) hn (show i * 3 + c < 12 by omega) eF 11 (upd bo 0 0) 0 (by omega) (fun y hy => by
    have : y = 0 := by omega
    subst this
    rw [pk_us]; rfl)
  refine ⟨bo1, wi1, fr1, e, q1, q2, q3, fun post hp => ?_⟩
  have v : vp_in (nI (i * 3 + c)) 12 := vp_in_nI (by omega) (by omega)
  simp only [wpY_buildWire, ab_cl hi, ab_in4 hi, true_and, forall_eq, hc, ab_m3, nI_add, v, nI_clamp (show i * 3 + c < 2 ^ 31 by omega), hny]
  exact ⟨_, q4 post 12 (by omega) hp⟩
end
end
section
/-! Y's walks: ends of frames, levels -/
section
variable {nc pl ol gc : Int32} {ac te re ho er lo se de qy mi fy cu dr pc bc py ny dy ri rn rd le sn ty bo wi fr : Nat → Int32} {i : Nat}
theorem yw_ac97 (hi : i < 4) {A m : Nat} (hA : A < 32) (hm : m ≤ 4) (hrn : rn A = nI m) {post : SY → Prop} (h : wY_accepted_150 post (nI i) nc pl ol gc ac te re ho er lo se de qy mi fy cu dr pc (upd bc i (bc i + 1)) py ny dy ri rn (upd rd A (ab_num bo 19 (8 * m))) le sn ty bo wi fr) (d : Nat) :
    ∀ (j n : Nat), j + d = 8 * m → d < n → wY_accepted_97 post (nI i) (nI A) nc pl ol gc n (nI j) ac te re ho er lo se de qy mi fy cu dr pc bc py ny dy ri rn (upd rd A (ab_num bo 19 j)) le sn ty bo wi fr := by
  have vA : vp_in (nI A) 32 := vp_in_nI hA (by omega)
  have cA : (nI A).toNatClampNeg = A := nI_clamp (by omega)
  induction d with
  | zero =>
    intro j n hj hn
    obtain ⟨n, rfl⟩ : ∃ c, n = c + 1 := ⟨n - 1, by omega⟩
    have hj : j = 8 * m := by omega
    subst hj
    simp only [wY_accepted_97, ab_cl hi, ab_in4 hi, true_and, forall_eq, vA, cA, hrn, ab_lit8]
    exact br_t (Int32.le_refl _) h
  | succ d ih =>
    intro j n hj hn
    obtain ⟨n, rfl⟩ : ∃ c, n = c + 1 := ⟨n - 1, by omega⟩
    have ih := ih (j + 1) n (by omega) (by omega)
    rw [ab_num_s] at ih
    have v : vp_in (nI (19 + j)) 128 := vp_in_nI (by omega) (by omega)
    have e2 : (19 : Int32) + nI j = nI (19 + j) := nI_add 19 j
    simp only [wY_accepted_97, ab_cl hi, ab_in4 hi, true_and, forall_eq, vA, cA, hrn, ab_lit8, e2, v, nI_clamp (show 19 + j < 2 ^ 31 by omega), pk_us, ab_uu, nI_1]
    exact br_f (nI_ge (by omega) (by omega)) ih
theorem yw_ac45 (hi : i < 4) {A m : Nat} (hA : A < 32) (hm : m ≤ 4) (hl : ab_lI (ab_code bo) = nI m) (hb : ∀ j, j < 11 → ab_bit (bo (1 + j))) {post : SY → Prop}
    (h : wY_accepted_150 post (nI i) nc pl ol gc ac te re ho er lo se de qy mi fy cu dr pc (upd bc i (bc i + 1)) py ny dy (upd ri A (ab_num bo 1 11)) (upd rn A (nI m)) (upd rd A (ab_num bo 19 (8 * m))) le sn ty bo wi fr) (d : Nat) :
    ∀ (j n : Nat), j + d = 11 → d < n → wY_accepted_45 post (nI i) (nI A) nc pl ol gc n (nI (1 + j)) ac te re ho er lo se de qy mi fy cu dr pc bc py ny dy (upd ri A (ab_num bo 1 j)) rn rd le sn ty bo wi fr := by
  have vA : vp_in (nI A) 32 := vp_in_nI hA (by omega)
  have cA : (nI A).toNatClampNeg = A := nI_clamp (by omega)
  induction d with
  | zero =>
    intro j n hj hn
    obtain ⟨n, rfl⟩ : ∃ c, n = c + 1 := ⟨n - 1, by omega⟩
    have hj : j = 11 := by omega
    subst hj
    simp only [wY_accepted_45]
    refine br_t (nI_lt (a := 11) (by omega) (by omega)) ?_
    refine yw_len ?_
    simp only [ab_cl hi, ab_in4 hi, true_and, forall_eq, vA, cA, hl]
    exact ⟨_, yw_ac97 hi hA hm pk_us h (8 * m) 0 (8 * m + 1) (by omega) (by omega)⟩
  | succ d ih =>
    intro j n hj hn
    obtain ⟨n, rfl⟩ : ∃ c, n = c + 1 := ⟨n - 1, by omega⟩
    have ih := ih (j + 1) n (by omega) (by omega)
    rw [ab_num_s, ab_sh_eq _ (hb j (by omega))] at ih
    have v : vp_in (nI (1 + j)) 128 := vp_in_nI (by omega) (by omega)
    simp only [wY_accepted_45, ab_cl hi, ab_in4 hi, true_and, forall_eq, vA, cA, v, nI_clamp (show 1 + j < 2 ^ 31 by omega), pk_us, ab_uu, nI_1]
    exact br_f (nI_nlt (a := 11) (by omega) (by omega)) ih
theorem yw_acc (hi : i < 4) {c m : Nat} (hc : bc i = nI c) (hc8 : c < 8) (hm : m ≤ 4) (hl : ab_lI (ab_code bo) = nI m) (hb : ∀ j, j < 11 → ab_bit (bo (1 + j))) {post : SY → Prop}
    (h : post (nc, pl, ol, gc, upd ac i 5, te, upd re i (ab_acc pl (re i)), ho, er, lo, se, de, upd qy i 7, mi, fy, cu, dr, pc, upd bc i (nI (c + 1)), py, ny, dy, upd ri (i * 8 + c) (ab_num bo 1 11), upd rn (i * 8 + c) (nI m), upd rd (i * 8 + c) (ab_num bo 19 (8 * m)), le, sn, ty, bo, wi, fr)) : wpY_accepted post (nc, pl, ol, gc, ac, te, re, ho, er, lo, se, de, qy, mi, fy, cu, dr, pc, bc, py, ny, dy, ri, rn, rd, le, sn, ty, bo, wi, fr) (nI i) := by
  have v : vp_in (nI (i * 8 + c)) 32 := vp_in_nI (by omega) (by omega)
  have h2 := yw_ac45 (nc := nc) (pl := pl) (ol := ol) (gc := gc) (ac := ac) (te := te) (re := re) (ho := ho) (er := er) (lo := lo) (se := se) (de := de) (qy := qy) (mi := mi) (fy := fy) (cu := cu) (dr := dr) (pc := pc) (bc := bc) (py := py) (ny := ny) (dy := dy) (ri := ri) (rn := rn) (rd := rd) (le := le) (sn := sn) (ty := ty) (wi := wi) (fr := fr) hi (A := i * 8 + c) (by omega) hm hl hb (post := post) (yw_acc150 hi (by rw [hc, nI_1]; exact h)) 11 0 12 (by omega) (by omega)
  simp only [wpY_accepted, ab_cl hi, ab_in4 hi, true_and, forall_eq, hc, ab_m8, nI_add, v, nI_clamp (show i * 8 + c < 2 ^ 31 by omega)]
  exact br_t (nI_lt (b := 8) hc8 (by omega)) ⟨_, h2⟩
theorem yw_acc_full (hi : i < 4) {c : Nat} (hc : bc i = nI c) (hcb : c < 1000) (hc8 : ¬ c < 8) {post : SY → Prop}
    (h : post (nc, pl, ol, gc, upd ac i 5, te, upd re i (ab_acc pl (re i)), ho, er, upd lo i (lo i + 1), se, de, upd qy i 7, mi, fy, cu, dr, pc, bc, py, ny, dy, ri, rn, rd, le, sn, ty, bo, wi, fr)) : wpY_accepted post (nc, pl, ol, gc, ac, te, re, ho, er, lo, se, de, qy, mi, fy, cu, dr, pc, bc, py, ny, dy, ri, rn, rd, le, sn, ty, bo, wi, fr) (nI i) := by
  simp only [wpY_accepted, ab_cl hi, ab_in4 hi, true_and, forall_eq, hc]
  exact br_f (nI_nlt (b := 8) (by omega) (by omega)) (yw_acc150 hi h)
theorem yw_fs36 (hi : i < 4) {N : Nat} (hN : nc = nI N) (hN4 : N ≤ 4) (hiN : i < N) (ha : ¬ ac i = 6) {p : Nat} (hp : pc i = nI p) (hp1 : 1 ≤ p) (hp3 : p ≤ 3) {post : SY → Prop} (d : Nat) : ∀ (py ny dy : Nat → Int32) (k n : Nat), k + d = p - 1 → d < n →
    post (nc, pl, ol, gc, upd ac i 5, te, re, upd ho i (ab_h8 (ab_pas pl (te i) (re i))), er, lo, se, de, upd qy i 8, mi, fy, cu, dr, upd pc i (pc i - 1), bc, ab_sf py (i * 3 + k) d, ab_sf ny (i * 3 + k) d, ab_sf dy (i * 3 + k) d, ri, rn, rd, le, sn, ty, bo, wi, fr) → wY_frameSent_36 post (nI i) nc pl ol gc n (nI k) ac te re ho er lo se de qy mi fy cu dr pc bc py ny dy ri rn rd le sn ty bo wi fr := by
  have e1 : nI p - 1 = nI (p - 1) := ab_subN (b := 1) (by omega)
  induction d with
  | zero =>
    intro py ny dy k n hk hn h
    obtain ⟨n, rfl⟩ : ∃ c, n = c + 1 := ⟨n - 1, by omega⟩
    rw [hp] at h
    simp only [wY_frameSent_36, ab_cl hi, ab_in4 hi, true_and, forall_eq, hp]
    refine br_t (by rw [e1]; exact nI_le (by omega) (by omega)) ?_
    refine yw_cond hi hN hN4 hiN ha ?_
    unfold ab_h8 at h
    rcases ab_pas_01 pl (te i) (re i) with e | e
    · rw [if_pos e] at h
      refine br_f (by rw [e]; decide) ?_
      simp only [wY_frameSent_150, ab_cl hi, ab_in4 hi, true_and, forall_eq]
      exact yw_pause hi h
    · rw [if_neg (by rw [e]; decide)] at h
      refine br_t e ?_
      simp only [wY_frameSent_150, ab_cl hi, ab_in4 hi, true_and, forall_eq]
      exact yw_pause hi h
  | succ d ih =>
    intro py ny dy k n hk hn h
    obtain ⟨n, rfl⟩ : ∃ c, n = c + 1 := ⟨n - 1, by omega⟩
    simp only [wY_frameSent_36, ab_cl hi, ab_in4 hi, true_and, forall_eq, hp, ab_m3, nI_add, nI_1, nI_clamp (show i * 3 + k < 2 ^ 31 by omega), nI_clamp (show i * 3 + k + 1 < 2 ^ 31 by omega)]
    refine br_f (by rw [e1]; exact nI_ge (by omega) (by omega)) ?_
    have hv : vp_in (nI (i * 3 + k)) 12 := vp_in_nI (by omega) (by omega)
    have hv1 : vp_in (nI (i * 3 + k + 1)) 12 := vp_in_nI (by omega) (by omega)
    refine ⟨hv1, hv, hv1, hv, hv1, hv, ?_⟩
    exact ih _ _ _ (k + 1) n (by omega) (by omega) h
theorem yw_sent (hi : i < 4) {N : Nat} (hN : nc = nI N) (hN4 : N ≤ 4) (hiN : i < N) (ha : ¬ ac i = 6) {c p : Nat} (hc : cu i = nI c) (hp : pc i = nI p) (hcp : c < p) (hp3 : p ≤ 3) {T : Int32} (hT : ab_dec (te i) = T) {post : SY → Prop}
    (h : post (nc, pl, ol, gc, upd ac i 5, upd te i T, re, upd ho i (ab_h8 (ab_pas pl T (re i))), er, lo, upd se i (se i + 1), de, upd qy i 8, mi, fy, cu, dr, upd pc i (pc i - 1), bc, ab_sf py (i * 3 + c) (p - 1 - c), ab_sf ny (i * 3 + c) (p - 1 - c), ab_sf dy (i * 3 + c) (p - 1 - c), ri, rn, rd, le, sn, ty, bo, wi, fr)) : wpY_frameSent post (nc, pl, ol, gc, ac, te, re, ho, er, lo, se, de, qy, mi, fy, cu, dr, pc, bc, py, ny, dy, ri, rn, rd, le, sn, ty, bo, wi, fr) (nI i) := by
  have key : ∀ te' : Nat → Int32, te' i = T → post (nc, pl, ol, gc, upd ac i 5, te', re, upd ho i (ab_h8 (ab_pas pl T (re i))), er, lo, upd se i (se i + 1), de, upd qy i 8, mi, fy, cu, dr, upd pc i (pc i - 1), bc, ab_sf py (i * 3 + c) (p - 1 - c), ab_sf ny (i * 3 + c) (p - 1 - c), ab_sf dy (i * 3 + c) (p - 1 - c), ri, rn, rd, le, sn, ty, bo, wi, fr) → wY_frameSent_19 post (nI i) nc pl ol gc ac te' re ho er lo se de qy mi fy cu dr pc bc py ny dy ri rn rd le sn ty bo wi fr := by
    intro te' e h
    subst e
    simp only [wY_frameSent_19, ab_cl hi, ab_in4 hi, true_and, forall_eq, hc]
    exact ⟨_, yw_fs36 hi hN hN4 hiN ha hp (by omega) hp3 (p - 1 - c) _ _ _ c (p - 1 - c + 1) (by omega) (by omega) h⟩
  simp only [wpY_frameSent, ab_cl hi, ab_in4 hi, true_and, forall_eq]
  unfold ab_dec at hT
  by_cases z : te i ≤ 0
  · rw [if_pos z] at hT
    subst hT
    rw [ab_up te i] at h
    exact br_t z (key te rfl h)
  · rw [if_neg z] at hT
    subst hT
    exact br_f z (key _ pk_us h)
theorem yw_l38s (hi : i < 4) {q k b n : Nat} (hq : pc i = nI q) (hq3 : q ≤ 3) (hk : k < q) (hb : b < 3) {post : Int32 → SY → Prop}
    (h : wY_level_38 post (nI i) nc pl ol gc n (nI (k + 1)) ac te re ho er lo se de qy mi fy (upd cu i (nI (if ab_v 3 py i k < ab_v 3 py i b then k else b))) dr pc bc py ny dy ri rn rd le sn ty bo wi fr) : wY_level_38 post (nI i) nc pl ol gc (n + 1) (nI k) ac te re ho er lo se de qy mi fy (upd cu i (nI b)) dr pc bc py ny dy ri rn rd le sn ty bo wi fr := by
  have hv : vp_in (nI (i * 3 + k)) 12 := vp_in_nI (by omega) (by omega)
  have hv1 : vp_in (nI (i * 3 + b)) 12 := vp_in_nI (by omega) (by omega)
  simp only [wY_level_38, ab_cl hi, ab_in4 hi, true_and, forall_eq, hq, pk_us, ab_m3, nI_add, nI_1, hv, hv1, nI_clamp (show i * 3 + k < 2 ^ 31 by omega), nI_clamp (show i * 3 + b < 2 ^ 31 by omega), ab_uu]
  refine br_f (nI_ge (by omega) (by omega)) ?_
  rw [ab_v_at (show k < 3 by omega), ab_v_at hb] at h
  by_cases d : py (i * 3 + b) ≤ py (i * 3 + k)
  · rw [if_neg (fun z => absurd d (Int32.not_le.mpr z))] at h; exact br_t d h
  · rw [if_pos (Int32.not_le.mp d)] at h; exact br_f d h
theorem yw_l38e (hi : i < 4) {q k b n : Nat} (hq : pc i = nI q) (hqk : q ≤ k) (hk3 : k ≤ 3) {post : Int32 → SY → Prop} (h : post 0 (nc, pl, ol, gc, ac, te, re, ho, er, lo, se, de, qy, mi, fy, upd cu i (nI b), dr, pc, bc, py, ny, dy, ri, rn, rd, le, sn, ty, bo, wi, fr)) : wY_level_38 post (nI i) nc pl ol gc (n + 1) (nI k) ac te re ho er lo se de qy mi fy (upd cu i (nI b)) dr pc bc py ny dy ri rn rd le sn ty bo wi fr := by
  simp only [wY_level_38, ab_cl hi, ab_in4 hi, true_and, forall_eq, hq]
  exact br_t (nI_le hqk (by omega)) h
theorem yw_lv0a (hi : i < 4) (ha : ac i = 0) (h0 : ¬ ho i = 0 ∨ pc i = 0) {post : Int32 → SY → Prop} (h : post 1 (nc, pl, ol, gc, ac, te, re, ho, er, lo, se, de, qy, mi, fy, cu, dr, pc, bc, py, ny, dy, ri, rn, rd, le, sn, ty, bo, wi, fr)) : wpY_level post (nc, pl, ol, gc, ac, te, re, ho, er, lo, se, de, qy, mi, fy, cu, dr, pc, bc, py, ny, dy, ri, rn, rd, le, sn, ty, bo, wi, fr) (nI i) := by
  simp only [wpY_level, ab_cl hi, ab_in4 hi, true_and, forall_eq, ha]
  refine br_t trivial ?_
  by_cases z : ho i = 0
  · rcases h0 with y | y
    · exact absurd z y
    · exact br_t z (br_t y h)
  · exact br_f z h
theorem yw_lv0b (hi : i < 4) (ha : ac i = 0) (h0 : ho i = 0) {q : Nat} (hq : pc i = nI q) (hq1 : 1 ≤ q) (hq3 : q ≤ 3) {post : Int32 → SY → Prop} (h : post 0 (nc, pl, ol, gc, ac, te, re, ho, er, lo, se, de, qy, mi, fy, upd cu i (nI (ab_ch q (ab_v 3 py i))), dr, pc, bc, py, ny, dy, ri, rn, rd, le, sn, ty, bo, wi, fr)) : wpY_level post (nc, pl, ol, gc, ac, te, re, ho, er, lo, se, de, qy, mi, fy, cu, dr, pc, bc, py, ny, dy, ri, rn, rd, le, sn, ty, bo, wi, fr) (nI i) := by
  have key : ∃ n38 : Nat, wY_level_38 post (nI i) nc pl ol gc n38 (nI 1) ac te re ho er lo se de qy mi fy (upd cu i (nI 0)) dr pc bc py ny dy ri rn rd le sn ty bo wi fr := by
    have : q = 1 ∨ q = 2 ∨ q = 3 := by omega
    rcases this with rfl | rfl | rfl
    · exact ⟨1, yw_l38e hi hq (by omega) (by omega) h⟩
    · refine ⟨2, yw_l38s hi hq (by omega) (by omega) (by omega) (yw_l38e hi hq (by omega) (by omega) ?_)⟩
      unfold ab_ch ab_c1 at h
      rw [if_neg (by omega)] at h
      by_cases c : ab_v 3 py i 1 < ab_v 3 py i 0
      · rw [if_pos ⟨by omega, c⟩] at h; rw [if_pos c]; exact h
      · rw [if_neg (fun z => c z.2)] at h; rw [if_neg c]; exact h
    · refine ⟨3, yw_l38s hi hq (by omega) (by omega) (by omega) (yw_l38s hi hq (by omega) (by omega) (by split <;> omega) (yw_l38e hi hq (by omega) (by omega) ?_))⟩
      unfold ab_ch ab_c1 at h
      by_cases c : ab_v 3 py i 1 < ab_v 3 py i 0
      · rw [if_pos (show 1 < 3 ∧ _ from ⟨by omega, c⟩)] at h
        rw [if_pos c]
        by_cases c2 : ab_v 3 py i 2 < ab_v 3 py i 1
        · rw [if_pos ⟨by omega, c2⟩] at h; rw [if_pos c2]; exact h
        · rw [if_neg (fun z => c2 z.2)] at h; rw [if_neg c2]; exact h
      · rw [if_neg (show ¬ (1 < 3 ∧ ab_v 3 py i 1 < ab_v 3 py i 0) from fun z => c z.2)] at h
        rw [if_neg c]
        by_cases c2 : ab_v 3 py i 2 < ab_v 3 py i 0
        · rw [if_pos ⟨by omega, c2⟩] at h; rw [if_pos c2]; exact h
        · rw [if_neg (fun z => c2 z.2)] at h; rw [if_neg c2]; exact h
  have hne : ¬ nI q = 0 := nI_ne0 (by omega) (by omega)
  simp only [wpY_level, ab_cl hi, ab_in4 hi, true_and, forall_eq, ha, hq]
  exact br_t trivial (br_t h0 (br_f hne key))
theorem yw_lv1 (hi : i < 4) (ha : ac i = 1) {L e : Nat} (hL : le i = nI L) (hL1 : L < 127) (he : e ≤ 100) {bo1 wi1 fr1 : Nat → Int32} (hb : ∀ (post : Int32 → SY → Prop), post (nI e) (nc, pl, ol, gc, ac, te, re, ho, er, lo, se, de, qy, mi, fy, cu, dr, pc, bc, py, ny, dy, ri, rn, rd, le, sn, ty, bo1, wi1, fr1) → wpY_buildWire post (nc, pl, ol, gc, ac, te, re, ho, er, lo, se, de, qy, mi, fy, cu, dr, pc, bc, py, ny, dy, ri, rn, rd, le, sn, ty, bo, wi, fr) (nI i)) {post : Int32 → SY → Prop}
    (h : post (if e ≤ L then 1 else wi1 L) (nc, pl, ol, gc, ac, te, re, ho, er, lo, se, de, qy, mi, fy, cu, dr, pc, bc, py, ny, dy, ri, rn, rd, le, sn, ty, bo1, wi1, fr1)) : wpY_level post (nc, pl, ol, gc, ac, te, re, ho, er, lo, se, de, qy, mi, fy, cu, dr, pc, bc, py, ny, dy, ri, rn, rd, le, sn, ty, bo, wi, fr) (nI i) := by
  simp only [wpY_level, ab_cl hi, ab_in4 hi, true_and, forall_eq, ha]
  refine br_f (by decide) (br_t trivial ?_)
  refine hb _ ?_
  have v : vp_in (nI L) 128 := vp_in_nI (by omega) (by omega)
  simp only [ab_cl hi, ab_in4 hi, true_and, forall_eq, hL, v, nI_clamp (show L < 2 ^ 31 by omega)]
  by_cases c : e ≤ L
  · rw [if_pos c] at h; exact br_t (nI_le c (by omega)) h
  · rw [if_neg c] at h; exact br_f (nI_ge (by omega) (by omega)) h
theorem yw_lv2 (hi : i < 4) (ha : ac i = 2) {kd : Int32} {bo1 : Nat → Int32} (hb : ∀ (post : Int32 → SY → Prop), post kd (nc, pl, ol, gc, ac, te, re, ho, er, lo, se, de, qy, mi, fy, cu, dr, pc, bc, py, ny, dy, ri, rn, rd, le, sn, ty, bo1, wi, fr) → wpY_next post (nc, pl, ol, gc, ac, te, re, ho, er, lo, se, de, qy, mi, fy, cu, dr, pc, bc, py, ny, dy, ri, rn, rd, le, sn, ty, bo, wi, fr) (nI i)) {post : Int32 → SY → Prop}
    (h1 : kd = 1 → wpY_matched (fun r => (r = 0 → post 1 (nc, pl, ol, gc, ac, te, re, ho, er, lo, se, de, qy, mi, fy, cu, dr, pc, bc, py, ny, dy, ri, rn, rd, le, sn, ty, bo1, wi, fr)) ∧ (¬ r = 0 → post 0 (nc, pl, ol, gc, ac, te, re, ho, er, lo, se, de, qy, mi, fy, cu, dr, pc, bc, py, ny, dy, ri, rn, rd, le, sn, ty, bo1, wi, fr))) (nc, pl, ol, gc, ac, te, re, ho, er, lo, se, de, qy, mi, fy, cu, dr, pc, bc, py, ny, dy, ri, rn, rd, le, sn, ty, bo1, wi, fr)) (h2 : ¬ kd = 1 → post 1 (nc, pl, ol, gc, ac, te, re, ho, er, lo, se, de, qy, mi, fy, cu, dr, pc, bc, py, ny, dy, ri, rn, rd, le, sn, ty, bo1, wi, fr)) : wpY_level post (nc, pl, ol, gc, ac, te, re, ho, er, lo, se, de, qy, mi, fy, cu, dr, pc, bc, py, ny, dy, ri, rn, rd, le, sn, ty, bo, wi, fr) (nI i) := by
  simp only [wpY_level, ab_cl hi, ab_in4 hi, true_and, forall_eq, ha]
  refine br_f (by decide) (br_f (by decide) (br_t trivial ?_))
  refine hb _ ?_
  exact br_c h1 h2
theorem yw_lv34 (hi : i < 4) (ha : ac i = 3 ∨ ac i = 4) {post : Int32 → SY → Prop} (h : post (if fy i ≤ 1 then 1 else 0) (nc, pl, ol, gc, ac, te, re, ho, er, lo, se, de, qy, mi, fy, cu, dr, pc, bc, py, ny, dy, ri, rn, rd, le, sn, ty, bo, wi, fr)) : wpY_level post (nc, pl, ol, gc, ac, te, re, ho, er, lo, se, de, qy, mi, fy, cu, dr, pc, bc, py, ny, dy, ri, rn, rd, le, sn, ty, bo, wi, fr) (nI i) := by
  have key : wY_level_187 post (nI i) nc pl ol gc ac te re ho er lo se de qy mi fy cu dr pc bc py ny dy ri rn rd le sn ty bo wi fr := by
    simp only [wY_level_187, ab_cl hi, ab_in4 hi, true_and, forall_eq]
    by_cases z : fy i ≤ 1
    · rw [if_pos z] at h; exact br_t z h
    · rw [if_neg z] at h; exact br_f z h
  rcases ha with ha | ha
  · simp only [wpY_level, ab_cl hi, ab_in4 hi, true_and, forall_eq, ha]
    exact br_f (by decide) (br_f (by decide) (br_f (by decide) (br_t trivial key)))
  · simp only [wpY_level, ab_cl hi, ab_in4 hi, true_and, forall_eq, ha]
    exact br_f (by decide) (br_f (by decide) (br_f (by decide) (br_f (by decide) (br_t trivial key))))
theorem yw_lv56 (hi : i < 4) (ha : ac i = 5 ∨ ac i = 6) {post : Int32 → SY → Prop} (h : post 1 (nc, pl, ol, gc, ac, te, re, ho, er, lo, se, de, qy, mi, fy, cu, dr, pc, bc, py, ny, dy, ri, rn, rd, le, sn, ty, bo, wi, fr)) : wpY_level post (nc, pl, ol, gc, ac, te, re, ho, er, lo, se, de, qy, mi, fy, cu, dr, pc, bc, py, ny, dy, ri, rn, rd, le, sn, ty, bo, wi, fr) (nI i) := by
  rcases ha with ha | ha
  · simp only [wpY_level, ab_cl hi, ab_in4 hi, true_and, forall_eq, ha]
    exact br_f (by decide) (br_f (by decide) (br_f (by decide) (br_f (by decide) (br_f (by decide) h))))
  · simp only [wpY_level, ab_cl hi, ab_in4 hi, true_and, forall_eq, ha]
    exact br_f (by decide) (br_f (by decide) (br_f (by decide) (br_f (by decide) (br_f (by decide) h))))
end
end
section
/-! lockstep: errors -/
theorem rl_n34 {D : Prop} {a r h m qx qy fx fy tk le bd rl ll td cr cs si sc sd ss cu d p b : Int32} {px py nx ny dx dy kx ri rn bx rd g : Nat → Int32} (ha : a = 3 ∨ a = 4) (hB : rl_B r p b px py nx ny dx dy kx ri rn bx rd) (hf : fx = fy) : rl_N D a r h m qx qy fx fy tk le bd rl ll td cr cs si sc sd ss cu d p b px py nx ny dx dy kx ri rn bx rd g := by
  rcases ha with rfl | rfl
  · exact ⟨hB, ⟨⟨3, by omega, rfl⟩, fun z => absurd z (by decide), fun z => absurd z (by decide), fun _ => hf⟩, fun z => absurd z (by decide), fun _ z => absurd z (by decide)⟩
  · exact ⟨hB, ⟨⟨4, by omega, rfl⟩, fun z => absurd z (by decide), fun z => absurd z (by decide), fun _ => hf⟩, fun z => absurd z (by decide), fun _ z => absurd z (by decide)⟩
theorem rl_n5 {D : Prop} {a r h m qx qy fx fy tk le bd rl ll td cr cs si sc sd ss cu d p b : Int32} {px py nx ny dx dy kx ri rn bx rd g : Nat → Int32} (q : Nat) (ha : a = 5) (hB : rl_B r p b px py nx ny dx dy kx ri rn bx rd) (hq : q ≤ 10) (h1 : qx = nI q) (h2 : qy = nI q) : rl_N D a r h m qx qy fx fy tk le bd rl ll td cr cs si sc sd ss cu d p b px py nx ny dx dy kx ri rn bx rd g := by
  subst ha
  exact ⟨hB, ⟨⟨5, by omega, rfl⟩, fun _ => ⟨q, hq, h1, h2⟩, fun z => absurd z (by decide), fun z => absurd z (by decide)⟩, fun z => absurd z (by decide), fun _ z => absurd z (by decide)⟩
theorem rl_n6 {D : Prop} {a r h m qx qy fx fy tk le bd rl ll td cr cs si sc sd ss cu d p b : Int32} {px py nx ny dx dy kx ri rn bx rd g : Nat → Int32} (q w : Nat) (ha : a = 6) (hB : rl_B r p b px py nx ny dx dy kx ri rn bx rd) (hq : q ≤ 10) (h1 : qx = nI q) (h2 : qy = nI q) (hw1 : 1 ≤ w) (hw : w ≤ 16) (hm : m = nI w) : rl_N D a r h m qx qy fx fy tk le bd rl ll td cr cs si sc sd ss cu d p b px py nx ny dx dy kx ri rn bx rd g := by
  subst ha
  exact ⟨hB, ⟨⟨6, by omega, rfl⟩, fun _ => ⟨q, hq, h1, h2⟩, fun _ => ⟨w, hw1, hw, hm⟩, fun z => absurd z (by decide)⟩, fun z => absurd z (by decide), fun _ z => absurd z (by decide)⟩
theorem rl_n0 {D : Prop} {a r h m qx qy fx fy tk le bd rl ll td cr cs si sc sd ss cu d p b : Int32} {px py nx ny dx dy kx ri rn bx rd g : Nat → Int32} (hD : ¬ D) (ha : a = 0) (hB : rl_B r p b px py nx ny dx dy kx ri rn bx rd) : rl_N D a r h m qx qy fx fy tk le bd rl ll td cr cs si sc sd ss cu d p b px py nx ny dx dy kx ri rn bx rd g := by
  subst ha
  exact ⟨hB, ⟨⟨0, by omega, rfl⟩, fun z => absurd z (by decide), fun z => absurd z (by decide), fun z => absurd z (by decide)⟩, fun z => absurd z (by decide), fun z => absurd z hD⟩
theorem rl_n2 {D : Prop} {a r h m qx qy fx fy tk le bd rl ll td cr cs si sc sd ss cu d p b : Int32} {px py nx ny dx dy kx ri rn bx rd g : Nat → Int32} (L : Nat) (ha : a = 2) (hB : rl_B r p b px py nx ny dx dy kx ri rn bx rd) (h1 : tk = nI L) (h2 : le = nI L) (h3 : ab_ok g L) (h4 : ab_t g L ≤ 9) (h5 : ab_X g L bd rl ll td cr cs si sc sd) : rl_N D a r h m qx qy fx fy tk le bd rl ll td cr cs si sc sd ss cu d p b px py nx ny dx dy kx ri rn bx rd g := by
  subst ha
  exact ⟨hB, ⟨⟨2, by omega, rfl⟩, fun z => absurd z (by decide), fun z => absurd z (by decide), fun z => absurd z (by decide)⟩, fun _ => ⟨L, h1, h2, h3, by omega, h5, fun _ => h4, fun z => absurd z (by decide)⟩, fun _ z => absurd z (by decide)⟩
theorem rl_n1 {D : Prop} {a r h m qx qy fx fy tk le bd rl ll td cr cs si sc sd ss cu d p b : Int32} {px py nx ny dx dy kx ri rn bx rd g : Nat → Int32} (L : Nat) (hD : ¬ D) (ha : a = 1) (hB : rl_B r p b px py nx ny dx dy kx ri rn bx rd) (h1 : tk = nI L) (h2 : le = nI L) (h3 : ab_ok g L) (h4 : ab_t g L ≤ 10) (h5 : ab_X g L bd rl ll td cr cs si sc sd)
    (c q n : Nat) (e1 : ss = nI c) (e2 : cu = nI c) (e3 : p = nI q) (e4 : c < q) (e5 : q ≤ 3) (e6 : n ≤ 4) (e7 : ny c = nI n) (e8 : ab_SG (ab_F (py c) (dy c) n) g L) : rl_N D a r h m qx qy fx fy tk le bd rl ll td cr cs si sc sd ss cu d p b px py nx ny dx dy kx ri rn bx rd g := by
  subst ha
  exact ⟨hB, ⟨⟨1, by omega, rfl⟩, fun z => absurd z (by decide), fun z => absurd z (by decide), fun z => absurd z (by decide)⟩, fun _ => ⟨L, h1, h2, h3, h4, h5, fun z => absurd z (by decide), fun _ => ⟨c, q, n, e1, e2, e3, e4, e5, e6, e7, e8, fun z => absurd z hD⟩⟩, fun _ z => absurd z (by decide)⟩
theorem lk_mk {N : Nat} {D : Nat → Prop} {WX : (SX → Prop) → Prop} {WY : (SY → Prop) → Prop} (u : SX) (v : SY) (hx : ∀ post, post u → WX post) (hy : ∀ post, post v → WY post) (h : rl_R N D u v) : lk_E N D WX WY := ⟨u, v, h, hx, hy⟩
section
variable {k1 k2 k3 k4 k5 k6 k7 k8 k9 k10 k11 k12 k13 nc pl ol gc tn : Int32} {ac te re ho er se lo de qx mi fx dr tk bd rl ll td cr cs si sc sd ss pc px nx dx bc kx bx tx : Nat → Int32} {qy fy cu py ny dy ri rn rd le sn ty bo wi fr : Nat → Int32} {i N : Nat} {D D' : Nat → Prop}
theorem lk_serr (hD : ∀ j, D' j → D j ∧ j ≠ i) (hi : i < 4) (hN : nc = nI N) (hN4 : N ≤ 4) (hiN : i < N) (hP : rl_P N nc pl gc) (hT : rl_T tn tx ty) (hR : ∀ j, j < 4 → j ≠ i → rl_N (D j) (ac j) (re j) (ho j) (mi j) (qx j) (qy j) (fx j) (fy j) (tk j) (le j) (bd j) (rl j) (ll j) (td j) (cr j) (cs j) (si j) (sc j) (sd j) (ss j) (cu j) (dr j) (pc j) (bc j) (ab_v 3 px j) (ab_v 3 py j) (ab_v 3 nx j) (ab_v 3 ny j) (ab_v 3 dx j) (ab_v 3 dy j) (ab_v 8 kx j) (ab_v 8 ri j) (ab_v 8 rn j) (ab_v 8 bx j) (ab_v 8 rd j) (ab_v 128 sn j)) (hB : rl_B (re i) (pc i) (bc i) (ab_v 3 px i) (ab_v 3 py i) (ab_v 3 nx i) (ab_v 3 ny i) (ab_v 3 dx i) (ab_v 3 dy i) (ab_v 8 kx i) (ab_v 8 ri i) (ab_v 8 rn i) (ab_v 8 bx i) (ab_v 8 rd i)) (ha : ¬ ac i = 6) (kd : Int32) : lk_E N D' (fun post => wpX_senderError post (k1, k2, k3, k4, k5, k6, k7, k8, k9, k10, k11, k12, k13, nc, pl, ol, gc, tn, ac, te, re, ho, er, se, lo, de, qx, mi, fx, dr, tk, bd, rl, ll, td, cr, cs, si, sc, sd, ss, pc, px, nx, dx, bc, kx, bx, tx) (nI i) kd) (fun post => wpY_senderError post (nc, pl, ol, gc, ac, te, re, ho, er, lo, se, de, qy, mi, fy, cu, dr, pc, bc, py, ny, dy, ri, rn, rd, le, sn, ty, bo, wi, fr) (nI i) kd) := by
  by_cases c1 : ab_T kd (ab_pas pl (te i) (re i)) (te i) < ol
  · by_cases c2 : ab_pas pl (te i) (re i) = 0
    · refine lk_mk _ _ (fun post h => xw_serr hi rfl rfl (fun _ _ => h) (fun _ z => absurd c2 z) (fun z => absurd c1 z)) (fun post h => yw_serr hi hN hN4 hiN ha rfl rfl (fun _ _ => h) (fun _ z => absurd c2 z) (fun z => absurd c1 z)) (rl_mk hP hT (rl_sp i ?_ (fun j hj hji => by simp only [pk_un hji]; exact rl_w (fun z => (hD j z).1) (hR j hj hji))))
      simp only [pk_us]
      exact rl_n34 (Or.inl rfl) hB rfl
    · refine lk_mk _ _ (fun post h => xw_serr hi rfl rfl (fun _ z => absurd z c2) (fun _ _ => h) (fun z => absurd c1 z)) (fun post h => yw_serr hi hN hN4 hiN ha rfl rfl (fun _ z => absurd z c2) (fun _ _ => h) (fun z => absurd c1 z)) (rl_mk hP hT (rl_sp i ?_ (fun j hj hji => by simp only [pk_un hji]; exact rl_w (fun z => (hD j z).1) (hR j hj hji))))
      simp only [pk_us]
      exact rl_n5 0 rfl hB (by omega) rfl rfl
  · refine lk_mk _ _ (fun post h => xw_serr hi rfl rfl (fun z => absurd z c1) (fun z => absurd z c1) (fun _ => h)) (fun post h => yw_serr hi hN hN4 hiN ha rfl rfl (fun z => absurd z c1) (fun z => absurd z c1) (fun _ => h)) (rl_mk hP hT (rl_sp i ?_ (fun j hj hji => by simp only [pk_un hji]; exact rl_w (fun z => (hD j z).1) (hR j hj hji))))
    simp only [pk_us]
    obtain ⟨g1, g2, g3, P, G, g4, g5, g6, g7, g8, g9⟩ := hP
    exact rl_n6 0 G rfl hB (by omega) rfl rfl g8 g9 g7
theorem lk_rerr (hD : ∀ j, D' j → D j ∧ j ≠ i) (hi : i < 4) (hN : nc = nI N) (hN4 : N ≤ 4) (hiN : i < N) (hP : rl_P N nc pl gc) (hT : rl_T tn tx ty) (hR : ∀ j, j < 4 → j ≠ i → rl_N (D j) (ac j) (re j) (ho j) (mi j) (qx j) (qy j) (fx j) (fy j) (tk j) (le j) (bd j) (rl j) (ll j) (td j) (cr j) (cs j) (si j) (sc j) (sd j) (ss j) (cu j) (dr j) (pc j) (bc j) (ab_v 3 px j) (ab_v 3 py j) (ab_v 3 nx j) (ab_v 3 ny j) (ab_v 3 dx j) (ab_v 3 dy j) (ab_v 8 kx j) (ab_v 8 ri j) (ab_v 8 rn j) (ab_v 8 bx j) (ab_v 8 rd j) (ab_v 128 sn j)) (hB : rl_B (re i) (pc i) (bc i) (ab_v 3 px i) (ab_v 3 py i) (ab_v 3 nx i) (ab_v 3 ny i) (ab_v 3 dx i) (ab_v 3 dy i) (ab_v 8 kx i) (ab_v 8 ri i) (ab_v 8 rn i) (ab_v 8 bx i) (ab_v 8 rd i)) (ha : ¬ ac i = 6) (kd : Int32) : lk_E N D' (fun post => wpX_receiverError post (k1, k2, k3, k4, k5, k6, k7, k8, k9, k10, k11, k12, k13, nc, pl, ol, gc, tn, ac, te, re, ho, er, se, lo, de, qx, mi, fx, dr, tk, bd, rl, ll, td, cr, cs, si, sc, sd, ss, pc, px, nx, dx, bc, kx, bx, tx) (nI i) kd) (fun post => wpY_receiverError post (nc, pl, ol, gc, ac, te, re, ho, er, lo, se, de, qy, mi, fy, cu, dr, pc, bc, py, ny, dy, ri, rn, rd, le, sn, ty, bo, wi, fr) (nI i) kd) := by
  by_cases c2 : ab_pas pl (te i) (re i) = 0
  · refine lk_mk _ _ (fun post h => xw_rerr hi rfl (fun _ => h) (fun z => absurd c2 z)) (fun post h => yw_rerr hi hN hN4 hiN ha hB.1 rfl (fun _ => h) (fun z => absurd c2 z)) (rl_mk hP hT (rl_sp i ?_ (fun j hj hji => by simp only [pk_un hji]; exact rl_w (fun z => (hD j z).1) (hR j hj hji))))
    simp only [pk_us]
    exact rl_n34 (Or.inr rfl) ⟨ab_inc_le, hB.2⟩ rfl
  · refine lk_mk _ _ (fun post h => xw_rerr hi rfl (fun z => absurd z c2) (fun _ => h)) (fun post h => yw_rerr hi hN hN4 hiN ha hB.1 rfl (fun z => absurd z c2) (fun _ => h)) (rl_mk hP hT (rl_sp i ?_ (fun j hj hji => by simp only [pk_un hji]; exact rl_w (fun z => (hD j z).1) (hR j hj hji))))
    simp only [pk_us]
    exact rl_n5 0 rfl ⟨ab_inc_le, hB.2⟩ (by omega) rfl rfl
end
end
section
/-! lockstep: a sample that is kept, ends of frames -/
theorem ab_t_up {g : Nat → Int32} {L : Nat} {s : Int32} : ab_t (upd g L s) L = ab_t g L := by
  obtain ⟨c1, c2, c3, c4, c5⟩ := ab_cg (g := upd g L s) (g' := g) (i := L) (fun x hx => pk_un (by omega))
  exact c4
theorem ab_t_s1 {g : Nat → Int32} {L : Nat} (h : ab_t g L = 0) : ab_t g (L + 1) ≤ 1 := by
  by_cases hr : 5 ≤ ab_R g L
  · rw [(ab_s_stuff h hr).2.1]; split <;> omega
  · rw [(ab_s_body h hr).2.1]; split <;> omega
theorem ab_v_sfn {w : Nat} {a : Nat → Int32} {i j c d : Nat} (h : j ≠ i) (hd : c + d < w) : ab_v w (ab_sf a (i * w + c) d) j = ab_v w a j := by
  apply ab_v_cg
  intro k hk
  rw [ab_sf_at, if_neg]
  intro z
  have := ab_v_ne (w := w) (k := k) (s := j * w + k - i * w) h hk (by omega)
  omega
theorem ab_v_sfs {w : Nat} {a : Nat → Int32} {i c d k : Nat} (hd : c + d < w) (hk : k < w) : ab_v w (ab_sf a (i * w + c) d) i k = if c ≤ k ∧ k < c + d then ab_v w a i (k + 1) else ab_v w a i k := by
  rw [ab_v_at hk, ab_sf_at]
  by_cases h : c ≤ k ∧ k < c + d
  · rw [if_pos h, if_pos (by omega), ab_v_at (by omega)]; rfl
  · rw [if_neg h, if_neg (by omega), ab_v_at hk]
theorem ab_acc_le {pl r : Int32} {P : Nat} (hP : pl = nI P) (h1 : 1 ≤ P) (h2 : P ≤ 128) (hr : r ≤ 255) : ab_acc pl r ≤ 255 := by
  unfold ab_acc
  by_cases c : r ≤ 0
  · rw [if_pos c]; exact hr
  · rw [if_neg c]
    by_cases c2 : pl ≤ r
    · rw [if_pos c2, hP, show nI P - 1 = nI (P - 1) from ab_subN (b := 1) (by omega)]
      exact nI_le (b := 255) (by omega) (by omega)
    · rw [if_neg c2]
      have a1 := Int32.le_iff_toInt_le.mp hr
      have a2 : ¬ r.toInt ≤ (0 : Int32).toInt := fun z => c (Int32.le_iff_toInt_le.mpr z)
      rw [show (255 : Int32).toInt = 255 by decide] at a1
      rw [show (0 : Int32).toInt = 0 by decide] at a2
      rw [Int32.le_iff_toInt_le, Int32.toInt_sub, show (255 : Int32).toInt = 255 by decide, show (1 : Int32).toInt = 1 by decide, Int.bmod_eq_of_le (by omega) (by omega)]
      omega
section
variable {k1 k2 k3 k4 k5 k6 k7 k8 k9 k10 k11 k12 k13 nc pl ol gc tn : Int32} {ac te re ho er se lo de qx mi fx dr tk bd rl ll td cr cs si sc sd ss pc px nx dx bc kx bx tx : Nat → Int32} {qy fy cu py ny dy ri rn rd le sn ty bo wi fr : Nat → Int32} {i N : Nat} {D D' : Nat → Prop}
theorem lk_keep (hD : ∀ j, D' j → D j ∧ j ≠ i) (hi : i < 4) (hN : nc = nI N) (hN4 : N ≤ 4) (hiN : i < N) (hP : rl_P N nc pl gc) (hT : rl_T tn tx ty) (hR : ∀ j, j < 4 → j ≠ i → rl_N (D j) (ac j) (re j) (ho j) (mi j) (qx j) (qy j) (fx j) (fy j) (tk j) (le j) (bd j) (rl j) (ll j) (td j) (cr j) (cs j) (si j) (sc j) (sd j) (ss j) (cu j) (dr j) (pc j) (bc j) (ab_v 3 px j) (ab_v 3 py j) (ab_v 3 nx j) (ab_v 3 ny j) (ab_v 3 dx j) (ab_v 3 dy j) (ab_v 8 kx j) (ab_v 8 ri j) (ab_v 8 rn j) (ab_v 8 bx j) (ab_v 8 rd j) (ab_v 128 sn j)) (hB : rl_B (re i) (pc i) (bc i) (ab_v 3 px i) (ab_v 3 py i) (ab_v 3 nx i) (ab_v 3 ny i) (ab_v 3 dx i) (ab_v 3 dy i) (ab_v 8 kx i) (ab_v 8 ri i) (ab_v 8 rn i) (ab_v 8 bx i) (ab_v 8 rd i)) {g : Nat → Int32} (hg : ab_v 128 sn i = g) {a : Int32} (ha : ac i = a) (ha12 : a = 1 ∨ a = 2) {L : Nat} (hL : le i = nI L) (hok : ab_ok g L) (ht : ab_t g L = 0) (hX : ab_X g L (bd i) (rl i) (ll i) (td i) (cr i) (cs i) (si i) (sc i) (sd i)) {s : Int32} (hs : ab_bit s)
    (hq : 5 ≤ ab_R g L → ¬ s = ab_lst g L) (hS : a = 1 → ∃ c q n : Nat, (ss i = nI c ∧ cu i = nI c ∧ pc i = nI q ∧ c < q ∧ q ≤ 3 ∧ n ≤ 4 ∧ ab_v 3 ny i c = nI n ∧ ab_SG (ab_F (ab_v 3 py i c) (ab_v 3 dy i c) n) g L) ∧ (¬ 5 ≤ ab_R g L → s = ab_F (ab_v 3 py i c) (ab_v 3 dy i c) n (ab_k g L))) :
    ∃ u v, rl_R N D' u v ∧ (∀ post : Int32 → SX → Prop, post 1 u → wpX_absorb post (k1, k2, k3, k4, k5, k6, k7, k8, k9, k10, k11, k12, k13, nc, pl, ol, gc, tn, ac, te, re, ho, er, se, lo, de, qx, mi, fx, dr, upd tk i (nI (L + 1)), bd, rl, ll, td, cr, cs, si, sc, sd, ss, pc, px, nx, dx, bc, kx, bx, tx) (nI i) s) ∧ (∀ post : SY → Prop, post v → wpY_keep post (nc, pl, ol, gc, ac, te, re, ho, er, lo, se, de, qy, mi, fy, cu, dr, pc, bc, py, ny, dy, ri, rn, rd, le, sn, ty, bo, wi, fr) (nI i) s) := by
  obtain ⟨b1, b2, b3⟩ := ab_bd hok
  have b4 := ((ab_bnd hok L (Nat.le_refl L)).1 ht).2
  have hok' := ab_ok_s hok hs (fun _ => hq)
  have hst := ab_X_step hX ht hok'
  obtain ⟨x1, x2, x3, x4⟩ := hX
  obtain ⟨y1, y2⟩ := x3 ht
  rw [if_pos ht] at x2
  have ht' : ab_t (upd g L s) (L + 1) ≤ 1 := ab_t_s1 (by rw [ab_t_up]; exact ht)
  refine ⟨_, _, ?_, fun post h => xw_abs hi x1 (by omega) y1 (by omega) (fun z => by rw [y2]; exact hq z) (r' := if s = ab_lst g L then ab_R g L + 1 else 1) (t := _) rfl (by rw [y2]) rfl (by rw [x2]) h, fun post h => yw_keep hi hL (by omega) h⟩
  refine rl_mk hP hT (rl_sp i ?_ (fun j hj hji => by simp only [pk_un hji, ab_v_un hji (show L < 128 by omega)]; exact rl_w (fun z => (hD j z).1) (hR j hj hji)))
  simp only [pk_us, ab_v_us (show L < 128 by omega), hg]
  rcases ha12 with rfl | rfl
  · obtain ⟨c, q, n, ⟨s1, s2, s3, s4, s5, s6, s7, s8⟩, s9⟩ := hS rfl
    exact rl_n1 (L + 1) (fun z => (hD i z).2 rfl) ha hB rfl rfl hok' (by omega) hst c q n s1 s2 s3 s4 s5 s6 s7 (ab_SG_s s8 (fun _ => s9))
  · exact rl_n2 (L + 1) ha hB rfl rfl hok' (by omega) hst
theorem lk_tl (hD : ∀ j, D' j → D j ∧ j ≠ i) (hi : i < 4) (hN : nc = nI N) (hN4 : N ≤ 4) (hiN : i < N) (hP : rl_P N nc pl gc) (hT : rl_T tn tx ty) (hR : ∀ j, j < 4 → j ≠ i → rl_N (D j) (ac j) (re j) (ho j) (mi j) (qx j) (qy j) (fx j) (fy j) (tk j) (le j) (bd j) (rl j) (ll j) (td j) (cr j) (cs j) (si j) (sc j) (sd j) (ss j) (cu j) (dr j) (pc j) (bc j) (ab_v 3 px j) (ab_v 3 py j) (ab_v 3 nx j) (ab_v 3 ny j) (ab_v 3 dx j) (ab_v 3 dy j) (ab_v 8 kx j) (ab_v 8 ri j) (ab_v 8 rn j) (ab_v 8 bx j) (ab_v 8 rd j) (ab_v 128 sn j)) (hB : rl_B (re i) (pc i) (bc i) (ab_v 3 px i) (ab_v 3 py i) (ab_v 3 nx i) (ab_v 3 ny i) (ab_v 3 dx i) (ab_v 3 dy i) (ab_v 8 kx i) (ab_v 8 ri i) (ab_v 8 rn i) (ab_v 8 bx i) (ab_v 8 rd i)) {g : Nat → Int32} (hg : ab_v 128 sn i = g) {a : Int32} (ha : ac i = a) (ha12 : a = 1 ∨ a = 2) {L t : Nat} (hL1 : L < 127) (hok : ab_ok g L) (ht : ab_t g L = t + 1) (hX : ab_X g L (bd i) (rl i) (ll i) (td i) (cr i) (cs i) (si i) (sc i) (sd i)) {s : Int32} (hs : ab_bit s)
    (h10 : t + 2 ≤ 10) (h9 : a = 2 → t + 2 ≤ 9) (hS : a = 1 → ∃ c q n : Nat, ss i = nI c ∧ cu i = nI c ∧ pc i = nI q ∧ c < q ∧ q ≤ 3 ∧ n ≤ 4 ∧ ab_v 3 ny i c = nI n ∧ ab_SG (ab_F (ab_v 3 py i c) (ab_v 3 dy i c) n) g L) :
    rl_R N D' (k1, k2, k3, k4, k5, k6, k7, k8, k9, k10, k11, k12, k13, nc, pl, ol, gc, tn, ac, te, re, ho, er, se, lo, de, qx, mi, fx, dr, upd tk i (nI (L + 1)), bd, rl, ll, upd td i (nI (t + 1)), cr, cs, si, sc, sd, ss, pc, px, nx, dx, bc, kx, bx, tx) (nc, pl, ol, gc, ac, te, re, ho, er, lo, se, de, qy, mi, fy, cu, dr, pc, bc, py, ny, dy, ri, rn, rd, upd le i (nI (L + 1)), upd sn (i * 128 + L) s, ty, bo, wi, fr) := by
  have htn : ¬ ab_t g L = 0 := by omega
  have hok' : ab_ok (upd g L s) (L + 1) := ab_ok_s hok hs (fun z => absurd z htn)
  have hst := ab_X_tail hX htn s
  obtain ⟨x1, x2, x3, x4⟩ := hX
  rw [if_neg htn, ht] at x2
  have e : td i + 1 = nI (t + 1) := by rw [x2, nI_1]; rfl
  rw [e] at hst
  have ht' : ab_t (upd g L s) (L + 1) = t + 2 := by
    rw [(ab_s_tail (by rw [ab_t_up]; exact htn)).2.1, ab_t_up, ht]
  refine rl_mk hP hT (rl_sp i ?_ (fun j hj hji => by simp only [pk_un hji, ab_v_un hji (show L < 128 by omega)]; exact rl_w (fun z => (hD j z).1) (hR j hj hji)))
  simp only [pk_us, ab_v_us (show L < 128 by omega), hg]
  rcases ha12 with rfl | rfl
  · obtain ⟨c, q, n, s1, s2, s3, s4, s5, s6, s7, s8⟩ := hS rfl
    exact rl_n1 (L + 1) (fun z => (hD i z).2 rfl) ha hB rfl rfl hok' (by omega) hst c q n s1 s2 s3 s4 s5 s6 s7 (ab_SG_s s8 (fun z => absurd z htn))
  · exact rl_n2 (L + 1) ha hB rfl rfl hok' (by have := h9 rfl; omega) hst
theorem lk_acc (hD : ∀ j, D' j → D j ∧ j ≠ i) (hi : i < 4) (hN : nc = nI N) (hN4 : N ≤ 4) (hiN : i < N) (hP : rl_P N nc pl gc) (hT : rl_T tn tx ty) (hR : ∀ j, j < 4 → j ≠ i → rl_N (D j) (ac j) (re j) (ho j) (mi j) (qx j) (qy j) (fx j) (fy j) (tk j) (le j) (bd j) (rl j) (ll j) (td j) (cr j) (cs j) (si j) (sc j) (sd j) (ss j) (cu j) (dr j) (pc j) (bc j) (ab_v 3 px j) (ab_v 3 py j) (ab_v 3 nx j) (ab_v 3 ny j) (ab_v 3 dx j) (ab_v 3 dy j) (ab_v 8 kx j) (ab_v 8 ri j) (ab_v 8 rn j) (ab_v 8 bx j) (ab_v 8 rd j) (ab_v 128 sn j)) (hB : rl_B (re i) (pc i) (bc i) (ab_v 3 px i) (ab_v 3 py i) (ab_v 3 nx i) (ab_v 3 ny i) (ab_v 3 dx i) (ab_v 3 dy i) (ab_v 8 kx i) (ab_v 8 ri i) (ab_v 8 rn i) (ab_v 8 bx i) (ab_v 8 rd i)) {m : Nat} (hm : m ≤ 4) (hl : ab_lI (ab_code bo) = nI m) (hb : ∀ j, j < 11 → ab_bit (bo (1 + j))) (e1 : si i = ab_num bo 1 11) (e2 : ab_lI (sc i) = nI m) (e3 : sd i = ab_num bo 19 (8 * m)) :
    lk_E N D' (fun post => wpX_frameAccepted post (k1, k2, k3, k4, k5, k6, k7, k8, k9, k10, k11, k12, k13, nc, pl, ol, gc, tn, ac, te, re, ho, er, se, lo, de, qx, mi, fx, dr, tk, bd, rl, ll, td, cr, cs, si, sc, sd, ss, pc, px, nx, dx, bc, kx, bx, tx) (nI i)) (fun post => wpY_accepted post (nc, pl, ol, gc, ac, te, re, ho, er, lo, se, de, qy, mi, fy, cu, dr, pc, bc, py, ny, dy, ri, rn, rd, le, sn, ty, bo, wi, fr) (nI i)) := by
  obtain ⟨g1, g2, g3, P, G, g4, g5, g6, g7, g8, g9⟩ := hP
  have hP : rl_P N nc pl gc := ⟨g1, g2, g3, P, G, g4, g5, g6, g7, g8, g9⟩
  obtain ⟨q1, q2, c, c1, c2, c3⟩ := hB
  have hr := ab_acc_le g4 (by omega) g6 q1
  by_cases c8 : c < 8
  · refine lk_mk _ _ (fun post h => xw_acc hi g4 (by omega) (by omega) c2 c8 h) (fun post h => yw_acc hi c2 c8 hm hl hb h) ?_
    refine rl_mk hP hT (rl_sp i ?_ (fun j hj hji => by simp only [pk_un hji, ab_v_un hji c8]; exact rl_w (fun z => (hD j z).1) (hR j hj hji)))
    simp only [pk_us, ab_v_us c8, e1, e2, e3]
    refine rl_n5 7 rfl ⟨hr, q2, c + 1, by omega, rfl, fun k hk => ?_⟩ (by omega) rfl rfl
    by_cases e : k = c
    · subst e
      simp only [pk_us]
      exact ⟨trivial, trivial⟩
    · simp only [pk_un e]
      exact c3 k (by omega)
  · refine lk_mk _ _ (fun post h => xw_acc_full hi g4 (by omega) (by omega) c2 (by omega) c8 h) (fun post h => yw_acc_full hi c2 (by omega) c8 h) ?_
    refine rl_mk hP hT (rl_sp i ?_ (fun j hj hji => by simp only [pk_un hji]; exact rl_w (fun z => (hD j z).1) (hR j hj hji)))
    simp only [pk_us]
    exact rl_n5 7 rfl ⟨hr, q2, c, c1, c2, c3⟩ (by omega) rfl rfl
theorem lk_sent (hD : ∀ j, D' j → D j ∧ j ≠ i) (hi : i < 4) (hN : nc = nI N) (hN4 : N ≤ 4) (hiN : i < N) (hP : rl_P N nc pl gc) (hT : rl_T tn tx ty) (hR : ∀ j, j < 4 → j ≠ i → rl_N (D j) (ac j) (re j) (ho j) (mi j) (qx j) (qy j) (fx j) (fy j) (tk j) (le j) (bd j) (rl j) (ll j) (td j) (cr j) (cs j) (si j) (sc j) (sd j) (ss j) (cu j) (dr j) (pc j) (bc j) (ab_v 3 px j) (ab_v 3 py j) (ab_v 3 nx j) (ab_v 3 ny j) (ab_v 3 dx j) (ab_v 3 dy j) (ab_v 8 kx j) (ab_v 8 ri j) (ab_v 8 rn j) (ab_v 8 bx j) (ab_v 8 rd j) (ab_v 128 sn j)) (hB : rl_B (re i) (pc i) (bc i) (ab_v 3 px i) (ab_v 3 py i) (ab_v 3 nx i) (ab_v 3 ny i) (ab_v 3 dx i) (ab_v 3 dy i) (ab_v 8 kx i) (ab_v 8 ri i) (ab_v 8 rn i) (ab_v 8 bx i) (ab_v 8 rd i)) (ha : ¬ ac i = 6) {c q : Nat} (s1 : ss i = nI c) (s2 : cu i = nI c) (s3 : pc i = nI q) (s4 : c < q) (s5 : q ≤ 3) :
    lk_E N D' (fun post => wpX_frameSent post (k1, k2, k3, k4, k5, k6, k7, k8, k9, k10, k11, k12, k13, nc, pl, ol, gc, tn, ac, te, re, ho, er, se, lo, de, qx, mi, fx, dr, tk, bd, rl, ll, td, cr, cs, si, sc, sd, ss, pc, px, nx, dx, bc, kx, bx, tx) (nI i)) (fun post => wpY_frameSent post (nc, pl, ol, gc, ac, te, re, ho, er, lo, se, de, qy, mi, fy, cu, dr, pc, bc, py, ny, dy, ri, rn, rd, le, sn, ty, bo, wi, fr) (nI i)) := by
  obtain ⟨q1, ⟨p, p1, p2, p3⟩, q2⟩ := hB
  have hpq : p = q := (nI_eq (by omega) (by omega)).mp (p2.symm.trans s3)
  subst hpq
  refine lk_mk _ _ (fun post h => xw_sent hi s1 (by omega) rfl h) (fun post h => yw_sent hi hN hN4 hiN ha s2 s3 s4 s5 rfl h) ?_
  refine rl_mk hP hT (rl_sp i ?_ (fun j hj hji => by simp only [pk_un hji, ab_v_sfn (w := 3) hji (show c + (2 - c) < 3 by omega), ab_v_sfn (w := 3) hji (show c + (p - 1 - c) < 3 by omega)]; exact rl_w (fun z => (hD j z).1) (hR j hj hji)))
  simp only [pk_us]
  refine rl_n5 8 rfl ⟨q1, ⟨p - 1, by omega, by rw [s3]; exact ab_subN (b := 1) (by omega), fun k hk => ?_⟩, q2⟩ (by omega) rfl rfl
  rw [ab_v_sfs (w := 3) (by omega) (by omega), ab_v_sfs (w := 3) (by omega) (by omega), ab_v_sfs (w := 3) (by omega) (by omega), ab_v_sfs (w := 3) (by omega) (by omega), ab_v_sfs (w := 3) (by omega) (by omega), ab_v_sfs (w := 3) (by omega) (by omega)]
  by_cases hck : c ≤ k
  · simp only [if_pos (show c ≤ k ∧ k < c + (2 - c) by omega), if_pos (show c ≤ k ∧ k < c + (p - 1 - c) by omega)]
    exact p3 (k + 1) (by omega)
  · simp only [if_neg (show ¬ (c ≤ k ∧ k < c + (2 - c)) by omega), if_neg (show ¬ (c ≤ k ∧ k < c + (p - 1 - c)) by omega)]
    exact p3 k (by omega)
end
end
section
/-! receiving: the walks of both sides, and lockstep -/
section
variable {k1 k2 k3 k4 k5 k6 k7 k8 k9 k10 k11 k12 k13 nc pl ol gc tn : Int32} {ac te re ho er se lo de qx mi fx dr tk bd rl ll td cr cs si sc sd ss pc px nx dx bc kx bx tx : Nat → Int32} {i : Nat}
theorem xw_rt_err (hi : i < 4) {L t : Nat} (hk : tk i = nI L) (ht : td i = nI t) (htb : t < 100) {s kd : Int32} (hr : ab_rte t (dr i) s (cr i) (cs i) = kd) (hkd : ¬ kd = 0) {post : SX → Prop} (h : wpX_receiverError post (k1, k2, k3, k4, k5, k6, k7, k8, k9, k10, k11, k12, k13, nc, pl, ol, gc, tn, ac, te, re, ho, er, se, lo, de, qx, mi, fx, dr, upd tk i (nI (L + 1)), bd, rl, ll, td, cr, cs, si, sc, sd, ss, pc, px, nx, dx, bc, kx, bx, tx) (nI i) kd) : wpX_sampleReceiving post (k1, k2, k3, k4, k5, k6, k7, k8, k9, k10, k11, k12, k13, nc, pl, ol, gc, tn, ac, te, re, ho, er, se, lo, de, qx, mi, fx, dr, tk, bd, rl, ll, td, cr, cs, si, sc, sd, ss, pc, px, nx, dx, bc, kx, bx, tx) (nI i) s := by
  simp only [wpX_sampleReceiving, ab_cl hi, ab_in4 hi, true_and, forall_eq, hk, nI_1]
  refine br_f (fun z => absurd (show nI t < 0 by rw [← ht, z]; decide) (nI_pos (by omega))) ?_
  refine xw_rte hi ht htb ?_
  rw [hr]
  exact br_f hkd h
theorem xw_rt_keep (hi : i < 4) {L t : Nat} (hk : tk i = nI L) (ht : td i = nI t) (htb : t + 1 < 9) {s : Int32} (hr : ab_rte t (dr i) s (cr i) (cs i) = 0) {post : SX → Prop} (h : post (k1, k2, k3, k4, k5, k6, k7, k8, k9, k10, k11, k12, k13, nc, pl, ol, gc, tn, ac, te, re, ho, er, se, lo, de, qx, mi, fx, dr, upd tk i (nI (L + 1)), bd, rl, ll, upd td i (nI (t + 1)), cr, cs, si, sc, sd, ss, pc, px, nx, dx, bc, kx, bx, tx)) : wpX_sampleReceiving post (k1, k2, k3, k4, k5, k6, k7, k8, k9, k10, k11, k12, k13, nc, pl, ol, gc, tn, ac, te, re, ho, er, se, lo, de, qx, mi, fx, dr, tk, bd, rl, ll, td, cr, cs, si, sc, sd, ss, pc, px, nx, dx, bc, kx, bx, tx) (nI i) s := by
  simp only [wpX_sampleReceiving, ab_cl hi, ab_in4 hi, true_and, forall_eq, hk, nI_1]
  refine br_f (fun z => absurd (show nI t < 0 by rw [← ht, z]; decide) (nI_pos (by omega))) ?_
  refine xw_rte hi ht (by omega) ?_
  rw [hr]
  simp only [ab_cl hi, ab_in4 hi, true_and, forall_eq, ht, nI_1, pk_us]
  exact br_t trivial (br_t (nI_lt (b := 9) htb (by omega)) h)
theorem xw_rt_acc (hi : i < 4) {L t : Nat} (hk : tk i = nI L) (ht : td i = nI t) (htb : t = 8) {s : Int32} (hr : ab_rte t (dr i) s (cr i) (cs i) = 0) {post : SX → Prop} (h : wpX_frameAccepted post (k1, k2, k3, k4, k5, k6, k7, k8, k9, k10, k11, k12, k13, nc, pl, ol, gc, tn, ac, te, re, ho, er, se, lo, de, qx, mi, fx, dr, upd tk i (nI (L + 1)), bd, rl, ll, upd td i (nI (t + 1)), cr, cs, si, sc, sd, ss, pc, px, nx, dx, bc, kx, bx, tx) (nI i)) : wpX_sampleReceiving post (k1, k2, k3, k4, k5, k6, k7, k8, k9, k10, k11, k12, k13, nc, pl, ol, gc, tn, ac, te, re, ho, er, se, lo, de, qx, mi, fx, dr, tk, bd, rl, ll, td, cr, cs, si, sc, sd, ss, pc, px, nx, dx, bc, kx, bx, tx) (nI i) s := by
  simp only [wpX_sampleReceiving, ab_cl hi, ab_in4 hi, true_and, forall_eq, hk, nI_1]
  refine br_f (fun z => absurd (show nI t < 0 by rw [← ht, z]; decide) (nI_pos (by omega))) ?_
  refine xw_rte hi ht (by omega) ?_
  rw [hr]
  simp only [ab_cl hi, ab_in4 hi, true_and, forall_eq, ht, nI_1, pk_us]
  exact br_t trivial (br_f (nI_nlt (b := 9) (by omega) (by omega)) h)
theorem xw_rb_bad (hi : i < 4) {L r : Nat} (hk : tk i = nI L) (ht : td i = -1) (hr : rl i = nI r) (hrb : r < 500) (h5 : 5 ≤ r) {s : Int32} (hq : s = ll i) {post : SX → Prop} (h : wpX_receiverError post (k1, k2, k3, k4, k5, k6, k7, k8, k9, k10, k11, k12, k13, nc, pl, ol, gc, tn, ac, te, re, ho, er, se, lo, de, qx, mi, fx, dr, upd tk i (nI (L + 1)), bd, rl, ll, td, cr, cs, si, sc, sd, ss, pc, px, nx, dx, bc, kx, bx, tx) (nI i) 2) : wpX_sampleReceiving post (k1, k2, k3, k4, k5, k6, k7, k8, k9, k10, k11, k12, k13, nc, pl, ol, gc, tn, ac, te, re, ho, er, se, lo, de, qx, mi, fx, dr, tk, bd, rl, ll, td, cr, cs, si, sc, sd, ss, pc, px, nx, dx, bc, kx, bx, tx) (nI i) s := by
  simp only [wpX_sampleReceiving, ab_cl hi, ab_in4 hi, true_and, forall_eq, hk, nI_1, ht]
  refine br_t trivial ?_
  refine xw_abs_bad hi hr hrb h5 hq ?_
  exact br_t rfl h
theorem xw_rb_ok (hi : i < 4) {L : Nat} (hk : tk i = nI L) (ht : td i = -1) {s : Int32} {u : SX} (hx : ∀ post : Int32 → SX → Prop, post 1 u → wpX_absorb post (k1, k2, k3, k4, k5, k6, k7, k8, k9, k10, k11, k12, k13, nc, pl, ol, gc, tn, ac, te, re, ho, er, se, lo, de, qx, mi, fx, dr, upd tk i (nI (L + 1)), bd, rl, ll, td, cr, cs, si, sc, sd, ss, pc, px, nx, dx, bc, kx, bx, tx) (nI i) s) {post : SX → Prop} (h : post u) : wpX_sampleReceiving post (k1, k2, k3, k4, k5, k6, k7, k8, k9, k10, k11, k12, k13, nc, pl, ol, gc, tn, ac, te, re, ho, er, se, lo, de, qx, mi, fx, dr, tk, bd, rl, ll, td, cr, cs, si, sc, sd, ss, pc, px, nx, dx, bc, kx, bx, tx) (nI i) s := by
  simp only [wpX_sampleReceiving, ab_cl hi, ab_in4 hi, true_and, forall_eq, hk, nI_1, ht]
  refine br_t trivial ?_
  refine hx _ ?_
  exact br_f (by decide) h
end
section
variable {nc pl ol gc : Int32} {ac te re ho er lo se de qy mi fy cu dr pc bc py ny dy ri rn rd le sn ty bo wi fr : Nat → Int32} {i : Nat}
theorem yw_rc44 (hi : i < 4) {kd s : Int32} (hk : ¬ 0 ≤ kd) {post : SY → Prop} (h : wpY_keep post (nc, pl, ol, gc, ac, te, re, ho, er, lo, se, de, qy, mi, fy, cu, dr, pc, bc, py, ny, dy, ri, rn, rd, le, sn, ty, bo, wi, fr) (nI i) s) : wY_receive_44 post (nI i) s kd nc pl ol gc ac te re ho er lo se de qy mi fy cu dr pc bc py ny dy ri rn rd le sn ty bo wi fr := by
  simp only [wY_receive_44]
  exact br_f hk h
theorem yw_rb_bad (hi : i < 4) {L : Nat} (hL : le i = nI L) (hL0 : 1 ≤ L) (hL1 : L < 127) {s : Int32} (hs : s = sn (i * 128 + (L - 1))) {bo1 : Nat → Int32} (hn : ∀ (post : Int32 → SY → Prop), post (-2) (nc, pl, ol, gc, ac, te, re, ho, er, lo, se, de, qy, mi, fy, cu, dr, pc, bc, py, ny, dy, ri, rn, rd, le, sn, ty, bo1, wi, fr) → wpY_next post (nc, pl, ol, gc, ac, te, re, ho, er, lo, se, de, qy, mi, fy, cu, dr, pc, bc, py, ny, dy, ri, rn, rd, le, sn, ty, bo, wi, fr) (nI i)) {post : SY → Prop}
    (h : wpY_receiverError post (nc, pl, ol, gc, ac, te, re, ho, er, lo, se, de, qy, mi, fy, cu, dr, pc, bc, py, ny, dy, ri, rn, rd, le, sn, ty, bo1, wi, fr) (nI i) 2) : wpY_receive post (nc, pl, ol, gc, ac, te, re, ho, er, lo, se, de, qy, mi, fy, cu, dr, pc, bc, py, ny, dy, ri, rn, rd, le, sn, ty, bo, wi, fr) (nI i) s := by
  have e : nI (i * 128 + L) - 1 = nI (i * 128 + (L - 1)) := ab_subN (b := 1) (by omega)
  have v : vp_in (nI (i * 128 + (L - 1))) 512 := vp_in_nI (by omega) (by omega)
  simp only [wpY_receive]
  refine hn _ ?_
  simp only [ab_cl hi, ab_in4 hi, true_and, forall_eq, hL, ab_m128, nI_add, e, v, nI_clamp (show i * 128 + (L - 1) < 2 ^ 31 by omega)]
  exact br_t trivial (br_t hs h)
theorem yw_rb_ok2 (hi : i < 4) {L : Nat} (hL : le i = nI L) (hL0 : 1 ≤ L) (hL1 : L < 127) {s : Int32} (hs : ¬ s = sn (i * 128 + (L - 1))) {bo1 : Nat → Int32} (hn : ∀ (post : Int32 → SY → Prop), post (-2) (nc, pl, ol, gc, ac, te, re, ho, er, lo, se, de, qy, mi, fy, cu, dr, pc, bc, py, ny, dy, ri, rn, rd, le, sn, ty, bo1, wi, fr) → wpY_next post (nc, pl, ol, gc, ac, te, re, ho, er, lo, se, de, qy, mi, fy, cu, dr, pc, bc, py, ny, dy, ri, rn, rd, le, sn, ty, bo, wi, fr) (nI i)) {post : SY → Prop}
    (h : wpY_keep post (nc, pl, ol, gc, ac, te, re, ho, er, lo, se, de, qy, mi, fy, cu, dr, pc, bc, py, ny, dy, ri, rn, rd, le, sn, ty, bo1, wi, fr) (nI i) s) : wpY_receive post (nc, pl, ol, gc, ac, te, re, ho, er, lo, se, de, qy, mi, fy, cu, dr, pc, bc, py, ny, dy, ri, rn, rd, le, sn, ty, bo, wi, fr) (nI i) s := by
  have e : nI (i * 128 + L) - 1 = nI (i * 128 + (L - 1)) := ab_subN (b := 1) (by omega)
  have v : vp_in (nI (i * 128 + (L - 1))) 512 := vp_in_nI (by omega) (by omega)
  simp only [wpY_receive]
  refine hn _ ?_
  simp only [ab_cl hi, ab_in4 hi, true_and, forall_eq, hL, ab_m128, nI_add, e, v, nI_clamp (show i * 128 + (L - 1) < 2 ^ 31 by omega)]
  exact br_t trivial (br_f hs (yw_rc44 hi (by decide) h))
theorem yw_rb_ok1 (hi : i < 4) {s : Int32} {bo1 : Nat → Int32} (hn : ∀ (post : Int32 → SY → Prop), post (-1) (nc, pl, ol, gc, ac, te, re, ho, er, lo, se, de, qy, mi, fy, cu, dr, pc, bc, py, ny, dy, ri, rn, rd, le, sn, ty, bo1, wi, fr) → wpY_next post (nc, pl, ol, gc, ac, te, re, ho, er, lo, se, de, qy, mi, fy, cu, dr, pc, bc, py, ny, dy, ri, rn, rd, le, sn, ty, bo, wi, fr) (nI i)) {post : SY → Prop}
    (h : wpY_keep post (nc, pl, ol, gc, ac, te, re, ho, er, lo, se, de, qy, mi, fy, cu, dr, pc, bc, py, ny, dy, ri, rn, rd, le, sn, ty, bo1, wi, fr) (nI i) s) : wpY_receive post (nc, pl, ol, gc, ac, te, re, ho, er, lo, se, de, qy, mi, fy, cu, dr, pc, bc, py, ny, dy, ri, rn, rd, le, sn, ty, bo, wi, fr) (nI i) s := by
  simp only [wpY_receive]
  refine hn _ ?_
  exact br_f (by decide) (yw_rc44 hi (by decide) h)
/-- the tail: mt says whether the checksum matches -/
theorem yw_rt (hi : i < 4) {t : Nat} (htb : t < 100) {s : Int32} {mt : Int32} (hm : ∀ post : Int32 → Prop, post mt → wpY_matched post (nc, pl, ol, gc, ac, te, re, ho, er, lo, se, de, qy, mi, fy, cu, dr, pc, bc, py, ny, dy, ri, rn, rd, le, sn, ty, bo, wi, fr)) {post : SY → Prop}
    (hE : ∀ kd : Int32, ¬ kd = 0 → (if t = 1 then (if dr i = 0 ∧ s = 1 then (1 : Int32) else 0) else if t = 2 ∧ mt = 0 then 4 else if s = 0 then 3 else 0) = kd → wpY_receiverError post (nc, pl, ol, gc, ac, te, re, ho, er, lo, se, de, qy, mi, fy, cu, dr, pc, bc, py, ny, dy, ri, rn, rd, le, sn, ty, bo, wi, fr) (nI i) kd)
    (hK : (if t = 1 then (if dr i = 0 ∧ s = 1 then (1 : Int32) else 0) else if t = 2 ∧ mt = 0 then 4 else if s = 0 then 3 else 0) = 0 → ¬ t = 8 → wpY_keep post (nc, pl, ol, gc, ac, te, re, ho, er, lo, se, de, qy, mi, fy, cu, dr, pc, bc, py, ny, dy, ri, rn, rd, le, sn, ty, bo, wi, fr) (nI i) s)
    (hA : (if t = 1 then (if dr i = 0 ∧ s = 1 then (1 : Int32) else 0) else if t = 2 ∧ mt = 0 then 4 else if s = 0 then 3 else 0) = 0 → t = 8 → wpY_accepted post (nc, pl, ol, gc, ac, te, re, ho, er, lo, se, de, qy, mi, fy, cu, dr, pc, bc, py, ny, dy, ri, rn, rd, le, sn, ty, bo, wi, fr) (nI i)) : wY_receive_44 post (nI i) s (nI t) nc pl ol gc ac te re ho er lo se de qy mi fy cu dr pc bc py ny dy ri rn rd le sn ty bo wi fr := by
  simp only [wY_receive_44]
  refine br_t (nI_pos' (by omega)) ?_
  by_cases h1 : t = 1
  · subst h1
    rw [if_pos rfl] at hE hK hA
    refine br_t rfl ?_
    simp only [ab_cl hi, ab_in4 hi, true_and, forall_eq, wY_receive_85]
    have hkeep : ¬ (dr i = 0 ∧ s = 1) → wpY_keep post (nc, pl, ol, gc, ac, te, re, ho, er, lo, se, de, qy, mi, fy, cu, dr, pc, bc, py, ny, dy, ri, rn, rd, le, sn, ty, bo, wi, fr) (nI i) s := fun z => hK (if_neg z) (by omega)
    refine br_c (fun c => br_c (fun d => hE 1 (by decide) (if_pos ⟨c, d⟩)) (fun d => br_t rfl (hkeep (fun z => d z.2)))) (fun c => br_t rfl (hkeep (fun z => c z.1)))
  · have n1 : ¬ nI t = 1 := fun z => h1 ((nI_eq (b := 1) (by omega) (by omega)).mp z)
    rw [if_neg h1] at hE hK hA
    refine br_f n1 ?_
    simp only [wY_receive_85]
    refine br_f n1 ?_
    have k120 : ¬ (t = 2 ∧ mt = 0) → wY_receive_120 post (nI i) s (nI t) nc pl ol gc ac te re ho er lo se de qy mi fy cu dr pc bc py ny dy ri rn rd le sn ty bo wi fr := by
      intro z
      rw [if_neg z] at hE hK hA
      simp only [wY_receive_120]
      refine br_c (fun c => hE 3 (by decide) (if_pos c)) (fun c => ?_)
      by_cases h8 : t = 8
      · exact br_t (congrArg nI h8) (hA (if_neg c) h8)
      · exact br_f (fun z => h8 ((nI_eq (b := 8) (by omega) (by omega)).mp z)) (hK (if_neg c) h8)
    by_cases h2 : t = 2
    · refine br_t (congrArg nI h2) ?_
      refine hm _ ?_
      exact br_c (fun c => hE 4 (by decide) (if_pos ⟨h2, c⟩)) (fun c => k120 (fun z => c z.2))
    · exact br_f (fun z => h2 ((nI_eq (b := 2) (by omega) (by omega)).mp z)) (k120 (fun z => h2 z.1))
theorem yw_rtR (hi : i < 4) {t : Nat} (htb : t < 100) {s : Int32} {bo1 : Nat → Int32} (hn : ∀ (post : Int32 → SY → Prop), post (nI t) (nc, pl, ol, gc, ac, te, re, ho, er, lo, se, de, qy, mi, fy, cu, dr, pc, bc, py, ny, dy, ri, rn, rd, le, sn, ty, bo1, wi, fr) → wpY_next post (nc, pl, ol, gc, ac, te, re, ho, er, lo, se, de, qy, mi, fy, cu, dr, pc, bc, py, ny, dy, ri, rn, rd, le, sn, ty, bo, wi, fr) (nI i)) {post : SY → Prop} (h : wY_receive_44 post (nI i) s (nI t) nc pl ol gc ac te re ho er lo se de qy mi fy cu dr pc bc py ny dy ri rn rd le sn ty bo1 wi fr) : wpY_receive post (nc, pl, ol, gc, ac, te, re, ho, er, lo, se, de, qy, mi, fy, cu, dr, pc, bc, py, ny, dy, ri, rn, rd, le, sn, ty, bo, wi, fr) (nI i) s := by
  simp only [wpY_receive]
  refine hn _ ?_
  exact br_f (fun z => absurd (show nI t < 0 by rw [z]; decide) (nI_pos (by omega))) h
end
end
section
/-! sending: the walks of both sides -/
section
variable {k1 k2 k3 k4 k5 k6 k7 k8 k9 k10 k11 k12 k13 nc pl ol gc tn : Int32} {ac te re ho er se lo de qx mi fx dr tk bd rl ll td cr cs si sc sd ss pc px nx dx bc kx bx tx : Nat → Int32} {i : Nat}
theorem xw_sb (hi : i < 4) (ha : ac i = 1) (ht : td i = -1) {s : Int32} {post : SX → Prop} (h : wpX_sampleSendingBody post (k1, k2, k3, k4, k5, k6, k7, k8, k9, k10, k11, k12, k13, nc, pl, ol, gc, tn, ac, te, re, ho, er, se, lo, de, qx, mi, fx, dr, tk, bd, rl, ll, td, cr, cs, si, sc, sd, ss, pc, px, nx, dx, bc, kx, bx, tx) (nI i) s) : wpX_sample post (k1, k2, k3, k4, k5, k6, k7, k8, k9, k10, k11, k12, k13, nc, pl, ol, gc, tn, ac, te, re, ho, er, se, lo, de, qx, mi, fx, dr, tk, bd, rl, ll, td, cr, cs, si, sc, sd, ss, pc, px, nx, dx, bc, kx, bx, tx) (nI i) s := by
  simp only [wpX_sample, ab_cl hi, ab_in4 hi, true_and, forall_eq, ha, ht]
  exact br_f (by decide) (br_t trivial (br_t trivial h))
theorem xw_sb_ok (hi : i < 4) {L : Nat} (hk : tk i = nI L) {s : Int32} (hs : s = dr i) {u : SX} (hx : ∀ post : Int32 → SX → Prop, post 1 u → wpX_absorb post (k1, k2, k3, k4, k5, k6, k7, k8, k9, k10, k11, k12, k13, nc, pl, ol, gc, tn, ac, te, re, ho, er, se, lo, de, qx, mi, fx, dr, upd tk i (nI (L + 1)), bd, rl, ll, td, cr, cs, si, sc, sd, ss, pc, px, nx, dx, bc, kx, bx, tx) (nI i) s) {post : SX → Prop} (h : post u) : wpX_sampleSendingBody post (k1, k2, k3, k4, k5, k6, k7, k8, k9, k10, k11, k12, k13, nc, pl, ol, gc, tn, ac, te, re, ho, er, se, lo, de, qx, mi, fx, dr, tk, bd, rl, ll, td, cr, cs, si, sc, sd, ss, pc, px, nx, dx, bc, kx, bx, tx) (nI i) s := by
  simp only [wpX_sampleSendingBody, ab_cl hi, ab_in4 hi, true_and, forall_eq, hk, nI_1]
  refine br_t hs ?_
  refine hx _ ?_
  exact h
theorem xw_sb_arb (hi : i < 4) {k r : Nat} (hk : bd i = nI k) (hkb : k < 500) (hr : rl i = nI r) (hrb : r < 500) (hk1 : 5 ≤ r → 1 ≤ k) {s : Int32} (hs : ¬ s = dr i) (hd : dr i = 1) (hc : (if 5 ≤ r then k - 1 else k) ≤ 11) {post : SX → Prop}
    (h : wpX_sampleReceiving post (k1, k2, k3, k4, k5, k6, k7, k8, k9, k10, k11, k12, k13, nc, pl, ol, gc, tn, upd ac i 2, te, re, ho, er, se, lo, upd de i (de i + 1), qx, mi, fx, dr, tk, bd, rl, ll, td, cr, cs, si, sc, sd, ss, pc, px, nx, dx, bc, kx, bx, tx) (nI i) s) : wpX_sampleSendingBody post (k1, k2, k3, k4, k5, k6, k7, k8, k9, k10, k11, k12, k13, nc, pl, ol, gc, tn, ac, te, re, ho, er, se, lo, de, qx, mi, fx, dr, tk, bd, rl, ll, td, cr, cs, si, sc, sd, ss, pc, px, nx, dx, bc, kx, bx, tx) (nI i) s := by
  simp only [wpX_sampleSendingBody, ab_cl hi, ab_in4 hi, true_and, forall_eq]
  refine br_f hs (br_t hd ?_)
  refine xw_arb hi hk hkb hr hrb ?_ hk1
  rw [if_pos hc]
  exact br_f (by decide) h
theorem xw_sb_err (hi : i < 4) {k r : Nat} (hk : bd i = nI k) (hkb : k < 500) (hr : rl i = nI r) (hrb : r < 500) (hk1 : 5 ≤ r → 1 ≤ k) {s : Int32} (hs : ¬ s = dr i) (hd : ¬ (dr i = 1 ∧ (if 5 ≤ r then k - 1 else k) ≤ 11)) {post : SX → Prop}
    (h : wpX_senderError post (k1, k2, k3, k4, k5, k6, k7, k8, k9, k10, k11, k12, k13, nc, pl, ol, gc, tn, ac, te, re, ho, er, se, lo, de, qx, mi, fx, dr, tk, bd, rl, ll, td, cr, cs, si, sc, sd, ss, pc, px, nx, dx, bc, kx, bx, tx) (nI i) 1) : wpX_sampleSendingBody post (k1, k2, k3, k4, k5, k6, k7, k8, k9, k10, k11, k12, k13, nc, pl, ol, gc, tn, ac, te, re, ho, er, se, lo, de, qx, mi, fx, dr, tk, bd, rl, ll, td, cr, cs, si, sc, sd, ss, pc, px, nx, dx, bc, kx, bx, tx) (nI i) s := by
  simp only [wpX_sampleSendingBody, ab_cl hi, ab_in4 hi, true_and, forall_eq, wX_sampleSendingBody_71]
  refine br_f hs ?_
  by_cases hd1 : dr i = 1
  · refine br_t hd1 ?_
    refine xw_arb hi hk hkb hr hrb ?_ hk1
    rw [if_neg (fun z => hd ⟨hd1, z⟩)]
    exact br_t rfl h
  · exact br_f hd1 h
theorem xw_st (hi : i < 4) (ha : ac i = 1) {t : Nat} (ht : td i = nI t) (htb : t < 100) {s : Int32} {post : SX → Prop} (h : wpX_sampleSendingTail post (k1, k2, k3, k4, k5, k6, k7, k8, k9, k10, k11, k12, k13, nc, pl, ol, gc, tn, ac, te, re, ho, er, se, lo, de, qx, mi, fx, dr, tk, bd, rl, ll, td, cr, cs, si, sc, sd, ss, pc, px, nx, dx, bc, kx, bx, tx) (nI i) s) : wpX_sample post (k1, k2, k3, k4, k5, k6, k7, k8, k9, k10, k11, k12, k13, nc, pl, ol, gc, tn, ac, te, re, ho, er, se, lo, de, qx, mi, fx, dr, tk, bd, rl, ll, td, cr, cs, si, sc, sd, ss, pc, px, nx, dx, bc, kx, bx, tx) (nI i) s := by
  simp only [wpX_sample, ab_cl hi, ab_in4 hi, true_and, forall_eq, ha]
  exact br_f (by decide) (br_t trivial (br_f (fun z => absurd (show nI t < 0 by rw [← ht, z]; decide) (nI_pos (by omega))) h))
theorem xw_st_ack (hi : i < 4) (ht : td i = 1) {s : Int32} (hs : s = 1) {post : SX → Prop} (h : wpX_senderError post (k1, k2, k3, k4, k5, k6, k7, k8, k9, k10, k11, k12, k13, nc, pl, ol, gc, tn, ac, te, re, ho, er, se, lo, de, qx, mi, fx, dr, tk, bd, rl, ll, td, cr, cs, si, sc, sd, ss, pc, px, nx, dx, bc, kx, bx, tx) (nI i) 5) : wpX_sampleSendingTail post (k1, k2, k3, k4, k5, k6, k7, k8, k9, k10, k11, k12, k13, nc, pl, ol, gc, tn, ac, te, re, ho, er, se, lo, de, qx, mi, fx, dr, tk, bd, rl, ll, td, cr, cs, si, sc, sd, ss, pc, px, nx, dx, bc, kx, bx, tx) (nI i) s := by
  simp only [wpX_sampleSendingTail, ab_cl hi, ab_in4 hi, true_and, forall_eq]
  exact br_t ht (br_t hs h)
theorem xw_st_form (hi : i < 4) (ht : ¬ td i = 1) {s : Int32} (hs : s = 0) {post : SX → Prop} (h : wpX_senderError post (k1, k2, k3, k4, k5, k6, k7, k8, k9, k10, k11, k12, k13, nc, pl, ol, gc, tn, ac, te, re, ho, er, se, lo, de, qx, mi, fx, dr, tk, bd, rl, ll, td, cr, cs, si, sc, sd, ss, pc, px, nx, dx, bc, kx, bx, tx) (nI i) 3) : wpX_sampleSendingTail post (k1, k2, k3, k4, k5, k6, k7, k8, k9, k10, k11, k12, k13, nc, pl, ol, gc, tn, ac, te, re, ho, er, se, lo, de, qx, mi, fx, dr, tk, bd, rl, ll, td, cr, cs, si, sc, sd, ss, pc, px, nx, dx, bc, kx, bx, tx) (nI i) s := by
  simp only [wpX_sampleSendingTail, ab_cl hi, ab_in4 hi, true_and, forall_eq]
  exact br_f ht (br_t hs h)
theorem xw_st33 (hi : i < 4) {s : Int32} (hs : (td i = 1 ∧ ¬ s = 1) ∨ (¬ td i = 1 ∧ ¬ s = 0)) {post : SX → Prop} (h : wX_sampleSendingTail_33 post (nI i) k1 k2 k3 k4 k5 k6 k7 k8 k9 k10 k11 k12 k13 nc pl ol gc tn ac te re ho er se lo de qx mi fx dr tk bd rl ll td cr cs si sc sd ss pc px nx dx bc kx bx tx) : wpX_sampleSendingTail post (k1, k2, k3, k4, k5, k6, k7, k8, k9, k10, k11, k12, k13, nc, pl, ol, gc, tn, ac, te, re, ho, er, se, lo, de, qx, mi, fx, dr, tk, bd, rl, ll, td, cr, cs, si, sc, sd, ss, pc, px, nx, dx, bc, kx, bx, tx) (nI i) s := by
  simp only [wpX_sampleSendingTail, ab_cl hi, ab_in4 hi, true_and, forall_eq]
  rcases hs with ⟨a, b⟩ | ⟨a, b⟩
  · exact br_t a (br_f b h)
  · exact br_f a (br_f b h)
theorem xw_st_keep (hi : i < 4) {L t : Nat} (hk : tk i = nI L) (ht : td i = nI t) (htb : t + 1 < 10) {post : SX → Prop} (h : post (k1, k2, k3, k4, k5, k6, k7, k8, k9, k10, k11, k12, k13, nc, pl, ol, gc, tn, ac, te, re, ho, er, se, lo, de, qx, mi, fx, dr, upd tk i (nI (L + 1)), bd, rl, ll, upd td i (nI (t + 1)), cr, cs, si, sc, sd, ss, pc, px, nx, dx, bc, kx, bx, tx)) : wX_sampleSendingTail_33 post (nI i) k1 k2 k3 k4 k5 k6 k7 k8 k9 k10 k11 k12 k13 nc pl ol gc tn ac te re ho er se lo de qx mi fx dr tk bd rl ll td cr cs si sc sd ss pc px nx dx bc kx bx tx := by
  simp only [wX_sampleSendingTail_33, ab_cl hi, ab_in4 hi, true_and, forall_eq, hk, ht, nI_1, pk_us]
  exact br_t (nI_lt (b := 10) htb (by omega)) h
theorem xw_st_sent (hi : i < 4) {L t : Nat} (hk : tk i = nI L) (ht : td i = nI t) (htb : t = 9) {post : SX → Prop} (h : wpX_frameSent post (k1, k2, k3, k4, k5, k6, k7, k8, k9, k10, k11, k12, k13, nc, pl, ol, gc, tn, ac, te, re, ho, er, se, lo, de, qx, mi, fx, dr, upd tk i (nI (L + 1)), bd, rl, ll, upd td i (nI (t + 1)), cr, cs, si, sc, sd, ss, pc, px, nx, dx, bc, kx, bx, tx) (nI i)) : wX_sampleSendingTail_33 post (nI i) k1 k2 k3 k4 k5 k6 k7 k8 k9 k10 k11 k12 k13 nc pl ol gc tn ac te re ho er se lo de qx mi fx dr tk bd rl ll td cr cs si sc sd ss pc px nx dx bc kx bx tx := by
  simp only [wX_sampleSendingTail_33, ab_cl hi, ab_in4 hi, true_and, forall_eq, hk, ht, nI_1, pk_us]
  exact br_f (nI_nlt (b := 10) (by omega) (by omega)) h
end
section
variable {nc pl ol gc : Int32} {ac te re ho er lo se de qy mi fy cu dr pc bc py ny dy ri rn rd le sn ty bo wi fr : Nat → Int32} {i : Nat}
theorem yw_sb (hi : i < 4) {L e : Nat} (hL : le i = nI L) (hL1 : L < 127) (he : e ≤ 100) (hLe : L < e) {bo1 wi1 fr1 : Nat → Int32} (hb : ∀ (post : Int32 → SY → Prop), post (nI e) (nc, pl, ol, gc, ac, te, re, ho, er, lo, se, de, qy, mi, fy, cu, dr, pc, bc, py, ny, dy, ri, rn, rd, le, sn, ty, bo1, wi1, fr1) → wpY_buildWire post (nc, pl, ol, gc, ac, te, re, ho, er, lo, se, de, qy, mi, fy, cu, dr, pc, bc, py, ny, dy, ri, rn, rd, le, sn, ty, bo, wi, fr) (nI i)) {s : Int32} {post : SY → Prop}
    (h1 : s = wi1 L → wpY_keep post (nc, pl, ol, gc, ac, te, re, ho, er, lo, se, de, qy, mi, fy, cu, dr, pc, bc, py, ny, dy, ri, rn, rd, le, sn, ty, bo1, wi1, fr1) (nI i) s)
    (h2 : ¬ s = wi1 L → wi1 L = 1 → ¬ 11 < fr1 L → wpY_receive post (nc, pl, ol, gc, upd ac i 2, te, re, ho, er, lo, se, upd de i (de i + 1), qy, mi, fy, cu, dr, pc, bc, py, ny, dy, ri, rn, rd, le, sn, ty, bo1, wi1, fr1) (nI i) s)
    (h3 : ¬ s = wi1 L → ¬ (wi1 L = 1 ∧ ¬ 11 < fr1 L) → wpY_senderError post (nc, pl, ol, gc, ac, te, re, ho, er, lo, se, de, qy, mi, fy, cu, dr, pc, bc, py, ny, dy, ri, rn, rd, le, sn, ty, bo1, wi1, fr1) (nI i) 1) : wpY_send post (nc, pl, ol, gc, ac, te, re, ho, er, lo, se, de, qy, mi, fy, cu, dr, pc, bc, py, ny, dy, ri, rn, rd, le, sn, ty, bo, wi, fr) (nI i) s := by
  have v : vp_in (nI L) 128 := vp_in_nI (by omega) (by omega)
  simp only [wpY_send]
  refine hb _ ?_
  simp only [ab_cl hi, ab_in4 hi, true_and, forall_eq, hL, v, nI_clamp (show L < 2 ^ 31 by omega), wY_send_89]
  refine br_f (nI_ge hLe (by omega)) ?_
  refine br_c h1 (fun c => br_c (fun d => br_c (fun f => h3 c (fun z => z.2 f)) (fun f => h2 c d f)) (fun d => h3 c (fun z => d z.1)))
theorem yw_st (hi : i < 4) {L e t : Nat} (hL : le i = nI L) (hL1 : L < 127) (hLe : L = e + t) {bo1 wi1 fr1 : Nat → Int32} (hb : ∀ (post : Int32 → SY → Prop), post (nI e) (nc, pl, ol, gc, ac, te, re, ho, er, lo, se, de, qy, mi, fy, cu, dr, pc, bc, py, ny, dy, ri, rn, rd, le, sn, ty, bo1, wi1, fr1) → wpY_buildWire post (nc, pl, ol, gc, ac, te, re, ho, er, lo, se, de, qy, mi, fy, cu, dr, pc, bc, py, ny, dy, ri, rn, rd, le, sn, ty, bo, wi, fr) (nI i)) {s : Int32} {post : SY → Prop}
    (h1 : t = 1 → s = 1 → wpY_senderError post (nc, pl, ol, gc, ac, te, re, ho, er, lo, se, de, qy, mi, fy, cu, dr, pc, bc, py, ny, dy, ri, rn, rd, le, sn, ty, bo1, wi1, fr1) (nI i) 5)
    (h2 : ¬ t = 1 → s = 0 → wpY_senderError post (nc, pl, ol, gc, ac, te, re, ho, er, lo, se, de, qy, mi, fy, cu, dr, pc, bc, py, ny, dy, ri, rn, rd, le, sn, ty, bo1, wi1, fr1) (nI i) 3)
    (h3 : (t = 1 ∧ ¬ s = 1) ∨ (¬ t = 1 ∧ ¬ s = 0) → ¬ t = 9 → wpY_keep post (nc, pl, ol, gc, ac, te, re, ho, er, lo, se, de, qy, mi, fy, cu, dr, pc, bc, py, ny, dy, ri, rn, rd, le, sn, ty, bo1, wi1, fr1) (nI i) s)
    (h4 : ¬ t = 1 → ¬ s = 0 → t = 9 → wpY_frameSent post (nc, pl, ol, gc, ac, te, re, ho, er, lo, se, de, qy, mi, fy, cu, dr, pc, bc, py, ny, dy, ri, rn, rd, le, sn, ty, bo1, wi1, fr1) (nI i)) : wpY_send post (nc, pl, ol, gc, ac, te, re, ho, er, lo, se, de, qy, mi, fy, cu, dr, pc, bc, py, ny, dy, ri, rn, rd, le, sn, ty, bo, wi, fr) (nI i) s := by
  have e1 : nI L - nI e = nI t := ab_subN (by omega)
  simp only [wpY_send]
  refine hb _ ?_
  simp only [ab_cl hi, ab_in4 hi, true_and, forall_eq, hL, e1]
  refine br_t (nI_le (by omega) (by omega)) ?_
  by_cases c1 : t = 1
  · refine br_t (congrArg nI c1) ?_
    exact br_c (fun z => h1 c1 z) (fun z => h3 (Or.inl ⟨c1, z⟩) (by omega))
  · refine br_f (fun z => c1 ((nI_eq (b := 1) (by omega) (by omega)).mp z)) ?_
    refine br_c (fun z => h2 c1 z) (fun z => ?_)
    by_cases c9 : t = 9
    · exact br_t (congrArg nI c9) (h4 c1 z c9)
    · exact br_f (fun y => c9 ((nI_eq (b := 9) (by omega) (by omega)).mp y)) (h3 (Or.inr ⟨c1, z⟩) c9)
end
end
section
/-! lockstep: receiving and sending -/
section
variable {k1 k2 k3 k4 k5 k6 k7 k8 k9 k10 k11 k12 k13 nc pl ol gc tn : Int32} {ac te re ho er se lo de qx mi fx dr tk bd rl ll td cr cs si sc sd ss pc px nx dx bc kx bx tx : Nat → Int32} {qy fy cu py ny dy ri rn rd le sn ty bo wi fr : Nat → Int32} {i N : Nat} {D D' : Nat → Prop}
theorem lk_recv (hD : ∀ j, D' j → D j ∧ j ≠ i) (hi : i < 4) (hN : nc = nI N) (hN4 : N ≤ 4) (hiN : i < N) (hP : rl_P N nc pl gc) (hT : rl_T tn tx ty) (hR : ∀ j, j < 4 → j ≠ i → rl_N (D j) (ac j) (re j) (ho j) (mi j) (qx j) (qy j) (fx j) (fy j) (tk j) (le j) (bd j) (rl j) (ll j) (td j) (cr j) (cs j) (si j) (sc j) (sd j) (ss j) (cu j) (dr j) (pc j) (bc j) (ab_v 3 px j) (ab_v 3 py j) (ab_v 3 nx j) (ab_v 3 ny j) (ab_v 3 dx j) (ab_v 3 dy j) (ab_v 8 kx j) (ab_v 8 ri j) (ab_v 8 rn j) (ab_v 8 bx j) (ab_v 8 rd j) (ab_v 128 sn j)) (hB : rl_B (re i) (pc i) (bc i) (ab_v 3 px i) (ab_v 3 py i) (ab_v 3 nx i) (ab_v 3 ny i) (ab_v 3 dx i) (ab_v 3 dy i) (ab_v 8 kx i) (ab_v 8 ri i) (ab_v 8 rn i) (ab_v 8 bx i) (ab_v 8 rd i)) {g : Nat → Int32} (hg : ab_v 128 sn i = g) (ha : ac i = 2) {L : Nat} (hk : tk i = nI L) (hL : le i = nI L) (hok : ab_ok g L) (ht9 : ab_t g L ≤ 9) (hX : ab_X g L (bd i) (rl i) (ll i) (td i) (cr i) (cs i) (si i) (sc i) (sd i)) {s : Int32} (hs : ab_bit s) :
    lk_E N D' (fun post => wpX_sampleReceiving post (k1, k2, k3, k4, k5, k6, k7, k8, k9, k10, k11, k12, k13, nc, pl, ol, gc, tn, ac, te, re, ho, er, se, lo, de, qx, mi, fx, dr, tk, bd, rl, ll, td, cr, cs, si, sc, sd, ss, pc, px, nx, dx, bc, kx, bx, tx) (nI i) s) (fun post => wpY_receive post (nc, pl, ol, gc, ac, te, re, ho, er, lo, se, de, qy, mi, fy, cu, dr, pc, bc, py, ny, dy, ri, rn, rd, le, sn, ty, bo, wi, fr) (nI i) s) := by
  obtain ⟨b1, b2, b3⟩ := ab_bd hok
  have ha6 : ¬ ac i = 6 := by rw [ha]; decide
  obtain ⟨bo1, r1, r2⟩ := yw_next (nc := nc) (pl := pl) (ol := ol) (gc := gc) (ac := ac) (te := te) (re := re) (ho := ho) (er := er) (lo := lo) (se := se) (de := de) (qy := qy) (mi := mi) (fy := fy) (cu := cu) (dr := dr) (pc := pc) (bc := bc) (py := py) (ny := ny) (dy := dy) (ri := ri) (rn := rn) (rd := rd) (le := le) (sn := sn) (ty := ty) (bo := bo) (wi := wi) (fr := fr) hi hL (by omega) hg hok
  by_cases ht : ab_t g L = 0
  · obtain ⟨x1, x2, x3, x4⟩ := id hX
    obtain ⟨y1, y2⟩ := x3 ht
    rw [if_pos ht] at x2
    have b4 := ((ab_bnd hok L (Nat.le_refl L)).1 ht).2
    have hRL := ab_R_le g L
    by_cases hr : 5 ≤ ab_R g L
    · have ekd : ab_kd g L = -2 := by unfold ab_kd; rw [if_pos ht, if_pos hr]
      rw [ekd] at r2
      have el : sn (i * 128 + (L - 1)) = ab_lst g L := by
        obtain ⟨M, rfl⟩ : ∃ M, L = M + 1 := ⟨L - 1, by omega⟩
        show sn (i * 128 + (M + 1 - 1)) = g M
        rw [← hg, ab_v_at (by omega)]; rfl
      by_cases hq : s = ab_lst g L
      · have hE : lk_E N D' (fun post => wpX_receiverError post (k1, k2, k3, k4, k5, k6, k7, k8, k9, k10, k11, k12, k13, nc, pl, ol, gc, tn, ac, te, re, ho, er, se, lo, de, qx, mi, fx, dr, upd tk i (nI (L + 1)), bd, rl, ll, td, cr, cs, si, sc, sd, ss, pc, px, nx, dx, bc, kx, bx, tx) (nI i) 2) (fun post => wpY_receiverError post (nc, pl, ol, gc, ac, te, re, ho, er, lo, se, de, qy, mi, fy, cu, dr, pc, bc, py, ny, dy, ri, rn, rd, le, sn, ty, bo1, wi, fr) (nI i) 2) := lk_rerr hD hi hN hN4 hiN hP hT (fun j hj hji => by simp only [pk_un hji]; exact hR j hj hji) hB ha6 2
        obtain ⟨u, v, h, hx, hy⟩ := hE
        exact ⟨u, v, h, fun post hp => xw_rb_bad hi hk x2 y1 (by omega) hr (hq.trans y2.symm) (hx post hp), fun post hp => yw_rb_bad hi hL (by omega) (by omega) (hq.trans el.symm) r2 (hy post hp)⟩
      · obtain ⟨u, v, h, hx, hy⟩ := lk_keep (k1 := k1) (k2 := k2) (k3 := k3) (k4 := k4) (k5 := k5) (k6 := k6) (k7 := k7) (k8 := k8) (k9 := k9) (k10 := k10) (k11 := k11) (k12 := k12) (k13 := k13) (nc := nc) (pl := pl) (ol := ol) (gc := gc) (tn := tn) (ac := ac) (te := te) (re := re) (ho := ho) (er := er) (se := se) (lo := lo) (de := de) (qx := qx) (mi := mi) (fx := fx) (dr := dr) (tk := tk) (bd := bd) (rl := rl) (ll := ll) (td := td) (cr := cr) (cs := cs) (si := si) (sc := sc) (sd := sd) (ss := ss) (pc := pc) (px := px) (nx := nx) (dx := dx) (bc := bc) (kx := kx) (bx := bx) (tx := tx) (qy := qy) (fy := fy) (cu := cu) (py := py) (ny := ny) (dy := dy) (ri := ri) (rn := rn) (rd := rd) (le := le) (sn := sn) (ty := ty) (bo := bo1) (wi := wi) (fr := fr) hD hi hN hN4 hiN hP hT hR hB hg ha (Or.inr rfl) hL hok ht hX hs (fun _ => hq) (fun z => absurd z (by decide))
        exact ⟨u, v, h, fun post hp => xw_rb_ok hi hk x2 hx hp, fun post hp => yw_rb_ok2 hi hL (by omega) (by omega) (by rw [el]; exact hq) r2 (hy post hp)⟩
    · have ekd : ab_kd g L = -1 := by unfold ab_kd; rw [if_pos ht, if_neg hr]
      rw [ekd] at r2
      obtain ⟨u, v, h, hx, hy⟩ := lk_keep (k1 := k1) (k2 := k2) (k3 := k3) (k4 := k4) (k5 := k5) (k6 := k6) (k7 := k7) (k8 := k8) (k9 := k9) (k10 := k10) (k11 := k11) (k12 := k12) (k13 := k13) (nc := nc) (pl := pl) (ol := ol) (gc := gc) (tn := tn) (ac := ac) (te := te) (re := re) (ho := ho) (er := er) (se := se) (lo := lo) (de := de) (qx := qx) (mi := mi) (fx := fx) (dr := dr) (tk := tk) (bd := bd) (rl := rl) (ll := ll) (td := td) (cr := cr) (cs := cs) (si := si) (sc := sc) (sd := sd) (ss := ss) (pc := pc) (px := px) (nx := nx) (dx := dx) (bc := bc) (kx := kx) (bx := bx) (tx := tx) (qy := qy) (fy := fy) (cu := cu) (py := py) (ny := ny) (dy := dy) (ri := ri) (rn := rn) (rd := rd) (le := le) (sn := sn) (ty := ty) (bo := bo1) (wi := wi) (fr := fr) hD hi hN hN4 hiN hP hT hR hB hg ha (Or.inr rfl) hL hok ht hX hs (fun z => absurd z hr) (fun z => absurd z (by decide))
      exact ⟨u, v, h, fun post hp => xw_rb_ok hi hk x2 hx hp, fun post hp => yw_rb_ok1 hi r2 (hy post hp)⟩
  · obtain ⟨t, et⟩ : ∃ t, ab_t g L = t + 1 := ⟨ab_t g L - 1, by omega⟩
    obtain ⟨z1, z2, z3, z4, z5, z6⟩ := ab_X_end hX hok ht
    have ekd : ab_kd g L = nI t := by unfold ab_kd; rw [if_neg ht, et]; rfl
    rw [ekd] at r2
    obtain ⟨x1, x2, x3, x4⟩ := id hX
    rw [if_neg ht, et] at x2
    have x2 : td i = nI t := x2
    have hbb := ab_b_bit hok L (Nat.le_refl L)
    obtain ⟨hn4, hnl⟩ := ab_n_ok hbb
    rw [z6] at r1
    have hl : ab_lI (ab_code bo1) = nI (ab_n (ab_b g L)) := by rw [ab_code_cg (b' := ab_b g L) (fun y hy => r1 y (by omega)), hnl]
    have ecr : cr i = ab_crc bo1 (19 + 8 * ab_n (ab_b g L)) := by rw [z1]; exact (ab_crc_cg _ (fun y hy => r1 y (by omega))).symm
    have ecs : cs i = ab_num bo1 (19 + 8 * ab_n (ab_b g L)) 15 := by rw [z2]; exact (ab_num_cg _ _ (fun y hy => r1 y (by omega))).symm
    have hm : ∀ post : Int32 → Prop, post (if ab_num bo1 (19 + 8 * ab_n (ab_b g L)) 15 = ab_crc bo1 (19 + 8 * ab_n (ab_b g L)) then 1 else 0) → wpY_matched post (nc, pl, ol, gc, ac, te, re, ho, er, lo, se, de, qy, mi, fy, cu, dr, pc, bc, py, ny, dy, ri, rn, rd, le, sn, ty, bo1, wi, fr) := fun post h => yw_match hl hn4 (fun j hj => by rw [r1 _ (by omega)]; exact hbb _) h
    have em : ((if ab_num bo1 (19 + 8 * ab_n (ab_b g L)) 15 = ab_crc bo1 (19 + 8 * ab_n (ab_b g L)) then (1 : Int32) else 0) = 0) ↔ ¬ cr i = cs i := by
      rw [ecr, ecs]
      by_cases c : ab_num bo1 (19 + 8 * ab_n (ab_b g L)) 15 = ab_crc bo1 (19 + 8 * ab_n (ab_b g L))
      · rw [if_pos c]; exact ⟨fun z => absurd z (by decide), fun z => absurd c.symm z⟩
      · rw [if_neg c]; exact ⟨fun _ z => c z.symm, fun _ => rfl⟩
    generalize (if ab_num bo1 (19 + 8 * ab_n (ab_b g L)) 15 = ab_crc bo1 (19 + 8 * ab_n (ab_b g L)) then (1 : Int32) else 0) = mt at hm em
    have eR : (if t = 1 then (if dr i = 0 ∧ s = 1 then (1 : Int32) else 0) else if t = 2 ∧ mt = 0 then 4 else if s = 0 then 3 else 0) = ab_rte t (dr i) s (cr i) (cs i) := by
      unfold ab_rte
      simp only [em]
    have hY := fun post => yw_rt (post := post) (s := s) (nc := nc) (pl := pl) (ol := ol) (gc := gc) (ac := ac) (te := te) (re := re) (ho := ho) (er := er) (lo := lo) (se := se) (de := de) (qy := qy) (mi := mi) (fy := fy) (cu := cu) (dr := dr) (pc := pc) (bc := bc) (py := py) (ny := ny) (dy := dy) (ri := ri) (rn := rn) (rd := rd) (le := le) (sn := sn) (ty := ty) (bo := bo1) (wi := wi) (fr := fr) hi (show t < 100 by omega) hm
    rw [eR] at hY
    by_cases hK : ab_rte t (dr i) s (cr i) (cs i) = 0
    · by_cases h8 : t = 8
      · have hE : lk_E N D' (fun post => wpX_frameAccepted post (k1, k2, k3, k4, k5, k6, k7, k8, k9, k10, k11, k12, k13, nc, pl, ol, gc, tn, ac, te, re, ho, er, se, lo, de, qx, mi, fx, dr, upd tk i (nI (L + 1)), bd, rl, ll, upd td i (nI (t + 1)), cr, cs, si, sc, sd, ss, pc, px, nx, dx, bc, kx, bx, tx) (nI i)) (fun post => wpY_accepted post (nc, pl, ol, gc, ac, te, re, ho, er, lo, se, de, qy, mi, fy, cu, dr, pc, bc, py, ny, dy, ri, rn, rd, le, sn, ty, bo1, wi, fr) (nI i)) :=
          lk_acc hD hi hN hN4 hiN hP hT (fun j hj hji => by simp only [pk_un hji]; exact hR j hj hji) hB hn4 hl (fun j hj => by rw [r1 _ (by omega)]; exact hbb _) (by rw [z3]; exact (ab_num_cg _ _ (fun y hy => r1 y (by omega))).symm) (by rw [z4, hnl]) (by rw [z5]; exact (ab_num_cg _ _ (fun y hy => r1 y (by omega))).symm)
        obtain ⟨u, v, h, hx, hy⟩ := hE
        exact ⟨u, v, h, fun post hp => xw_rt_acc hi hk x2 h8 hK (hx post hp), fun post hp => yw_rtR hi (by omega) r2 (hY post (fun kd h1 h2 => absurd (h2.symm.trans hK) h1) (fun _ z => absurd h8 z) (fun _ _ => hy post hp))⟩
      · have hE := lk_tl (k1 := k1) (k2 := k2) (k3 := k3) (k4 := k4) (k5 := k5) (k6 := k6) (k7 := k7) (k8 := k8) (k9 := k9) (k10 := k10) (k11 := k11) (k12 := k12) (k13 := k13) (nc := nc) (pl := pl) (ol := ol) (gc := gc) (tn := tn) (ac := ac) (te := te) (re := re) (ho := ho) (er := er) (se := se) (lo := lo) (de := de) (qx := qx) (mi := mi) (fx := fx) (dr := dr) (tk := tk) (bd := bd) (rl := rl) (ll := ll) (td := td) (cr := cr) (cs := cs) (si := si) (sc := sc) (sd := sd) (ss := ss) (pc := pc) (px := px) (nx := nx) (dx := dx) (bc := bc) (kx := kx) (bx := bx) (tx := tx) (qy := qy) (fy := fy) (cu := cu) (py := py) (ny := ny) (dy := dy) (ri := ri) (rn := rn) (rd := rd) (le := le) (sn := sn) (ty := ty) (bo := bo1) (wi := wi) (fr := fr) hD hi hN hN4 hiN hP hT hR hB hg ha (Or.inr rfl) (show L < 127 by omega) hok et hX hs (by omega) (fun _ => by omega) (fun z => absurd z (by decide))
        exact ⟨_, _, hE, fun post hp => xw_rt_keep hi hk x2 (by omega) hK hp, fun post hp => yw_rtR hi (by omega) r2 (hY post (fun kd h1 h2 => absurd (h2.symm.trans hK) h1) (fun _ _ => yw_keep hi hL (by omega) hp) (fun _ z => absurd z h8))⟩
    · have hE : lk_E N D' (fun post => wpX_receiverError post (k1, k2, k3, k4, k5, k6, k7, k8, k9, k10, k11, k12, k13, nc, pl, ol, gc, tn, ac, te, re, ho, er, se, lo, de, qx, mi, fx, dr, upd tk i (nI (L + 1)), bd, rl, ll, td, cr, cs, si, sc, sd, ss, pc, px, nx, dx, bc, kx, bx, tx) (nI i) (ab_rte t (dr i) s (cr i) (cs i))) (fun post => wpY_receiverError post (nc, pl, ol, gc, ac, te, re, ho, er, lo, se, de, qy, mi, fy, cu, dr, pc, bc, py, ny, dy, ri, rn, rd, le, sn, ty, bo1, wi, fr) (nI i) (ab_rte t (dr i) s (cr i) (cs i))) := lk_rerr hD hi hN hN4 hiN hP hT (fun j hj hji => by simp only [pk_un hji]; exact hR j hj hji) hB ha6 _
      obtain ⟨u, v, h, hx, hy⟩ := hE
      exact ⟨u, v, h, fun post hp => xw_rt_err hi hk x2 (by omega) rfl hK (hx post hp), fun post hp => yw_rtR hi (by omega) r2 (hY post (fun kd h1 h2 => by rw [← h2]; exact hy post hp) (fun z => absurd z hK) (fun z => absurd z hK))⟩
end
end
section
/-! lockstep: sending -/
section
variable {k1 k2 k3 k4 k5 k6 k7 k8 k9 k10 k11 k12 k13 nc pl ol gc tn : Int32} {ac te re ho er se lo de qx mi fx dr tk bd rl ll td cr cs si sc sd ss pc px nx dx bc kx bx tx : Nat → Int32} {qy fy cu py ny dy ri rn rd le sn ty bo wi fr : Nat → Int32} {i N : Nat} {D D' : Nat → Prop}
theorem lk_send (hD : ∀ j, D' j → D j ∧ j ≠ i) (hi : i < 4) (hN : nc = nI N) (hN4 : N ≤ 4) (hiN : i < N) (hP : rl_P N nc pl gc) (hT : rl_T tn tx ty) (hR : ∀ j, j < 4 → j ≠ i → rl_N (D j) (ac j) (re j) (ho j) (mi j) (qx j) (qy j) (fx j) (fy j) (tk j) (le j) (bd j) (rl j) (ll j) (td j) (cr j) (cs j) (si j) (sc j) (sd j) (ss j) (cu j) (dr j) (pc j) (bc j) (ab_v 3 px j) (ab_v 3 py j) (ab_v 3 nx j) (ab_v 3 ny j) (ab_v 3 dx j) (ab_v 3 dy j) (ab_v 8 kx j) (ab_v 8 ri j) (ab_v 8 rn j) (ab_v 8 bx j) (ab_v 8 rd j) (ab_v 128 sn j)) (hB : rl_B (re i) (pc i) (bc i) (ab_v 3 px i) (ab_v 3 py i) (ab_v 3 nx i) (ab_v 3 ny i) (ab_v 3 dx i) (ab_v 3 dy i) (ab_v 8 kx i) (ab_v 8 ri i) (ab_v 8 rn i) (ab_v 8 bx i) (ab_v 8 rd i)) {g : Nat → Int32} (hg : ab_v 128 sn i = g) (ha : ac i = 1) {L : Nat} (hk : tk i = nI L) (hL : le i = nI L) (hok : ab_ok g L) (ht10 : ab_t g L ≤ 10) (hX : ab_X g L (bd i) (rl i) (ll i) (td i) (cr i) (cs i) (si i) (sc i) (sd i))
    {c q n : Nat} (s1 : ss i = nI c) (s2 : cu i = nI c) (s3 : pc i = nI q) (s4 : c < q) (s5 : q ≤ 3) (s6 : n ≤ 4) (s7 : ab_v 3 ny i c = nI n) {F : Nat → Int32} (hF : F = ab_F (ab_v 3 py i c) (ab_v 3 dy i c) n) (s8 : ab_SG F g L)
    (hdr : ab_t g L = 0 → dr i = ab_nx F g L) {s : Int32} (hs : ab_bit s) :
    lk_E N D' (fun post => wpX_sample post (k1, k2, k3, k4, k5, k6, k7, k8, k9, k10, k11, k12, k13, nc, pl, ol, gc, tn, ac, te, re, ho, er, se, lo, de, qx, mi, fx, dr, tk, bd, rl, ll, td, cr, cs, si, sc, sd, ss, pc, px, nx, dx, bc, kx, bx, tx) (nI i) s) (fun post => wpY_send post (nc, pl, ol, gc, ac, te, re, ho, er, lo, se, de, qy, mi, fy, cu, dr, pc, bc, py, ny, dy, ri, rn, rd, le, sn, ty, bo, wi, fr) (nI i) s) := by
  obtain ⟨b1, b2, b3⟩ := ab_bd hok
  have ha6 : ¬ ac i = 6 := by rw [ha]; decide
  have hny : ny (i * 3 + c) = nI n := by rw [← s7, ab_v_at (by omega)]
  have hF2 : F = ab_F (py (i * 3 + c)) (dy (i * 3 + c)) n := by rw [hF, ab_v_at (by omega), ab_v_at (by omega)]
  obtain ⟨bo1, wi1, fr1, e, q1, q2, q3, q4⟩ := yw_build (nc := nc) (pl := pl) (ol := ol) (gc := gc) (ac := ac) (te := te) (re := re) (ho := ho) (er := er) (lo := lo) (se := se) (de := de) (qy := qy) (mi := mi) (fy := fy) (cu := cu) (dr := dr) (pc := pc) (bc := bc) (py := py) (ny := ny) (dy := dy) (ri := ri) (rn := rn) (rd := rd) (le := le) (sn := sn) (ty := ty) (bo := bo) (wi := wi) (fr := fr) hi s2 (by omega) hny s6 hF2
  by_cases ht : ab_t g L = 0
  · have hLe : L < e := by
      rcases Nat.lt_or_ge L e with z | z
      · exact z
      · have := ab_wire_ge hok s8 q1 q2 z
        omega
    obtain ⟨w1, w2, w3⟩ := ab_wire_lt hok s8 q1 hLe
    have hW : wi1 L = dr i := by rw [w2, hdr ht]
    have hd := hdr ht
    obtain ⟨x1, x2, x3, x4⟩ := id hX
    obtain ⟨y1, y2⟩ := x3 ht
    rw [if_pos ht] at x2
    obtain ⟨c1, c2⟩ := (ab_bnd hok L (Nat.le_refl L)).1 ht
    have hlb := ab_lst_bit hok (Nat.le_refl L)
    by_cases hsw : s = dr i
    · obtain ⟨u, v, h, hx, hy⟩ := lk_keep (k1 := k1) (k2 := k2) (k3 := k3) (k4 := k4) (k5 := k5) (k6 := k6) (k7 := k7) (k8 := k8) (k9 := k9) (k10 := k10) (k11 := k11) (k12 := k12) (k13 := k13) (nc := nc) (pl := pl) (ol := ol) (gc := gc) (tn := tn) (ac := ac) (te := te) (re := re) (ho := ho) (er := er) (se := se) (lo := lo) (de := de) (qx := qx) (mi := mi) (fx := fx) (dr := dr) (tk := tk) (bd := bd) (rl := rl) (ll := ll) (td := td) (cr := cr) (cs := cs) (si := si) (sc := sc) (sd := sd) (ss := ss) (pc := pc) (px := px) (nx := nx) (dx := dx) (bc := bc) (kx := kx) (bx := bx) (tx := tx) (qy := qy) (fy := fy) (cu := cu) (py := py) (ny := ny) (dy := dy) (ri := ri) (rn := rn) (rd := rd) (le := le) (sn := sn) (ty := ty) (bo := bo1) (wi := wi1) (fr := fr1) hD hi hN hN4 hiN hP hT hR hB hg ha (Or.inl rfl) hL hok ht hX hs
        (fun z => by
          rw [hsw, hd]
          unfold ab_nx
          rw [if_pos z]
          exact ab_flip_ne hlb)
        (fun _ => ⟨c, q, n, ⟨s1, s2, s3, s4, s5, s6, s7, by rw [← hF]; exact s8⟩, fun z => by
          rw [hsw, hd, ← hF]
          unfold ab_nx
          rw [if_neg z]⟩)
      refine ⟨u, v, h, fun post hp => xw_sb hi ha x2 (xw_sb_ok hi hk hsw hx hp), fun post hp => yw_sb hi hL (by omega) (by omega) hLe q4 (fun _ => hy post hp) (fun z => absurd (hsw.trans hW.symm) z) (fun z => absurd (hsw.trans hW.symm) z)⟩
    · have hk1 : 5 ≤ ab_R g L → 1 ≤ ab_k g L := fun _ => by omega
      by_cases hc : dr i = 1 ∧ (if 5 ≤ ab_R g L then ab_k g L - 1 else ab_k g L) ≤ 11
      · have hE : lk_E N D' (fun post => wpX_sampleReceiving post (k1, k2, k3, k4, k5, k6, k7, k8, k9, k10, k11, k12, k13, nc, pl, ol, gc, tn, upd ac i 2, te, re, ho, er, se, lo, upd de i (de i + 1), qx, mi, fx, dr, tk, bd, rl, ll, td, cr, cs, si, sc, sd, ss, pc, px, nx, dx, bc, kx, bx, tx) (nI i) s) (fun post => wpY_receive post (nc, pl, ol, gc, upd ac i 2, te, re, ho, er, lo, se, upd de i (de i + 1), qy, mi, fy, cu, dr, pc, bc, py, ny, dy, ri, rn, rd, le, sn, ty, bo1, wi1, fr1) (nI i) s) :=
          lk_recv hD hi hN hN4 hiN hP hT (fun j hj hji => by simp only [pk_un hji]; exact hR j hj hji) hB hg pk_us hk hL hok (by omega) hX hs
        obtain ⟨u, v, h, hx, hy⟩ := hE
        refine ⟨u, v, h, fun post hp => xw_sb hi ha x2 (xw_sb_arb hi x1 (by omega) y1 (by omega) hk1 hsw hc.1 hc.2 (hx post hp)), fun post hp => yw_sb hi hL (by omega) (by omega) hLe q4 (fun z => absurd (z.trans hW) hsw) (fun _ _ _ => hy post hp) (fun _ z => absurd ⟨hW.trans hc.1, ?_⟩ z)⟩
        rw [w3]
        exact nI_nlt (a := 11) hc.2 (by omega)
      · have hE : lk_E N D' (fun post => wpX_senderError post (k1, k2, k3, k4, k5, k6, k7, k8, k9, k10, k11, k12, k13, nc, pl, ol, gc, tn, ac, te, re, ho, er, se, lo, de, qx, mi, fx, dr, tk, bd, rl, ll, td, cr, cs, si, sc, sd, ss, pc, px, nx, dx, bc, kx, bx, tx) (nI i) 1) (fun post => wpY_senderError post (nc, pl, ol, gc, ac, te, re, ho, er, lo, se, de, qy, mi, fy, cu, dr, pc, bc, py, ny, dy, ri, rn, rd, le, sn, ty, bo1, wi1, fr1) (nI i) 1) := lk_serr hD hi hN hN4 hiN hP hT hR hB ha6 1
        obtain ⟨u, v, h, hx, hy⟩ := hE
        refine ⟨u, v, h, fun post hp => xw_sb hi ha x2 (xw_sb_err hi x1 (by omega) y1 (by omega) hk1 hsw hc (hx post hp)), fun post hp => yw_sb hi hL (by omega) (by omega) hLe q4 (fun z => absurd (z.trans hW) hsw) (fun _ z f => absurd ⟨hW.symm.trans z, ?_⟩ hc) (fun _ _ => hy post hp)⟩
        rw [w3] at f
        rcases Nat.lt_or_ge 11 (if 5 ≤ ab_R g L then ab_k g L - 1 else ab_k g L) with y | y
        · exact absurd (nI_lt (a := 11) y (by split <;> omega)) f
        · exact y
  · obtain ⟨t, et⟩ : ∃ t, ab_t g L = t + 1 := ⟨ab_t g L - 1, by omega⟩
    have hLe : L = e + t := by
      rcases Nat.lt_or_ge L e with z | z
      · exact absurd (ab_wire_lt hok s8 q1 z).1 ht
      · have := ab_wire_ge hok s8 q1 q2 z
        omega
    obtain ⟨x1, x2, x3, x4⟩ := id hX
    rw [if_neg ht, et] at x2
    have x2 : td i = nI t := x2
    have hSS : (1 : Int32) = 1 → ∃ c q n : Nat, ss i = nI c ∧ cu i = nI c ∧ pc i = nI q ∧ c < q ∧ q ≤ 3 ∧ n ≤ 4 ∧ ab_v 3 ny i c = nI n ∧ ab_SG (ab_F (ab_v 3 py i c) (ab_v 3 dy i c) n) g L := fun _ => ⟨c, q, n, s1, s2, s3, s4, s5, s6, s7, by rw [← hF]; exact s8⟩
    by_cases t1 : t = 1
    · have td1 : td i = 1 := by rw [x2, t1]; rfl
      by_cases hs1 : s = 1
      · have hE : lk_E N D' (fun post => wpX_senderError post (k1, k2, k3, k4, k5, k6, k7, k8, k9, k10, k11, k12, k13, nc, pl, ol, gc, tn, ac, te, re, ho, er, se, lo, de, qx, mi, fx, dr, tk, bd, rl, ll, td, cr, cs, si, sc, sd, ss, pc, px, nx, dx, bc, kx, bx, tx) (nI i) 5) (fun post => wpY_senderError post (nc, pl, ol, gc, ac, te, re, ho, er, lo, se, de, qy, mi, fy, cu, dr, pc, bc, py, ny, dy, ri, rn, rd, le, sn, ty, bo1, wi1, fr1) (nI i) 5) := lk_serr hD hi hN hN4 hiN hP hT hR hB ha6 5
        obtain ⟨u, v, h, hx, hy⟩ := hE
        exact ⟨u, v, h, fun post hp => xw_st hi ha x2 (by omega) (xw_st_ack hi td1 hs1 (hx post hp)), fun post hp => yw_st hi hL (by omega) hLe q4 (fun _ _ => hy post hp) (fun z => absurd t1 z) (fun z _ => by
          rcases z with z | z
          · exact absurd hs1 z.2
          · exact absurd t1 z.1) (fun z => absurd t1 z)⟩
      · have hE := lk_tl (k1 := k1) (k2 := k2) (k3 := k3) (k4 := k4) (k5 := k5) (k6 := k6) (k7 := k7) (k8 := k8) (k9 := k9) (k10 := k10) (k11 := k11) (k12 := k12) (k13 := k13) (nc := nc) (pl := pl) (ol := ol) (gc := gc) (tn := tn) (ac := ac) (te := te) (re := re) (ho := ho) (er := er) (se := se) (lo := lo) (de := de) (qx := qx) (mi := mi) (fx := fx) (dr := dr) (tk := tk) (bd := bd) (rl := rl) (ll := ll) (td := td) (cr := cr) (cs := cs) (si := si) (sc := sc) (sd := sd) (ss := ss) (pc := pc) (px := px) (nx := nx) (dx := dx) (bc := bc) (kx := kx) (bx := bx) (tx := tx) (qy := qy) (fy := fy) (cu := cu) (py := py) (ny := ny) (dy := dy) (ri := ri) (rn := rn) (rd := rd) (le := le) (sn := sn) (ty := ty) (bo := bo1) (wi := wi1) (fr := fr1) hD hi hN hN4 hiN hP hT hR hB hg ha (Or.inl rfl) (show L < 127 by omega) hok et hX hs (by omega) (fun z => absurd z (by decide)) hSS
        exact ⟨_, _, hE, fun post hp => xw_st hi ha x2 (by omega) (xw_st33 hi (Or.inl ⟨td1, hs1⟩) (xw_st_keep hi hk x2 (by omega) hp)), fun post hp => yw_st hi hL (by omega) hLe q4 (fun _ z => absurd z hs1) (fun z => absurd t1 z) (fun _ _ => yw_keep hi hL (by omega) hp) (fun z => absurd t1 z)⟩
    · have td1 : ¬ td i = 1 := by
        rw [x2]
        exact fun z => t1 ((nI_eq (b := 1) (by omega) (by omega)).mp z)
      by_cases hs0 : s = 0
      · have hE : lk_E N D' (fun post => wpX_senderError post (k1, k2, k3, k4, k5, k6, k7, k8, k9, k10, k11, k12, k13, nc, pl, ol, gc, tn, ac, te, re, ho, er, se, lo, de, qx, mi, fx, dr, tk, bd, rl, ll, td, cr, cs, si, sc, sd, ss, pc, px, nx, dx, bc, kx, bx, tx) (nI i) 3) (fun post => wpY_senderError post (nc, pl, ol, gc, ac, te, re, ho, er, lo, se, de, qy, mi, fy, cu, dr, pc, bc, py, ny, dy, ri, rn, rd, le, sn, ty, bo1, wi1, fr1) (nI i) 3) := lk_serr hD hi hN hN4 hiN hP hT hR hB ha6 3
        obtain ⟨u, v, h, hx, hy⟩ := hE
        exact ⟨u, v, h, fun post hp => xw_st hi ha x2 (by omega) (xw_st_form hi td1 hs0 (hx post hp)), fun post hp => yw_st hi hL (by omega) hLe q4 (fun z => absurd z t1) (fun _ _ => hy post hp) (fun z _ => by
          rcases z with z | z
          · exact absurd z.1 t1
          · exact absurd hs0 z.2) (fun _ z => absurd hs0 z)⟩
      · by_cases t9 : t = 9
        · have hE : lk_E N D' (fun post => wpX_frameSent post (k1, k2, k3, k4, k5, k6, k7, k8, k9, k10, k11, k12, k13, nc, pl, ol, gc, tn, ac, te, re, ho, er, se, lo, de, qx, mi, fx, dr, upd tk i (nI (L + 1)), bd, rl, ll, upd td i (nI (t + 1)), cr, cs, si, sc, sd, ss, pc, px, nx, dx, bc, kx, bx, tx) (nI i)) (fun post => wpY_frameSent post (nc, pl, ol, gc, ac, te, re, ho, er, lo, se, de, qy, mi, fy, cu, dr, pc, bc, py, ny, dy, ri, rn, rd, le, sn, ty, bo1, wi1, fr1) (nI i)) := lk_sent hD hi hN hN4 hiN hP hT (fun j hj hji => by simp only [pk_un hji]; exact hR j hj hji) hB ha6 s1 s2 s3 s4 s5
          obtain ⟨u, v, h, hx, hy⟩ := hE
          exact ⟨u, v, h, fun post hp => xw_st hi ha x2 (by omega) (xw_st33 hi (Or.inr ⟨td1, hs0⟩) (xw_st_sent hi hk x2 t9 (hx post hp))), fun post hp => yw_st hi hL (by omega) hLe q4 (fun z => absurd z t1) (fun _ z => absurd z hs0) (fun _ z => absurd t9 z) (fun _ _ _ => hy post hp)⟩
        · have hE := lk_tl (k1 := k1) (k2 := k2) (k3 := k3) (k4 := k4) (k5 := k5) (k6 := k6) (k7 := k7) (k8 := k8) (k9 := k9) (k10 := k10) (k11 := k11) (k12 := k12) (k13 := k13) (nc := nc) (pl := pl) (ol := ol) (gc := gc) (tn := tn) (ac := ac) (te := te) (re := re) (ho := ho) (er := er) (se := se) (lo := lo) (de := de) (qx := qx) (mi := mi) (fx := fx) (dr := dr) (tk := tk) (bd := bd) (rl := rl) (ll := ll) (td := td) (cr := cr) (cs := cs) (si := si) (sc := sc) (sd := sd) (ss := ss) (pc := pc) (px := px) (nx := nx) (dx := dx) (bc := bc) (kx := kx) (bx := bx) (tx := tx) (qy := qy) (fy := fy) (cu := cu) (py := py) (ny := ny) (dy := dy) (ri := ri) (rn := rn) (rd := rd) (le := le) (sn := sn) (ty := ty) (bo := bo1) (wi := wi1) (fr := fr1) hD hi hN hN4 hiN hP hT hR hB hg ha (Or.inl rfl) (show L < 127 by omega) hok et hX hs (by omega) (fun z => absurd z (by decide)) hSS
          exact ⟨_, _, hE, fun post hp => xw_st hi ha x2 (by omega) (xw_st33 hi (Or.inr ⟨td1, hs0⟩) (xw_st_keep hi hk x2 (by omega) hp)), fun post hp => yw_st hi hL (by omega) hLe q4 (fun z => absurd z t1) (fun _ z => absurd z hs0) (fun _ _ => yw_keep hi hL (by omega) hp) (fun _ _ z => absurd z t9)⟩
end
end
section
/-! lockstep: flags, waiting, silence, idle -/
section
variable {k1 k2 k3 k4 k5 k6 k7 k8 k9 k10 k11 k12 k13 nc pl ol gc tn : Int32} {ac te re ho er se lo de qx mi fx dr tk bd rl ll td cr cs si sc sd ss pc px nx dx bc kx bx tx : Nat → Int32} {i : Nat}
theorem xw_fl (hi : i < 4) (ha : ac i = 3 ∨ ac i = 4) {s : Int32} {post : SX → Prop} (h : wpX_sampleFlag post (k1, k2, k3, k4, k5, k6, k7, k8, k9, k10, k11, k12, k13, nc, pl, ol, gc, tn, ac, te, re, ho, er, se, lo, de, qx, mi, fx, dr, tk, bd, rl, ll, td, cr, cs, si, sc, sd, ss, pc, px, nx, dx, bc, kx, bx, tx) (nI i) s) : wpX_sample post (k1, k2, k3, k4, k5, k6, k7, k8, k9, k10, k11, k12, k13, nc, pl, ol, gc, tn, ac, te, re, ho, er, se, lo, de, qx, mi, fx, dr, tk, bd, rl, ll, td, cr, cs, si, sc, sd, ss, pc, px, nx, dx, bc, kx, bx, tx) (nI i) s := by
  have k77 : wX_sample_77 post (nI i) s k1 k2 k3 k4 k5 k6 k7 k8 k9 k10 k11 k12 k13 nc pl ol gc tn ac te re ho er se lo de qx mi fx dr tk bd rl ll td cr cs si sc sd ss pc px nx dx bc kx bx tx := by
    simp only [wX_sample_77]
    exact h
  rcases ha with ha | ha
  · simp only [wpX_sample, ab_cl hi, ab_in4 hi, true_and, forall_eq, ha]
    exact br_f (by decide) (br_f (by decide) (br_f (by decide) (br_t trivial k77)))
  · simp only [wpX_sample, ab_cl hi, ab_in4 hi, true_and, forall_eq, ha]
    exact br_f (by decide) (br_f (by decide) (br_f (by decide) (br_f (by decide) (br_t trivial k77))))
theorem xw_fl1 (hi : i < 4) (hf : ¬ fx i ≤ 1) {s : Int32} {post : SX → Prop} (h : post (k1, k2, k3, k4, k5, k6, k7, k8, k9, k10, k11, k12, k13, nc, pl, ol, gc, tn, ac, te, re, ho, er, se, lo, de, qx, mi, upd fx i (fx i - 1), dr, tk, bd, rl, ll, td, cr, cs, si, sc, sd, ss, pc, px, nx, dx, bc, kx, bx, tx)) : wpX_sampleFlag post (k1, k2, k3, k4, k5, k6, k7, k8, k9, k10, k11, k12, k13, nc, pl, ol, gc, tn, ac, te, re, ho, er, se, lo, de, qx, mi, fx, dr, tk, bd, rl, ll, td, cr, cs, si, sc, sd, ss, pc, px, nx, dx, bc, kx, bx, tx) (nI i) s := by
  simp only [wpX_sampleFlag, ab_cl hi, ab_in4 hi, true_and, forall_eq]
  exact br_f hf h
theorem xw_fl2 (hi : i < 4) (hf : fx i ≤ 1) {s : Int32} (hs : s = 0) (ha : ac i = 4) {post : SX → Prop} (h : post (k1, k2, k3, k4, k5, k6, k7, k8, k9, k10, k11, k12, k13, nc, pl, ol, gc, tn, upd ac i 5, te, upd re i (ab_inc (re i) 8), ho, er, se, lo, de, upd qx i 0, mi, upd fx i 0, dr, tk, bd, rl, ll, td, cr, cs, si, sc, sd, ss, pc, px, nx, dx, bc, kx, bx, tx)) : wpX_sampleFlag post (k1, k2, k3, k4, k5, k6, k7, k8, k9, k10, k11, k12, k13, nc, pl, ol, gc, tn, ac, te, re, ho, er, se, lo, de, qx, mi, fx, dr, tk, bd, rl, ll, td, cr, cs, si, sc, sd, ss, pc, px, nx, dx, bc, kx, bx, tx) (nI i) s := by
  simp only [wpX_sampleFlag, ab_cl hi, ab_in4 hi, true_and, forall_eq]
  refine br_t hf (br_t hs (br_t ha ?_))
  refine xw_raise hi ?_
  simp only [wX_sampleFlag_49]
  exact xw_wait hi h
theorem xw_fl3 (hi : i < 4) (hf : fx i ≤ 1) {s : Int32} (hs : s = 0) (ha : ¬ ac i = 4) {post : SX → Prop} (h : post (k1, k2, k3, k4, k5, k6, k7, k8, k9, k10, k11, k12, k13, nc, pl, ol, gc, tn, upd ac i 5, te, re, ho, er, se, lo, de, upd qx i 0, mi, upd fx i 0, dr, tk, bd, rl, ll, td, cr, cs, si, sc, sd, ss, pc, px, nx, dx, bc, kx, bx, tx)) : wpX_sampleFlag post (k1, k2, k3, k4, k5, k6, k7, k8, k9, k10, k11, k12, k13, nc, pl, ol, gc, tn, ac, te, re, ho, er, se, lo, de, qx, mi, fx, dr, tk, bd, rl, ll, td, cr, cs, si, sc, sd, ss, pc, px, nx, dx, bc, kx, bx, tx) (nI i) s := by
  simp only [wpX_sampleFlag, ab_cl hi, ab_in4 hi, true_and, forall_eq]
  refine br_t hf (br_t hs (br_f ha ?_))
  simp only [wX_sampleFlag_49]
  exact xw_wait hi h
theorem xw_fl4 (hi : i < 4) (hf : fx i ≤ 1) {s : Int32} (hs : ¬ s = 0) {post : SX → Prop} (h : post (k1, k2, k3, k4, k5, k6, k7, k8, k9, k10, k11, k12, k13, nc, pl, ol, gc, tn, upd ac i 5, te, re, ho, er, se, lo, de, upd qx i 1, mi, upd fx i 0, dr, tk, bd, rl, ll, td, cr, cs, si, sc, sd, ss, pc, px, nx, dx, bc, kx, bx, tx)) : wpX_sampleFlag post (k1, k2, k3, k4, k5, k6, k7, k8, k9, k10, k11, k12, k13, nc, pl, ol, gc, tn, ac, te, re, ho, er, se, lo, de, qx, mi, fx, dr, tk, bd, rl, ll, td, cr, cs, si, sc, sd, ss, pc, px, nx, dx, bc, kx, bx, tx) (nI i) s := by
  simp only [wpX_sampleFlag, ab_cl hi, ab_in4 hi, true_and, forall_eq]
  exact br_t hf (br_f hs (xw_wait hi h))
theorem xw_wt (hi : i < 4) (ha : ac i = 5) {s : Int32} {post : SX → Prop} (h : wpX_sampleWaiting post (k1, k2, k3, k4, k5, k6, k7, k8, k9, k10, k11, k12, k13, nc, pl, ol, gc, tn, ac, te, re, ho, er, se, lo, de, qx, mi, fx, dr, tk, bd, rl, ll, td, cr, cs, si, sc, sd, ss, pc, px, nx, dx, bc, kx, bx, tx) (nI i) s) : wpX_sample post (k1, k2, k3, k4, k5, k6, k7, k8, k9, k10, k11, k12, k13, nc, pl, ol, gc, tn, ac, te, re, ho, er, se, lo, de, qx, mi, fx, dr, tk, bd, rl, ll, td, cr, cs, si, sc, sd, ss, pc, px, nx, dx, bc, kx, bx, tx) (nI i) s := by
  simp only [wpX_sample, ab_cl hi, ab_in4 hi, true_and, forall_eq, ha]
  exact br_f (by decide) (br_f (by decide) (br_f (by decide) (br_f (by decide) (br_f (by decide) (br_t trivial h)))))
theorem xw_si (hi : i < 4) (ha : ac i = 6) {s : Int32} {post : SX → Prop} (h : wpX_sampleSilent post (k1, k2, k3, k4, k5, k6, k7, k8, k9, k10, k11, k12, k13, nc, pl, ol, gc, tn, ac, te, re, ho, er, se, lo, de, qx, mi, fx, dr, tk, bd, rl, ll, td, cr, cs, si, sc, sd, ss, pc, px, nx, dx, bc, kx, bx, tx) (nI i) s) : wpX_sample post (k1, k2, k3, k4, k5, k6, k7, k8, k9, k10, k11, k12, k13, nc, pl, ol, gc, tn, ac, te, re, ho, er, se, lo, de, qx, mi, fx, dr, tk, bd, rl, ll, td, cr, cs, si, sc, sd, ss, pc, px, nx, dx, bc, kx, bx, tx) (nI i) s := by
  simp only [wpX_sample, ab_cl hi, ab_in4 hi, true_and, forall_eq, ha]
  exact br_f (by decide) (br_f (by decide) (br_f (by decide) (br_f (by decide) (br_f (by decide) (br_f (by decide) h)))))
theorem xw_id (hi : i < 4) (ha : ac i = 0) {s : Int32} {post : SX → Prop} (h : wpX_sampleIdle post (k1, k2, k3, k4, k5, k6, k7, k8, k9, k10, k11, k12, k13, nc, pl, ol, gc, tn, ac, te, re, ho, er, se, lo, de, qx, mi, fx, dr, tk, bd, rl, ll, td, cr, cs, si, sc, sd, ss, pc, px, nx, dx, bc, kx, bx, tx) (nI i) s) : wpX_sample post (k1, k2, k3, k4, k5, k6, k7, k8, k9, k10, k11, k12, k13, nc, pl, ol, gc, tn, ac, te, re, ho, er, se, lo, de, qx, mi, fx, dr, tk, bd, rl, ll, td, cr, cs, si, sc, sd, ss, pc, px, nx, dx, bc, kx, bx, tx) (nI i) s := by
  simp only [wpX_sample, ab_cl hi, ab_in4 hi, true_and, forall_eq, ha]
  exact br_t trivial h
theorem xw_rv (hi : i < 4) (ha : ac i = 2) {s : Int32} {post : SX → Prop} (h : wpX_sampleReceiving post (k1, k2, k3, k4, k5, k6, k7, k8, k9, k10, k11, k12, k13, nc, pl, ol, gc, tn, ac, te, re, ho, er, se, lo, de, qx, mi, fx, dr, tk, bd, rl, ll, td, cr, cs, si, sc, sd, ss, pc, px, nx, dx, bc, kx, bx, tx) (nI i) s) : wpX_sample post (k1, k2, k3, k4, k5, k6, k7, k8, k9, k10, k11, k12, k13, nc, pl, ol, gc, tn, ac, te, re, ho, er, se, lo, de, qx, mi, fx, dr, tk, bd, rl, ll, td, cr, cs, si, sc, sd, ss, pc, px, nx, dx, bc, kx, bx, tx) (nI i) s := by
  simp only [wpX_sample, ab_cl hi, ab_in4 hi, true_and, forall_eq, ha]
  exact br_f (by decide) (br_f (by decide) (br_t trivial h))
theorem xw_id92 (hi : i < 4) {s : Int32} {u : SX}
    (hx : ∀ post : Int32 → SX → Prop, post 1 u → wpX_absorb post (k1, k2, k3, k4, k5, k6, k7, k8, k9, k10, k11, k12, k13, nc, pl, ol, gc, tn, ac, te, re, ho, er, se, lo, de, qx, mi, fx, dr, upd (upd tk i 0) i (nI (0 + 1)), upd bd i 0, upd rl i 0, upd ll i 1, upd td i (-1), upd cr i 0, upd cs i 0, upd si i 0, upd sc i 0, upd sd i 0, ss, pc, px, nx, dx, bc, kx, bx, tx) (nI i) s)
    {post : SX → Prop} (h : post u) : wX_sampleIdle_92 post (nI i) s k1 k2 k3 k4 k5 k6 k7 k8 k9 k10 k11 k12 k13 nc pl ol gc tn ac te re ho er se lo de qx mi fx dr tk bd rl ll td cr cs si sc sd ss pc px nx dx bc kx bx tx := by
  simp only [wX_sampleIdle_92]
  refine xw_begin hi ?_
  simp only [ab_cl hi, ab_in4 hi, true_and, forall_eq]
  refine hx _ ?_
  exact h
end
section
variable {nc pl ol gc : Int32} {ac te re ho er lo se de qy mi fy cu dr pc bc py ny dy ri rn rd le sn ty bo wi fr : Nat → Int32} {i : Nat}
theorem yw_fl1 (hi : i < 4) (ha : ac i = 3 ∨ ac i = 4) (hf : ¬ fy i ≤ 1) {s : Int32} {post : SY → Prop} (h : post (nc, pl, ol, gc, ac, te, re, ho, er, lo, se, de, qy, mi, upd fy i (fy i - 1), cu, dr, pc, bc, py, ny, dy, ri, rn, rd, le, sn, ty, bo, wi, fr)) : wpY_sample post (nc, pl, ol, gc, ac, te, re, ho, er, lo, se, de, qy, mi, fy, cu, dr, pc, bc, py, ny, dy, ri, rn, rd, le, sn, ty, bo, wi, fr) (nI i) s := by
  rcases ha with ha | ha
  · simp only [wpY_sample, ab_cl hi, ab_in4 hi, true_and, forall_eq, ha]
    exact br_f (by decide) (br_f (by decide) (br_f (by decide) (br_f (by decide) (br_f (by decide) (br_f hf h)))))
  · simp only [wpY_sample, ab_cl hi, ab_in4 hi, true_and, forall_eq, ha]
    exact br_f (by decide) (br_f (by decide) (br_f (by decide) (br_f (by decide) (br_f (by decide) (br_f hf h)))))
theorem yw_359 (hi : i < 4) {s : Int32} {post : SY → Prop} (h : post (nc, pl, ol, gc, upd ac i 5, te, re, ho, er, lo, se, de, upd qy i s, mi, fy, cu, dr, pc, bc, py, ny, dy, ri, rn, rd, le, sn, ty, bo, wi, fr)) : wY_sample_359 post (nI i) s nc pl ol gc ac te re ho er lo se de qy mi fy cu dr pc bc py ny dy ri rn rd le sn ty bo wi fr := by
  simp only [wY_sample_359]
  exact yw_pause hi h
theorem yw_fl2 (hi : i < 4) (ha : ac i = 4) (hf : fy i ≤ 1) {s : Int32} (hs : s = 0) {post : SY → Prop} (h : post (nc, pl, ol, gc, upd ac i 5, te, upd re i (ab_inc (re i) 8), ho, er, lo, se, de, upd qy i s, mi, fy, cu, dr, pc, bc, py, ny, dy, ri, rn, rd, le, sn, ty, bo, wi, fr)) : wpY_sample post (nc, pl, ol, gc, ac, te, re, ho, er, lo, se, de, qy, mi, fy, cu, dr, pc, bc, py, ny, dy, ri, rn, rd, le, sn, ty, bo, wi, fr) (nI i) s := by
  simp only [wpY_sample, ab_cl hi, ab_in4 hi, true_and, forall_eq, ha]
  refine br_f (by decide) (br_f (by decide) (br_f (by decide) (br_f (by decide) (br_f (by decide) (br_t hf (br_t hs (br_t trivial ?_)))))))
  simp only [wY_sample_358, ab_cl hi, ab_in4 hi, true_and, forall_eq]
  unfold ab_inc at h
  by_cases c : re i + 8 ≤ 255
  · rw [if_pos c] at h; exact br_t c (yw_359 hi h)
  · rw [if_neg c] at h; exact br_f c (yw_359 hi h)
theorem yw_fl3 (hi : i < 4) (ha : ac i = 3) (hf : fy i ≤ 1) {s : Int32} (hs : s = 0) {post : SY → Prop} (h : post (nc, pl, ol, gc, upd ac i 5, te, re, ho, er, lo, se, de, upd qy i s, mi, fy, cu, dr, pc, bc, py, ny, dy, ri, rn, rd, le, sn, ty, bo, wi, fr)) : wpY_sample post (nc, pl, ol, gc, ac, te, re, ho, er, lo, se, de, qy, mi, fy, cu, dr, pc, bc, py, ny, dy, ri, rn, rd, le, sn, ty, bo, wi, fr) (nI i) s := by
  simp only [wpY_sample, ab_cl hi, ab_in4 hi, true_and, forall_eq, ha]
  exact br_f (by decide) (br_f (by decide) (br_f (by decide) (br_f (by decide) (br_f (by decide) (br_t hf (br_t hs (br_f (by decide) (yw_359 hi h))))))))
theorem yw_fl4 (hi : i < 4) (ha : ac i = 3 ∨ ac i = 4) (hf : fy i ≤ 1) {s : Int32} (hs : ¬ s = 0) {post : SY → Prop} (h : post (nc, pl, ol, gc, upd ac i 5, te, re, ho, er, lo, se, de, upd qy i s, mi, fy, cu, dr, pc, bc, py, ny, dy, ri, rn, rd, le, sn, ty, bo, wi, fr)) : wpY_sample post (nc, pl, ol, gc, ac, te, re, ho, er, lo, se, de, qy, mi, fy, cu, dr, pc, bc, py, ny, dy, ri, rn, rd, le, sn, ty, bo, wi, fr) (nI i) s := by
  rcases ha with ha | ha
  · simp only [wpY_sample, ab_cl hi, ab_in4 hi, true_and, forall_eq, ha]
    exact br_f (by decide) (br_f (by decide) (br_f (by decide) (br_f (by decide) (br_f (by decide) (br_t hf (br_f hs (yw_359 hi h)))))))
  · simp only [wpY_sample, ab_cl hi, ab_in4 hi, true_and, forall_eq, ha]
    exact br_f (by decide) (br_f (by decide) (br_f (by decide) (br_f (by decide) (br_f (by decide) (br_t hf (br_f hs (yw_359 hi h)))))))
theorem yw_rv (hi : i < 4) (ha : ac i = 2) {s : Int32} {post : SY → Prop} (h : wpY_receive post (nc, pl, ol, gc, ac, te, re, ho, er, lo, se, de, qy, mi, fy, cu, dr, pc, bc, py, ny, dy, ri, rn, rd, le, sn, ty, bo, wi, fr) (nI i) s) : wpY_sample post (nc, pl, ol, gc, ac, te, re, ho, er, lo, se, de, qy, mi, fy, cu, dr, pc, bc, py, ny, dy, ri, rn, rd, le, sn, ty, bo, wi, fr) (nI i) s := by
  simp only [wpY_sample, ab_cl hi, ab_in4 hi, true_and, forall_eq, ha]
  exact br_f (by decide) (br_f (by decide) (br_t trivial h))
theorem yw_sd (hi : i < 4) (ha : ac i = 1) {s : Int32} {post : SY → Prop} (h : wpY_send post (nc, pl, ol, gc, ac, te, re, ho, er, lo, se, de, qy, mi, fy, cu, dr, pc, bc, py, ny, dy, ri, rn, rd, le, sn, ty, bo, wi, fr) (nI i) s) : wpY_sample post (nc, pl, ol, gc, ac, te, re, ho, er, lo, se, de, qy, mi, fy, cu, dr, pc, bc, py, ny, dy, ri, rn, rd, le, sn, ty, bo, wi, fr) (nI i) s := by
  simp only [wpY_sample, ab_cl hi, ab_in4 hi, true_and, forall_eq, ha]
  exact br_f (by decide) (br_t trivial h)
end
section
variable {k1 k2 k3 k4 k5 k6 k7 k8 k9 k10 k11 k12 k13 nc pl ol gc tn : Int32} {ac te re ho er se lo de qx mi fx dr tk bd rl ll td cr cs si sc sd ss pc px nx dx bc kx bx tx : Nat → Int32} {qy fy cu py ny dy ri rn rd le sn ty bo wi fr : Nat → Int32} {i N : Nat} {D D' : Nat → Prop}
theorem lk_flag (hD : ∀ j, D' j → D j ∧ j ≠ i) (hi : i < 4) (hN : nc = nI N) (hN4 : N ≤ 4) (hiN : i < N) (hP : rl_P N nc pl gc) (hT : rl_T tn tx ty) (hR : ∀ j, j < 4 → j ≠ i → rl_N (D j) (ac j) (re j) (ho j) (mi j) (qx j) (qy j) (fx j) (fy j) (tk j) (le j) (bd j) (rl j) (ll j) (td j) (cr j) (cs j) (si j) (sc j) (sd j) (ss j) (cu j) (dr j) (pc j) (bc j) (ab_v 3 px j) (ab_v 3 py j) (ab_v 3 nx j) (ab_v 3 ny j) (ab_v 3 dx j) (ab_v 3 dy j) (ab_v 8 kx j) (ab_v 8 ri j) (ab_v 8 rn j) (ab_v 8 bx j) (ab_v 8 rd j) (ab_v 128 sn j)) (hB : rl_B (re i) (pc i) (bc i) (ab_v 3 px i) (ab_v 3 py i) (ab_v 3 nx i) (ab_v 3 ny i) (ab_v 3 dx i) (ab_v 3 dy i) (ab_v 8 kx i) (ab_v 8 ri i) (ab_v 8 rn i) (ab_v 8 bx i) (ab_v 8 rd i)) (ha : ac i = 3 ∨ ac i = 4) (hf : fx i = fy i) {s : Int32} (hs : ab_bit s) : lk_E N D' (fun post => wpX_sample post (k1, k2, k3, k4, k5, k6, k7, k8, k9, k10, k11, k12, k13, nc, pl, ol, gc, tn, ac, te, re, ho, er, se, lo, de, qx, mi, fx, dr, tk, bd, rl, ll, td, cr, cs, si, sc, sd, ss, pc, px, nx, dx, bc, kx, bx, tx) (nI i) s) (fun post => wpY_sample post (nc, pl, ol, gc, ac, te, re, ho, er, lo, se, de, qy, mi, fy, cu, dr, pc, bc, py, ny, dy, ri, rn, rd, le, sn, ty, bo, wi, fr) (nI i) s) := by
  by_cases c : fx i ≤ 1
  · have c' : fy i ≤ 1 := by rw [← hf]; exact c
    rcases hs with rfl | rfl
    · rcases ha with ha | ha
      · refine lk_mk _ _ (fun post h => xw_fl hi (Or.inl ha) (xw_fl3 hi c rfl (by rw [ha]; decide) h)) (fun post h => yw_fl3 hi ha c' rfl h) (rl_mk hP hT (rl_sp i ?_ (fun j hj hji => by simp only [pk_un hji]; exact rl_w (fun z => (hD j z).1) (hR j hj hji))))
        simp only [pk_us]
        exact rl_n5 0 rfl hB (by omega) rfl rfl
      · refine lk_mk _ _ (fun post h => xw_fl hi (Or.inr ha) (xw_fl2 hi c rfl ha h)) (fun post h => yw_fl2 hi ha c' rfl h) (rl_mk hP hT (rl_sp i ?_ (fun j hj hji => by simp only [pk_un hji]; exact rl_w (fun z => (hD j z).1) (hR j hj hji))))
        simp only [pk_us]
        exact rl_n5 0 rfl ⟨ab_inc_le, hB.2⟩ (by omega) rfl rfl
    · refine lk_mk _ _ (fun post h => xw_fl hi ha (xw_fl4 hi c (by decide) h)) (fun post h => yw_fl4 hi ha c' (by decide) h) (rl_mk hP hT (rl_sp i ?_ (fun j hj hji => by simp only [pk_un hji]; exact rl_w (fun z => (hD j z).1) (hR j hj hji))))
      simp only [pk_us]
      exact rl_n5 1 rfl hB (by omega) rfl rfl
  · have c' : ¬ fy i ≤ 1 := by rw [← hf]; exact c
    refine lk_mk _ _ (fun post h => xw_fl hi ha (xw_fl1 hi c h)) (fun post h => yw_fl1 hi ha c' h) (rl_mk hP hT (rl_sp i ?_ (fun j hj hji => by simp only [pk_un hji]; exact rl_w (fun z => (hD j z).1) (hR j hj hji))))
    simp only [pk_us]
    exact rl_n34 ha hB (by rw [hf])
theorem lk_wait (hD : ∀ j, D' j → D j ∧ j ≠ i) (hi : i < 4) (hN : nc = nI N) (hN4 : N ≤ 4) (hiN : i < N) (hP : rl_P N nc pl gc) (hT : rl_T tn tx ty) (hR : ∀ j, j < 4 → j ≠ i → rl_N (D j) (ac j) (re j) (ho j) (mi j) (qx j) (qy j) (fx j) (fy j) (tk j) (le j) (bd j) (rl j) (ll j) (td j) (cr j) (cs j) (si j) (sc j) (sd j) (ss j) (cu j) (dr j) (pc j) (bc j) (ab_v 3 px j) (ab_v 3 py j) (ab_v 3 nx j) (ab_v 3 ny j) (ab_v 3 dx j) (ab_v 3 dy j) (ab_v 8 kx j) (ab_v 8 ri j) (ab_v 8 rn j) (ab_v 8 bx j) (ab_v 8 rd j) (ab_v 128 sn j)) (hB : rl_B (re i) (pc i) (bc i) (ab_v 3 px i) (ab_v 3 py i) (ab_v 3 nx i) (ab_v 3 ny i) (ab_v 3 dx i) (ab_v 3 dy i) (ab_v 8 kx i) (ab_v 8 ri i) (ab_v 8 rn i) (ab_v 8 bx i) (ab_v 8 rd i)) (ha : ac i = 5) {q : Nat} (hq : q ≤ 10) (h1 : qx i = nI q) (h2 : qy i = nI q) {s : Int32} (hs : ab_bit s) : lk_E N D' (fun post => wpX_sample post (k1, k2, k3, k4, k5, k6, k7, k8, k9, k10, k11, k12, k13, nc, pl, ol, gc, tn, ac, te, re, ho, er, se, lo, de, qx, mi, fx, dr, tk, bd, rl, ll, td, cr, cs, si, sc, sd, ss, pc, px, nx, dx, bc, kx, bx, tx) (nI i) s) (fun post => wpY_sample post (nc, pl, ol, gc, ac, te, re, ho, er, lo, se, de, qy, mi, fy, cu, dr, pc, bc, py, ny, dy, ri, rn, rd, le, sn, ty, bo, wi, fr) (nI i) s) := by
  rcases hs with rfl | rfl
  · refine lk_mk (k1, k2, k3, k4, k5, k6, k7, k8, k9, k10, k11, k12, k13, nc, pl, ol, gc, tn, ac, te, re, ho, er, se, lo, de, upd qx i 0, mi, fx, dr, tk, bd, rl, ll, td, cr, cs, si, sc, sd, ss, pc, px, nx, dx, bc, kx, bx, tx) (nc, pl, ol, gc, ac, te, re, ho, er, lo, se, de, upd qy i 0, mi, fy, cu, dr, pc, bc, py, ny, dy, ri, rn, rd, le, sn, ty, bo, wi, fr) (fun post h => xw_wt hi ha ?_) (fun post h => ?_) (rl_mk hP hT (rl_sp i ?_ (fun j hj hji => by simp only [pk_un hji]; exact rl_w (fun z => (hD j z).1) (hR j hj hji))))
    · simp only [wpX_sampleWaiting, ab_cl hi, ab_in4 hi, true_and, forall_eq]
      exact br_t trivial h
    · simp only [wpY_sample, ab_cl hi, ab_in4 hi, true_and, forall_eq, ha, wY_sample_170, pk_us]
      exact br_f (by decide) (br_f (by decide) (br_f (by decide) (br_t trivial (br_t trivial (br_f (by decide) h)))))
    · simp only [pk_us]
      exact rl_n5 0 ha hB (by omega) rfl rfl
  · by_cases c : q = 10
    · refine lk_mk (k1, k2, k3, k4, k5, k6, k7, k8, k9, k10, k11, k12, k13, nc, pl, ol, gc, tn, upd ac i 0, te, re, ho, er, se, lo, de, upd qx i 0, mi, fx, dr, tk, bd, rl, ll, td, cr, cs, si, sc, sd, ss, pc, px, nx, dx, bc, kx, bx, tx) (nc, pl, ol, gc, upd ac i 0, te, re, ho, er, lo, se, de, upd qy i (nI (q + 1)), mi, fy, cu, dr, pc, bc, py, ny, dy, ri, rn, rd, le, sn, ty, bo, wi, fr) (fun post h => xw_wt hi ha ?_) (fun post h => ?_) (rl_mk hP hT (rl_sp i ?_ (fun j hj hji => by simp only [pk_un hji]; exact rl_w (fun z => (hD j z).1) (hR j hj hji))))
      · simp only [wpX_sampleWaiting, ab_cl hi, ab_in4 hi, true_and, forall_eq, h1, nI_1, pk_us, ab_uu]
        exact br_f (by decide) (br_f (nI_nlt (b := 11) (by omega) (by omega)) h)
      · simp only [wpY_sample, ab_cl hi, ab_in4 hi, true_and, forall_eq, ha, wY_sample_170, pk_us, h2, nI_1]
        exact br_f (by decide) (br_f (by decide) (br_f (by decide) (br_t trivial (br_f (by decide) (br_t (congrArg nI (show q + 1 = 11 by omega)) h)))))
      · simp only [pk_us]
        exact rl_n0 (fun z => (hD i z).2 rfl) rfl hB
    · refine lk_mk (k1, k2, k3, k4, k5, k6, k7, k8, k9, k10, k11, k12, k13, nc, pl, ol, gc, tn, ac, te, re, ho, er, se, lo, de, upd qx i (nI (q + 1)), mi, fx, dr, tk, bd, rl, ll, td, cr, cs, si, sc, sd, ss, pc, px, nx, dx, bc, kx, bx, tx) (nc, pl, ol, gc, ac, te, re, ho, er, lo, se, de, upd qy i (nI (q + 1)), mi, fy, cu, dr, pc, bc, py, ny, dy, ri, rn, rd, le, sn, ty, bo, wi, fr) (fun post h => xw_wt hi ha ?_) (fun post h => ?_) (rl_mk hP hT (rl_sp i ?_ (fun j hj hji => by simp only [pk_un hji]; exact rl_w (fun z => (hD j z).1) (hR j hj hji))))
      · simp only [wpX_sampleWaiting, ab_cl hi, ab_in4 hi, true_and, forall_eq, h1, nI_1, pk_us]
        exact br_f (by decide) (br_t (nI_lt (b := 11) (by omega) (by omega)) h)
      · simp only [wpY_sample, ab_cl hi, ab_in4 hi, true_and, forall_eq, ha, wY_sample_170, pk_us, h2, nI_1]
        exact br_f (by decide) (br_f (by decide) (br_f (by decide) (br_t trivial (br_f (by decide) (br_f (fun z => c (by have := (nI_eq (b := 11) (by omega) (by omega)).mp z; omega)) h)))))
      · simp only [pk_us]
        exact rl_n5 (q + 1) ha hB (by omega) rfl rfl
theorem lk_silent (hD : ∀ j, D' j → D j ∧ j ≠ i) (hi : i < 4) (hN : nc = nI N) (hN4 : N ≤ 4) (hiN : i < N) (hP : rl_P N nc pl gc) (hT : rl_T tn tx ty) (hR : ∀ j, j < 4 → j ≠ i → rl_N (D j) (ac j) (re j) (ho j) (mi j) (qx j) (qy j) (fx j) (fy j) (tk j) (le j) (bd j) (rl j) (ll j) (td j) (cr j) (cs j) (si j) (sc j) (sd j) (ss j) (cu j) (dr j) (pc j) (bc j) (ab_v 3 px j) (ab_v 3 py j) (ab_v 3 nx j) (ab_v 3 ny j) (ab_v 3 dx j) (ab_v 3 dy j) (ab_v 8 kx j) (ab_v 8 ri j) (ab_v 8 rn j) (ab_v 8 bx j) (ab_v 8 rd j) (ab_v 128 sn j)) (hB : rl_B (re i) (pc i) (bc i) (ab_v 3 px i) (ab_v 3 py i) (ab_v 3 nx i) (ab_v 3 ny i) (ab_v 3 dx i) (ab_v 3 dy i) (ab_v 8 kx i) (ab_v 8 ri i) (ab_v 8 rn i) (ab_v 8 bx i) (ab_v 8 rd i)) (ha : ac i = 6) {q : Nat} (hq : q ≤ 10) (h1 : qx i = nI q) (h2 : qy i = nI q) {w : Nat} (hw1 : 1 ≤ w) (hw : w ≤ 16) (hm : mi i = nI w) {s : Int32} (hs : ab_bit s) : lk_E N D' (fun post => wpX_sample post (k1, k2, k3, k4, k5, k6, k7, k8, k9, k10, k11, k12, k13, nc, pl, ol, gc, tn, ac, te, re, ho, er, se, lo, de, qx, mi, fx, dr, tk, bd, rl, ll, td, cr, cs, si, sc, sd, ss, pc, px, nx, dx, bc, kx, bx, tx) (nI i) s) (fun post => wpY_sample post (nc, pl, ol, gc, ac, te, re, ho, er, lo, se, de, qy, mi, fy, cu, dr, pc, bc, py, ny, dy, ri, rn, rd, le, sn, ty, bo, wi, fr) (nI i) s) := by
  have e1 : nI w - 1 = nI (w - 1) := ab_subN (b := 1) (by omega)
  rcases hs with rfl | rfl
  · refine lk_mk (k1, k2, k3, k4, k5, k6, k7, k8, k9, k10, k11, k12, k13, nc, pl, ol, gc, tn, ac, te, re, ho, er, se, lo, de, upd qx i 0, mi, fx, dr, tk, bd, rl, ll, td, cr, cs, si, sc, sd, ss, pc, px, nx, dx, bc, kx, bx, tx) (nc, pl, ol, gc, ac, te, re, ho, er, lo, se, de, upd qy i 0, mi, fy, cu, dr, pc, bc, py, ny, dy, ri, rn, rd, le, sn, ty, bo, wi, fr) (fun post h => xw_si hi ha ?_) (fun post h => ?_) (rl_mk hP hT (rl_sp i ?_ (fun j hj hji => by simp only [pk_un hji]; exact rl_w (fun z => (hD j z).1) (hR j hj hji))))
    · simp only [wpX_sampleSilent, ab_cl hi, ab_in4 hi, true_and, forall_eq]
      exact br_t trivial h
    · simp only [wpY_sample, ab_cl hi, ab_in4 hi, true_and, forall_eq, ha, wY_sample_224, pk_us]
      exact br_f (by decide) (br_f (by decide) (br_f (by decide) (br_f (by decide) (br_t trivial (br_t trivial (br_f (by decide) h))))))
    · simp only [pk_us]
      exact rl_n6 0 w ha hB (by omega) rfl rfl hw1 hw hm
  · by_cases c : q = 10
    · by_cases d : w = 1
      · refine lk_mk (k1, k2, k3, k4, k5, k6, k7, k8, k9, k10, k11, k12, k13, nc, pl, ol, gc, tn, upd ac i 0, upd te i 0, upd re i 0, ho, er, se, lo, de, upd qx i 0, upd mi i 0, fx, dr, tk, bd, rl, ll, td, cr, cs, si, sc, sd, ss, pc, px, nx, dx, bc, kx, bx, tx) (nc, pl, ol, gc, upd ac i 0, upd te i 0, upd re i 0, ho, er, lo, se, de, upd qy i 0, upd mi i 0, fy, cu, dr, pc, bc, py, ny, dy, ri, rn, rd, le, sn, ty, bo, wi, fr) (fun post h => xw_si hi ha ?_) (fun post h => ?_) (rl_mk hP hT (rl_sp i ?_ (fun j hj hji => by simp only [pk_un hji]; exact rl_w (fun z => (hD j z).1) (hR j hj hji))))
        · simp only [wpX_sampleSilent, ab_cl hi, ab_in4 hi, true_and, forall_eq, h1, nI_1, pk_us, ab_uu, hm, e1]
          exact br_f (by decide) (br_t (nI_le (a := 11) (by omega) (by omega)) (br_f (nI_nlt (a := 0) (by omega) (by omega)) h))
        · have e0 : nI (w - 1) = 0 := congrArg nI (show w - 1 = 0 by omega)
          simp only [wpY_sample, ab_cl hi, ab_in4 hi, true_and, forall_eq, ha, wY_sample_224, pk_us, h2, nI_1, ab_uu, hm, e1, e0]
          exact br_f (by decide) (br_f (by decide) (br_f (by decide) (br_f (by decide) (br_t trivial (br_f (by decide) (br_t (congrArg nI (show q + 1 = 11 by omega)) (br_t trivial h)))))))
        · simp only [pk_us]
          exact rl_n0 (fun z => (hD i z).2 rfl) rfl ⟨by decide, hB.2⟩
      · refine lk_mk (k1, k2, k3, k4, k5, k6, k7, k8, k9, k10, k11, k12, k13, nc, pl, ol, gc, tn, ac, te, re, ho, er, se, lo, de, upd qx i 0, upd mi i (nI (w - 1)), fx, dr, tk, bd, rl, ll, td, cr, cs, si, sc, sd, ss, pc, px, nx, dx, bc, kx, bx, tx) (nc, pl, ol, gc, ac, te, re, ho, er, lo, se, de, upd qy i 0, upd mi i (nI (w - 1)), fy, cu, dr, pc, bc, py, ny, dy, ri, rn, rd, le, sn, ty, bo, wi, fr) (fun post h => xw_si hi ha ?_) (fun post h => ?_) (rl_mk hP hT (rl_sp i ?_ (fun j hj hji => by simp only [pk_un hji]; exact rl_w (fun z => (hD j z).1) (hR j hj hji))))
        · simp only [wpX_sampleSilent, ab_cl hi, ab_in4 hi, true_and, forall_eq, h1, nI_1, pk_us, ab_uu, hm, e1]
          exact br_f (by decide) (br_t (nI_le (a := 11) (by omega) (by omega)) (br_t (nI_lt (a := 0) (by omega) (by omega)) h))
        · simp only [wpY_sample, ab_cl hi, ab_in4 hi, true_and, forall_eq, ha, wY_sample_224, pk_us, h2, nI_1, ab_uu, hm, e1]
          exact br_f (by decide) (br_f (by decide) (br_f (by decide) (br_f (by decide) (br_t trivial (br_f (by decide) (br_t (congrArg nI (show q + 1 = 11 by omega)) (br_f (nI_ne0 (by omega) (by omega)) h)))))))
        · simp only [pk_us]
          exact rl_n6 0 (w - 1) ha hB (by omega) rfl rfl (by omega) (by omega) rfl
    · refine lk_mk (k1, k2, k3, k4, k5, k6, k7, k8, k9, k10, k11, k12, k13, nc, pl, ol, gc, tn, ac, te, re, ho, er, se, lo, de, upd qx i (nI (q + 1)), mi, fx, dr, tk, bd, rl, ll, td, cr, cs, si, sc, sd, ss, pc, px, nx, dx, bc, kx, bx, tx) (nc, pl, ol, gc, ac, te, re, ho, er, lo, se, de, upd qy i (nI (q + 1)), mi, fy, cu, dr, pc, bc, py, ny, dy, ri, rn, rd, le, sn, ty, bo, wi, fr) (fun post h => xw_si hi ha ?_) (fun post h => ?_) (rl_mk hP hT (rl_sp i ?_ (fun j hj hji => by simp only [pk_un hji]; exact rl_w (fun z => (hD j z).1) (hR j hj hji))))
      · simp only [wpX_sampleSilent, ab_cl hi, ab_in4 hi, true_and, forall_eq, h1, nI_1, pk_us]
        exact br_f (by decide) (br_f (nI_ge (b := 11) (by omega) (by omega)) h)
      · simp only [wpY_sample, ab_cl hi, ab_in4 hi, true_and, forall_eq, ha, wY_sample_224, pk_us, h2, nI_1]
        exact br_f (by decide) (br_f (by decide) (br_f (by decide) (br_f (by decide) (br_t trivial (br_f (by decide) (br_f (fun z => c (by have := (nI_eq (b := 11) (by omega) (by omega)).mp z; omega)) h))))))
      · simp only [pk_us]
        exact rl_n6 (q + 1) w ha hB (by omega) rfl rfl hw1 hw hm
theorem lk_idle (hD : ∀ j, D' j → D j ∧ j ≠ i) (hi : i < 4) (hN : nc = nI N) (hN4 : N ≤ 4) (hiN : i < N) (hP : rl_P N nc pl gc) (hT : rl_T tn tx ty) (hR : ∀ j, j < 4 → j ≠ i → rl_N (D j) (ac j) (re j) (ho j) (mi j) (qx j) (qy j) (fx j) (fy j) (tk j) (le j) (bd j) (rl j) (ll j) (td j) (cr j) (cs j) (si j) (sc j) (sd j) (ss j) (cu j) (dr j) (pc j) (bc j) (ab_v 3 px j) (ab_v 3 py j) (ab_v 3 nx j) (ab_v 3 ny j) (ab_v 3 dx j) (ab_v 3 dy j) (ab_v 8 kx j) (ab_v 8 ri j) (ab_v 8 rn j) (ab_v 8 bx j) (ab_v 8 rd j) (ab_v 128 sn j)) (hB : rl_B (re i) (pc i) (bc i) (ab_v 3 px i) (ab_v 3 py i) (ab_v 3 nx i) (ab_v 3 ny i) (ab_v 3 dx i) (ab_v 3 dy i) (ab_v 8 kx i) (ab_v 8 ri i) (ab_v 8 rn i) (ab_v 8 bx i) (ab_v 8 rd i)) (ha : ac i = 0) (hst : dr i = 0 → ho i = 0 ∧ ∃ q : Nat, 1 ≤ q ∧ q ≤ 3 ∧ pc i = nI q ∧ cu i = nI (ab_ch q (ab_v 3 py i))) {s : Int32} (hs : ab_bit s) : lk_E N D' (fun post => wpX_sample post (k1, k2, k3, k4, k5, k6, k7, k8, k9, k10, k11, k12, k13, nc, pl, ol, gc, tn, ac, te, re, ho, er, se, lo, de, qx, mi, fx, dr, tk, bd, rl, ll, td, cr, cs, si, sc, sd, ss, pc, px, nx, dx, bc, kx, bx, tx) (nI i) s) (fun post => wpY_sample post (nc, pl, ol, gc, ac, te, re, ho, er, lo, se, de, qy, mi, fy, cu, dr, pc, bc, py, ny, dy, ri, rn, rd, le, sn, ty, bo, wi, fr) (nI i) s) := by
  have ha6 : ¬ ac i = 6 := by rw [ha]; decide
  rcases hs with rfl | rfl
  · by_cases hd : dr i = 0
    · obtain ⟨h0, q, q1, q2, q3, q4⟩ := hst hd
      obtain ⟨p1, ⟨p, p2, p3, p4⟩, p5⟩ := id hB
      have hpq : p = q := (nI_eq (by omega) (by omega)).mp (p3.symm.trans q3)
      subst hpq
      have hcg : ab_ch p (ab_v 3 px i) = ab_ch p (ab_v 3 py i) := ab_ch_cg q1 (fun k hk => (p4 k hk).1)
      have hlt := ab_ch_lt (ab_v 3 py i) q1
      obtain ⟨m1, m2, m3, n, n1, n2⟩ := p4 _ hlt
      have hE := lk_keep (k1 := k1) (k2 := k2) (k3 := k3) (k4 := k4) (k5 := k5) (k6 := k6) (k7 := k7) (k8 := k8) (k9 := k9) (k10 := k10) (k11 := k11) (k12 := k12) (k13 := k13) (nc := nc) (pl := pl) (ol := ol) (gc := gc) (tn := tn) (ac := upd ac i 1) (te := te) (re := re) (ho := ho) (er := er) (se := se) (lo := lo) (de := de) (qx := qx) (mi := mi) (fx := fx) (dr := dr) (tk := upd tk i 0) (bd := upd bd i 0) (rl := upd rl i 0) (ll := upd ll i 1) (td := upd td i (-1)) (cr := upd cr i 0) (cs := upd cs i 0) (si := upd si i 0) (sc := upd sc i 0) (sd := upd sd i 0) (ss := upd ss i (nI (ab_ch p (ab_v 3 px i)))) (pc := pc) (px := px) (nx := nx) (dx := dx) (bc := bc) (kx := kx) (bx := bx) (tx := tx) (qy := qy) (fy := fy) (cu := cu) (py := py) (ny := ny) (dy := dy) (ri := ri) (rn := rn) (rd := rd) (le := upd le i 0) (sn := sn) (ty := ty) (bo := bo) (wi := wi) (fr := fr)
        hD hi hN hN4 hiN hP hT (fun j hj hji => by simp only [pk_un hji]; exact hR j hj hji) hB (g := ab_v 128 sn i) rfl (a := 1) pk_us (Or.inl rfl) (L := 0) pk_us (fun x hx => absurd hx (Nat.not_lt_zero x)) rfl (by simp only [pk_us]; exact ab_X_0 _) (s := 0) (Or.inl rfl) (fun z => absurd (show 5 ≤ 0 from z) (by omega))
        (fun _ => ⟨ab_ch p (ab_v 3 py i), p, n, ⟨by rw [pk_us, hcg], q4, q3, hlt, q2, n1, n2, fun x hx => absurd hx (Nat.not_lt_zero x)⟩, fun _ => by rw [show ab_k (ab_v 128 sn i) 0 = 0 from rfl, ab_F_lo (by omega)]; rfl⟩)
      obtain ⟨u, v, h, hx, hy⟩ := hE
      refine ⟨u, v, h, fun post hp => xw_id hi ha ?_, fun post hp => ?_⟩
      · simp only [wpX_sampleIdle, ab_cl hi, ab_in4 hi, true_and, forall_eq, wX_sampleIdle_14]
        refine br_t hd (br_f (by decide) (br_f (by decide) ?_))
        refine xw_choose hi q3 q2 ?_
        exact xw_id92 hi hx hp
      · simp only [wpY_sample, ab_cl hi, ab_in4 hi, true_and, forall_eq, ha, wY_sample_32, wY_sample_62]
        rw [ab_upE h0]
        exact br_t trivial (br_t hd (br_f (by decide) (br_t trivial (br_t hd (hy _ hp)))))
    · have hE := lk_keep (k1 := k1) (k2 := k2) (k3 := k3) (k4 := k4) (k5 := k5) (k6 := k6) (k7 := k7) (k8 := k8) (k9 := k9) (k10 := k10) (k11 := k11) (k12 := k12) (k13 := k13) (nc := nc) (pl := pl) (ol := ol) (gc := gc) (tn := tn) (ac := upd ac i 2) (te := te) (re := re) (ho := upd ho i 0) (er := er) (se := se) (lo := lo) (de := de) (qx := qx) (mi := mi) (fx := fx) (dr := dr) (tk := upd tk i 0) (bd := upd bd i 0) (rl := upd rl i 0) (ll := upd ll i 1) (td := upd td i (-1)) (cr := upd cr i 0) (cs := upd cs i 0) (si := upd si i 0) (sc := upd sc i 0) (sd := upd sd i 0) (ss := ss) (pc := pc) (px := px) (nx := nx) (dx := dx) (bc := bc) (kx := kx) (bx := bx) (tx := tx) (qy := qy) (fy := fy) (cu := cu) (py := py) (ny := ny) (dy := dy) (ri := ri) (rn := rn) (rd := rd) (le := upd le i 0) (sn := sn) (ty := ty) (bo := bo) (wi := wi) (fr := fr)
        hD hi hN hN4 hiN hP hT (fun j hj hji => by simp only [pk_un hji]; exact hR j hj hji) hB (g := ab_v 128 sn i) rfl (a := 2) pk_us (Or.inr rfl) (L := 0) pk_us (fun x hx => absurd hx (Nat.not_lt_zero x)) rfl (by simp only [pk_us]; exact ab_X_0 _) (s := 0) (Or.inl rfl) (fun z => absurd (show 5 ≤ 0 from z) (by omega)) (fun z => absurd z (by decide))
      obtain ⟨u, v, h, hx, hy⟩ := hE
      refine ⟨u, v, h, fun post hp => xw_id hi ha ?_, fun post hp => ?_⟩
      · simp only [wpX_sampleIdle, ab_cl hi, ab_in4 hi, true_and, forall_eq, wX_sampleIdle_14]
        refine br_f hd (br_f (by decide) (br_t trivial ?_))
        exact xw_id92 hi hx hp
      · simp only [wpY_sample, ab_cl hi, ab_in4 hi, true_and, forall_eq, ha, wY_sample_32, wY_sample_62]
        exact br_t trivial (br_f hd (br_t trivial (br_f hd (hy _ hp))))
  · by_cases hd : dr i = 0
    · have hE : lk_E N D' (fun post => wpX_senderError post (k1, k2, k3, k4, k5, k6, k7, k8, k9, k10, k11, k12, k13, nc, pl, ol, gc, tn, ac, te, re, ho, er, se, lo, de, qx, mi, fx, dr, tk, bd, rl, ll, td, cr, cs, si, sc, sd, ss, pc, px, nx, dx, bc, kx, bx, tx) (nI i) 1) (fun post => wpY_senderError post (nc, pl, ol, gc, ac, te, re, ho, er, lo, se, de, qy, mi, fy, cu, dr, pc, bc, py, ny, dy, ri, rn, rd, le, sn, ty, bo, wi, fr) (nI i) 1) := lk_serr hD hi hN hN4 hiN hP hT hR hB ha6 1
      obtain ⟨u, v, h, hx, hy⟩ := hE
      refine ⟨u, v, h, fun post hp => xw_id hi ha ?_, fun post hp => ?_⟩
      · simp only [wpX_sampleIdle, ab_cl hi, ab_in4 hi, true_and, forall_eq, wX_sampleIdle_14]
        exact br_t hd (br_t trivial (br_f (by decide) (hx post hp)))
      · simp only [wpY_sample, ab_cl hi, ab_in4 hi, true_and, forall_eq, ha]
        exact br_t trivial (br_t hd (br_t trivial (hy post hp)))
    · by_cases c : ho i ≤ 0
      · refine lk_mk (k1, k2, k3, k4, k5, k6, k7, k8, k9, k10, k11, k12, k13, nc, pl, ol, gc, tn, ac, te, re, ho, er, se, lo, de, qx, mi, fx, dr, tk, bd, rl, ll, td, cr, cs, si, sc, sd, ss, pc, px, nx, dx, bc, kx, bx, tx) (nc, pl, ol, gc, ac, te, re, ho, er, lo, se, de, qy, mi, fy, cu, dr, pc, bc, py, ny, dy, ri, rn, rd, le, sn, ty, bo, wi, fr) (fun post h => xw_id hi ha ?_) (fun post h => ?_) (rl_mk hP hT (rl_sp i ?_ (fun j hj hji => rl_w (fun z => (hD j z).1) (hR j hj hji))))
        · simp only [wpX_sampleIdle, ab_cl hi, ab_in4 hi, true_and, forall_eq, wX_sampleIdle_14]
          exact br_f hd (br_t trivial (br_t trivial (br_t c h)))
        · simp only [wpY_sample, ab_cl hi, ab_in4 hi, true_and, forall_eq, ha, wY_sample_32]
          exact br_t trivial (br_f hd (br_f (by decide) (br_t c h)))
        · exact rl_n0 (fun z => (hD i z).2 rfl) ha hB
      · refine lk_mk (k1, k2, k3, k4, k5, k6, k7, k8, k9, k10, k11, k12, k13, nc, pl, ol, gc, tn, ac, te, re, upd ho i (ho i - 1), er, se, lo, de, qx, mi, fx, dr, tk, bd, rl, ll, td, cr, cs, si, sc, sd, ss, pc, px, nx, dx, bc, kx, bx, tx) (nc, pl, ol, gc, ac, te, re, upd ho i (ho i - 1), er, lo, se, de, qy, mi, fy, cu, dr, pc, bc, py, ny, dy, ri, rn, rd, le, sn, ty, bo, wi, fr) (fun post h => xw_id hi ha ?_) (fun post h => ?_) (rl_mk hP hT (rl_sp i ?_ (fun j hj hji => by simp only [pk_un hji]; exact rl_w (fun z => (hD j z).1) (hR j hj hji))))
        · simp only [wpX_sampleIdle, ab_cl hi, ab_in4 hi, true_and, forall_eq, wX_sampleIdle_14]
          exact br_f hd (br_t trivial (br_t trivial (br_f c h)))
        · simp only [wpY_sample, ab_cl hi, ab_in4 hi, true_and, forall_eq, ha, wY_sample_32]
          exact br_t trivial (br_f hd (br_f (by decide) (br_f c h)))
        · exact rl_n0 (fun z => (hD i z).2 rfl) ha hB
end
end
section
/-! lockstep: a sample -/
section
variable {k1 k2 k3 k4 k5 k6 k7 k8 k9 k10 k11 k12 k13 nc pl ol gc tn : Int32} {ac te re ho er se lo de qx mi fx dr tk bd rl ll td cr cs si sc sd ss pc px nx dx bc kx bx tx : Nat → Int32} {qy fy cu py ny dy ri rn rd le sn ty bo wi fr : Nat → Int32} {i N : Nat} {D D' : Nat → Prop}
theorem lk_sample (hD : ∀ j, D' j → D j ∧ j ≠ i) (hi : i < 4) (hiN : i < N) (hP : rl_P N nc pl gc) (hT : rl_T tn tx ty) (hR : ∀ j, j < 4 → rl_N (D j) (ac j) (re j) (ho j) (mi j) (qx j) (qy j) (fx j) (fy j) (tk j) (le j) (bd j) (rl j) (ll j) (td j) (cr j) (cs j) (si j) (sc j) (sd j) (ss j) (cu j) (dr j) (pc j) (bc j) (ab_v 3 px j) (ab_v 3 py j) (ab_v 3 nx j) (ab_v 3 ny j) (ab_v 3 dx j) (ab_v 3 dy j) (ab_v 8 kx j) (ab_v 8 ri j) (ab_v 8 rn j) (ab_v 8 bx j) (ab_v 8 rd j) (ab_v 128 sn j)) (hDi : D i) {s : Int32} (hs : ab_bit s) :
    lk_E N D' (fun post => wpX_sample post (k1, k2, k3, k4, k5, k6, k7, k8, k9, k10, k11, k12, k13, nc, pl, ol, gc, tn, ac, te, re, ho, er, se, lo, de, qx, mi, fx, dr, tk, bd, rl, ll, td, cr, cs, si, sc, sd, ss, pc, px, nx, dx, bc, kx, bx, tx) (nI i) s) (fun post => wpY_sample post (nc, pl, ol, gc, ac, te, re, ho, er, lo, se, de, qy, mi, fy, cu, dr, pc, bc, py, ny, dy, ri, rn, rd, le, sn, ty, bo, wi, fr) (nI i) s) := by
  have hN := hP.1
  have hN4 := hP.2.2.1
  have hR' : ∀ j, j < 4 → j ≠ i → rl_N (D j) (ac j) (re j) (ho j) (mi j) (qx j) (qy j) (fx j) (fy j) (tk j) (le j) (bd j) (rl j) (ll j) (td j) (cr j) (cs j) (si j) (sc j) (sd j) (ss j) (cu j) (dr j) (pc j) (bc j) (ab_v 3 px j) (ab_v 3 py j) (ab_v 3 nx j) (ab_v 3 ny j) (ab_v 3 dx j) (ab_v 3 dy j) (ab_v 8 kx j) (ab_v 8 ri j) (ab_v 8 rn j) (ab_v 8 bx j) (ab_v 8 rd j) (ab_v 128 sn j) := fun j hj _ => hR j hj
  obtain ⟨hB, ⟨⟨a, a7, ea⟩, cq, cm, cf⟩, hM, hDv⟩ := hR i hi
  have ha : a = 0 ∨ a = 1 ∨ a = 2 ∨ a = 3 ∨ a = 4 ∨ a = 5 ∨ a = 6 := by omega
  rcases ha with rfl | rfl | rfl | rfl | rfl | rfl | rfl
  · exact lk_idle hD hi hN hN4 hiN hP hT hR' hB ea (hDv hDi ea) hs
  · obtain ⟨L, m1, m2, m3, m4, m5, m6, m7⟩ := hM (Or.inl ea)
    obtain ⟨c, q, n, s1, s2, s3, s4, s5, s6, s7, s8, s9⟩ := m7 ea
    obtain ⟨u, v, h, hx, hy⟩ := lk_send (k1 := k1) (k2 := k2) (k3 := k3) (k4 := k4) (k5 := k5) (k6 := k6) (k7 := k7) (k8 := k8) (k9 := k9) (k10 := k10) (k11 := k11) (k12 := k12) (k13 := k13) (nc := nc) (pl := pl) (ol := ol) (gc := gc) (tn := tn) (ac := ac) (te := te) (re := re) (ho := ho) (er := er) (se := se) (lo := lo) (de := de) (qx := qx) (mi := mi) (fx := fx) (dr := dr) (tk := tk) (bd := bd) (rl := rl) (ll := ll) (td := td) (cr := cr) (cs := cs) (si := si) (sc := sc) (sd := sd) (ss := ss) (pc := pc) (px := px) (nx := nx) (dx := dx) (bc := bc) (kx := kx) (bx := bx) (tx := tx) (qy := qy) (fy := fy) (cu := cu) (py := py) (ny := ny) (dy := dy) (ri := ri) (rn := rn) (rd := rd) (le := le) (sn := sn) (ty := ty) (bo := bo) (wi := wi) (fr := fr) hD hi hN hN4 hiN hP hT hR' hB rfl ea m1 m2 m3 m4 m5 s1 s2 s3 s4 s5 s6 s7 rfl s8 (s9 hDi) hs
    exact ⟨u, v, h, fun post hp => hx post hp, fun post hp => yw_sd hi ea (hy post hp)⟩
  · obtain ⟨L, m1, m2, m3, m4, m5, m6, m7⟩ := hM (Or.inr ea)
    obtain ⟨u, v, h, hx, hy⟩ := lk_recv (k1 := k1) (k2 := k2) (k3 := k3) (k4 := k4) (k5 := k5) (k6 := k6) (k7 := k7) (k8 := k8) (k9 := k9) (k10 := k10) (k11 := k11) (k12 := k12) (k13 := k13) (nc := nc) (pl := pl) (ol := ol) (gc := gc) (tn := tn) (ac := ac) (te := te) (re := re) (ho := ho) (er := er) (se := se) (lo := lo) (de := de) (qx := qx) (mi := mi) (fx := fx) (dr := dr) (tk := tk) (bd := bd) (rl := rl) (ll := ll) (td := td) (cr := cr) (cs := cs) (si := si) (sc := sc) (sd := sd) (ss := ss) (pc := pc) (px := px) (nx := nx) (dx := dx) (bc := bc) (kx := kx) (bx := bx) (tx := tx) (qy := qy) (fy := fy) (cu := cu) (py := py) (ny := ny) (dy := dy) (ri := ri) (rn := rn) (rd := rd) (le := le) (sn := sn) (ty := ty) (bo := bo) (wi := wi) (fr := fr) hD hi hN hN4 hiN hP hT hR' hB rfl ea m1 m2 m3 (m6 ea) m5 hs
    exact ⟨u, v, h, fun post hp => xw_rv hi ea (hx post hp), fun post hp => yw_rv hi ea (hy post hp)⟩
  · exact lk_flag hD hi hN hN4 hiN hP hT hR' hB (Or.inl ea) (cf (Or.inl ea)) hs
  · exact lk_flag hD hi hN hN4 hiN hP hT hR' hB (Or.inr ea) (cf (Or.inr ea)) hs
  · obtain ⟨q, q1, q2, q3⟩ := cq (Or.inl ea)
    exact lk_wait hD hi hN hN4 hiN hP hT hR' hB ea q1 q2 q3 hs
  · obtain ⟨q, q1, q2, q3⟩ := cq (Or.inr ea)
    obtain ⟨w, w1, w2, w3⟩ := cm ea
    exact lk_silent hD hi hN hN4 hiN hP hT hR' hB ea q1 q2 q3 w1 w2 w3 hs
end
end
section
/-! lockstep: a level -/
section
variable {k1 k2 k3 k4 k5 k6 k7 k8 k9 k10 k11 k12 k13 nc pl ol gc tn : Int32} {ac te re ho er se lo de qx mi fx dr tk bd rl ll td cr cs si sc sd ss pc px nx dx bc kx bx tx : Nat → Int32} {i : Nat}
theorem xw_nwb1 (hi : i < 4) (ht : ¬ td i = -1) {post : Int32 → Prop} (h : post 1) : wpX_nextWireBit post (k1, k2, k3, k4, k5, k6, k7, k8, k9, k10, k11, k12, k13, nc, pl, ol, gc, tn, ac, te, re, ho, er, se, lo, de, qx, mi, fx, dr, tk, bd, rl, ll, td, cr, cs, si, sc, sd, ss, pc, px, nx, dx, bc, kx, bx, tx) (nI i) := by
  simp only [wpX_nextWireBit, ab_cl hi, ab_in4 hi, true_and, forall_eq]
  exact br_f ht h
theorem xw_nwb2 (hi : i < 4) (ht : td i = -1) {r : Nat} (hr : rl i = nI r) (hrb : r < 500) (h5 : 5 ≤ r) {post : Int32 → Prop} (h : post (1 - ll i)) : wpX_nextWireBit post (k1, k2, k3, k4, k5, k6, k7, k8, k9, k10, k11, k12, k13, nc, pl, ol, gc, tn, ac, te, re, ho, er, se, lo, de, qx, mi, fx, dr, tk, bd, rl, ll, td, cr, cs, si, sc, sd, ss, pc, px, nx, dx, bc, kx, bx, tx) (nI i) := by
  simp only [wpX_nextWireBit, ab_cl hi, ab_in4 hi, true_and, forall_eq, hr]
  exact br_t ht (br_f (nI_nlt (b := 5) h5 (by omega)) h)
theorem xw_nwb3 (hi : i < 4) (ht : td i = -1) {r : Nat} (hr : rl i = nI r) (h5 : ¬ 5 ≤ r) {post : Int32 → Prop} (h : wpX_nextBodyBit post (k1, k2, k3, k4, k5, k6, k7, k8, k9, k10, k11, k12, k13, nc, pl, ol, gc, tn, ac, te, re, ho, er, se, lo, de, qx, mi, fx, dr, tk, bd, rl, ll, td, cr, cs, si, sc, sd, ss, pc, px, nx, dx, bc, kx, bx, tx) (nI i)) : wpX_nextWireBit post (k1, k2, k3, k4, k5, k6, k7, k8, k9, k10, k11, k12, k13, nc, pl, ol, gc, tn, ac, te, re, ho, er, se, lo, de, qx, mi, fx, dr, tk, bd, rl, ll, td, cr, cs, si, sc, sd, ss, pc, px, nx, dx, bc, kx, bx, tx) (nI i) := by
  simp only [wpX_nextWireBit, ab_cl hi, ab_in4 hi, true_and, forall_eq, hr]
  exact br_t ht (br_t (nI_lt (b := 5) (by omega) (by omega)) h)
end
section
variable {k1 k2 k3 k4 k5 k6 k7 k8 k9 k10 k11 k12 k13 nc pl ol gc tn : Int32} {ac te re ho er se lo de qx mi fx dr tk bd rl ll td cr cs si sc sd ss pc px nx dx bc kx bx tx : Nat → Int32} {qy fy cu py ny dy ri rn rd le sn ty bo wi fr : Nat → Int32} {i N : Nat} {D D' : Nat → Prop}
theorem lk_level (hD : ∀ j, j ≠ i → D' j → D j) (hi : i < 4) (hR : ∀ j, j < 4 → rl_N (D j) (ac j) (re j) (ho j) (mi j) (qx j) (qy j) (fx j) (fy j) (tk j) (le j) (bd j) (rl j) (ll j) (td j) (cr j) (cs j) (si j) (sc j) (sd j) (ss j) (cu j) (dr j) (pc j) (bc j) (ab_v 3 px j) (ab_v 3 py j) (ab_v 3 nx j) (ab_v 3 ny j) (ab_v 3 dx j) (ab_v 3 dy j) (ab_v 8 kx j) (ab_v 8 ri j) (ab_v 8 rn j) (ab_v 8 bx j) (ab_v 8 rd j) (ab_v 128 sn j)) : ∃ (r : Int32) (cu1 bo1 wi1 fr1 : Nat → Int32), ab_bit r ∧ (∀ post : Int32 → Prop, post r → wpX_levelOf post (k1, k2, k3, k4, k5, k6, k7, k8, k9, k10, k11, k12, k13, nc, pl, ol, gc, tn, ac, te, re, ho, er, se, lo, de, qx, mi, fx, dr, tk, bd, rl, ll, td, cr, cs, si, sc, sd, ss, pc, px, nx, dx, bc, kx, bx, tx) (nI i)) ∧ (∀ post : Int32 → SY → Prop, post r (nc, pl, ol, gc, ac, te, re, ho, er, lo, se, de, qy, mi, fy, cu1, dr, pc, bc, py, ny, dy, ri, rn, rd, le, sn, ty, bo1, wi1, fr1) → wpY_level post (nc, pl, ol, gc, ac, te, re, ho, er, lo, se, de, qy, mi, fy, cu, dr, pc, bc, py, ny, dy, ri, rn, rd, le, sn, ty, bo, wi, fr) (nI i)) ∧ (∀ j, j < 4 → rl_N (D' j) (ac j) (re j) (ho j) (mi j) (qx j) (qy j) (fx j) (fy j) (tk j) (le j) (bd j) (rl j) (ll j) (td j) (cr j) (cs j) (si j) (sc j) (sd j) (ss j) (cu1 j) ((upd dr i r) j) (pc j) (bc j) (ab_v 3 px j) (ab_v 3 py j) (ab_v 3 nx j) (ab_v 3 ny j) (ab_v 3 dx j) (ab_v 3 dy j) (ab_v 8 kx j) (ab_v 8 ri j) (ab_v 8 rn j) (ab_v 8 bx j) (ab_v 8 rd j) (ab_v 128 sn j)) := by
  obtain ⟨hB, hC, hM, hDv⟩ := hR i hi
  obtain ⟨⟨a, a7, ea⟩, cq, cm, cf⟩ := id hC
  have ha : a = 0 ∨ a = 1 ∨ a = 2 ∨ a = 3 ∨ a = 4 ∨ a = 5 ∨ a = 6 := by omega
  have noM : ¬ (ac i = 1 ∨ ac i = 2) → ∀ (D : Prop) (cu1 d : Int32), rl_M D (ac i) (tk i) (le i) (bd i) (rl i) (ll i) (td i) (cr i) (cs i) (si i) (sc i) (sd i) (ss i) cu1 d (pc i) (ab_v 3 py i) (ab_v 3 ny i) (ab_v 3 dy i) (ab_v 128 sn i) := fun z _ _ _ y => absurd y z
  have noD : ¬ ac i = 0 → ∀ (D : Prop) (cu1 d : Int32), rl_D D (ac i) (ho i) d cu1 (pc i) (ab_v 3 py i) := fun z _ _ _ _ y => absurd y z
  rcases ha with rfl | rfl | rfl | rfl | rfl | rfl | rfl
  · have nM := noM (by rw [ea]; decide)
    obtain ⟨p1, ⟨p, p2, p3, p4⟩, p5⟩ := id hB
    by_cases c : ho i = 0 ∧ 1 ≤ p
    · refine ⟨0, upd cu i (nI (ab_ch p (ab_v 3 py i))), bo, wi, fr, Or.inl rfl, fun post h => xw_lv0 hi ea ?_, fun post h => yw_lv0b hi ea c.1 p3 c.2 p2 h, rl_sp i ?_ (fun j hj hji => by simp only [pk_un hji]; exact rl_w (fun z => hD j hji z) (hR j hj))⟩
      · rw [if_pos ⟨c.1, by rw [p3]; exact nI_nle (by omega) (by omega)⟩]; exact h
      · simp only [pk_us]
        exact ⟨hB, hC, nM _ _ _, fun _ _ _ => ⟨c.1, p, c.2, p2, p3, rfl⟩⟩
    · refine ⟨1, cu, bo, wi, fr, Or.inr rfl, fun post h => xw_lv0 hi ea ?_, fun post h => yw_lv0a hi ea ?_ h, rl_sp i ?_ (fun j hj hji => by simp only [pk_un hji]; exact rl_w (fun z => hD j hji z) (hR j hj))⟩
      · rw [if_neg]
        · exact h
        · intro z
          apply c
          refine ⟨z.1, ?_⟩
          rcases Nat.lt_or_ge p 1 with y | y
          · have : p = 0 := by omega
            subst this
            exact absurd (by rw [p3]; decide) z.2
          · exact y
      · by_cases z : ho i = 0
        · right
          have : p = 0 := by
            rcases Nat.lt_or_ge p 1 with y | y
            · omega
            · exact absurd ⟨z, y⟩ c
          subst this
          exact p3
        · exact Or.inl z
      · simp only [pk_us]
        exact ⟨hB, hC, nM _ _ _, fun _ _ z => absurd z (by decide)⟩
  · have nD := noD (by rw [ea]; decide)
    obtain ⟨L, m1, m2, m3, m4, m5, m6, m7⟩ := hM (Or.inl ea)
    obtain ⟨c, q, n, s1, s2, s3, s4, s5, s6, s7, s8, s9⟩ := m7 ea
    obtain ⟨b1, b2, b3⟩ := ab_bd m3
    obtain ⟨p1, ⟨p, p2, p3, p4⟩, p5⟩ := id hB
    have hpq : p = q := (nI_eq (by omega) (by omega)).mp (p3.symm.trans s3)
    subst hpq
    obtain ⟨f1, f2, f3, _⟩ := p4 c s4
    have hny : ny (i * 3 + c) = nI n := by rw [← s7, ab_v_at (by omega)]
    have hnx : nx (i * 3 + c) = nI n := by rw [← ab_v_at (w := 3) (a := nx) (by omega), f2, s7]
    obtain ⟨bo1, wi1, fr1, e, q1, q2, q3, q4⟩ := yw_build (nc := nc) (pl := pl) (ol := ol) (gc := gc) (ac := ac) (te := te) (re := re) (ho := ho) (er := er) (lo := lo) (se := se) (de := de) (qy := qy) (mi := mi) (fy := fy) (cu := cu) (dr := dr) (pc := pc) (bc := bc) (py := py) (ny := ny) (dy := dy) (ri := ri) (rn := rn) (rd := rd) (le := le) (sn := sn) (ty := ty) (bo := bo) (wi := wi) (fr := fr) hi s2 (by omega) hny s6 rfl
    rw [ab_v_at (show c < 3 by omega), ab_v_at (show c < 3 by omega)] at s8 s9
    by_cases ht : ab_t (ab_v 128 sn i) L = 0
    · have hLe : L < e := by
        rcases Nat.lt_or_ge L e with z | z
        · exact z
        · have := ab_wire_ge m3 s8 q1 q2 z
          omega
      obtain ⟨w1, w2, w3⟩ := ab_wire_lt m3 s8 q1 hLe
      obtain ⟨x1, x2, x3, x4⟩ := id m5
      obtain ⟨y1, y2⟩ := x3 ht
      rw [if_pos ht] at x2
      have c2 := ((ab_bnd m3 L (Nat.le_refl L)).1 ht).2
      have hlb := ab_lst_bit m3 (Nat.le_refl L)
      refine ⟨ab_nx (ab_F (py (i * 3 + c)) (dy (i * 3 + c)) n) (ab_v 128 sn i) L, cu, bo1, wi1, fr1, ?_, fun post h => xw_lv1 hi ea ?_, fun post h => yw_lv1 hi ea m2 (by omega) (by omega) q4 ?_, rl_sp i ?_ (fun j hj hji => by simp only [pk_un hji]; exact rl_w (fun z => hD j hji z) (hR j hj))⟩
      · unfold ab_nx
        split
        · exact ab_flip_bit hlb
        · exact ab_F_bit _ _ _ _
      · unfold ab_nx at h
        by_cases hr : 5 ≤ ab_R (ab_v 128 sn i) L
        · rw [if_pos hr, ← y2] at h
          exact xw_nwb2 hi x2 y1 (by omega) hr h
        · rw [if_neg hr] at h
          have hk := ab_send_k m3 s8 (ab_F_len s6) ht hr
          refine xw_nwb3 hi x2 y1 hr (xw_nbb hi s1 (by omega) x1 hnx s6 hk ?_ ?_)
          · intro z
            rw [ab_v_at (by omega), ab_v_at (by omega)] at f1 f3
            rw [f1, f3]
            exact ab_send_crc m5 s6 m3 s8 ht z hk
          · rw [ab_v_at (by omega), ab_v_at (by omega)] at f1 f3
            rw [f1, f3]
            exact h
      · rw [if_neg (by omega), w2]
        exact h
      · simp only [pk_us]
        refine ⟨hB, hC, fun _ => ⟨L, m1, m2, m3, m4, m5, m6, fun _ => ⟨c, p, n, s1, s2, s3, s4, s5, s6, s7, ?_, fun _ _ => ?_⟩⟩, nD _ _ _⟩
        · rw [ab_v_at (show c < 3 by omega), ab_v_at (show c < 3 by omega)]; exact s8
        · rw [ab_v_at (show c < 3 by omega), ab_v_at (show c < 3 by omega)]
    · have hLe : e ≤ L := by
        rcases Nat.lt_or_ge L e with z | z
        · exact absurd (ab_wire_lt m3 s8 q1 z).1 ht
        · exact z
      obtain ⟨x1, x2, x3, x4⟩ := id m5
      rw [if_neg ht] at x2
      refine ⟨1, cu, bo1, wi1, fr1, Or.inr rfl, fun post h => xw_lv1 hi ea (xw_nwb1 hi ?_ h), fun post h => yw_lv1 hi ea m2 (by omega) (by omega) q4 ?_, rl_sp i ?_ (fun j hj hji => by simp only [pk_un hji]; exact rl_w (fun z => hD j hji z) (hR j hj))⟩
      · rw [x2]
        exact fun z => absurd (show nI (ab_t (ab_v 128 sn i) L - 1) < 0 by rw [z]; decide) (nI_pos (by omega))
      · rw [if_pos hLe]
        exact h
      · simp only [pk_us]
        refine ⟨hB, hC, fun _ => ⟨L, m1, m2, m3, m4, m5, m6, fun _ => ⟨c, p, n, s1, s2, s3, s4, s5, s6, s7, ?_, fun _ z => absurd z ht⟩⟩, nD _ _ _⟩
        rw [ab_v_at (show c < 3 by omega), ab_v_at (show c < 3 by omega)]; exact s8
  · have nD := noD (by rw [ea]; decide)
    obtain ⟨L, m1, m2, m3, m4, m5, m6, m7⟩ := hM (Or.inr ea)
    obtain ⟨b1, b2, b3⟩ := ab_bd m3
    obtain ⟨bo1, r1, r2⟩ := yw_next (nc := nc) (pl := pl) (ol := ol) (gc := gc) (ac := ac) (te := te) (re := re) (ho := ho) (er := er) (lo := lo) (se := se) (de := de) (qy := qy) (mi := mi) (fy := fy) (cu := cu) (dr := dr) (pc := pc) (bc := bc) (py := py) (ny := ny) (dy := dy) (ri := ri) (rn := rn) (rd := rd) (le := le) (sn := sn) (ty := ty) (bo := bo) (wi := wi) (fr := fr) hi m2 (by omega) rfl m3
    have nN : ∀ r : Int32, rl_M (D' i) (ac i) (tk i) (le i) (bd i) (rl i) (ll i) (td i) (cr i) (cs i) (si i) (sc i) (sd i) (ss i) (cu i) r (pc i) (ab_v 3 py i) (ab_v 3 ny i) (ab_v 3 dy i) (ab_v 128 sn i) :=
      fun r _ => ⟨L, m1, m2, m3, m4, m5, m6, fun z => absurd (z.symm.trans ea) (by decide)⟩
    obtain ⟨x1, x2, x3, x4⟩ := id m5
    by_cases ht : ab_t (ab_v 128 sn i) L = 0
    · rw [if_pos ht] at x2
      refine ⟨1, cu, bo1, wi, fr, Or.inr rfl, fun post h => xw_lv2 hi ea ?_, fun post h => yw_lv2 hi ea r2 (fun z => ?_) (fun _ => h), rl_sp i ?_ (fun j hj hji => by simp only [pk_un hji]; exact rl_w (fun z => hD j hji z) (hR j hj))⟩
      · rw [if_neg (fun z => absurd (x2.symm.trans z.1) (by decide))]; exact h
      · exfalso
        unfold ab_kd at z
        rw [if_pos ht] at z
        split at z
        · exact absurd z (by decide)
        · exact absurd z (by decide)
      · simp only [pk_us]
        exact ⟨hB, hC, nN _, nD _ _ _⟩
    · rw [if_neg ht] at x2
      obtain ⟨z1, z2, z3, z4, z5, z6⟩ := ab_X_end m5 m3 ht
      have hbb := ab_b_bit m3 L (Nat.le_refl L)
      obtain ⟨hn4, hnl⟩ := ab_n_ok hbb
      rw [z6] at r1
      have hl : ab_lI (ab_code bo1) = nI (ab_n (ab_b (ab_v 128 sn i) L)) := by rw [ab_code_cg (b' := ab_b (ab_v 128 sn i) L) (fun y hy => r1 y (by omega)), hnl]
      have ecr : cr i = ab_crc bo1 (19 + 8 * ab_n (ab_b (ab_v 128 sn i) L)) := by rw [z1]; exact (ab_crc_cg _ (fun y hy => r1 y (by omega))).symm
      have ecs : cs i = ab_num bo1 (19 + 8 * ab_n (ab_b (ab_v 128 sn i) L)) 15 := by rw [z2]; exact (ab_num_cg _ _ (fun y hy => r1 y (by omega))).symm
      have ekd : ab_kd (ab_v 128 sn i) L = td i := by unfold ab_kd; rw [if_neg ht, x2]
      by_cases c : td i = 1 ∧ cr i = cs i
      · refine ⟨0, cu, bo1, wi, fr, Or.inl rfl, fun post h => xw_lv2 hi ea ?_, fun post h => yw_lv2 hi ea r2 (fun z => ?_) (fun z => absurd (ekd.trans c.1) z), rl_sp i ?_ (fun j hj hji => by simp only [pk_un hji]; exact rl_w (fun z => hD j hji z) (hR j hj))⟩
        · rw [if_pos c]; exact h
        · refine yw_match hl hn4 (fun j hj => by rw [r1 _ (by omega)]; exact hbb _) ?_
          rw [if_pos (by rw [← ecr, ← ecs]; exact c.2.symm)]
          exact br_f (by decide) h
        · simp only [pk_us]
          exact ⟨hB, hC, nN _, nD _ _ _⟩
      · refine ⟨1, cu, bo1, wi, fr, Or.inr rfl, fun post h => xw_lv2 hi ea ?_, fun post h => yw_lv2 hi ea r2 (fun z => ?_) (fun z => h), rl_sp i ?_ (fun j hj hji => by simp only [pk_un hji]; exact rl_w (fun z => hD j hji z) (hR j hj))⟩
        · rw [if_neg c]; exact h
        · refine yw_match hl hn4 (fun j hj => by rw [r1 _ (by omega)]; exact hbb _) ?_
          rw [if_neg (by rw [← ecr, ← ecs]; exact fun y => c ⟨ekd.symm.trans z, y.symm⟩)]
          exact br_t rfl h
        · simp only [pk_us]
          exact ⟨hB, hC, nN _, nD _ _ _⟩
  · have nM := noM (by rw [ea]; decide)
    have nD := noD (by rw [ea]; decide)
    have hf := cf (Or.inl ea)
    refine ⟨(if fx i ≤ 1 then 1 else 0), cu, bo, wi, fr, (by split <;> first | exact Or.inr rfl | exact Or.inl rfl), fun post h => xw_lv34 hi (Or.inl ea) h, fun post h => yw_lv34 hi (Or.inl ea) (by rw [← hf]; exact h), rl_sp i ?_ (fun j hj hji => by simp only [pk_un hji]; exact rl_w (fun z => hD j hji z) (hR j hj))⟩
    simp only [pk_us]
    exact ⟨hB, hC, nM _ _ _, nD _ _ _⟩
  · have nM := noM (by rw [ea]; decide)
    have nD := noD (by rw [ea]; decide)
    have hf := cf (Or.inr ea)
    refine ⟨(if fx i ≤ 1 then 1 else 0), cu, bo, wi, fr, (by split <;> first | exact Or.inr rfl | exact Or.inl rfl), fun post h => xw_lv34 hi (Or.inr ea) h, fun post h => yw_lv34 hi (Or.inr ea) (by rw [← hf]; exact h), rl_sp i ?_ (fun j hj hji => by simp only [pk_un hji]; exact rl_w (fun z => hD j hji z) (hR j hj))⟩
    simp only [pk_us]
    exact ⟨hB, hC, nM _ _ _, nD _ _ _⟩
  · have nM := noM (by rw [ea]; decide)
    have nD := noD (by rw [ea]; decide)
    refine ⟨1, cu, bo, wi, fr, Or.inr rfl, fun post h => xw_lv56 hi (Or.inl ea) h, fun post h => yw_lv56 hi (Or.inl ea) h, rl_sp i ?_ (fun j hj hji => by simp only [pk_un hji]; exact rl_w (fun z => hD j hji z) (hR j hj))⟩
    simp only [pk_us]
    exact ⟨hB, hC, nM _ _ _, nD _ _ _⟩
  · have nM := noM (by rw [ea]; decide)
    have nD := noD (by rw [ea]; decide)
    refine ⟨1, cu, bo, wi, fr, Or.inr rfl, fun post h => xw_lv56 hi (Or.inr ea) h, fun post h => yw_lv56 hi (Or.inr ea) h, rl_sp i ?_ (fun j hj hji => by simp only [pk_un hji]; exact rl_w (fun z => hD j hji z) (hR j hj))⟩
    simp only [pk_us]
    exact ⟨hB, hC, nM _ _ _, nD _ _ _⟩
end
end
section
/-! lockstep: one bit time -/
/-- the trace, shifted -/
def ab_trk (ty : Nat → Int32) (k : Nat) : Nat → Int32 := fun y => if k < y ∧ y < 128 then ty (y - 1) else ty y
def ab_tr (ty : Nat → Int32) (line : Int32) : Nat → Int32 := upd (ab_trk ty 0) 0 line
theorem ab_trk_s (ty : Nat → Int32) {k : Nat} (hk : k + 1 < 128) : upd (ab_trk ty (k + 1)) (k + 1) (ab_trk ty (k + 1) k) = ab_trk ty k := by
  funext y
  by_cases e : y = k + 1
  · subst e
    rw [pk_us]
    unfold ab_trk
    rw [if_neg (by omega), if_pos (by omega)]
    rfl
  · rw [pk_un e]
    unfold ab_trk
    by_cases c : k + 1 < y ∧ y < 128
    · rw [if_pos c, if_pos (by omega)]
    · rw [if_neg c, if_neg (by omega)]
theorem ab_trk_top (ty : Nat → Int32) : ab_trk ty 127 = ty := by
  funext y
  unfold ab_trk
  rw [if_neg (by omega)]
theorem rl_T_s {tn : Int32} {tx ty : Nat → Int32} {T : Nat} (hT : T < 128) (h : ∀ b, b < 128 → (tx ((T + 127 - b) % 128) = 0 → ty b = 1) ∧ (¬ tx ((T + 127 - b) % 128) = 0 → ty b = 0)) {line : Int32} (hl : ab_bit line) :
    rl_T (nI ((T + 1) % 128)) (upd tx T (if line = 0 then 1 else 0)) (ab_tr ty line) := by
  refine ⟨(T + 1) % 128, by omega, rfl, fun b hb => ?_⟩
  by_cases e : b = 0
  · subst e
    rw [show ((T + 1) % 128 + 127 - 0) % 128 = T by omega, pk_us]
    unfold ab_tr
    rw [pk_us]
    rcases hl with rfl | rfl
    · rw [if_pos rfl]; exact ⟨fun z => absurd z (by decide), fun _ => rfl⟩
    · rw [if_neg (by decide)]; exact ⟨fun _ => rfl, fun z => absurd rfl z⟩
  · have e1 : ((T + 1) % 128 + 127 - b) % 128 = (T + 127 - (b - 1)) % 128 := by omega
    have e2 : (T + 127 - (b - 1)) % 128 ≠ T := by omega
    rw [e1, pk_un e2]
    unfold ab_tr
    rw [pk_un e]
    unfold ab_trk
    rw [if_pos (by omega)]
    exact h (b - 1) (by omega)
section
variable {nc pl ol gc : Int32} {ac te re ho er lo se de qy mi fy cu dr pc bc py ny dy ri rn rd le sn ty bo wi fr : Nat → Int32}
theorem yw_43 {fl line : Int32} {post : Int32 → SY → Prop} (h : ∃ n76 : Nat, wY_clock_76 post fl line n76 0 nc pl ol gc ac te re ho er lo se de qy mi fy cu dr pc bc py ny dy ri rn rd le sn (ab_tr ty line) bo wi fr) (k : Nat) : ∀ n, k < n → k < 128 → wY_clock_43 post fl line nc pl ol gc n (nI k) ac te re ho er lo se de qy mi fy cu dr pc bc py ny dy ri rn rd le sn (ab_trk ty k) bo wi fr := by
  induction k with
  | zero =>
    intro n hn _
    obtain ⟨n, rfl⟩ : ∃ c, n = c + 1 := ⟨n - 1, by omega⟩
    simp only [wY_clock_43, forall_eq]
    exact br_t (Int32.le_refl 0) h
  | succ k ih =>
    intro n hn hk
    obtain ⟨n, rfl⟩ : ∃ c, n = c + 1 := ⟨n - 1, by omega⟩
    have v1 : vp_in (nI (k + 1)) 128 := vp_in_nI hk (by omega)
    have v2 : vp_in (nI k) 128 := vp_in_nI (by omega) (by omega)
    simp only [wY_clock_43, forall_eq, true_and, nI_pred, pk_m1, v1, v2, nI_clamp (show k < 2 ^ 31 by omega), nI_clamp (show k + 1 < 2 ^ 31 by omega), ab_trk_s ty hk]
    exact br_f (nI_nle (by omega) (by omega)) (ih n (by omega) (by omega))
end
theorem rl_RW {N : Nat} {D D' : Nat → Prop} {u : SX} {v : SY} (hD : ∀ j, D' j → D j) (h : rl_R N D u v) : rl_R N D' u v := by
  refine rl_el (P := fun u v => rl_R N D' u v) ?_ h
  intros
  rename_i h1 h2 h3
  exact rl_mk h1 h2 (fun j hj => rl_w (hD j) (h3 j hj))
section
variable {k1 k2 k3 k4 k5 k6 k7 k8 k9 k10 k11 k12 k13 nc pl ol gc tn : Int32} {ac te re ho er se lo de qx mi fx dr tk bd rl ll td cr cs si sc sd ss pc px nx dx bc kx bx tx : Nat → Int32} {qy fy cu py ny dy ri rn rd le sn ty bo wi fr : Nat → Int32} {N : Nat}
theorem lk_drive (hN : nc = nI N) (hN4 : N ≤ 4) (fl : Int32) (d : Nat) : ∀ (dr cu bo wi fr : Nat → Int32) (i : Nat) (line : Int32), i + d = N → ab_bit line → (∀ j, j < 4 → rl_N (j < i) (ac j) (re j) (ho j) (mi j) (qx j) (qy j) (fx j) (fy j) (tk j) (le j) (bd j) (rl j) (ll j) (td j) (cr j) (cs j) (si j) (sc j) (sd j) (ss j) (cu j) (dr j) (pc j) (bc j) (ab_v 3 px j) (ab_v 3 py j) (ab_v 3 nx j) (ab_v 3 ny j) (ab_v 3 dx j) (ab_v 3 dy j) (ab_v 8 kx j) (ab_v 8 ri j) (ab_v 8 rn j) (ab_v 8 bx j) (ab_v 8 rd j) (ab_v 128 sn j)) →
    ∃ (dr1 cu1 bo1 wi1 fr1 : Nat → Int32) (ln : Int32), ab_bit ln ∧ (∀ j, j < 4 → rl_N (j < N) (ac j) (re j) (ho j) (mi j) (qx j) (qy j) (fx j) (fy j) (tk j) (le j) (bd j) (rl j) (ll j) (td j) (cr j) (cs j) (si j) (sc j) (sd j) (ss j) (cu1 j) (dr1 j) (pc j) (bc j) (ab_v 3 px j) (ab_v 3 py j) (ab_v 3 nx j) (ab_v 3 ny j) (ab_v 3 dx j) (ab_v 3 dy j) (ab_v 8 kx j) (ab_v 8 ri j) (ab_v 8 rn j) (ab_v 8 bx j) (ab_v 8 rd j) (ab_v 128 sn j))
      ∧ (∀ (post : Int32 → SX → Prop) (n : Nat), d < n → post ln (k1, k2, k3, k4, k5, k6, k7, k8, k9, k10, k11, k12, k13, nc, pl, ol, gc, tn, ac, te, re, ho, er, se, lo, de, qx, mi, fx, dr1, tk, bd, rl, ll, td, cr, cs, si, sc, sd, ss, pc, px, nx, dx, bc, kx, bx, tx) → wX_driveAll_4 post k1 k2 k3 k4 k5 k6 k7 k8 k9 k10 k11 k12 k13 nc pl ol gc tn n line (nI i) ac te re ho er se lo de qx mi fx dr tk bd rl ll td cr cs si sc sd ss pc px nx dx bc kx bx tx)
      ∧ (∀ (post : Int32 → SY → Prop) (n : Nat), d < n → (∃ n43 : Nat, wY_clock_43 post fl ln nc pl ol gc n43 127 ac te re ho er lo se de qy mi fy cu1 dr1 pc bc py ny dy ri rn rd le sn ty bo1 wi1 fr1) → wY_clock_4 post fl n line (nI i) nc pl ol gc ac te re ho er lo se de qy mi fy cu dr pc bc py ny dy ri rn rd le sn ty bo wi fr) := by
  induction d with
  | zero =>
    intro dr cu bo wi fr i line hi hl hR
    have hi : i = N := by omega
    subst hi
    refine ⟨dr, cu, bo, wi, fr, line, hl, hR, fun post n hn h => ?_, fun post n hn h => ?_⟩
    · obtain ⟨n, rfl⟩ : ∃ c, n = c + 1 := ⟨n - 1, by omega⟩
      simp only [wX_driveAll_4, hN]
      rw [hN] at h
      exact br_t (Int32.le_refl _) h
    · obtain ⟨n, rfl⟩ : ∃ c, n = c + 1 := ⟨n - 1, by omega⟩
      simp only [wY_clock_4, hN]
      rw [hN] at h
      exact br_t (Int32.le_refl _) h
  | succ d ih =>
    intro dr cu bo wi fr i line hiN hl hR
    have hi : i < 4 := by omega
    obtain ⟨r, cu1, bo1, wi1, fr1, hr, hx, hy, hR1⟩ := lk_level (k1 := k1) (k2 := k2) (k3 := k3) (k4 := k4) (k5 := k5) (k6 := k6) (k7 := k7) (k8 := k8) (k9 := k9) (k10 := k10) (k11 := k11) (k12 := k12) (k13 := k13) (nc := nc) (pl := pl) (ol := ol) (gc := gc) (tn := tn) (ac := ac) (te := te) (re := re) (ho := ho) (er := er) (se := se) (lo := lo) (de := de) (qx := qx) (mi := mi) (fx := fx) (dr := dr) (tk := tk) (bd := bd) (rl := rl) (ll := ll) (td := td) (cr := cr) (cs := cs) (si := si) (sc := sc) (sd := sd) (ss := ss) (pc := pc) (px := px) (nx := nx) (dx := dx) (bc := bc) (kx := kx) (bx := bx) (tx := tx) (qy := qy) (fy := fy) (cu := cu) (py := py) (ny := ny) (dy := dy) (ri := ri) (rn := rn) (rd := rd) (le := le) (sn := sn) (ty := ty) (bo := bo) (wi := wi) (fr := fr) (D := fun j => j < i) (D' := fun j => j < i + 1) (fun j hj z => by omega) hi hR
    have hl' : ab_bit (line &&& r) := by
      rcases hl with rfl | rfl <;> rcases hr with rfl | rfl <;> first | exact Or.inl (by decide) | exact Or.inr (by decide)
    obtain ⟨dr2, cu2, bo2, wi2, fr2, ln, q1, q2, q3, q4⟩ := ih (upd dr i r) cu1 bo1 wi1 fr1 (i + 1) (line &&& r) (by omega) hl' hR1
    refine ⟨dr2, cu2, bo2, wi2, fr2, ln, q1, q2, fun post n hn h => ?_, fun post n hn h => ?_⟩
    · obtain ⟨n, rfl⟩ : ∃ c, n = c + 1 := ⟨n - 1, by omega⟩
      have q := q3 post n (by omega) h
      simp only [wX_driveAll_4, ab_cl hi, ab_in4 hi, true_and, forall_eq, nI_1]
      refine br_f (by rw [hN]; exact nI_ge (by omega) (by omega)) ?_
      exact hx _ q
    · obtain ⟨n, rfl⟩ : ∃ c, n = c + 1 := ⟨n - 1, by omega⟩
      have q := q4 post n (by omega) h
      simp only [wY_clock_4, ab_cl hi, ab_in4 hi, true_and, forall_eq, nI_1, pk_us]
      refine br_f (by rw [hN]; exact nI_ge (by omega) (by omega)) ?_
      refine hy _ ?_
      rcases hr with rfl | rfl
      · have e : line &&& (0 : Int32) = 0 := by rcases hl with rfl | rfl <;> decide
        rw [e] at q
        exact br_t rfl q
      · have e : line &&& (1 : Int32) = line := by rcases hl with rfl | rfl <;> decide
        rw [e] at q
        exact br_f (by decide) q
end
def lk_x12 (post : Int32 → SX → Prop) (fl line : Int32) (n : Nat) (x : Int32) (u : SX) : Prop := match u with
  | (k1, k2, k3, k4, k5, k6, k7, k8, k9, k10, k11, k12, k13, nc, pl, ol, gc, tn, ac, te, re, ho, er, se, lo, de, qx, mi, fx, dr, tk, bd, rl, ll, td, cr, cs, si, sc, sd, ss, pc, px, nx, dx, bc, kx, bx, tx) => wX_clock_12 post fl line n x k1 k2 k3 k4 k5 k6 k7 k8 k9 k10 k11 k12 k13 nc pl ol gc tn ac te re ho er se lo de qx mi fx dr tk bd rl ll td cr cs si sc sd ss pc px nx dx bc kx bx tx
def lk_y76 (post : Int32 → SY → Prop) (fl line : Int32) (n : Nat) (x : Int32) (u : SY) : Prop := match u with
  | (nc, pl, ol, gc, ac, te, re, ho, er, lo, se, de, qy, mi, fy, cu, dr, pc, bc, py, ny, dy, ri, rn, rd, le, sn, ty, bo, wi, fr) => wY_clock_76 post fl line n x nc pl ol gc ac te re ho er lo se de qy mi fy cu dr pc bc py ny dy ri rn rd le sn ty bo wi fr
theorem lk_smp {N : Nat} {fl line : Int32} (hl : ab_bit line) (d : Nat) : ∀ (i : Nat) (u : SX) (v : SY), i + d = N → rl_R N (fun j => i ≤ j ∧ j < N) u v →
    ∃ u' v', rl_R N (fun _ => False) u' v' ∧ (∀ (post : Int32 → SX → Prop) (n : Nat), d < n → post line u' → lk_x12 post fl line n (nI i) u) ∧ (∀ (post : Int32 → SY → Prop) (n : Nat), d < n → post line v' → lk_y76 post fl line n (nI i) v) := by
  induction d with
  | zero =>
    intro i u v hi h
    refine ⟨u, v, rl_RW (fun j z => False.elim z) h, ?_⟩
    refine rl_el (P := fun u v => (∀ (post : Int32 → SX → Prop) (n : Nat), 0 < n → post line u → lk_x12 post fl line n (nI i) u) ∧ (∀ (post : Int32 → SY → Prop) (n : Nat), 0 < n → post line v → lk_y76 post fl line n (nI i) v)) ?_ h
    intro k1 k2 k3 k4 k5 k6 k7 k8 k9 k10 k11 k12 k13 nc pl ol gc tn ac te re ho er se lo de qx mi fx dr tk bd rl ll td cr cs si sc sd ss pc px nx dx bc kx bx tx qy fy cu py ny dy ri rn rd le sn ty bo wi fr h1 h2 h3
    have e : nc = nI i := by rw [h1.1]; exact congrArg nI (by omega)
    refine ⟨fun post n hn hp => ?_, fun post n hn hp => ?_⟩
    · obtain ⟨n, rfl⟩ : ∃ c, n = c + 1 := ⟨n - 1, by omega⟩
      show wX_clock_12 post fl line (n + 1) (nI i) k1 k2 k3 k4 k5 k6 k7 k8 k9 k10 k11 k12 k13 nc pl ol gc tn ac te re ho er se lo de qx mi fx dr tk bd rl ll td cr cs si sc sd ss pc px nx dx bc kx bx tx
      simp only [wX_clock_12]
      exact br_t (by rw [e]; exact Int32.le_refl _) hp
    · obtain ⟨n, rfl⟩ : ∃ c, n = c + 1 := ⟨n - 1, by omega⟩
      show wY_clock_76 post fl line (n + 1) (nI i) nc pl ol gc ac te re ho er lo se de qy mi fy cu dr pc bc py ny dy ri rn rd le sn ty bo wi fr
      simp only [wY_clock_76]
      exact br_t (by rw [e]; exact Int32.le_refl _) hp
  | succ d ih =>
    intro i u v hi h
    refine rl_el (P := fun u v => ∃ u' v', rl_R N (fun _ => False) u' v' ∧ (∀ (post : Int32 → SX → Prop) (n : Nat), d + 1 < n → post line u' → lk_x12 post fl line n (nI i) u) ∧ (∀ (post : Int32 → SY → Prop) (n : Nat), d + 1 < n → post line v' → lk_y76 post fl line n (nI i) v)) ?_ h
    intro k1 k2 k3 k4 k5 k6 k7 k8 k9 k10 k11 k12 k13 nc pl ol gc tn ac te re ho er se lo de qx mi fx dr tk bd rl ll td cr cs si sc sd ss pc px nx dx bc kx bx tx qy fy cu py ny dy ri rn rd le sn ty bo wi fr h1 h2 h3
    have hN4 := h1.2.2.1
    have hN := h1.1
    have hi4 : i < 4 := by omega
    have hsb : ab_bit (line ^^^ ((fl >>> (nI i &&& 31)) &&& 1)) := ab_xor hl (ab_and1 _)
    have hE := lk_sample (k1 := k1) (k2 := k2) (k3 := k3) (k4 := k4) (k5 := k5) (k6 := k6) (k7 := k7) (k8 := k8) (k9 := k9) (k10 := k10) (k11 := k11) (k12 := k12) (k13 := k13) (nc := nc) (pl := pl) (ol := ol) (gc := gc) (tn := tn) (ac := ac) (te := te) (re := re) (ho := ho) (er := er) (se := se) (lo := lo) (de := de) (qx := qx) (mi := mi) (fx := fx) (dr := dr) (tk := tk) (bd := bd) (rl := rl) (ll := ll) (td := td) (cr := cr) (cs := cs) (si := si) (sc := sc) (sd := sd) (ss := ss) (pc := pc) (px := px) (nx := nx) (dx := dx) (bc := bc) (kx := kx) (bx := bx) (tx := tx) (qy := qy) (fy := fy) (cu := cu) (py := py) (ny := ny) (dy := dy) (ri := ri) (rn := rn) (rd := rd) (le := le) (sn := sn) (ty := ty) (bo := bo) (wi := wi) (fr := fr) (D := fun j => i ≤ j ∧ j < N) (D' := fun j => i + 1 ≤ j ∧ j < N) (fun j z => ⟨⟨by omega, z.2⟩, by omega⟩) hi4 (by omega) h1 h2 h3 ⟨Nat.le_refl i, by omega⟩ hsb
    obtain ⟨u1, v1, k1', hx, hy⟩ := hE
    obtain ⟨u2, v2, k2', gx, gy⟩ := ih (i + 1) u1 v1 (by omega) k1'
    refine ⟨u2, v2, k2', fun post n hn hp => ?_, fun post n hn hp => ?_⟩
    · obtain ⟨n, rfl⟩ : ∃ c, n = c + 1 := ⟨n - 1, by omega⟩
      have q := gx post n (by omega) hp
      show wX_clock_12 post fl line (n + 1) (nI i) k1 k2 k3 k4 k5 k6 k7 k8 k9 k10 k11 k12 k13 nc pl ol gc tn ac te re ho er se lo de qx mi fx dr tk bd rl ll td cr cs si sc sd ss pc px nx dx bc kx bx tx
      simp only [wX_clock_12, forall_eq, nI_1]
      refine br_f (by rw [hN]; exact nI_ge (by omega) (by omega)) ?_
      rw [ab_shr fl (show i < 32 by omega)]
      exact hx _ q
    · obtain ⟨n, rfl⟩ : ∃ c, n = c + 1 := ⟨n - 1, by omega⟩
      have q := gy post n (by omega) hp
      show wY_clock_76 post fl line (n + 1) (nI i) nc pl ol gc ac te re ho er lo se de qy mi fy cu dr pc bc py ny dy ri rn rd le sn ty bo wi fr
      simp only [wY_clock_76, forall_eq, nI_1]
      refine br_f (by rw [hN]; exact nI_ge (by omega) (by omega)) ?_
      exact hy _ q
theorem lk_clock {N : Nat} (fl : Int32) {u : SX} {v : SY} (h : rl_R N (fun _ => False) u v) :
    ∃ r u' v', rl_R N (fun _ => False) u' v' ∧ (∀ post : Int32 → SX → Prop, post r u' → wpX_clock post u fl) ∧ (∀ post : Int32 → SY → Prop, post r v' → wpY_clock post v fl) := by
  refine rl_el (P := fun u v => ∃ r u' v', rl_R N (fun _ => False) u' v' ∧ (∀ post : Int32 → SX → Prop, post r u' → wpX_clock post u fl) ∧ (∀ post : Int32 → SY → Prop, post r v' → wpY_clock post v fl)) ?_ h
  intro k1 k2 k3 k4 k5 k6 k7 k8 k9 k10 k11 k12 k13 nc pl ol gc tn ac te re ho er se lo de qx mi fx dr tk bd rl ll td cr cs si sc sd ss pc px nx dx bc kx bx tx qy fy cu py ny dy ri rn rd le sn ty bo wi fr h1 h2 h3
  have hN := h1.1
  have hN4 := h1.2.2.1
  obtain ⟨dr1, cu1, bo1, wi1, fr1, ln, q1, q2, q3, q4⟩ := lk_drive (k1 := k1) (k2 := k2) (k3 := k3) (k4 := k4) (k5 := k5) (k6 := k6) (k7 := k7) (k8 := k8) (k9 := k9) (k10 := k10) (k11 := k11) (k12 := k12) (k13 := k13) (nc := nc) (pl := pl) (ol := ol) (gc := gc) (tn := tn) (ac := ac) (te := te) (re := re) (ho := ho) (er := er) (se := se) (lo := lo) (de := de) (qx := qx) (mi := mi) (fx := fx) (dr := dr) (tk := tk) (bd := bd) (rl := rl) (ll := ll) (td := td) (cr := cr) (cs := cs) (si := si) (sc := sc) (sd := sd) (ss := ss) (pc := pc) (px := px) (nx := nx) (dx := dx) (bc := bc) (kx := kx) (bx := bx) (tx := tx) (qy := qy) (fy := fy) (cu := cu) (py := py) (ny := ny) (dy := dy) (ri := ri) (rn := rn) (rd := rd) (le := le) (sn := sn) (ty := ty) (bo := bo) (wi := wi) (fr := fr) hN hN4 fl N 0 1 (by omega) (Or.inr rfl) (fun j hj => rl_w (fun z => absurd z (Nat.not_lt_zero j)) (h3 j hj))
  obtain ⟨T, t1, t2, t3⟩ := h2
  have hT' := rl_T_s (tn := tn) t1 t3 q1
  have hR : rl_R N (fun j => 0 ≤ j ∧ j < N) (k1, k2, k3, k4, k5, k6, k7, k8, k9, k10, k11, k12, k13, nc, pl, ol, gc, nI ((T + 1) % 128), ac, te, re, ho, er, se, lo, de, qx, mi, fx, dr1, tk, bd, rl, ll, td, cr, cs, si, sc, sd, ss, pc, px, nx, dx, bc, kx, bx, upd tx T (if ln = 0 then 1 else 0)) (nc, pl, ol, gc, ac, te, re, ho, er, lo, se, de, qy, mi, fy, cu1, dr1, pc, bc, py, ny, dy, ri, rn, rd, le, sn, ab_tr ty ln, bo1, wi1, fr1) := rl_mk h1 hT' (fun j hj => rl_w (fun z => z.2) (q2 j hj))
  obtain ⟨u2, v2, k2, gx, gy⟩ := lk_smp (fl := fl) q1 N 0 _ _ (by omega) hR
  refine ⟨ln, u2, v2, k2, fun post hp => ?_, fun post hp => ?_⟩
  · simp only [wpX_clock, wpX_driveAll]
    refine ⟨N + 1, q3 _ (N + 1) (by omega) ?_⟩
    refine xw_note t2 t1 ?_
    exact ⟨N + 1, gx post (N + 1) (by omega) hp⟩
  · simp only [wpY_clock]
    refine ⟨N + 1, q4 post (N + 1) (by omega) ⟨128, ?_⟩⟩
    have := yw_43 (nc := nc) (pl := pl) (ol := ol) (gc := gc) (ac := ac) (te := te) (re := re) (ho := ho) (er := er) (lo := lo) (se := se) (de := de) (qy := qy) (mi := mi) (fy := fy) (cu := cu1) (dr := dr1) (pc := pc) (bc := bc) (py := py) (ny := ny) (dy := dy) (ri := ri) (rn := rn) (rd := rd) (le := le) (sn := sn) (ty := ty) (bo := bo1) (wi := wi1) (fr := fr1) (fl := fl) (line := ln) (post := post) ⟨N + 1, gy post (N + 1) (by omega) hp⟩ 127 128 (by omega) (by omega)
    rw [ab_trk_top] at this
    exact this
end
section
/-! the relation that is owed; clock, run -/
def i_Rel (_ : Nat) (u : SX) (v : SY) : Prop := ∃ N : Nat, rl_R N (fun _ => False) u v
theorem i_up {k : Nat} {u : SX} {v : SY} (h : i_Rel k u v) : i_Rel (k + 5) u v := h
theorem i_vc_clock {k : Nat} {u : SX} {v : SY} (I : i_Rel k u v) (hk : k + 5 ≤ 2564) (v1 : Int32) : wpX_clock (fun r u' => wpY_clock (fun r' v' => r' = r ∧ i_Rel (k + 5) u' v') v v1) u v1 := by
  obtain ⟨N, h⟩ := I
  obtain ⟨r, u', v', h', hx, hy⟩ := lk_clock v1 h
  exact hx _ (hy _ ⟨rfl, N, h'⟩)
def ab_clamp (p a b : Int32) : Int32 := if a ≤ p then (if p ≤ b then p else b) else a
section
variable {k1 k2 k3 k4 k5 k6 k7 k8 k9 k10 k11 k12 k13 nc pl ol gc tn : Int32} {ac te re ho er se lo de qx mi fx dr tk bd rl ll td cr cs si sc sd ss pc px nx dx bc kx bx tx : Nat → Int32}
theorem xw_clamp {p a b : Int32} {post : Int32 → Prop} (h : post (ab_clamp p a b)) : wpX_clamp post (k1, k2, k3, k4, k5, k6, k7, k8, k9, k10, k11, k12, k13, nc, pl, ol, gc, tn, ac, te, re, ho, er, se, lo, de, qx, mi, fx, dr, tk, bd, rl, ll, td, cr, cs, si, sc, sd, ss, pc, px, nx, dx, bc, kx, bx, tx) p a b := by
  simp only [wpX_clamp]
  unfold ab_clamp at h
  by_cases c : a ≤ p
  · rw [if_pos c] at h
    refine br_t c ?_
    by_cases d : p ≤ b
    · rw [if_pos d] at h; exact br_t d h
    · rw [if_neg d] at h; exact br_f d h
  · rw [if_neg c] at h; exact br_f c h
end
section
variable {nc pl ol gc : Int32} {ac te re ho er lo se de qy mi fy cu dr pc bc py ny dy ri rn rd le sn ty bo wi fr : Nat → Int32}
theorem yw_clamp {p a b : Int32} {post : Int32 → Prop} (h : post (ab_clamp p a b)) : wpY_clamp post (nc, pl, ol, gc, ac, te, re, ho, er, lo, se, de, qy, mi, fy, cu, dr, pc, bc, py, ny, dy, ri, rn, rd, le, sn, ty, bo, wi, fr) p a b := by
  simp only [wpY_clamp]
  unfold ab_clamp at h
  by_cases c : a ≤ p
  · rw [if_pos c] at h
    refine br_t c ?_
    by_cases d : p ≤ b
    · rw [if_pos d] at h; exact br_t d h
    · rw [if_neg d] at h; exact br_f d h
  · rw [if_neg c] at h; exact br_f c h
end
theorem ab_clamp_N {p : Int32} {a b : Nat} (hab : a ≤ b) (hb : b < 2 ^ 31) : ∃ n : Nat, a ≤ n ∧ n ≤ b ∧ ab_clamp p (nI a) (nI b) = nI n := by
  unfold ab_clamp
  by_cases c : nI a ≤ p
  · rw [if_pos c]
    by_cases d : p ≤ nI b
    · rw [if_pos d]
      have h0 : ¬ p < 0 := fun z => absurd (Int32.lt_of_le_of_lt c z) (nI_pos (by omega))
      obtain ⟨n, hn, rfl⟩ := nI_of h0
      exact ⟨n, (nI_leI (by omega) hn).mp c, (nI_leI hn hb).mp d, rfl⟩
    · rw [if_neg d]; exact ⟨b, hab, Nat.le_refl b, rfl⟩
  · rw [if_neg c]; exact ⟨a, Nat.le_refl a, hab, rfl⟩
def lk_xr (post : Int32 → SX → Prop) (C : Int32) (n : Nat) (x y : Int32) (u : SX) : Prop := match u with
  | (k1, k2, k3, k4, k5, k6, k7, k8, k9, k10, k11, k12, k13, nc, pl, ol, gc, tn, ac, te, re, ho, er, se, lo, de, qx, mi, fx, dr, tk, bd, rl, ll, td, cr, cs, si, sc, sd, ss, pc, px, nx, dx, bc, kx, bx, tx) => wX_run_15 post C n x y k1 k2 k3 k4 k5 k6 k7 k8 k9 k10 k11 k12 k13 nc pl ol gc tn ac te re ho er se lo de qx mi fx dr tk bd rl ll td cr cs si sc sd ss pc px nx dx bc kx bx tx
def lk_yr (post : Int32 → SY → Prop) (C : Int32) (n : Nat) (x y : Int32) (u : SY) : Prop := match u with
  | (nc, pl, ol, gc, ac, te, re, ho, er, lo, se, de, qy, mi, fy, cu, dr, pc, bc, py, ny, dy, ri, rn, rd, le, sn, ty, bo, wi, fr) => wY_run_15 post C n x y nc pl ol gc ac te re ho er lo se de qy mi fy cu dr pc bc py ny dy ri rn rd le sn ty bo wi fr
theorem lk_runL {N C : Nat} (hC : C ≤ 128) (d : Nat) : ∀ (i : Nat) (cnt : Int32) (u : SX) (v : SY), i + d = C → rl_R N (fun _ => False) u v →
    ∃ r u' v', rl_R N (fun _ => False) u' v' ∧ (∀ (post : Int32 → SX → Prop) (n : Nat), d < n → post r u' → lk_xr post (nI C) n cnt (nI i) u) ∧ (∀ (post : Int32 → SY → Prop) (n : Nat), d < n → post r v' → lk_yr post (nI C) n cnt (nI i) v) := by
  induction d with
  | zero =>
    intro i cnt u v hi h
    refine ⟨cnt, u, v, h, ?_⟩
    refine rl_el (P := fun u v => (∀ (post : Int32 → SX → Prop) (n : Nat), 0 < n → post cnt u → lk_xr post (nI C) n cnt (nI i) u) ∧ (∀ (post : Int32 → SY → Prop) (n : Nat), 0 < n → post cnt v → lk_yr post (nI C) n cnt (nI i) v)) ?_ h
    intro k1 k2 k3 k4 k5 k6 k7 k8 k9 k10 k11 k12 k13 nc pl ol gc tn ac te re ho er se lo de qx mi fx dr tk bd rl ll td cr cs si sc sd ss pc px nx dx bc kx bx tx qy fy cu py ny dy ri rn rd le sn ty bo wi fr h1 h2 h3
    have e : nI C ≤ nI i := nI_le (by omega) (by omega)
    refine ⟨fun post n hn hp => ?_, fun post n hn hp => ?_⟩
    · obtain ⟨n, rfl⟩ : ∃ c, n = c + 1 := ⟨n - 1, by omega⟩
      show wX_run_15 post (nI C) (n + 1) cnt (nI i) k1 k2 k3 k4 k5 k6 k7 k8 k9 k10 k11 k12 k13 nc pl ol gc tn ac te re ho er se lo de qx mi fx dr tk bd rl ll td cr cs si sc sd ss pc px nx dx bc kx bx tx
      simp only [wX_run_15]
      exact br_t e hp
    · obtain ⟨n, rfl⟩ : ∃ c, n = c + 1 := ⟨n - 1, by omega⟩
      show wY_run_15 post (nI C) (n + 1) cnt (nI i) nc pl ol gc ac te re ho er lo se de qy mi fy cu dr pc bc py ny dy ri rn rd le sn ty bo wi fr
      simp only [wY_run_15]
      exact br_t e hp
  | succ d ih =>
    intro i cnt u v hi h
    obtain ⟨r, u1, v1, h1, hx, hy⟩ := lk_clock 0 h
    obtain ⟨r2, u2, v2, h2, gx, gy⟩ := ih (i + 1) (if r = 0 then cnt + 1 else cnt) u1 v1 (by omega) h1
    refine ⟨r2, u2, v2, h2, ?_⟩
    revert hx hy
    refine rl_el (P := fun u v => (∀ post : Int32 → SX → Prop, post r u1 → wpX_clock post u 0) → (∀ post : Int32 → SY → Prop, post r v1 → wpY_clock post v 0) → (∀ (post : Int32 → SX → Prop) (n : Nat), d + 1 < n → post r2 u2 → lk_xr post (nI C) n cnt (nI i) u) ∧ (∀ (post : Int32 → SY → Prop) (n : Nat), d + 1 < n → post r2 v2 → lk_yr post (nI C) n cnt (nI i) v)) ?_ h
    intro k1 k2 k3 k4 k5 k6 k7 k8 k9 k10 k11 k12 k13 nc pl ol gc tn ac te re ho er se lo de qx mi fx dr tk bd rl ll td cr cs si sc sd ss pc px nx dx bc kx bx tx qy fy cu py ny dy ri rn rd le sn ty bo wi fr _ _ _ hx hy
    have e : ¬ nI C ≤ nI i := nI_ge (by omega) (by omega)
    refine ⟨fun post n hn hp => ?_, fun post n hn hp => ?_⟩
    · obtain ⟨n, rfl⟩ : ∃ c, n = c + 1 := ⟨n - 1, by omega⟩
      have q := gx post n (by omega) hp
      show wX_run_15 post (nI C) (n + 1) cnt (nI i) k1 k2 k3 k4 k5 k6 k7 k8 k9 k10 k11 k12 k13 nc pl ol gc tn ac te re ho er se lo de qx mi fx dr tk bd rl ll td cr cs si sc sd ss pc px nx dx bc kx bx tx
      simp only [wX_run_15, forall_eq, nI_1]
      refine br_f e ?_
      refine hx _ ?_
      by_cases c : r = 0
      · rw [if_pos c] at q; exact br_t c q
      · rw [if_neg c] at q; exact br_f c q
    · obtain ⟨n, rfl⟩ : ∃ c, n = c + 1 := ⟨n - 1, by omega⟩
      have q := gy post n (by omega) hp
      show wY_run_15 post (nI C) (n + 1) cnt (nI i) nc pl ol gc ac te re ho er lo se de qy mi fy cu dr pc bc py ny dy ri rn rd le sn ty bo wi fr
      simp only [wY_run_15, forall_eq, nI_1]
      refine br_f e ?_
      refine hy _ ?_
      by_cases c : r = 0
      · rw [if_pos c] at q; exact br_t c q
      · rw [if_neg c] at q; exact br_f c q
theorem i_vc_run {k : Nat} {u : SX} {v : SY} (I : i_Rel k u v) (hk : k + 5 ≤ 2564) (v1 : Int32) : wpX_run (fun r u' => wpY_run (fun r' v' => r' = r ∧ i_Rel (k + 5) u' v') v v1) u v1 := by
  obtain ⟨N, h⟩ := I
  obtain ⟨C, c1, c2, c3⟩ := ab_clamp_N (p := v1) (a := 0) (b := 128) (by omega) (by omega)
  obtain ⟨r, u', v', h', gx, gy⟩ := lk_runL c2 C 0 0 u v (by omega) h
  revert gx gy
  refine rl_el (P := fun u v => (∀ (post : Int32 → SX → Prop) (n : Nat), C < n → post r u' → lk_xr post (nI C) n 0 (nI 0) u) → (∀ (post : Int32 → SY → Prop) (n : Nat), C < n → post r v' → lk_yr post (nI C) n 0 (nI 0) v) → wpX_run (fun r u' => wpY_run (fun r' v' => r' = r ∧ i_Rel (k + 5) u' v') v v1) u v1) ?_ h
  intro k1 k2 k3 k4 k5 k6 k7 k8 k9 k10 k11 k12 k13 nc pl ol gc tn ac te re ho er se lo de qx mi fx dr tk bd rl ll td cr cs si sc sd ss pc px nx dx bc kx bx tx qy fy cu py ny dy ri rn rd le sn ty bo wi fr _ _ _ gx gy
  simp only [wpX_run]
  refine xw_clamp ?_
  have c3' : ab_clamp v1 0 128 = nI C := c3
  rw [c3']
  refine ⟨C + 1, gx (fun r u' => wpY_run (fun r' v' => r' = r ∧ i_Rel (k + 5) u' v') (nc, pl, ol, gc, ac, te, re, ho, er, lo, se, de, qy, mi, fy, cu, dr, pc, bc, py, ny, dy, ri, rn, rd, le, sn, ty, bo, wi, fr) v1) (C + 1) (by omega) ?_⟩
  simp only [wpY_run]
  refine yw_clamp ?_
  rw [c3']
  exact ⟨C + 1, gy (fun r' v' => r' = r ∧ i_Rel (k + 5) u' v') (C + 1) (by omega) ⟨rfl, N, h'⟩⟩
end
section
/-! the calls that only read -/
theorem ab_node {N : Nat} {nc : Int32} (hN : nc = nI N) (hN4 : N ≤ 4) (x : Int32) : (x < 0 ∨ ¬ x < nc) ∨ ∃ i : Nat, i < N ∧ x = nI i := by
  rcases pk_ix x (n := N) (by omega) with h | h | h
  · exact Or.inl (Or.inl h)
  · exact Or.inl (Or.inr (by rw [hN]; exact Int32.not_lt.mpr h))
  · exact Or.inr h
section
variable {k1 k2 k3 k4 k5 k6 k7 k8 k9 k10 k11 k12 k13 nc pl ol gc tn : Int32} {ac te re ho er se lo de qx mi fx dr tk bd rl ll td cr cs si sc sd ss pc px nx dx bc kx bx tx : Nat → Int32}
theorem xw_bad1 {x : Int32} (hb : x < 0 ∨ ¬ x < nc) {post : Int32 → Prop} (h : post 1) : wpX_badNode post (k1, k2, k3, k4, k5, k6, k7, k8, k9, k10, k11, k12, k13, nc, pl, ol, gc, tn, ac, te, re, ho, er, se, lo, de, qx, mi, fx, dr, tk, bd, rl, ll, td, cr, cs, si, sc, sd, ss, pc, px, nx, dx, bc, kx, bx, tx) x := by
  simp only [wpX_badNode]
  by_cases c : x < 0
  · exact br_t c h
  · rcases hb with z | z
    · exact absurd z c
    · exact br_f c (br_f z h)
theorem xw_bad0 {N i : Nat} (hN : nc = nI N) (hN4 : N ≤ 4) (hi : i < N) {post : Int32 → Prop} (h : post 0) : wpX_badNode post (k1, k2, k3, k4, k5, k6, k7, k8, k9, k10, k11, k12, k13, nc, pl, ol, gc, tn, ac, te, re, ho, er, se, lo, de, qx, mi, fx, dr, tk, bd, rl, ll, td, cr, cs, si, sc, sd, ss, pc, px, nx, dx, bc, kx, bx, tx) (nI i) := by
  simp only [wpX_badNode, hN]
  exact br_f (nI_pos (by omega)) (br_t (nI_lt hi (by omega)) h)
end
section
variable {nc pl ol gc : Int32} {ac te re ho er lo se de qy mi fy cu dr pc bc py ny dy ri rn rd le sn ty bo wi fr : Nat → Int32}
theorem yw_bad1 {x : Int32} (hb : x < 0 ∨ ¬ x < nc) {post : Int32 → Prop} (h : post 1) : wpY_bad post (nc, pl, ol, gc, ac, te, re, ho, er, lo, se, de, qy, mi, fy, cu, dr, pc, bc, py, ny, dy, ri, rn, rd, le, sn, ty, bo, wi, fr) x := by
  simp only [wpY_bad]
  by_cases c : x < 0
  · exact br_t c h
  · rcases hb with z | z
    · exact absurd z c
    · exact br_f c (br_f z h)
end
theorem i_vc_pending {k : Nat} {u : SX} {v : SY} (I : i_Rel k u v) (hk : k + 5 ≤ 2564) (v1 : Int32) : wpX_pending (fun r => wpY_pending (fun r' => r' = r ∧ i_Rel (k + 5) u v) v v1) u v1 := by
  obtain ⟨N, h⟩ := I
  have I' : i_Rel (k + 5) u v := ⟨N, h⟩
  revert I'
  refine rl_el (P := fun u v => i_Rel (k + 5) u v → wpX_pending (fun r => wpY_pending (fun r' => r' = r ∧ i_Rel (k + 5) u v) v v1) u v1) ?_ h
  intro k1 k2 k3 k4 k5 k6 k7 k8 k9 k10 k11 k12 k13 nc pl ol gc tn ac te re ho er se lo de qx mi fx dr tk bd rl ll td cr cs si sc sd ss pc px nx dx bc kx bx tx qy fy cu py ny dy ri rn rd le sn ty bo wi fr h1 h2 h3 I'
  have hN := h1.1
  have hN4 := h1.2.2.1
  simp only [wpX_pending, wpY_pending]
  rcases ab_node hN hN4 v1 with hb | ⟨i, hi, rfl⟩
  · exact xw_bad1 hb (br_f (by decide) (yw_bad1 hb (br_f (by decide) (by first | exact ⟨rfl, I'⟩ | exact ⟨trivial, I'⟩ | exact I'))))
  · have v : vp_in (nI i) 4 := ab_in4 (by omega)
    exact xw_bad0 hN hN4 hi (br_t rfl ⟨v, yw_bad (by omega) hN hN4 hi (br_t rfl ⟨v, (by first | exact ⟨rfl, I'⟩ | exact ⟨trivial, I'⟩ | exact I')⟩)⟩)
theorem i_vc_received {k : Nat} {u : SX} {v : SY} (I : i_Rel k u v) (hk : k + 5 ≤ 2564) (v1 : Int32) : wpX_received (fun r => wpY_received (fun r' => r' = r ∧ i_Rel (k + 5) u v) v v1) u v1 := by
  obtain ⟨N, h⟩ := I
  have I' : i_Rel (k + 5) u v := ⟨N, h⟩
  revert I'
  refine rl_el (P := fun u v => i_Rel (k + 5) u v → wpX_received (fun r => wpY_received (fun r' => r' = r ∧ i_Rel (k + 5) u v) v v1) u v1) ?_ h
  intro k1 k2 k3 k4 k5 k6 k7 k8 k9 k10 k11 k12 k13 nc pl ol gc tn ac te re ho er se lo de qx mi fx dr tk bd rl ll td cr cs si sc sd ss pc px nx dx bc kx bx tx qy fy cu py ny dy ri rn rd le sn ty bo wi fr h1 h2 h3 I'
  have hN := h1.1
  have hN4 := h1.2.2.1
  simp only [wpX_received, wpY_received]
  rcases ab_node hN hN4 v1 with hb | ⟨i, hi, rfl⟩
  · exact xw_bad1 hb (br_f (by decide) (yw_bad1 hb (br_f (by decide) (by first | exact ⟨rfl, I'⟩ | exact ⟨trivial, I'⟩ | exact I'))))
  · have v : vp_in (nI i) 4 := ab_in4 (by omega)
    exact xw_bad0 hN hN4 hi (br_t rfl ⟨v, yw_bad (by omega) hN hN4 hi (br_t rfl ⟨v, (by first | exact ⟨rfl, I'⟩ | exact ⟨trivial, I'⟩ | exact I')⟩)⟩)
theorem i_vc_lost {k : Nat} {u : SX} {v : SY} (I : i_Rel k u v) (hk : k + 5 ≤ 2564) (v1 : Int32) : wpX_lost (fun r => wpY_lost (fun r' => r' = r ∧ i_Rel (k + 5) u v) v v1) u v1 := by
  obtain ⟨N, h⟩ := I
  have I' : i_Rel (k + 5) u v := ⟨N, h⟩
  revert I'
  refine rl_el (P := fun u v => i_Rel (k + 5) u v → wpX_lost (fun r => wpY_lost (fun r' => r' = r ∧ i_Rel (k + 5) u v) v v1) u v1) ?_ h
  intro k1 k2 k3 k4 k5 k6 k7 k8 k9 k10 k11 k12 k13 nc pl ol gc tn ac te re ho er se lo de qx mi fx dr tk bd rl ll td cr cs si sc sd ss pc px nx dx bc kx bx tx qy fy cu py ny dy ri rn rd le sn ty bo wi fr h1 h2 h3 I'
  have hN := h1.1
  have hN4 := h1.2.2.1
  simp only [wpX_lost, wpY_lost]
  rcases ab_node hN hN4 v1 with hb | ⟨i, hi, rfl⟩
  · exact xw_bad1 hb (br_f (by decide) (yw_bad1 hb (br_f (by decide) (by first | exact ⟨rfl, I'⟩ | exact ⟨trivial, I'⟩ | exact I'))))
  · have v : vp_in (nI i) 4 := ab_in4 (by omega)
    exact xw_bad0 hN hN4 hi (br_t rfl ⟨v, yw_bad (by omega) hN hN4 hi (br_t rfl ⟨v, (by first | exact ⟨rfl, I'⟩ | exact ⟨trivial, I'⟩ | exact I')⟩)⟩)
theorem i_vc_sent {k : Nat} {u : SX} {v : SY} (I : i_Rel k u v) (hk : k + 5 ≤ 2564) (v1 : Int32) : wpX_sent (fun r => wpY_sent (fun r' => r' = r ∧ i_Rel (k + 5) u v) v v1) u v1 := by
  obtain ⟨N, h⟩ := I
  have I' : i_Rel (k + 5) u v := ⟨N, h⟩
  revert I'
  refine rl_el (P := fun u v => i_Rel (k + 5) u v → wpX_sent (fun r => wpY_sent (fun r' => r' = r ∧ i_Rel (k + 5) u v) v v1) u v1) ?_ h
  intro k1 k2 k3 k4 k5 k6 k7 k8 k9 k10 k11 k12 k13 nc pl ol gc tn ac te re ho er se lo de qx mi fx dr tk bd rl ll td cr cs si sc sd ss pc px nx dx bc kx bx tx qy fy cu py ny dy ri rn rd le sn ty bo wi fr h1 h2 h3 I'
  have hN := h1.1
  have hN4 := h1.2.2.1
  simp only [wpX_sent, wpY_sent]
  rcases ab_node hN hN4 v1 with hb | ⟨i, hi, rfl⟩
  · exact xw_bad1 hb (br_f (by decide) (yw_bad1 hb (br_f (by decide) (by first | exact ⟨rfl, I'⟩ | exact ⟨trivial, I'⟩ | exact I'))))
  · have v : vp_in (nI i) 4 := ab_in4 (by omega)
    exact xw_bad0 hN hN4 hi (br_t rfl ⟨v, yw_bad (by omega) hN hN4 hi (br_t rfl ⟨v, (by first | exact ⟨rfl, I'⟩ | exact ⟨trivial, I'⟩ | exact I')⟩)⟩)
theorem i_vc_defeats {k : Nat} {u : SX} {v : SY} (I : i_Rel k u v) (hk : k + 5 ≤ 2564) (v1 : Int32) : wpX_defeats (fun r => wpY_defeats (fun r' => r' = r ∧ i_Rel (k + 5) u v) v v1) u v1 := by
  obtain ⟨N, h⟩ := I
  have I' : i_Rel (k + 5) u v := ⟨N, h⟩
  revert I'
  refine rl_el (P := fun u v => i_Rel (k + 5) u v → wpX_defeats (fun r => wpY_defeats (fun r' => r' = r ∧ i_Rel (k + 5) u v) v v1) u v1) ?_ h
  intro k1 k2 k3 k4 k5 k6 k7 k8 k9 k10 k11 k12 k13 nc pl ol gc tn ac te re ho er se lo de qx mi fx dr tk bd rl ll td cr cs si sc sd ss pc px nx dx bc kx bx tx qy fy cu py ny dy ri rn rd le sn ty bo wi fr h1 h2 h3 I'
  have hN := h1.1
  have hN4 := h1.2.2.1
  simp only [wpX_defeats, wpY_defeats]
  rcases ab_node hN hN4 v1 with hb | ⟨i, hi, rfl⟩
  · exact xw_bad1 hb (br_f (by decide) (yw_bad1 hb (br_f (by decide) (by first | exact ⟨rfl, I'⟩ | exact ⟨trivial, I'⟩ | exact I'))))
  · have v : vp_in (nI i) 4 := ab_in4 (by omega)
    exact xw_bad0 hN hN4 hi (br_t rfl ⟨v, yw_bad (by omega) hN hN4 hi (br_t rfl ⟨v, (by first | exact ⟨rfl, I'⟩ | exact ⟨trivial, I'⟩ | exact I')⟩)⟩)
theorem i_vc_tec {k : Nat} {u : SX} {v : SY} (I : i_Rel k u v) (hk : k + 5 ≤ 2564) (v1 : Int32) : wpX_tec (fun r => wpY_tec (fun r' => r' = r ∧ i_Rel (k + 5) u v) v v1) u v1 := by
  obtain ⟨N, h⟩ := I
  have I' : i_Rel (k + 5) u v := ⟨N, h⟩
  revert I'
  refine rl_el (P := fun u v => i_Rel (k + 5) u v → wpX_tec (fun r => wpY_tec (fun r' => r' = r ∧ i_Rel (k + 5) u v) v v1) u v1) ?_ h
  intro k1 k2 k3 k4 k5 k6 k7 k8 k9 k10 k11 k12 k13 nc pl ol gc tn ac te re ho er se lo de qx mi fx dr tk bd rl ll td cr cs si sc sd ss pc px nx dx bc kx bx tx qy fy cu py ny dy ri rn rd le sn ty bo wi fr h1 h2 h3 I'
  have hN := h1.1
  have hN4 := h1.2.2.1
  simp only [wpX_tec, wpY_tec]
  rcases ab_node hN hN4 v1 with hb | ⟨i, hi, rfl⟩
  · exact xw_bad1 hb (br_f (by decide) (yw_bad1 hb (br_f (by decide) (by first | exact ⟨rfl, I'⟩ | exact ⟨trivial, I'⟩ | exact I'))))
  · have v : vp_in (nI i) 4 := ab_in4 (by omega)
    exact xw_bad0 hN hN4 hi (br_t rfl ⟨v, yw_bad (by omega) hN hN4 hi (br_t rfl ⟨v, (by first | exact ⟨rfl, I'⟩ | exact ⟨trivial, I'⟩ | exact I')⟩)⟩)
theorem i_vc_rec {k : Nat} {u : SX} {v : SY} (I : i_Rel k u v) (hk : k + 5 ≤ 2564) (v1 : Int32) : wpX_rec (fun r => wpY_rec (fun r' => r' = r ∧ i_Rel (k + 5) u v) v v1) u v1 := by
  obtain ⟨N, h⟩ := I
  have I' : i_Rel (k + 5) u v := ⟨N, h⟩
  revert I'
  refine rl_el (P := fun u v => i_Rel (k + 5) u v → wpX_rec (fun r => wpY_rec (fun r' => r' = r ∧ i_Rel (k + 5) u v) v v1) u v1) ?_ h
  intro k1 k2 k3 k4 k5 k6 k7 k8 k9 k10 k11 k12 k13 nc pl ol gc tn ac te re ho er se lo de qx mi fx dr tk bd rl ll td cr cs si sc sd ss pc px nx dx bc kx bx tx qy fy cu py ny dy ri rn rd le sn ty bo wi fr h1 h2 h3 I'
  have hN := h1.1
  have hN4 := h1.2.2.1
  simp only [wpX_rec, wpY_rec]
  rcases ab_node hN hN4 v1 with hb | ⟨i, hi, rfl⟩
  · exact xw_bad1 hb (br_f (by decide) (yw_bad1 hb (br_f (by decide) (by first | exact ⟨rfl, I'⟩ | exact ⟨trivial, I'⟩ | exact I'))))
  · have v : vp_in (nI i) 4 := ab_in4 (by omega)
    exact xw_bad0 hN hN4 hi (br_t rfl ⟨v, yw_bad (by omega) hN hN4 hi (br_t rfl ⟨v, (by first | exact ⟨rfl, I'⟩ | exact ⟨trivial, I'⟩ | exact I')⟩)⟩)
theorem i_vc_activity {k : Nat} {u : SX} {v : SY} (I : i_Rel k u v) (hk : k + 5 ≤ 2564) (v1 : Int32) : wpX_activity (fun r => wpY_activity (fun r' => r' = r ∧ i_Rel (k + 5) u v) v v1) u v1 := by
  obtain ⟨N, h⟩ := I
  have I' : i_Rel (k + 5) u v := ⟨N, h⟩
  revert I'
  refine rl_el (P := fun u v => i_Rel (k + 5) u v → wpX_activity (fun r => wpY_activity (fun r' => r' = r ∧ i_Rel (k + 5) u v) v v1) u v1) ?_ h
  intro k1 k2 k3 k4 k5 k6 k7 k8 k9 k10 k11 k12 k13 nc pl ol gc tn ac te re ho er se lo de qx mi fx dr tk bd rl ll td cr cs si sc sd ss pc px nx dx bc kx bx tx qy fy cu py ny dy ri rn rd le sn ty bo wi fr h1 h2 h3 I'
  have hN := h1.1
  have hN4 := h1.2.2.1
  simp only [wpX_activity, wpY_activity]
  rcases ab_node hN hN4 v1 with hb | ⟨i, hi, rfl⟩
  · exact xw_bad1 hb (br_f (by decide) (yw_bad1 hb (br_f (by decide) (by first | exact ⟨rfl, I'⟩ | exact ⟨trivial, I'⟩ | exact I'))))
  · have v : vp_in (nI i) 4 := ab_in4 (by omega)
    exact xw_bad0 hN hN4 hi (br_t rfl ⟨v, yw_bad (by omega) hN hN4 hi (br_t rfl ⟨v, (by first | exact ⟨rfl, I'⟩ | exact ⟨trivial, I'⟩ | exact I')⟩)⟩)
theorem i_vc_hold {k : Nat} {u : SX} {v : SY} (I : i_Rel k u v) (hk : k + 5 ≤ 2564) (v1 : Int32) : wpX_hold (fun r => wpY_hold (fun r' => r' = r ∧ i_Rel (k + 5) u v) v v1) u v1 := by
  obtain ⟨N, h⟩ := I
  have I' : i_Rel (k + 5) u v := ⟨N, h⟩
  revert I'
  refine rl_el (P := fun u v => i_Rel (k + 5) u v → wpX_hold (fun r => wpY_hold (fun r' => r' = r ∧ i_Rel (k + 5) u v) v v1) u v1) ?_ h
  intro k1 k2 k3 k4 k5 k6 k7 k8 k9 k10 k11 k12 k13 nc pl ol gc tn ac te re ho er se lo de qx mi fx dr tk bd rl ll td cr cs si sc sd ss pc px nx dx bc kx bx tx qy fy cu py ny dy ri rn rd le sn ty bo wi fr h1 h2 h3 I'
  have hN := h1.1
  have hN4 := h1.2.2.1
  simp only [wpX_hold, wpY_hold]
  rcases ab_node hN hN4 v1 with hb | ⟨i, hi, rfl⟩
  · exact xw_bad1 hb (br_f (by decide) (yw_bad1 hb (br_f (by decide) (by first | exact ⟨rfl, I'⟩ | exact ⟨trivial, I'⟩ | exact I'))))
  · have v : vp_in (nI i) 4 := ab_in4 (by omega)
    exact xw_bad0 hN hN4 hi (br_t rfl ⟨v, yw_bad (by omega) hN hN4 hi (br_t rfl ⟨v, (by first | exact ⟨rfl, I'⟩ | exact ⟨trivial, I'⟩ | exact I')⟩)⟩)
theorem i_vc_lastError {k : Nat} {u : SX} {v : SY} (I : i_Rel k u v) (hk : k + 5 ≤ 2564) (v1 : Int32) : wpX_lastError (fun r => wpY_lastError (fun r' => r' = r ∧ i_Rel (k + 5) u v) v v1) u v1 := by
  obtain ⟨N, h⟩ := I
  have I' : i_Rel (k + 5) u v := ⟨N, h⟩
  revert I'
  refine rl_el (P := fun u v => i_Rel (k + 5) u v → wpX_lastError (fun r => wpY_lastError (fun r' => r' = r ∧ i_Rel (k + 5) u v) v v1) u v1) ?_ h
  intro k1 k2 k3 k4 k5 k6 k7 k8 k9 k10 k11 k12 k13 nc pl ol gc tn ac te re ho er se lo de qx mi fx dr tk bd rl ll td cr cs si sc sd ss pc px nx dx bc kx bx tx qy fy cu py ny dy ri rn rd le sn ty bo wi fr h1 h2 h3 I'
  have hN := h1.1
  have hN4 := h1.2.2.1
  simp only [wpX_lastError, wpY_lastError]
  rcases ab_node hN hN4 v1 with hb | ⟨i, hi, rfl⟩
  · exact xw_bad1 hb (br_f (by decide) (yw_bad1 hb (br_f (by decide) (by first | exact ⟨rfl, I'⟩ | exact ⟨trivial, I'⟩ | exact I'))))
  · have v : vp_in (nI i) 4 := ab_in4 (by omega)
    exact xw_bad0 hN hN4 hi (br_t rfl ⟨v, yw_bad (by omega) hN hN4 hi (br_t rfl ⟨v, (by first | exact ⟨rfl, I'⟩ | exact ⟨trivial, I'⟩ | exact I')⟩)⟩)
theorem i_vc_pendingKey {k : Nat} {u : SX} {v : SY} (I : i_Rel k u v) (hk : k + 5 ≤ 2564) (v1 : Int32) (v2 : Int32) : wpX_pendingKey (fun r => wpY_pendingKey (fun r' => r' = r ∧ i_Rel (k + 5) u v) v v1 v2) u v1 v2 := by
  obtain ⟨N, h⟩ := I
  have I' : i_Rel (k + 5) u v := ⟨N, h⟩
  revert I'
  refine rl_el (P := fun u v => i_Rel (k + 5) u v → wpX_pendingKey (fun r => wpY_pendingKey (fun r' => r' = r ∧ i_Rel (k + 5) u v) v v1 v2) u v1 v2) ?_ h
  intro k1 k2 k3 k4 k5 k6 k7 k8 k9 k10 k11 k12 k13 nc pl ol gc tn ac te re ho er se lo de qx mi fx dr tk bd rl ll td cr cs si sc sd ss pc px nx dx bc kx bx tx qy fy cu py ny dy ri rn rd le sn ty bo wi fr h1 h2 h3 I'
  have hN := h1.1
  have hN4 := h1.2.2.1
  simp only [wpX_pendingKey, wpY_pendingKey]
  rcases ab_node hN hN4 v1 with hb | ⟨i, hi, rfl⟩
  · exact xw_bad1 hb (br_f (by decide) (yw_bad1 hb (br_f (by decide) (by first | exact ⟨rfl, I'⟩ | exact ⟨trivial, I'⟩ | exact I'))))
  · have hi4 : i < 4 := by omega
    have v : vp_in (nI i) 4 := ab_in4 hi4
    obtain ⟨⟨p1, ⟨p, p2, p3, p4⟩, p5⟩, _⟩ := h3 i hi4
    refine xw_bad0 hN hN4 hi (br_t rfl ?_)
    simp only [ab_cl hi4, v, true_and, forall_eq, p3]
    refine br_c (fun c => yw_bad (by omega) hN hN4 hi (br_t rfl (br_t c (by first | exact ⟨rfl, I'⟩ | exact ⟨trivial, I'⟩ | exact I')))) (fun c => ?_)
    refine br_c (fun d => ?_) (fun d => yw_bad (by omega) hN hN4 hi (br_t rfl (br_f c (br_f d (by first | exact ⟨rfl, I'⟩ | exact ⟨trivial, I'⟩ | exact I')))))
    obtain ⟨s, hs, rfl⟩ := nI_of c
    have hsp : s < p := (nI_ltI hs (by omega)).mp d
    have w : vp_in (nI (i * 3 + s)) 12 := vp_in_nI (by omega) (by omega)
    obtain ⟨f1, f2, f3, f4⟩ := p4 s hsp
    rw [ab_v_at (by omega), ab_v_at (by omega)] at f1 f2
    simp only [ab_m3, nI_add, w, true_and, nI_clamp (show i * 3 + s < 2 ^ 31 by omega), f1, f2]
    exact yw_bad (by omega) hN hN4 hi (br_t rfl (br_f c (br_t d (by first | exact ⟨rfl, I'⟩ | exact ⟨trivial, I'⟩ | exact I'))))
theorem i_vc_pendingData {k : Nat} {u : SX} {v : SY} (I : i_Rel k u v) (hk : k + 5 ≤ 2564) (v1 : Int32) (v2 : Int32) : wpX_pendingData (fun r => wpY_pendingData (fun r' => r' = r ∧ i_Rel (k + 5) u v) v v1 v2) u v1 v2 := by
  obtain ⟨N, h⟩ := I
  have I' : i_Rel (k + 5) u v := ⟨N, h⟩
  revert I'
  refine rl_el (P := fun u v => i_Rel (k + 5) u v → wpX_pendingData (fun r => wpY_pendingData (fun r' => r' = r ∧ i_Rel (k + 5) u v) v v1 v2) u v1 v2) ?_ h
  intro k1 k2 k3 k4 k5 k6 k7 k8 k9 k10 k11 k12 k13 nc pl ol gc tn ac te re ho er se lo de qx mi fx dr tk bd rl ll td cr cs si sc sd ss pc px nx dx bc kx bx tx qy fy cu py ny dy ri rn rd le sn ty bo wi fr h1 h2 h3 I'
  have hN := h1.1
  have hN4 := h1.2.2.1
  simp only [wpX_pendingData, wpY_pendingData]
  rcases ab_node hN hN4 v1 with hb | ⟨i, hi, rfl⟩
  · exact xw_bad1 hb (br_f (by decide) (yw_bad1 hb (br_f (by decide) (by first | exact ⟨rfl, I'⟩ | exact ⟨trivial, I'⟩ | exact I'))))
  · have hi4 : i < 4 := by omega
    have v : vp_in (nI i) 4 := ab_in4 hi4
    obtain ⟨⟨p1, ⟨p, p2, p3, p4⟩, p5⟩, _⟩ := h3 i hi4
    refine xw_bad0 hN hN4 hi (br_t rfl ?_)
    simp only [ab_cl hi4, v, true_and, p3]
    refine br_c (fun c => yw_bad (by omega) hN hN4 hi (br_t rfl (br_t c (by first | exact ⟨rfl, I'⟩ | exact ⟨trivial, I'⟩ | exact I')))) (fun c => ?_)
    refine br_c (fun d => ?_) (fun d => yw_bad (by omega) hN hN4 hi (br_t rfl (br_f c (br_f d (by first | exact ⟨rfl, I'⟩ | exact ⟨trivial, I'⟩ | exact I')))))
    obtain ⟨s, hs, rfl⟩ := nI_of c
    have hsp : s < p := (nI_ltI hs (by omega)).mp d
    have w : vp_in (nI (i * 3 + s)) 12 := vp_in_nI (by omega) (by omega)
    obtain ⟨f1, f2, f3, f4⟩ := p4 s hsp
    rw [ab_v_at (by omega), ab_v_at (by omega)] at f3
    simp only [ab_m3, nI_add, w, true_and, nI_clamp (show i * 3 + s < 2 ^ 31 by omega), f3]
    exact yw_bad (by omega) hN hN4 hi (br_t rfl (br_f c (br_t d (by first | exact ⟨rfl, I'⟩ | exact ⟨trivial, I'⟩ | exact I'))))
theorem i_vc_receivedKey {k : Nat} {u : SX} {v : SY} (I : i_Rel k u v) (hk : k + 5 ≤ 2564) (v1 : Int32) (v2 : Int32) : wpX_receivedKey (fun r => wpY_receivedKey (fun r' => r' = r ∧ i_Rel (k + 5) u v) v v1 v2) u v1 v2 := by
  obtain ⟨N, h⟩ := I
  have I' : i_Rel (k + 5) u v := ⟨N, h⟩
  revert I'
  refine rl_el (P := fun u v => i_Rel (k + 5) u v → wpX_receivedKey (fun r => wpY_receivedKey (fun r' => r' = r ∧ i_Rel (k + 5) u v) v v1 v2) u v1 v2) ?_ h
  intro k1 k2 k3 k4 k5 k6 k7 k8 k9 k10 k11 k12 k13 nc pl ol gc tn ac te re ho er se lo de qx mi fx dr tk bd rl ll td cr cs si sc sd ss pc px nx dx bc kx bx tx qy fy cu py ny dy ri rn rd le sn ty bo wi fr h1 h2 h3 I'
  have hN := h1.1
  have hN4 := h1.2.2.1
  simp only [wpX_receivedKey, wpY_receivedKey]
  rcases ab_node hN hN4 v1 with hb | ⟨i, hi, rfl⟩
  · exact xw_bad1 hb (br_f (by decide) (yw_bad1 hb (br_f (by decide) (by first | exact ⟨rfl, I'⟩ | exact ⟨trivial, I'⟩ | exact I'))))
  · have hi4 : i < 4 := by omega
    have v : vp_in (nI i) 4 := ab_in4 hi4
    obtain ⟨⟨p1, p5, ⟨p, p2, p3, p4⟩⟩, _⟩ := h3 i hi4
    refine xw_bad0 hN hN4 hi (br_t rfl ?_)
    simp only [ab_cl hi4, v, true_and, p3]
    refine br_c (fun c => yw_bad (by omega) hN hN4 hi (br_t rfl (br_t c (by first | exact ⟨rfl, I'⟩ | exact ⟨trivial, I'⟩ | exact I')))) (fun c => ?_)
    refine br_c (fun d => ?_) (fun d => yw_bad (by omega) hN hN4 hi (br_t rfl (br_f c (br_f d (by first | exact ⟨rfl, I'⟩ | exact ⟨trivial, I'⟩ | exact I')))))
    obtain ⟨s, hs, rfl⟩ := nI_of c
    have hsp : s < p := (nI_ltI hs (by omega)).mp d
    have w : vp_in (nI (i * 8 + s)) 32 := vp_in_nI (by omega) (by omega)
    obtain ⟨f1, f2⟩ := p4 s hsp
    rw [ab_v_at (by omega), ab_v_at (by omega), ab_v_at (by omega)] at f1
    simp only [ab_m8, nI_add, w, true_and, nI_clamp (show i * 8 + s < 2 ^ 31 by omega), f1]
    exact yw_bad (by omega) hN hN4 hi (br_t rfl (br_f c (br_t d (by first | exact ⟨rfl, I'⟩ | exact ⟨trivial, I'⟩ | exact I'))))
theorem i_vc_receivedData {k : Nat} {u : SX} {v : SY} (I : i_Rel k u v) (hk : k + 5 ≤ 2564) (v1 : Int32) (v2 : Int32) : wpX_receivedData (fun r => wpY_receivedData (fun r' => r' = r ∧ i_Rel (k + 5) u v) v v1 v2) u v1 v2 := by
  obtain ⟨N, h⟩ := I
  have I' : i_Rel (k + 5) u v := ⟨N, h⟩
  revert I'
  refine rl_el (P := fun u v => i_Rel (k + 5) u v → wpX_receivedData (fun r => wpY_receivedData (fun r' => r' = r ∧ i_Rel (k + 5) u v) v v1 v2) u v1 v2) ?_ h
  intro k1 k2 k3 k4 k5 k6 k7 k8 k9 k10 k11 k12 k13 nc pl ol gc tn ac te re ho er se lo de qx mi fx dr tk bd rl ll td cr cs si sc sd ss pc px nx dx bc kx bx tx qy fy cu py ny dy ri rn rd le sn ty bo wi fr h1 h2 h3 I'
  have hN := h1.1
  have hN4 := h1.2.2.1
  simp only [wpX_receivedData, wpY_receivedData]
  rcases ab_node hN hN4 v1 with hb | ⟨i, hi, rfl⟩
  · exact xw_bad1 hb (br_f (by decide) (yw_bad1 hb (br_f (by decide) (by first | exact ⟨rfl, I'⟩ | exact ⟨trivial, I'⟩ | exact I'))))
  · have hi4 : i < 4 := by omega
    have v : vp_in (nI i) 4 := ab_in4 hi4
    obtain ⟨⟨p1, p5, ⟨p, p2, p3, p4⟩⟩, _⟩ := h3 i hi4
    refine xw_bad0 hN hN4 hi (br_t rfl ?_)
    simp only [ab_cl hi4, v, true_and, p3]
    refine br_c (fun c => yw_bad (by omega) hN hN4 hi (br_t rfl (br_t c (by first | exact ⟨rfl, I'⟩ | exact ⟨trivial, I'⟩ | exact I')))) (fun c => ?_)
    refine br_c (fun d => ?_) (fun d => yw_bad (by omega) hN hN4 hi (br_t rfl (br_f c (br_f d (by first | exact ⟨rfl, I'⟩ | exact ⟨trivial, I'⟩ | exact I')))))
    obtain ⟨s, hs, rfl⟩ := nI_of c
    have hsp : s < p := (nI_ltI hs (by omega)).mp d
    have w : vp_in (nI (i * 8 + s)) 32 := vp_in_nI (by omega) (by omega)
    obtain ⟨f1, f2⟩ := p4 s hsp
    rw [ab_v_at (by omega), ab_v_at (by omega)] at f2
    simp only [ab_m8, nI_add, w, true_and, nI_clamp (show i * 8 + s < 2 ^ 31 by omega), f2]
    exact yw_bad (by omega) hN hN4 hi (br_t rfl (br_f c (br_t d (by first | exact ⟨rfl, I'⟩ | exact ⟨trivial, I'⟩ | exact I'))))
theorem i_vc_sendingSlot {k : Nat} {u : SX} {v : SY} (I : i_Rel k u v) (hk : k + 5 ≤ 2564) (v1 : Int32) : wpX_sendingSlot (fun r => wpY_sendingSlot (fun r' => r' = r ∧ i_Rel (k + 5) u v) v v1) u v1 := by
  obtain ⟨N, h⟩ := I
  have I' : i_Rel (k + 5) u v := ⟨N, h⟩
  revert I'
  refine rl_el (P := fun u v => i_Rel (k + 5) u v → wpX_sendingSlot (fun r => wpY_sendingSlot (fun r' => r' = r ∧ i_Rel (k + 5) u v) v v1) u v1) ?_ h
  intro k1 k2 k3 k4 k5 k6 k7 k8 k9 k10 k11 k12 k13 nc pl ol gc tn ac te re ho er se lo de qx mi fx dr tk bd rl ll td cr cs si sc sd ss pc px nx dx bc kx bx tx qy fy cu py ny dy ri rn rd le sn ty bo wi fr h1 h2 h3 I'
  have hN := h1.1
  have hN4 := h1.2.2.1
  simp only [wpX_sendingSlot, wpY_sendingSlot]
  rcases ab_node hN hN4 v1 with hb | ⟨i, hi, rfl⟩
  · exact xw_bad1 hb (br_f (by decide) (yw_bad1 hb (br_f (by decide) (by first | exact ⟨rfl, I'⟩ | exact ⟨trivial, I'⟩ | exact I'))))
  · have hi4 : i < 4 := by omega
    have v : vp_in (nI i) 4 := ab_in4 hi4
    obtain ⟨hB, hC, hM, hDv⟩ := h3 i hi4
    refine xw_bad0 hN hN4 hi (br_t rfl ?_)
    simp only [ab_cl hi4, v, true_and]
    refine br_c (fun c => ?_) (fun c => yw_bad (by omega) hN hN4 hi (br_t rfl (br_f c (by first | exact ⟨rfl, I'⟩ | exact ⟨trivial, I'⟩ | exact I'))))
    obtain ⟨L, m1, m2, m3, m4, m5, m6, m7⟩ := hM (Or.inl c)
    obtain ⟨e, q, n, s1, s2, s3⟩ := m7 c
    exact yw_bad (by omega) hN hN4 hi (br_t rfl (br_t c ⟨s2.trans s1.symm, I'⟩))
theorem i_vc_condition {k : Nat} {u : SX} {v : SY} (I : i_Rel k u v) (hk : k + 5 ≤ 2564) (v1 : Int32) : wpX_condition (fun r => wpY_condition (fun r' => r' = r ∧ i_Rel (k + 5) u v) v v1) u v1 := by
  obtain ⟨N, h⟩ := I
  have I' : i_Rel (k + 5) u v := ⟨N, h⟩
  revert I'
  refine rl_el (P := fun u v => i_Rel (k + 5) u v → wpX_condition (fun r => wpY_condition (fun r' => r' = r ∧ i_Rel (k + 5) u v) v v1) u v1) ?_ h
  intro k1 k2 k3 k4 k5 k6 k7 k8 k9 k10 k11 k12 k13 nc pl ol gc tn ac te re ho er se lo de qx mi fx dr tk bd rl ll td cr cs si sc sd ss pc px nx dx bc kx bx tx qy fy cu py ny dy ri rn rd le sn ty bo wi fr h1 h2 h3 I'
  have hN := h1.1
  have hN4 := h1.2.2.1
  simp only [wpX_condition]
  rcases ab_node hN hN4 v1 with hb | ⟨i, hi, rfl⟩
  · exact xw_bad1 hb (br_f (by decide) (by simp only [wpY_condition]; exact yw_bad1 hb (br_f (by decide) (by first | exact ⟨rfl, I'⟩ | exact ⟨trivial, I'⟩ | exact I'))))
  · have hi4 : i < 4 := by omega
    have v : vp_in (nI i) 4 := ab_in4 hi4
    refine xw_bad0 hN hN4 hi (br_t rfl ?_)
    simp only [ab_cl hi4, v, true_and]
    refine br_c (fun c => ?_) (fun c => ?_)
    · simp only [wpY_condition]
      refine yw_bad (by omega) hN hN4 hi (br_t rfl ?_)
      simp only [ab_cl hi4, v, true_and]
      exact br_t c (by first | exact ⟨rfl, I'⟩ | exact ⟨trivial, I'⟩ | exact I')
    · refine xw_pas hi4 ?_
      have key : ∀ r : Int32, r = ab_pas pl (te i) (re i) → wpY_condition (fun r' => r' = r ∧ i_Rel (k + 5) (k1, k2, k3, k4, k5, k6, k7, k8, k9, k10, k11, k12, k13, nc, pl, ol, gc, tn, ac, te, re, ho, er, se, lo, de, qx, mi, fx, dr, tk, bd, rl, ll, td, cr, cs, si, sc, sd, ss, pc, px, nx, dx, bc, kx, bx, tx) (nc, pl, ol, gc, ac, te, re, ho, er, lo, se, de, qy, mi, fy, cu, dr, pc, bc, py, ny, dy, ri, rn, rd, le, sn, ty, bo, wi, fr)) (nc, pl, ol, gc, ac, te, re, ho, er, lo, se, de, qy, mi, fy, cu, dr, pc, bc, py, ny, dy, ri, rn, rd, le, sn, ty, bo, wi, fr) (nI i) := fun r e => yw_cond hi4 hN hN4 hi c ⟨e.symm, I'⟩
      rcases ab_pas_01 pl (te i) (re i) with e | e
      · exact br_t e (key 0 e.symm)
      · exact br_f (by rw [e]; decide) (key 1 e.symm)
theorem i_vc_progress {k : Nat} {u : SX} {v : SY} (I : i_Rel k u v) (hk : k + 5 ≤ 2564) (v1 : Int32) : wpX_progress (fun r => wpY_progress (fun r' => r' = r ∧ i_Rel (k + 5) u v) v v1) u v1 := by
  obtain ⟨N, h⟩ := I
  have I' : i_Rel (k + 5) u v := ⟨N, h⟩
  revert I'
  refine rl_el (P := fun u v => i_Rel (k + 5) u v → wpX_progress (fun r => wpY_progress (fun r' => r' = r ∧ i_Rel (k + 5) u v) v v1) u v1) ?_ h
  intro k1 k2 k3 k4 k5 k6 k7 k8 k9 k10 k11 k12 k13 nc pl ol gc tn ac te re ho er se lo de qx mi fx dr tk bd rl ll td cr cs si sc sd ss pc px nx dx bc kx bx tx qy fy cu py ny dy ri rn rd le sn ty bo wi fr h1 h2 h3 I'
  have hN := h1.1
  have hN4 := h1.2.2.1
  simp only [wpX_progress, wpY_progress]
  rcases ab_node hN hN4 v1 with hb | ⟨i, hi, rfl⟩
  · exact xw_bad1 hb (br_f (by decide) (yw_bad1 hb (br_f (by decide) (by first | exact ⟨rfl, I'⟩ | exact ⟨trivial, I'⟩ | exact I'))))
  · have hi4 : i < 4 := by omega
    have v : vp_in (nI i) 4 := ab_in4 hi4
    obtain ⟨hB, hC, hM, hDv⟩ := h3 i hi4
    obtain ⟨⟨a, a7, ea⟩, cq, cm, cf⟩ := id hC
    have ha : a = 0 ∨ a = 1 ∨ a = 2 ∨ a = 3 ∨ a = 4 ∨ a = 5 ∨ a = 6 := by omega
    refine xw_bad0 hN hN4 hi (br_t rfl ?_)
    simp only [ab_cl hi4, v, true_and, forall_eq]
    rcases ha with rfl | rfl | rfl | rfl | rfl | rfl | rfl
    · have ea : ac i = 0 := ea
      rw [ea]
      refine br_f (by decide) (br_f (by decide) (br_f (by decide) (br_f (by decide) (br_f (by decide) (br_f (by decide) ?_)))))
      exact yw_bad (by omega) hN hN4 hi (br_t rfl (br_t rfl (by first | exact ⟨rfl, I'⟩ | exact ⟨trivial, I'⟩ | exact I')))
    · have ea : ac i = 1 := ea
      obtain ⟨L, m1, m2, m3⟩ := hM (Or.inl ea)
      rw [ea]
      refine br_t rfl ?_
      exact yw_bad (by omega) hN hN4 hi (br_t rfl (br_f (by decide) (br_t rfl ⟨m2.trans m1.symm, I'⟩)))
    · have ea : ac i = 2 := ea
      obtain ⟨L, m1, m2, m3⟩ := hM (Or.inr ea)
      rw [ea]
      refine br_f (by decide) (br_t rfl ?_)
      exact yw_bad (by omega) hN hN4 hi (br_t rfl (br_f (by decide) (br_f (by decide) (br_t rfl ⟨m2.trans m1.symm, I'⟩))))
    · have ea : ac i = 3 := ea
      have hf := cf (Or.inl ea)
      rw [ea]
      refine br_f (by decide) (br_f (by decide) (br_t rfl ?_))
      exact yw_bad (by omega) hN hN4 hi (br_t rfl (br_f (by decide) (br_f (by decide) (br_f (by decide) (br_f (by decide) (br_f (by decide) ⟨hf.symm, I'⟩))))))
    · have ea : ac i = 4 := ea
      have hf := cf (Or.inr ea)
      rw [ea]
      refine br_f (by decide) (br_f (by decide) (br_f (by decide) (br_t rfl ?_)))
      exact yw_bad (by omega) hN hN4 hi (br_t rfl (br_f (by decide) (br_f (by decide) (br_f (by decide) (br_f (by decide) (br_f (by decide) ⟨hf.symm, I'⟩))))))
    · have ea : ac i = 5 := ea
      obtain ⟨q, q1, q2, q3⟩ := cq (Or.inl ea)
      rw [ea]
      refine br_f (by decide) (br_f (by decide) (br_f (by decide) (br_f (by decide) (br_t rfl ?_))))
      exact yw_bad (by omega) hN hN4 hi (br_t rfl (br_f (by decide) (br_f (by decide) (br_f (by decide) (br_t rfl ⟨by rw [q2, q3], I'⟩)))))
    · have ea : ac i = 6 := ea
      obtain ⟨q, q1, q2, q3⟩ := cq (Or.inr ea)
      rw [ea]
      refine br_f (by decide) (br_f (by decide) (br_f (by decide) (br_f (by decide) (br_f (by decide) (br_t rfl ?_)))))
      exact yw_bad (by omega) hN hN4 hi (br_t rfl (br_f (by decide) (br_f (by decide) (br_f (by decide) (br_f (by decide) (br_t rfl ⟨by rw [q2, q3], I'⟩))))))
theorem i_vc_lineAt {k : Nat} {u : SX} {v : SY} (I : i_Rel k u v) (hk : k + 5 ≤ 2564) (v1 : Int32) : wpX_lineAt (fun r => wpY_lineAt (fun r' => r' = r ∧ i_Rel (k + 5) u v) v v1) u v1 := by
  obtain ⟨N, h⟩ := I
  have I' : i_Rel (k + 5) u v := ⟨N, h⟩
  revert I'
  refine rl_el (P := fun u v => i_Rel (k + 5) u v → wpX_lineAt (fun r => wpY_lineAt (fun r' => r' = r ∧ i_Rel (k + 5) u v) v v1) u v1) ?_ h
  intro k1 k2 k3 k4 k5 k6 k7 k8 k9 k10 k11 k12 k13 nc pl ol gc tn ac te re ho er se lo de qx mi fx dr tk bd rl ll td cr cs si sc sd ss pc px nx dx bc kx bx tx qy fy cu py ny dy ri rn rd le sn ty bo wi fr h1 h2 h3 I'
  have hN := h1.1
  have hN4 := h1.2.2.1
  simp only [wpX_lineAt, wpY_lineAt]
  refine br_c (fun c => br_t c (by first | exact ⟨rfl, I'⟩ | exact ⟨trivial, I'⟩ | exact I')) (fun c => ?_)
  refine br_c (fun d => ?_) (fun d => br_f c (br_f d (by first | exact ⟨rfl, I'⟩ | exact ⟨trivial, I'⟩ | exact I')))
  obtain ⟨b, hb, rfl⟩ := nI_of c
  have hb8 : b < 128 := (nI_ltI hb (by omega)).mp d
  obtain ⟨T, t1, t2, t3⟩ := h2
  have e : ((tn - 1) - nI b) &&& 127 = nI ((T + 127 - b) % 128) := by
    rw [pk_and _ (m := 127) 7 (by decide), t2]
    apply congrArg nI
    rw [Int32.toBitVec_sub, Int32.toBitVec_sub, BitVec.toNat_sub, BitVec.toNat_sub, pk_tn (by omega), pk_tn (by omega)]
    show (2 ^ 32 - b + (2 ^ 32 - 1 + T) % 2 ^ 32) % 2 ^ 32 % 2 ^ 7 = _
    omega
  have w : vp_in (nI ((T + 127 - b) % 128)) 128 := vp_in_nI (by omega) (by omega)
  have w2 : vp_in (nI b) 128 := vp_in_nI hb8 (by omega)
  obtain ⟨f1, f2⟩ := t3 b hb8
  simp only [forall_eq, e, w, w2, true_and, nI_clamp (show (T + 127 - b) % 128 < 2 ^ 31 by omega), nI_clamp (show b < 2 ^ 31 by omega)]
  refine br_c (fun z => br_f c (br_t d ⟨f1 z, I'⟩)) (fun z => br_f c (br_t d ⟨f2 z, I'⟩))
end
section
/-! submit, take, the constructors -/
def ab_low (d : Int32) (n : Nat) : Int32 := if n < 4 then d &&& (((1 : Int32) <<< ((8 * nI n) &&& 31)) - 1) else d
section
variable {k1 k2 k3 k4 k5 k6 k7 k8 k9 k10 k11 k12 k13 nc pl ol gc tn : Int32} {ac te re ho er se lo de qx mi fx dr tk bd rl ll td cr cs si sc sd ss pc px nx dx bc kx bx tx : Nat → Int32} {i N : Nat}
theorem xw_sub1 {v1 v2 v3 v4 : Int32} (hb : v1 < 0 ∨ ¬ v1 < nc) {post : Int32 → SX → Prop} (h : post (-1) (k1, k2, k3, k4, k5, k6, k7, k8, k9, k10, k11, k12, k13, nc, pl, ol, gc, tn, ac, te, re, ho, er, se, lo, de, qx, mi, fx, dr, tk, bd, rl, ll, td, cr, cs, si, sc, sd, ss, pc, px, nx, dx, bc, kx, bx, tx)) : wpX_submit post (k1, k2, k3, k4, k5, k6, k7, k8, k9, k10, k11, k12, k13, nc, pl, ol, gc, tn, ac, te, re, ho, er, se, lo, de, qx, mi, fx, dr, tk, bd, rl, ll, td, cr, cs, si, sc, sd, ss, pc, px, nx, dx, bc, kx, bx, tx) v1 v2 v3 v4 := by
  simp only [wpX_submit]
  exact xw_bad1 hb (br_f (by decide) h)
theorem xw_sub2 (hN : nc = nI N) (hN4 : N ≤ 4) (hiN : i < N) {v2 v3 v4 : Int32} (hv : v2 < 0 ∨ ¬ v2 ≤ 2047) {post : Int32 → SX → Prop} (h : post (-2) (k1, k2, k3, k4, k5, k6, k7, k8, k9, k10, k11, k12, k13, nc, pl, ol, gc, tn, ac, te, re, ho, er, se, lo, de, qx, mi, fx, dr, tk, bd, rl, ll, td, cr, cs, si, sc, sd, ss, pc, px, nx, dx, bc, kx, bx, tx)) : wpX_submit post (k1, k2, k3, k4, k5, k6, k7, k8, k9, k10, k11, k12, k13, nc, pl, ol, gc, tn, ac, te, re, ho, er, se, lo, de, qx, mi, fx, dr, tk, bd, rl, ll, td, cr, cs, si, sc, sd, ss, pc, px, nx, dx, bc, kx, bx, tx) (nI i) v2 v3 v4 := by
  simp only [wpX_submit]
  refine xw_bad0 hN hN4 hiN (br_t rfl ?_)
  by_cases c : v2 < 0
  · exact br_t c h
  · rcases hv with z | z
    · exact absurd z c
    · exact br_f c (br_f z h)
theorem xw_sub3 (hN : nc = nI N) (hN4 : N ≤ 4) (hiN : i < N) {v2 v3 v4 : Int32} (h1 : ¬ v2 < 0) (h2 : v2 ≤ 2047) (hv : v3 < 0 ∨ ¬ v3 ≤ 4) {post : Int32 → SX → Prop} (h : post (-3) (k1, k2, k3, k4, k5, k6, k7, k8, k9, k10, k11, k12, k13, nc, pl, ol, gc, tn, ac, te, re, ho, er, se, lo, de, qx, mi, fx, dr, tk, bd, rl, ll, td, cr, cs, si, sc, sd, ss, pc, px, nx, dx, bc, kx, bx, tx)) : wpX_submit post (k1, k2, k3, k4, k5, k6, k7, k8, k9, k10, k11, k12, k13, nc, pl, ol, gc, tn, ac, te, re, ho, er, se, lo, de, qx, mi, fx, dr, tk, bd, rl, ll, td, cr, cs, si, sc, sd, ss, pc, px, nx, dx, bc, kx, bx, tx) (nI i) v2 v3 v4 := by
  simp only [wpX_submit]
  refine xw_bad0 hN hN4 hiN (br_t rfl (br_f h1 (br_t h2 ?_)))
  by_cases c : v3 < 0
  · exact br_t c h
  · rcases hv with z | z
    · exact absurd z c
    · exact br_f c (br_f z h)
theorem xw_sub4 (hN : nc = nI N) (hN4 : N ≤ 4) (hiN : i < N) {v2 v3 v4 : Int32} (h1 : ¬ v2 < 0) (h2 : v2 ≤ 2047) (h3 : ¬ v3 < 0) (h4 : v3 ≤ 4) (hc : ¬ pc i < 3) {post : Int32 → SX → Prop} (h : post (-4) (k1, k2, k3, k4, k5, k6, k7, k8, k9, k10, k11, k12, k13, nc, pl, ol, gc, tn, ac, te, re, ho, er, se, lo, de, qx, mi, fx, dr, tk, bd, rl, ll, td, cr, cs, si, sc, sd, ss, pc, px, nx, dx, bc, kx, bx, tx)) : wpX_submit post (k1, k2, k3, k4, k5, k6, k7, k8, k9, k10, k11, k12, k13, nc, pl, ol, gc, tn, ac, te, re, ho, er, se, lo, de, qx, mi, fx, dr, tk, bd, rl, ll, td, cr, cs, si, sc, sd, ss, pc, px, nx, dx, bc, kx, bx, tx) (nI i) v2 v3 v4 := by
  have hi : i < 4 := by omega
  simp only [wpX_submit]
  refine xw_bad0 hN hN4 hiN (br_t rfl (br_f h1 (br_t h2 (br_f h3 (br_t h4 ?_)))))
  simp only [ab_cl hi, ab_in4 hi, true_and, forall_eq]
  exact br_f hc h
theorem xw_sub5 (hN : nc = nI N) (hN4 : N ≤ 4) (hiN : i < N) {v2 v4 : Int32} {n p : Nat} (h1 : ¬ v2 < 0) (h2 : v2 ≤ 2047) (hn : n ≤ 4) (hp : pc i = nI p) (hp3 : p < 3) {post : Int32 → SX → Prop}
    (h : post (nI p) (k1, k2, k3, k4, k5, k6, k7, k8, k9, k10, k11, k12, k13, nc, pl, ol, gc, tn, ac, te, re, ho, er, se, lo, de, qx, mi, fx, dr, tk, bd, rl, ll, td, cr, cs, si, sc, sd, ss, upd pc i (nI (p + 1)), upd px (i * 3 + p) v2, upd nx (i * 3 + p) (nI n), upd dx (i * 3 + p) (ab_low v4 n), bc, kx, bx, tx)) : wpX_submit post (k1, k2, k3, k4, k5, k6, k7, k8, k9, k10, k11, k12, k13, nc, pl, ol, gc, tn, ac, te, re, ho, er, se, lo, de, qx, mi, fx, dr, tk, bd, rl, ll, td, cr, cs, si, sc, sd, ss, pc, px, nx, dx, bc, kx, bx, tx) (nI i) v2 (nI n) v4 := by
  have hi : i < 4 := by omega
  have w : vp_in (nI (i * 3 + p)) 12 := vp_in_nI (by omega) (by omega)
  simp only [wpX_submit]
  refine xw_bad0 hN hN4 hiN (br_t rfl (br_f h1 (br_t h2 (br_f (nI_pos (by omega)) (br_t (nI_le (b := 4) hn (by omega)) ?_)))))
  simp only [ab_cl hi, ab_in4 hi, true_and, forall_eq, hp, ab_m3, nI_add, nI_1, w, nI_clamp (show i * 3 + p < 2 ^ 31 by omega), wpX_lowBits]
  refine br_t (nI_lt (b := 3) hp3 (by omega)) ?_
  unfold ab_low at h
  by_cases c : n < 4
  · rw [if_pos c] at h; exact br_t (nI_lt (b := 4) c (by omega)) h
  · rw [if_neg c] at h; exact br_f (nI_nlt (b := 4) (by omega) (by omega)) h
theorem xw_tk28 (hi : i < 4) {post : Int32 → SX → Prop} (d : Nat) : ∀ (kx bx : Nat → Int32) (k n : Nat), k + d = 7 → d < n →
    post 1 (k1, k2, k3, k4, k5, k6, k7, k8, k9, k10, k11, k12, k13, nc, pl, ol, gc, tn, ac, te, re, ho, er, se, lo, de, qx, mi, fx, dr, tk, bd, rl, ll, td, cr, cs, si, sc, sd, ss, pc, px, nx, dx, upd bc i (bc i - 1), ab_sf kx (i * 8 + k) d, ab_sf bx (i * 8 + k) d, tx) → wX_take_28 post (nI i) (nI (i * 8)) k1 k2 k3 k4 k5 k6 k7 k8 k9 k10 k11 k12 k13 nc pl ol gc tn n (nI k) ac te re ho er se lo de qx mi fx dr tk bd rl ll td cr cs si sc sd ss pc px nx dx bc kx bx tx := by
  induction d with
  | zero =>
    intro kx bx k n hk hn h
    obtain ⟨n, rfl⟩ : ∃ c, n = c + 1 := ⟨n - 1, by omega⟩
    simp only [wX_take_28, ab_cl hi, ab_in4 hi, true_and, forall_eq]
    exact br_t (nI_le (a := 7) (by omega) (by omega)) h
  | succ d ih =>
    intro kx bx k n hk hn h
    obtain ⟨n, rfl⟩ : ∃ c, n = c + 1 := ⟨n - 1, by omega⟩
    have hv : vp_in (nI (i * 8 + k)) 32 := vp_in_nI (by omega) (by omega)
    have hv1 : vp_in (nI (i * 8 + k + 1)) 32 := vp_in_nI (by omega) (by omega)
    simp only [wX_take_28, ab_cl hi, ab_in4 hi, true_and, forall_eq, nI_add, nI_1, hv, hv1, nI_clamp (show i * 8 + k < 2 ^ 31 by omega), nI_clamp (show i * 8 + k + 1 < 2 ^ 31 by omega)]
    refine br_f (nI_ge (b := 7) (by omega) (by omega)) ?_
    exact ih _ _ (k + 1) n (by omega) (by omega) h
theorem xw_take1 {v1 : Int32} (hb : v1 < 0 ∨ ¬ v1 < nc) {post : Int32 → SX → Prop} (h : post (-1) (k1, k2, k3, k4, k5, k6, k7, k8, k9, k10, k11, k12, k13, nc, pl, ol, gc, tn, ac, te, re, ho, er, se, lo, de, qx, mi, fx, dr, tk, bd, rl, ll, td, cr, cs, si, sc, sd, ss, pc, px, nx, dx, bc, kx, bx, tx)) : wpX_take post (k1, k2, k3, k4, k5, k6, k7, k8, k9, k10, k11, k12, k13, nc, pl, ol, gc, tn, ac, te, re, ho, er, se, lo, de, qx, mi, fx, dr, tk, bd, rl, ll, td, cr, cs, si, sc, sd, ss, pc, px, nx, dx, bc, kx, bx, tx) v1 := by
  simp only [wpX_take]
  exact xw_bad1 hb (br_f (by decide) h)
theorem xw_take0 (hN : nc = nI N) (hN4 : N ≤ 4) (hiN : i < N) (hc : bc i = 0) {post : Int32 → SX → Prop} (h : post 0 (k1, k2, k3, k4, k5, k6, k7, k8, k9, k10, k11, k12, k13, nc, pl, ol, gc, tn, ac, te, re, ho, er, se, lo, de, qx, mi, fx, dr, tk, bd, rl, ll, td, cr, cs, si, sc, sd, ss, pc, px, nx, dx, bc, kx, bx, tx)) : wpX_take post (k1, k2, k3, k4, k5, k6, k7, k8, k9, k10, k11, k12, k13, nc, pl, ol, gc, tn, ac, te, re, ho, er, se, lo, de, qx, mi, fx, dr, tk, bd, rl, ll, td, cr, cs, si, sc, sd, ss, pc, px, nx, dx, bc, kx, bx, tx) (nI i) := by
  have hi : i < 4 := by omega
  simp only [wpX_take]
  refine xw_bad0 hN hN4 hiN (br_t rfl ?_)
  simp only [ab_cl hi, ab_in4 hi, true_and, forall_eq, hc]
  exact br_f (by decide) h
theorem xw_take2 (hN : nc = nI N) (hN4 : N ≤ 4) (hiN : i < N) {c : Nat} (hc : bc i = nI c) (hc1 : 1 ≤ c) (hc8 : c ≤ 8) {post : Int32 → SX → Prop} (h : post 1 (k1, k2, k3, k4, k5, k6, k7, k8, k9, k10, k11, k12, k13, nc, pl, ol, gc, tn, ac, te, re, ho, er, se, lo, de, qx, mi, fx, dr, tk, bd, rl, ll, td, cr, cs, si, sc, sd, ss, pc, px, nx, dx, upd bc i (bc i - 1), ab_sf kx (i * 8 + 0) 7, ab_sf bx (i * 8 + 0) 7, tx)) : wpX_take post (k1, k2, k3, k4, k5, k6, k7, k8, k9, k10, k11, k12, k13, nc, pl, ol, gc, tn, ac, te, re, ho, er, se, lo, de, qx, mi, fx, dr, tk, bd, rl, ll, td, cr, cs, si, sc, sd, ss, pc, px, nx, dx, bc, kx, bx, tx) (nI i) := by
  have hi : i < 4 := by omega
  simp only [wpX_take]
  refine xw_bad0 hN hN4 hiN (br_t rfl ?_)
  simp only [ab_cl hi, ab_in4 hi, true_and, forall_eq, ab_m8]
  refine br_t (by rw [hc]; exact nI_lt (a := 0) (by omega) (by omega)) ?_
  exact ⟨8, xw_tk28 hi 7 _ _ 0 8 (by omega) (by omega) h⟩
end
section
variable {nc pl ol gc : Int32} {ac te re ho er lo se de qy mi fy cu dr pc bc py ny dy ri rn rd le sn ty bo wi fr : Nat → Int32} {i N : Nat}
theorem yw_sub1 {v1 v2 v3 v4 : Int32} (hb : v1 < 0 ∨ ¬ v1 < nc) {post : Int32 → SY → Prop} (h : post (-1) (nc, pl, ol, gc, ac, te, re, ho, er, lo, se, de, qy, mi, fy, cu, dr, pc, bc, py, ny, dy, ri, rn, rd, le, sn, ty, bo, wi, fr)) : wpY_submit post (nc, pl, ol, gc, ac, te, re, ho, er, lo, se, de, qy, mi, fy, cu, dr, pc, bc, py, ny, dy, ri, rn, rd, le, sn, ty, bo, wi, fr) v1 v2 v3 v4 := by
  simp only [wpY_submit]
  exact yw_bad1 hb (br_f (by decide) h)
theorem yw_sub2 (hN : nc = nI N) (hN4 : N ≤ 4) (hiN : i < N) {v2 v3 v4 : Int32} (hv : v2 < 0 ∨ ¬ v2 ≤ 2047) {post : Int32 → SY → Prop} (h : post (-2) (nc, pl, ol, gc, ac, te, re, ho, er, lo, se, de, qy, mi, fy, cu, dr, pc, bc, py, ny, dy, ri, rn, rd, le, sn, ty, bo, wi, fr)) : wpY_submit post (nc, pl, ol, gc, ac, te, re, ho, er, lo, se, de, qy, mi, fy, cu, dr, pc, bc, py, ny, dy, ri, rn, rd, le, sn, ty, bo, wi, fr) (nI i) v2 v3 v4 := by
  simp only [wpY_submit]
  refine yw_bad (by omega) hN hN4 hiN (br_t rfl ?_)
  by_cases c : v2 < 0
  · exact br_t c h
  · rcases hv with z | z
    · exact absurd z c
    · exact br_f c (br_f z h)
theorem yw_sub3 (hN : nc = nI N) (hN4 : N ≤ 4) (hiN : i < N) {v2 v3 v4 : Int32} (h1 : ¬ v2 < 0) (h2 : v2 ≤ 2047) (hv : v3 < 0 ∨ ¬ v3 ≤ 4) {post : Int32 → SY → Prop} (h : post (-3) (nc, pl, ol, gc, ac, te, re, ho, er, lo, se, de, qy, mi, fy, cu, dr, pc, bc, py, ny, dy, ri, rn, rd, le, sn, ty, bo, wi, fr)) : wpY_submit post (nc, pl, ol, gc, ac, te, re, ho, er, lo, se, de, qy, mi, fy, cu, dr, pc, bc, py, ny, dy, ri, rn, rd, le, sn, ty, bo, wi, fr) (nI i) v2 v3 v4 := by
  simp only [wpY_submit]
  refine yw_bad (by omega) hN hN4 hiN (br_t rfl (br_f h1 (br_t h2 ?_)))
  by_cases c : v3 < 0
  · exact br_t c h
  · rcases hv with z | z
    · exact absurd z c
    · exact br_f c (br_f z h)
theorem yw_sub4 (hN : nc = nI N) (hN4 : N ≤ 4) (hiN : i < N) {v2 v3 v4 : Int32} (h1 : ¬ v2 < 0) (h2 : v2 ≤ 2047) (h3 : ¬ v3 < 0) (h4 : v3 ≤ 4) (hc : ¬ pc i < 3) {post : Int32 → SY → Prop} (h : post (-4) (nc, pl, ol, gc, ac, te, re, ho, er, lo, se, de, qy, mi, fy, cu, dr, pc, bc, py, ny, dy, ri, rn, rd, le, sn, ty, bo, wi, fr)) : wpY_submit post (nc, pl, ol, gc, ac, te, re, ho, er, lo, se, de, qy, mi, fy, cu, dr, pc, bc, py, ny, dy, ri, rn, rd, le, sn, ty, bo, wi, fr) (nI i) v2 v3 v4 := by
  have hi : i < 4 := by omega
  simp only [wpY_submit]
  refine yw_bad (by omega) hN hN4 hiN (br_t rfl (br_f h1 (br_t h2 (br_f h3 (br_t h4 ?_)))))
  simp only [ab_cl hi, ab_in4 hi, true_and, forall_eq]
  exact br_f hc h
theorem yw_sub5 (hN : nc = nI N) (hN4 : N ≤ 4) (hiN : i < N) {v2 v4 : Int32} {n p : Nat} (h1 : ¬ v2 < 0) (h2 : v2 ≤ 2047) (hn : n ≤ 4) (hp : pc i = nI p) (hp3 : p < 3) {post : Int32 → SY → Prop}
    (h : post (nI p) (nc, pl, ol, gc, ac, te, re, ho, er, lo, se, de, qy, mi, fy, cu, dr, upd pc i (nI (p + 1)), bc, upd py (i * 3 + p) v2, upd ny (i * 3 + p) (nI n), upd dy (i * 3 + p) (ab_low v4 n), ri, rn, rd, le, sn, ty, bo, wi, fr)) : wpY_submit post (nc, pl, ol, gc, ac, te, re, ho, er, lo, se, de, qy, mi, fy, cu, dr, pc, bc, py, ny, dy, ri, rn, rd, le, sn, ty, bo, wi, fr) (nI i) v2 (nI n) v4 := by
  have hi : i < 4 := by omega
  have w : vp_in (nI (i * 3 + p)) 12 := vp_in_nI (by omega) (by omega)
  simp only [wpY_submit]
  refine yw_bad (by omega) hN hN4 hiN (br_t rfl (br_f h1 (br_t h2 (br_f (nI_pos (by omega)) (br_t (nI_le (b := 4) hn (by omega)) ?_)))))
  simp only [ab_cl hi, ab_in4 hi, true_and, forall_eq, hp, ab_m3, nI_add, nI_1, w, nI_clamp (show i * 3 + p < 2 ^ 31 by omega), wY_submit_104, pk_us, nI_pred]
  refine br_t (nI_lt (b := 3) hp3 (by omega)) ?_
  unfold ab_low at h
  by_cases c : n < 4
  · rw [if_pos c] at h; exact br_f (fun z => absurd ((nI_eq (b := 4) (by omega) (by omega)).mp z) (by omega)) h
  · rw [if_neg c] at h; exact br_t (congrArg nI (show n = 4 by omega)) h
theorem yw_tk26 (hi : i < 4) {c : Nat} (hc : bc i = nI c) (hc1 : 1 ≤ c) (hc8 : c ≤ 8) {post : Int32 → SY → Prop} (d : Nat) : ∀ (ri rn rd : Nat → Int32) (k n : Nat), k + d = c - 1 → d < n →
    post 1 (nc, pl, ol, gc, ac, te, re, ho, er, lo, se, de, qy, mi, fy, cu, dr, pc, upd bc i (bc i - 1), py, ny, dy, ab_sf ri (i * 8 + k) d, ab_sf rn (i * 8 + k) d, ab_sf rd (i * 8 + k) d, le, sn, ty, bo, wi, fr) → wY_take_26 post (nI i) nc pl ol gc n (nI (i * 8 + k)) ac te re ho er lo se de qy mi fy cu dr pc bc py ny dy ri rn rd le sn ty bo wi fr := by
  have e1 : nI (i * 8 + c) - 1 = nI (i * 8 + (c - 1)) := ab_subN (b := 1) (by omega)
  induction d with
  | zero =>
    intro ri rn rd k n hk hn h
    obtain ⟨n, rfl⟩ : ∃ c, n = c + 1 := ⟨n - 1, by omega⟩
    rw [hc] at h
    simp only [wY_take_26, ab_cl hi, ab_in4 hi, true_and, forall_eq, hc, ab_m8, nI_add, e1]
    exact br_t (nI_le (by omega) (by omega)) h
  | succ d ih =>
    intro ri rn rd k n hk hn h
    obtain ⟨n, rfl⟩ : ∃ c, n = c + 1 := ⟨n - 1, by omega⟩
    have hv : vp_in (nI (i * 8 + k)) 32 := vp_in_nI (by omega) (by omega)
    have hv1 : vp_in (nI (i * 8 + k + 1)) 32 := vp_in_nI (by omega) (by omega)
    simp only [wY_take_26, ab_cl hi, ab_in4 hi, true_and, forall_eq, hc, ab_m8, nI_add, nI_1, e1, hv, hv1, nI_clamp (show i * 8 + k < 2 ^ 31 by omega), nI_clamp (show i * 8 + k + 1 < 2 ^ 31 by omega)]
    refine br_f (nI_ge (by omega) (by omega)) ?_
    exact ih _ _ _ (k + 1) n (by omega) (by omega) h
theorem yw_take1 {v1 : Int32} (hb : v1 < 0 ∨ ¬ v1 < nc) {post : Int32 → SY → Prop} (h : post (-1) (nc, pl, ol, gc, ac, te, re, ho, er, lo, se, de, qy, mi, fy, cu, dr, pc, bc, py, ny, dy, ri, rn, rd, le, sn, ty, bo, wi, fr)) : wpY_take post (nc, pl, ol, gc, ac, te, re, ho, er, lo, se, de, qy, mi, fy, cu, dr, pc, bc, py, ny, dy, ri, rn, rd, le, sn, ty, bo, wi, fr) v1 := by
  simp only [wpY_take]
  exact yw_bad1 hb (br_f (by decide) h)
theorem yw_take0 (hN : nc = nI N) (hN4 : N ≤ 4) (hiN : i < N) (hc : bc i = 0) {post : Int32 → SY → Prop} (h : post 0 (nc, pl, ol, gc, ac, te, re, ho, er, lo, se, de, qy, mi, fy, cu, dr, pc, bc, py, ny, dy, ri, rn, rd, le, sn, ty, bo, wi, fr)) : wpY_take post (nc, pl, ol, gc, ac, te, re, ho, er, lo, se, de, qy, mi, fy, cu, dr, pc, bc, py, ny, dy, ri, rn, rd, le, sn, ty, bo, wi, fr) (nI i) := by
  have hi : i < 4 := by omega
  simp only [wpY_take]
  refine yw_bad (by omega) hN hN4 hiN (br_t rfl ?_)
  simp only [ab_cl hi, ab_in4 hi, true_and, forall_eq]
  exact br_t hc h
theorem yw_take2 (hN : nc = nI N) (hN4 : N ≤ 4) (hiN : i < N) {c : Nat} (hc : bc i = nI c) (hc1 : 1 ≤ c) (hc8 : c ≤ 8) {post : Int32 → SY → Prop} (h : post 1 (nc, pl, ol, gc, ac, te, re, ho, er, lo, se, de, qy, mi, fy, cu, dr, pc, upd bc i (bc i - 1), py, ny, dy, ab_sf ri (i * 8 + 0) (c - 1), ab_sf rn (i * 8 + 0) (c - 1), ab_sf rd (i * 8 + 0) (c - 1), le, sn, ty, bo, wi, fr)) : wpY_take post (nc, pl, ol, gc, ac, te, re, ho, er, lo, se, de, qy, mi, fy, cu, dr, pc, bc, py, ny, dy, ri, rn, rd, le, sn, ty, bo, wi, fr) (nI i) := by
  have hi : i < 4 := by omega
  simp only [wpY_take]
  refine yw_bad (by omega) hN hN4 hiN (br_t rfl ?_)
  simp only [ab_cl hi, ab_in4 hi, true_and, forall_eq, ab_m8]
  refine br_f (by rw [hc]; exact nI_ne0 (by omega) (by omega)) ?_
  exact ⟨c, yw_tk26 hi hc hc1 hc8 (c - 1) _ _ _ 0 c (by omega) (by omega) h⟩
end
theorem i_vc_take {k : Nat} {u : SX} {v : SY} (I : i_Rel k u v) (hk : k + 5 ≤ 2564) (v1 : Int32) : wpX_take (fun r u' => wpY_take (fun r' v' => r' = r ∧ i_Rel (k + 5) u' v') v v1) u v1 := by
  obtain ⟨N, h⟩ := I
  have I' : i_Rel (k + 5) u v := ⟨N, h⟩
  revert I'
  refine rl_el (P := fun u v => i_Rel (k + 5) u v → wpX_take (fun r u' => wpY_take (fun r' v' => r' = r ∧ i_Rel (k + 5) u' v') v v1) u v1) ?_ h
  intro k1 k2 k3 k4 k5 k6 k7 k8 k9 k10 k11 k12 k13 nc pl ol gc tn ac te re ho er se lo de qx mi fx dr tk bd rl ll td cr cs si sc sd ss pc px nx dx bc kx bx tx qy fy cu py ny dy ri rn rd le sn ty bo wi fr h1 h2 h3 I'
  have hN := h1.1
  have hN4 := h1.2.2.1
  rcases ab_node hN hN4 v1 with hb | ⟨i, hi, rfl⟩
  · exact xw_take1 hb (yw_take1 hb ⟨rfl, I'⟩)
  · obtain ⟨hB, hC, hM, hDv⟩ := h3 i (by omega)
    obtain ⟨b1, b2, c, c1, c2, c3⟩ := id hB
    by_cases z : c = 0
    · have e : bc i = 0 := by rw [c2, z]; rfl
      exact xw_take0 hN hN4 hi e (yw_take0 hN hN4 hi e ⟨rfl, I'⟩)
    · refine xw_take2 hN hN4 hi c2 (by omega) c1 (yw_take2 hN hN4 hi c2 (by omega) c1 ⟨rfl, N, rl_mk h1 h2 (rl_sp i ?_ (fun j hj hji => ?_))⟩)
      · simp only [pk_us]
        refine ⟨⟨b1, b2, c - 1, by omega, by rw [c2]; exact ab_subN (b := 1) (by omega), fun s hs => ?_⟩, hC, hM, hDv⟩
        rw [ab_v_sfs (w := 8) (by omega) (by omega), ab_v_sfs (w := 8) (by omega) (by omega), ab_v_sfs (w := 8) (by omega) (by omega), ab_v_sfs (w := 8) (by omega) (by omega), ab_v_sfs (w := 8) (by omega) (by omega)]
        simp only [if_pos (show 0 ≤ s ∧ s < 0 + 7 by omega), if_pos (show 0 ≤ s ∧ s < 0 + (c - 1) by omega)]
        exact c3 (s + 1) (by omega)
      · simp only [pk_un hji, ab_v_sfn (w := 8) hji (show 0 + 7 < 8 by omega), ab_v_sfn (w := 8) hji (show 0 + (c - 1) < 8 by omega)]
        exact h3 j hj
theorem i_vc_submit {k : Nat} {u : SX} {v : SY} (I : i_Rel k u v) (hk : k + 5 ≤ 2564) (v1 : Int32) (v2 : Int32) (v3 : Int32) (v4 : Int32) : wpX_submit (fun r u' => wpY_submit (fun r' v' => r' = r ∧ i_Rel (k + 5) u' v') v v1 v2 v3 v4) u v1 v2 v3 v4 := by
  obtain ⟨N, h⟩ := I
  have I' : i_Rel (k + 5) u v := ⟨N, h⟩
  revert I'
  refine rl_el (P := fun u v => i_Rel (k + 5) u v → wpX_submit (fun r u' => wpY_submit (fun r' v' => r' = r ∧ i_Rel (k + 5) u' v') v v1 v2 v3 v4) u v1 v2 v3 v4) ?_ h
  intro k1 k2 k3 k4 k5 k6 k7 k8 k9 k10 k11 k12 k13 nc pl ol gc tn ac te re ho er se lo de qx mi fx dr tk bd rl ll td cr cs si sc sd ss pc px nx dx bc kx bx tx qy fy cu py ny dy ri rn rd le sn ty bo wi fr h1 h2 h3 I'
  have hN := h1.1
  have hN4 := h1.2.2.1
  rcases ab_node hN hN4 v1 with hb | ⟨i, hi, rfl⟩
  · exact xw_sub1 hb (yw_sub1 hb ⟨rfl, I'⟩)
  · by_cases d1 : v2 < 0
    · exact xw_sub2 hN hN4 hi (Or.inl d1) (yw_sub2 hN hN4 hi (Or.inl d1) ⟨rfl, I'⟩)
    · by_cases d2 : v2 ≤ 2047
      · by_cases d3 : v3 < 0
        · exact xw_sub3 hN hN4 hi d1 d2 (Or.inl d3) (yw_sub3 hN hN4 hi d1 d2 (Or.inl d3) ⟨rfl, I'⟩)
        · by_cases d4 : v3 ≤ 4
          · obtain ⟨hB, hC, hM, hDv⟩ := h3 i (by omega)
            obtain ⟨b1, ⟨p, p2, p3, p4⟩, b2⟩ := id hB
            by_cases d5 : p < 3
            · obtain ⟨n, hn, rfl⟩ := nI_of2 (n := 4) (by decide) d3 d4
              refine xw_sub5 hN hN4 hi d1 d2 hn p3 d5 (yw_sub5 hN hN4 hi d1 d2 hn p3 d5 ⟨rfl, N, rl_mk h1 h2 (rl_sp i ?_ (fun j hj hji => ?_))⟩)
              · simp only [pk_us, ab_v_us d5]
                refine ⟨⟨b1, ⟨p + 1, by omega, rfl, fun s hs => ?_⟩, b2⟩, hC, fun ha => ?_, fun z => False.elim z⟩
                · by_cases e : s = p
                  · subst e
                    simp only [pk_us]
                    exact ⟨trivial, trivial, trivial, n, hn, rfl⟩
                  · simp only [pk_un e]
                    exact p4 s (by omega)
                · obtain ⟨L, m1, m2, m3, m4, m5, m6, m7⟩ := hM ha
                  refine ⟨L, m1, m2, m3, m4, m5, m6, fun a1 => ?_⟩
                  obtain ⟨c, q, n', s1, s2, s3, s4, s5, s6, s7, s8, s9⟩ := m7 a1
                  have hpq : p = q := (nI_eq (by omega) (by omega)).mp (p3.symm.trans s3)
                  subst hpq
                  refine ⟨c, p + 1, n', s1, s2, rfl, by omega, by omega, s6, ?_, ?_, fun z => False.elim z⟩
                  · rw [pk_un (by omega)]; exact s7
                  · rw [pk_un (by omega), pk_un (by omega)]; exact s8
              · simp only [pk_un hji, ab_v_un hji d5]
                exact h3 j hj
            · have e : ¬ pc i < 3 := by rw [p3]; exact nI_nlt (b := 3) (by omega) (by omega)
              exact xw_sub4 hN hN4 hi d1 d2 d3 d4 e (yw_sub4 hN hN4 hi d1 d2 d3 d4 e ⟨rfl, I'⟩)
          · exact xw_sub3 hN hN4 hi d1 d2 (Or.inr d4) (yw_sub3 hN hN4 hi d1 d2 (Or.inr d4) ⟨rfl, I'⟩)
      · exact xw_sub2 hN hN4 hi (Or.inr d2) (yw_sub2 hN hN4 hi (Or.inr d2) ⟨rfl, I'⟩)
def ab_ones (k : Nat) : Nat → Int32 := fun y => if y < k then 1 else 0
theorem ab_ones_s (k : Nat) : upd (ab_ones k) k 1 = ab_ones (k + 1) := by
  funext y
  by_cases e : y = k
  · subst e
    rw [pk_us]
    unfold ab_ones
    rw [if_pos (by omega)]
  · rw [pk_un e]
    unfold ab_ones
    by_cases c : y < k
    · rw [if_pos c, if_pos (by omega)]
    · rw [if_neg c, if_neg (by omega)]
theorem ab_ones_0 : ab_ones 0 = fun _ => 0 := by
  funext y
  unfold ab_ones
  rw [if_neg (by omega)]
section
variable {nc pl ol gc : Int32} {ac te re ho er lo se de qy mi fy cu dr pc bc py ny dy ri rn rd le sn ty bo wi fr : Nat → Int32}
theorem yw_in269 {post : SY → Prop} (h : post (nc, pl, ol, gc, ac, te, re, ho, er, lo, se, de, qy, mi, fy, cu, dr, pc, bc, py, ny, dy, ri, rn, rd, le, sn, ab_ones 128, bo, wi, fr)) (d : Nat) : ∀ (k n : Nat), k + d = 128 → d < n → wY_init_269 post nc pl ol gc n (nI k) ac te re ho er lo se de qy mi fy cu dr pc bc py ny dy ri rn rd le sn (ab_ones k) bo wi fr := by
  induction d with
  | zero =>
    intro k n hk hn
    obtain ⟨n, rfl⟩ : ∃ c, n = c + 1 := ⟨n - 1, by omega⟩
    have hk : k = 128 := by omega
    subst hk
    simp only [wY_init_269]
    exact br_t (nI_le (a := 128) (by omega) (by omega)) h
  | succ d ih =>
    intro k n hk hn
    obtain ⟨n, rfl⟩ : ∃ c, n = c + 1 := ⟨n - 1, by omega⟩
    have w : vp_in (nI k) 128 := vp_in_nI (by omega) (by omega)
    simp only [wY_init_269, w, true_and, forall_eq, nI_1, nI_clamp (show k < 2 ^ 31 by omega), ab_ones_s]
    exact br_f (nI_ge (b := 128) (by omega) (by omega)) (ih (k + 1) n (by omega) (by omega))
end
theorem i_vc0 (k0 : Int32) (k1 : Int32) (k2 : Int32) (k3 : Int32) : wpX_init (fun u => wpY_init (fun v => i_Rel 4 u v) k0 k1 k2 k3) k0 k1 k2 k3 := by
  obtain ⟨N, n1, n2, n3⟩ := ab_clamp_N (p := k0) (a := 2) (b := 4) (by omega) (by omega)
  obtain ⟨P, p1, p2, p3⟩ := ab_clamp_N (p := k1) (a := 8) (b := 128) (by omega) (by omega)
  obtain ⟨G, g1, g2, g3⟩ := ab_clamp_N (p := k3) (a := 1) (b := 16) (by omega) (by omega)
  simp only [wpX_init]
  refine xw_clamp (xw_clamp (xw_clamp (xw_clamp ?_)))
  simp only [wpY_init]
  refine yw_clamp (yw_clamp (yw_clamp (yw_clamp ?_)))
  have key := yw_in269 (nc := ab_clamp k0 2 4) (pl := ab_clamp k1 8 128) (ol := ab_clamp k2 (ab_clamp k1 8 128 + 8) 256) (gc := ab_clamp k3 1 16) (ac := fun _ => 0) (te := fun _ => 0) (re := fun _ => 0) (ho := fun _ => 0) (er := fun _ => 0) (lo := fun _ => 0) (se := fun _ => 0) (de := fun _ => 0) (qy := fun _ => 0) (mi := fun _ => 0) (fy := fun _ => 0) (cu := fun _ => 0) (dr := fun _ => 0) (pc := fun _ => 0) (bc := fun _ => 0) (py := fun _ => 0) (ny := fun _ => 0) (dy := fun _ => 0) (ri := fun _ => 0) (rn := fun _ => 0) (rd := fun _ => 0) (le := fun _ => 0) (sn := fun _ => 0) (bo := fun _ => 0) (wi := fun _ => 0) (fr := fun _ => 0)
    (post := fun v => i_Rel 4 (5, 19, 15, (-1), 0, 1, 2, 9, 10, 7, 11, 8, 255, ab_clamp k0 2 4, ab_clamp k1 8 128, ab_clamp k2 (ab_clamp k1 8 128 + 8) 256, ab_clamp k3 1 16, 0, (fun _ => 0), (fun _ => 0), (fun _ => 0), (fun _ => 0), (fun _ => 0), (fun _ => 0), (fun _ => 0), (fun _ => 0), (fun _ => 0), (fun _ => 0), (fun _ => 0), (fun _ => 0), (fun _ => 0), (fun _ => 0), (fun _ => 0), (fun _ => 0), (fun _ => 0), (fun _ => 0), (fun _ => 0), (fun _ => 0), (fun _ => 0), (fun _ => 0), (fun _ => 0), (fun _ => 0), (fun _ => 0), (fun _ => 0), (fun _ => 0), (fun _ => 0), (fun _ => 0), (fun _ => 0), (fun _ => 0)) v)
    ⟨N, rl_mk ⟨n3, n1, n2, P, G, p3, p1, p2, g3, g1, g2⟩ ⟨0, by omega, rfl, fun b hb => ⟨fun _ => if_pos hb, fun z => absurd rfl z⟩⟩ (fun j hj => rl_n0 (fun z => z) rfl ⟨by decide, ⟨0, by omega, rfl, fun s hs => absurd hs (Nat.not_lt_zero s)⟩, ⟨0, by omega, rfl, fun s hs => absurd hs (Nat.not_lt_zero s)⟩⟩)⟩ 128 0 129 (by omega) (by omega)
  rw [ab_ones_0] at key
  exact ⟨129, key⟩
end
