section
/-! pure rows to paste: stores, nI and lN arithmetic, masks, shifts, narrowing, branches by naturals (pk_le, pk_lt, pk_eq), loops (lp1 .. lp16: the measure of the state; rp1 ..: recursion), negatives. Take what you need -/
theorem pk_us {f : Nat → Int32} {k : Nat} {x : Int32} : upd f k x k = x := if_pos rfl
theorem pk_un {f : Nat → Int32} {k j : Nat} {x : Int32} (h : j ≠ k) : upd f k x j = f j := if_neg h
theorem pk_uLs {f : Nat → Int64} {k : Nat} {x : Int64} : vp_updL f k x k = x := if_pos rfl
theorem pk_uLn {f : Nat → Int64} {k j : Nat} {x : Int64} (h : j ≠ k) : vp_updL f k x j = f j := if_neg h
theorem pk_sub {a b : Nat} (h : b ≤ a) : nI a - nI b = nI (a - b) := by
  obtain ⟨c, rfl⟩ : ∃ c, a = c + b := ⟨a - b, by omega⟩
  rw [← nI_add, Int32.add_sub_cancel, Nat.add_sub_cancel]
theorem pk_m1 (n : Nat) : nI (n + 1) + (-1) = nI n := by
  rw [← nI_1, Int32.add_assoc, show (1 : Int32) + (-1) = 0 from rfl, Int32.add_zero]
theorem pk_mul (a b : Nat) : nI a * nI b = nI (a * b) := (Int32.ofNat_mul a b).symm
theorem pk_div {a d : Nat} (ha : a < 2 ^ 31) (h0 : 0 < d) (hd : d < 2 ^ 31) : nI a / nI d = nI (a / d) := by
  apply Int32.toInt_inj.mp
  rw [lg_idiv_nonneg (by rw [nI_toInt ha]; omega) (by rw [nI_toInt hd]; omega), nI_toInt ha, nI_toInt hd, nI_toInt (Nat.lt_of_le_of_lt (Nat.div_le_self a d) ha)]
  first | rfl | exact (Int.natCast_ediv _ _).symm
theorem pk_rem {a d : Nat} (ha : a < 2 ^ 31) (h0 : 0 < d) (hd : d < 2 ^ 31) : nI a - nI a / nI d * nI d = nI (a % d) := by
  rw [pk_div ha h0 hd, pk_mul, pk_sub (Nat.div_mul_le_self a d)]
  exact congrArg nI (by have := Nat.div_add_mod' a d; omega)
theorem pk_sub_toInt {a b : Nat} (ha : a < 2 ^ 30) (hb : b < 2 ^ 30) : (nI a - nI b).toInt = (a : Int) - b := by
  rw [Int32.toInt_sub, nI_toInt (by omega), nI_toInt (by omega)]
  exact Int.bmod_eq_of_le (by omega) (by omega)
theorem pk_sneg {a b : Nat} (hb : b < 2 ^ 30) (h : a < b) : nI a - nI b < 0 := by
  rw [Int32.lt_iff_toInt_lt, pk_sub_toInt (by omega) hb, show (0 : Int32).toInt = 0 from by decide]
  omega
theorem pk_ix (x : Int32) {n : Nat} (hn : n < 2 ^ 31) : x < 0 ∨ nI n ≤ x ∨ ∃ j : Nat, j < n ∧ x = nI j := by
  by_cases h : x < 0
  · exact Or.inl h
  · obtain ⟨j, hj, rfl⟩ := nI_of h
    by_cases h2 : j < n
    · exact Or.inr (Or.inr ⟨j, h2, rfl⟩)
    · exact Or.inr (Or.inl (nI_le (by omega) hj))
theorem pk_le {x y : Int32} {A B : Prop} (a b : Nat) (f : a ≤ b → A) (g : b < a → B) (hx : x = nI a := by rfl) (hy : y = nI b := by rfl) (ha : a < 2 ^ 31 := by omega) (hb : b < 2 ^ 31 := by omega) : (x ≤ y → A) ∧ (¬ x ≤ y → B) := by
  subst hx hy
  rw [nI_leI ha hb]
  exact ⟨f, fun z => g (by omega)⟩
theorem pk_lt {x y : Int32} {A B : Prop} (a b : Nat) (f : a < b → A) (g : b ≤ a → B) (hx : x = nI a := by rfl) (hy : y = nI b := by rfl) (ha : a < 2 ^ 31 := by omega) (hb : b < 2 ^ 31 := by omega) : (x < y → A) ∧ (¬ x < y → B) := by
  subst hx hy
  rw [nI_ltI ha hb]
  exact ⟨f, fun z => g (by omega)⟩
theorem pk_eq {x y : Int32} {A B : Prop} (a b : Nat) (f : a = b → A) (g : a ≠ b → B) (hx : x = nI a := by rfl) (hy : y = nI b := by rfl) (ha : a < 2 ^ 31 := by omega) (hb : b < 2 ^ 31 := by omega) : (x = y → A) ∧ (¬ x = y → B) := by
  subst hx hy
  rw [nI_eq ha hb]
  exact ⟨f, g⟩
theorem pk_in {x : Int32} (n N : Nat) (h : n < N) (hx : x = nI n := by rfl) (hN : N < 2 ^ 31 := by omega) : vp_in x N := by
  subst hx
  exact vp_in_nI h hN
theorem pk_cl {x : Int32} (n : Nat) (hx : x = nI n := by rfl) (h : n < 2 ^ 31 := by omega) : x.toNatClampNeg = n := by
  subst hx
  exact nI_clamp h
theorem pk_tn {n : Nat} (h : n < 2 ^ 32) : (nI n).toBitVec.toNat = n := Nat.mod_eq_of_lt h
theorem pk_and (x : Int32) {m : Int32} (k : Nat) (hm : m.toBitVec.toNat = 2 ^ k - 1) : x &&& m = nI (x.toBitVec.toNat % 2 ^ k) := by
  apply Int32.toBitVec_inj.mp
  apply BitVec.eq_of_toNat_eq
  rw [Int32.toBitVec_and, BitVec.toNat_and, hm, Nat.and_two_pow_sub_one_eq_mod]
  show _ = (BitVec.ofNat 32 _).toNat
  rw [BitVec.toNat_ofNat]
  exact (Nat.mod_eq_of_lt (Nat.lt_of_le_of_lt (Nat.mod_le _ _) x.toBitVec.isLt)).symm
theorem pk_andN {n : Nat} (h : n < 2 ^ 32) {m : Int32} (k : Nat) (hm : m.toBitVec.toNat = 2 ^ k - 1) : nI n &&& m = nI (n % 2 ^ k) := by
  rw [pk_and _ k hm, pk_tn h]
theorem pk_andE (x : Int32) {m : Int32} (k : Nat) (hm : m.toBitVec.toNat = 2 ^ k - 1) : ∃ j : Nat, j < 2 ^ k ∧ x &&& m = nI j := ⟨_, Nat.mod_lt _ (Nat.two_pow_pos k), pk_and x k hm⟩
theorem pk_andIn (x : Int32) {m : Int32} (k : Nat) (hm : m.toBitVec.toNat = 2 ^ k - 1) (hk : k ≤ 30) : vp_in (x &&& m) (2 ^ k) := by
  obtain ⟨j, hj, e⟩ := pk_andE x k hm
  rw [e]
  exact vp_in_nI hj (Nat.lt_of_le_of_lt (Nat.pow_le_pow_right (by decide) hk) (by decide))
theorem pk_shl (a s : Int32) (k : Nat) (hs : (s.toBitVec.smod 32).toNat = k) : (a <<< s).toBitVec.toNat = a.toBitVec.toNat * 2 ^ k % 2 ^ 32 := by
  show (a.toBitVec <<< (s.toBitVec.smod 32).toNat).toNat = _
  rw [hs, BitVec.toNat_shiftLeft, Nat.shiftLeft_eq]
theorem pk_shlN {n : Nat} (s : Int32) (k : Nat) (hs : (s.toBitVec.smod 32).toNat = k) (h : n * 2 ^ k < 2 ^ 32) : nI n <<< s = nI (n * 2 ^ k) := by
  apply Int32.toBitVec_inj.mp
  apply BitVec.eq_of_toNat_eq
  have hn : n < 2 ^ 32 := Nat.lt_of_le_of_lt (Nat.le_mul_of_pos_right n (Nat.two_pow_pos k)) h
  rw [pk_shl _ _ k hs, pk_tn hn, pk_tn h, Nat.mod_eq_of_lt h]
theorem pk_shr (a s : Int32) (k : Nat) (hs : (s.toBitVec.smod 32).toNat = k) : (a >>> s).toInt = a.toInt >>> k := by
  show (a.toBitVec.sshiftRight (s.toBitVec.smod 32).toNat).toInt = _
  rw [hs, BitVec.toInt_sshiftRight]
  rfl
theorem pk_shrN {n : Nat} (h : n < 2 ^ 31) (s : Int32) (k : Nat) (hs : (s.toBitVec.smod 32).toNat = k) : nI n >>> s = nI (n / 2 ^ k) := by
  apply Int32.toInt_inj.mp
  have h2 : n / 2 ^ k ≤ n := Nat.div_le_self _ _
  rw [pk_shr _ _ k hs, nI_toInt h, nI_toInt (by omega), Int.shiftRight_eq_div_pow]
  rfl
theorem pk_ushr (x s : Int32) (k : Nat) (hs : ((s.toUInt32 &&& Int32.toUInt32 31).toBitVec % 32).toNat = k) : (x.toUInt32 >>> (s.toUInt32 &&& Int32.toUInt32 31)).toInt32.toBitVec.toNat = x.toBitVec.toNat / 2 ^ k := by
  have e : (x.toUInt32 >>> (s.toUInt32 &&& Int32.toUInt32 31)).toInt32.toBitVec = x.toBitVec >>> k := by
    rw [← hs]
    exact UInt32.toBitVec_shiftRight _ _
  rw [e, BitVec.toNat_ushiftRight, Nat.shiftRight_eq_div_pow]
theorem pk_ushrN {n : Nat} (hn : n < 2 ^ 32) (s : Int32) (k : Nat) (hs : ((s.toUInt32 &&& Int32.toUInt32 31).toBitVec % 32).toNat = k) : ((nI n).toUInt32 >>> (s.toUInt32 &&& Int32.toUInt32 31)).toInt32 = nI (n / 2 ^ k) := by
  apply Int32.toBitVec_inj.mp
  apply BitVec.eq_of_toNat_eq
  rw [pk_ushr _ s k hs, pk_tn hn, pk_tn (Nat.lt_of_le_of_lt (Nat.div_le_self _ _) hn)]
theorem pk_nb (z : Int32) : narrow .byte (.int z.toInt8.toInt32) = .int z.toInt8.toInt32 := congrArg Value.int (by simp)
theorem pk_ns (z : Int32) : narrow .short (.int z.toInt16.toInt32) = .int z.toInt16.toInt32 := congrArg Value.int (by simp)
theorem pk_fb (r : Int32) : fits .byte (.int r.toInt8.toInt32) = true := by
  have ⟨a, b⟩ := lg_i2b_range r
  have h1 : (-128 : Int32).toInt = -128 := by decide
  have h2 : (127 : Int32).toInt = 127 := by decide
  simp only [fits, Bool.and_eq_true, decide_eq_true_eq, Int32.le_iff_toInt_le, h1, h2]
  omega
theorem pk_fs (r : Int32) : fits .short (.int r.toInt16.toInt32) = true := by
  have ⟨a, b⟩ := lg_i2s_range r
  have h1 : (-32768 : Int32).toInt = -32768 := by decide
  have h2 : (32767 : Int32).toInt = 32767 := by decide
  simp only [fits, Bool.and_eq_true, decide_eq_true_eq, Int32.le_iff_toInt_le, h1, h2]
  omega
theorem pk_charN {q : Nat} (hq : q < 65536) : narrow .char (.int (nI q)) = .int (nI q) ∧ fits .char (.int (nI q)) = true := by
  constructor
  · have e : (nI q).toUInt32.toUInt16.toUInt32.toInt32 = nI q := by
      apply Int32.toBitVec_inj.mp
      apply BitVec.eq_of_toNat_eq
      show (nI q).toUInt32.toUInt16.toUInt32.toNat = q % 2 ^ 32
      rw [UInt16.toNat_toUInt32, UInt32.toNat_toUInt16, show (nI q).toUInt32.toNat = q % 2 ^ 32 from rfl]
      omega
    exact congrArg Value.int e
  · have a : (0 : Int32) ≤ nI q := nI_pos' (by omega)
    have b : nI q ≤ 65535 := nI_le (b := 65535) (by omega) (by decide)
    show (decide ((0 : Int32) ≤ nI q) && decide (nI q ≤ 65535)) = true
    rw [decide_eq_true a, decide_eq_true b]
    rfl
theorem pk_char (x : Int32) : (x.toUInt32 % 65536).toInt32 = nI (x.toBitVec.toNat % 65536) := by
  apply Int32.toBitVec_inj.mp
  apply BitVec.eq_of_toNat_eq
  rw [pk_tn (by omega)]
  show (x.toUInt32 % 65536).toNat = _
  rw [UInt32.toNat_mod]
  rfl
theorem pk_nc (x : Int32) : narrow .char (.int (x.toUInt32 % 65536).toInt32) = .int (x.toUInt32 % 65536).toInt32 := by
  rw [pk_char]
  exact (pk_charN (Nat.mod_lt _ (by decide))).1
theorem pk_fc (x : Int32) : fits .char (.int (x.toUInt32 % 65536).toInt32) = true := by
  rw [pk_char]
  exact (pk_charN (Nat.mod_lt _ (by decide))).2
theorem pk_vb (z : Int32) : vp_nar .byte z.toInt8.toInt32 = z.toInt8.toInt32 := by rw [vp_nar_byte]; simp
theorem pk_vs (z : Int32) : vp_nar .short z.toInt16.toInt32 = z.toInt16.toInt32 := by rw [vp_nar_short]; simp
theorem pk_vc (z : Int32) : vp_nar .char (z.toUInt32 % 65536).toInt32 = (z.toUInt32 % 65536).toInt32 := Value.int.inj (pk_nc z)
theorem pk_lT {n : Nat} (h : n < 2 ^ 63) : (lN n).toInt = (n : Int) := lg_ofNat_toInt h
theorem pk_lLT {a b : Nat} (ha : a < 2 ^ 63) (hb : b < 2 ^ 63) : lN a < lN b ↔ a < b := by
  rw [Int64.lt_iff_toInt_lt, pk_lT ha, pk_lT hb]; omega
theorem pk_lLE {a b : Nat} (ha : a < 2 ^ 63) (hb : b < 2 ^ 63) : lN a ≤ lN b ↔ a ≤ b := by
  rw [Int64.le_iff_toInt_le, pk_lT ha, pk_lT hb]; omega
theorem pk_lEQ {a b : Nat} (ha : a < 2 ^ 63) (hb : b < 2 ^ 63) : lN a = lN b ↔ a = b := by
  rw [← Int64.toInt_inj, pk_lT ha, pk_lT hb]; omega
theorem pk_lOf {x : Int64} (h : ¬ x < 0) : ∃ k : Nat, k < 2 ^ 63 ∧ x = lN k := by
  rw [Int64.lt_iff_toInt_lt] at h
  have h0 : (0 : Int64).toInt = 0 := by decide
  have hx := Int64.toInt_lt x
  refine ⟨x.toInt.toNat, by omega, Int64.toInt_inj.mp ?_⟩
  rw [pk_lT (by omega)]
  omega
theorem pk_lDiv {a b : Nat} (ha : a < 2 ^ 63) (h0 : 0 < b) (hb : b < 2 ^ 63) : lN a / lN b = lN (a / b) := by
  apply Int64.toInt_inj.mp
  rw [lg_ldiv_nonneg (by rw [pk_lT ha]; omega) (by rw [pk_lT hb]; omega), pk_lT ha, pk_lT hb, pk_lT (Nat.lt_of_le_of_lt (Nat.div_le_self a b) ha)]
  rfl
theorem pk_lRem {a b : Nat} (ha : a < 2 ^ 63) (h0 : 0 < b) (hb : b < 2 ^ 63) : lN a - lN a / lN b * lN b = lN (a % b) := by
  rw [pk_lDiv ha h0 hb, lN_mul, lN_sub (Nat.div_mul_le_self a b)]
  exact congrArg lN (by have := Nat.div_add_mod' a b; omega)
theorem pk_loop {σ : Type} (W : Nat → Nat → σ → Prop) (I : Nat → σ → Prop) (e i0 : Nat) (s : σ) (hi : i0 ≤ e) (h0 : I i0 s) (hx : ∀ n s, I e s → W (n + 1) e s)
    (hs : ∀ n i s, i < e → I i s → (∀ s', I (i + 1) s' → W n (i + 1) s') → W (n + 1) i s) : ∃ n, W n i0 s :=
  ⟨e + 1, loop_i W I e hx hs (e + 1) i0 s hi (by omega) h0⟩
theorem pk_loopD {σ : Type} (W : Nat → Nat → σ → Prop) (I : Nat → σ → Prop) (hx : ∀ n s, I 0 s → W (n + 1) 0 s)
    (hs : ∀ n i s, I (i + 1) s → (∀ s', I i s' → W n i s') → W (n + 1) (i + 1) s) : ∀ (e : Nat) (s : σ), I e s → W (e + 1) e s := by
  intro e
  induction e with
  | zero => exact fun s h => hx 0 s h
  | succ e ih => exact fun s h => hs (e + 1) e s h (fun s' h' => ih s' h')
theorem lp1 {A1 : Type} (W : Nat → A1 → Prop) (I : A1 → Prop) (μ : A1 → Nat) (hs : ∀ (n : Nat) (a1 : A1), I a1 → (∀ (b1 : A1), I b1 → μ b1 < μ a1 → W n b1) → W (n + 1) a1) (a1 : A1) (h : I a1) : ∃ n, W n a1 :=
  loop_m (σ := A1) (fun n s => W n s) (fun s => I s) (fun s => μ s) (fun n s hI hk => hs n s hI (fun b1 h9 hm => hk b1 h9 hm)) a1 h
theorem lp2 {A1 A2 : Type} (W : Nat → A1 → A2 → Prop) (I : A1 → A2 → Prop) (μ : A1 → A2 → Nat) (hs : ∀ (n : Nat) (a1 : A1) (a2 : A2), I a1 a2 → (∀ (b1 : A1) (b2 : A2), I b1 b2 → μ b1 b2 < μ a1 a2 → W n b1 b2) → W (n + 1) a1 a2) (a1 : A1) (a2 : A2) (h : I a1 a2) : ∃ n, W n a1 a2 :=
  loop_m (σ := A1 × A2) (fun n s => W n s.1 s.2) (fun s => I s.1 s.2) (fun s => μ s.1 s.2) (fun n s hI hk => hs n s.1 s.2 hI (fun b1 b2 h9 hm => hk (b1, b2) h9 hm)) (a1, a2) h
theorem lp3 {A1 A2 A3 : Type} (W : Nat → A1 → A2 → A3 → Prop) (I : A1 → A2 → A3 → Prop) (μ : A1 → A2 → A3 → Nat) (hs : ∀ (n : Nat) (a1 : A1) (a2 : A2) (a3 : A3), I a1 a2 a3 → (∀ (b1 : A1) (b2 : A2) (b3 : A3), I b1 b2 b3 → μ b1 b2 b3 < μ a1 a2 a3 → W n b1 b2 b3) → W (n + 1) a1 a2 a3) (a1 : A1) (a2 : A2) (a3 : A3) (h : I a1 a2 a3) : ∃ n, W n a1 a2 a3 :=
  loop_m (σ := A1 × A2 × A3) (fun n s => W n s.1 s.2.1 s.2.2) (fun s => I s.1 s.2.1 s.2.2) (fun s => μ s.1 s.2.1 s.2.2) (fun n s hI hk => hs n s.1 s.2.1 s.2.2 hI (fun b1 b2 b3 h9 hm => hk (b1, b2, b3) h9 hm)) (a1, a2, a3) h
theorem lp4 {A1 A2 A3 A4 : Type} (W : Nat → A1 → A2 → A3 → A4 → Prop) (I : A1 → A2 → A3 → A4 → Prop) (μ : A1 → A2 → A3 → A4 → Nat) (hs : ∀ (n : Nat) (a1 : A1) (a2 : A2) (a3 : A3) (a4 : A4), I a1 a2 a3 a4 → (∀ (b1 : A1) (b2 : A2) (b3 : A3) (b4 : A4), I b1 b2 b3 b4 → μ b1 b2 b3 b4 < μ a1 a2 a3 a4 → W n b1 b2 b3 b4) → W (n + 1) a1 a2 a3 a4) (a1 : A1) (a2 : A2) (a3 : A3) (a4 : A4) (h : I a1 a2 a3 a4) : ∃ n, W n a1 a2 a3 a4 :=
  loop_m (σ := A1 × A2 × A3 × A4) (fun n s => W n s.1 s.2.1 s.2.2.1 s.2.2.2) (fun s => I s.1 s.2.1 s.2.2.1 s.2.2.2) (fun s => μ s.1 s.2.1 s.2.2.1 s.2.2.2) (fun n s hI hk => hs n s.1 s.2.1 s.2.2.1 s.2.2.2 hI (fun b1 b2 b3 b4 h9 hm => hk (b1, b2, b3, b4) h9 hm)) (a1, a2, a3, a4) h
theorem lp5 {A1 A2 A3 A4 A5 : Type} (W : Nat → A1 → A2 → A3 → A4 → A5 → Prop) (I : A1 → A2 → A3 → A4 → A5 → Prop) (μ : A1 → A2 → A3 → A4 → A5 → Nat) (hs : ∀ (n : Nat) (a1 : A1) (a2 : A2) (a3 : A3) (a4 : A4) (a5 : A5), I a1 a2 a3 a4 a5 → (∀ (b1 : A1) (b2 : A2) (b3 : A3) (b4 : A4) (b5 : A5), I b1 b2 b3 b4 b5 → μ b1 b2 b3 b4 b5 < μ a1 a2 a3 a4 a5 → W n b1 b2 b3 b4 b5) → W (n + 1) a1 a2 a3 a4 a5) (a1 : A1) (a2 : A2) (a3 : A3) (a4 : A4) (a5 : A5) (h : I a1 a2 a3 a4 a5) : ∃ n, W n a1 a2 a3 a4 a5 :=
  loop_m (σ := A1 × A2 × A3 × A4 × A5) (fun n s => W n s.1 s.2.1 s.2.2.1 s.2.2.2.1 s.2.2.2.2) (fun s => I s.1 s.2.1 s.2.2.1 s.2.2.2.1 s.2.2.2.2) (fun s => μ s.1 s.2.1 s.2.2.1 s.2.2.2.1 s.2.2.2.2) (fun n s hI hk => hs n s.1 s.2.1 s.2.2.1 s.2.2.2.1 s.2.2.2.2 hI (fun b1 b2 b3 b4 b5 h9 hm => hk (b1, b2, b3, b4, b5) h9 hm)) (a1, a2, a3, a4, a5) h
theorem lp6 {A1 A2 A3 A4 A5 A6 : Type} (W : Nat → A1 → A2 → A3 → A4 → A5 → A6 → Prop) (I : A1 → A2 → A3 → A4 → A5 → A6 → Prop) (μ : A1 → A2 → A3 → A4 → A5 → A6 → Nat) (hs : ∀ (n : Nat) (a1 : A1) (a2 : A2) (a3 : A3) (a4 : A4) (a5 : A5) (a6 : A6), I a1 a2 a3 a4 a5 a6 → (∀ (b1 : A1) (b2 : A2) (b3 : A3) (b4 : A4) (b5 : A5) (b6 : A6), I b1 b2 b3 b4 b5 b6 → μ b1 b2 b3 b4 b5 b6 < μ a1 a2 a3 a4 a5 a6 → W n b1 b2 b3 b4 b5 b6) → W (n + 1) a1 a2 a3 a4 a5 a6) (a1 : A1) (a2 : A2) (a3 : A3) (a4 : A4) (a5 : A5) (a6 : A6) (h : I a1 a2 a3 a4 a5 a6) : ∃ n, W n a1 a2 a3 a4 a5 a6 :=
  loop_m (σ := A1 × A2 × A3 × A4 × A5 × A6) (fun n s => W n s.1 s.2.1 s.2.2.1 s.2.2.2.1 s.2.2.2.2.1 s.2.2.2.2.2) (fun s => I s.1 s.2.1 s.2.2.1 s.2.2.2.1 s.2.2.2.2.1 s.2.2.2.2.2) (fun s => μ s.1 s.2.1 s.2.2.1 s.2.2.2.1 s.2.2.2.2.1 s.2.2.2.2.2) (fun n s hI hk => hs n s.1 s.2.1 s.2.2.1 s.2.2.2.1 s.2.2.2.2.1 s.2.2.2.2.2 hI (fun b1 b2 b3 b4 b5 b6 h9 hm => hk (b1, b2, b3, b4, b5, b6) h9 hm)) (a1, a2, a3, a4, a5, a6) h
theorem lp7 {A1 A2 A3 A4 A5 A6 A7 : Type} (W : Nat → A1 → A2 → A3 → A4 → A5 → A6 → A7 → Prop) (I : A1 → A2 → A3 → A4 → A5 → A6 → A7 → Prop) (μ : A1 → A2 → A3 → A4 → A5 → A6 → A7 → Nat) (hs : ∀ (n : Nat) (a1 : A1) (a2 : A2) (a3 : A3) (a4 : A4) (a5 : A5) (a6 : A6) (a7 : A7), I a1 a2 a3 a4 a5 a6 a7 → (∀ (b1 : A1) (b2 : A2) (b3 : A3) (b4 : A4) (b5 : A5) (b6 : A6) (b7 : A7), I b1 b2 b3 b4 b5 b6 b7 → μ b1 b2 b3 b4 b5 b6 b7 < μ a1 a2 a3 a4 a5 a6 a7 → W n b1 b2 b3 b4 b5 b6 b7) → W (n + 1) a1 a2 a3 a4 a5 a6 a7) (a1 : A1) (a2 : A2) (a3 : A3) (a4 : A4) (a5 : A5) (a6 : A6) (a7 : A7) (h : I a1 a2 a3 a4 a5 a6 a7) : ∃ n, W n a1 a2 a3 a4 a5 a6 a7 :=
  loop_m (σ := A1 × A2 × A3 × A4 × A5 × A6 × A7) (fun n s => W n s.1 s.2.1 s.2.2.1 s.2.2.2.1 s.2.2.2.2.1 s.2.2.2.2.2.1 s.2.2.2.2.2.2) (fun s => I s.1 s.2.1 s.2.2.1 s.2.2.2.1 s.2.2.2.2.1 s.2.2.2.2.2.1 s.2.2.2.2.2.2) (fun s => μ s.1 s.2.1 s.2.2.1 s.2.2.2.1 s.2.2.2.2.1 s.2.2.2.2.2.1 s.2.2.2.2.2.2) (fun n s hI hk => hs n s.1 s.2.1 s.2.2.1 s.2.2.2.1 s.2.2.2.2.1 s.2.2.2.2.2.1 s.2.2.2.2.2.2 hI (fun b1 b2 b3 b4 b5 b6 b7 h9 hm => hk (b1, b2, b3, b4, b5, b6, b7) h9 hm)) (a1, a2, a3, a4, a5, a6, a7) h
theorem lp8 {A1 A2 A3 A4 A5 A6 A7 A8 : Type} (W : Nat → A1 → A2 → A3 → A4 → A5 → A6 → A7 → A8 → Prop) (I : A1 → A2 → A3 → A4 → A5 → A6 → A7 → A8 → Prop) (μ : A1 → A2 → A3 → A4 → A5 → A6 → A7 → A8 → Nat) (hs : ∀ (n : Nat) (a1 : A1) (a2 : A2) (a3 : A3) (a4 : A4) (a5 : A5) (a6 : A6) (a7 : A7) (a8 : A8), I a1 a2 a3 a4 a5 a6 a7 a8 → (∀ (b1 : A1) (b2 : A2) (b3 : A3) (b4 : A4) (b5 : A5) (b6 : A6) (b7 : A7) (b8 : A8), I b1 b2 b3 b4 b5 b6 b7 b8 → μ b1 b2 b3 b4 b5 b6 b7 b8 < μ a1 a2 a3 a4 a5 a6 a7 a8 → W n b1 b2 b3 b4 b5 b6 b7 b8) → W (n + 1) a1 a2 a3 a4 a5 a6 a7 a8) (a1 : A1) (a2 : A2) (a3 : A3) (a4 : A4) (a5 : A5) (a6 : A6) (a7 : A7) (a8 : A8) (h : I a1 a2 a3 a4 a5 a6 a7 a8) : ∃ n, W n a1 a2 a3 a4 a5 a6 a7 a8 :=
  loop_m (σ := A1 × A2 × A3 × A4 × A5 × A6 × A7 × A8) (fun n s => W n s.1 s.2.1 s.2.2.1 s.2.2.2.1 s.2.2.2.2.1 s.2.2.2.2.2.1 s.2.2.2.2.2.2.1 s.2.2.2.2.2.2.2) (fun s => I s.1 s.2.1 s.2.2.1 s.2.2.2.1 s.2.2.2.2.1 s.2.2.2.2.2.1 s.2.2.2.2.2.2.1 s.2.2.2.2.2.2.2) (fun s => μ s.1 s.2.1 s.2.2.1 s.2.2.2.1 s.2.2.2.2.1 s.2.2.2.2.2.1 s.2.2.2.2.2.2.1 s.2.2.2.2.2.2.2) (fun n s hI hk => hs n s.1 s.2.1 s.2.2.1 s.2.2.2.1 s.2.2.2.2.1 s.2.2.2.2.2.1 s.2.2.2.2.2.2.1 s.2.2.2.2.2.2.2 hI (fun b1 b2 b3 b4 b5 b6 b7 b8 h9 hm => hk (b1, b2, b3, b4, b5, b6, b7, b8) h9 hm)) (a1, a2, a3, a4, a5, a6, a7, a8) h
theorem lp9 {A1 A2 A3 A4 A5 A6 A7 A8 A9 : Type} (W : Nat → A1 → A2 → A3 → A4 → A5 → A6 → A7 → A8 → A9 → Prop) (I : A1 → A2 → A3 → A4 → A5 → A6 → A7 → A8 → A9 → Prop) (μ : A1 → A2 → A3 → A4 → A5 → A6 → A7 → A8 → A9 → Nat) (hs : ∀ (n : Nat) (a1 : A1) (a2 : A2) (a3 : A3) (a4 : A4) (a5 : A5) (a6 : A6) (a7 : A7) (a8 : A8) (a9 : A9), I a1 a2 a3 a4 a5 a6 a7 a8 a9 → (∀ (b1 : A1) (b2 : A2) (b3 : A3) (b4 : A4) (b5 : A5) (b6 : A6) (b7 : A7) (b8 : A8) (b9 : A9), I b1 b2 b3 b4 b5 b6 b7 b8 b9 → μ b1 b2 b3 b4 b5 b6 b7 b8 b9 < μ a1 a2 a3 a4 a5 a6 a7 a8 a9 → W n b1 b2 b3 b4 b5 b6 b7 b8 b9) → W (n + 1) a1 a2 a3 a4 a5 a6 a7 a8 a9) (a1 : A1) (a2 : A2) (a3 : A3) (a4 : A4) (a5 : A5) (a6 : A6) (a7 : A7) (a8 : A8) (a9 : A9) (h : I a1 a2 a3 a4 a5 a6 a7 a8 a9) : ∃ n, W n a1 a2 a3 a4 a5 a6 a7 a8 a9 :=
  loop_m (σ := A1 × A2 × A3 × A4 × A5 × A6 × A7 × A8 × A9) (fun n s => W n s.1 s.2.1 s.2.2.1 s.2.2.2.1 s.2.2.2.2.1 s.2.2.2.2.2.1 s.2.2.2.2.2.2.1 s.2.2.2.2.2.2.2.1 s.2.2.2.2.2.2.2.2) (fun s => I s.1 s.2.1 s.2.2.1 s.2.2.2.1 s.2.2.2.2.1 s.2.2.2.2.2.1 s.2.2.2.2.2.2.1 s.2.2.2.2.2.2.2.1 s.2.2.2.2.2.2.2.2) (fun s => μ s.1 s.2.1 s.2.2.1 s.2.2.2.1 s.2.2.2.2.1 s.2.2.2.2.2.1 s.2.2.2.2.2.2.1 s.2.2.2.2.2.2.2.1 s.2.2.2.2.2.2.2.2) (fun n s hI hk => hs n s.1 s.2.1 s.2.2.1 s.2.2.2.1 s.2.2.2.2.1 s.2.2.2.2.2.1 s.2.2.2.2.2.2.1 s.2.2.2.2.2.2.2.1 s.2.2.2.2.2.2.2.2 hI (fun b1 b2 b3 b4 b5 b6 b7 b8 b9 h9 hm => hk (b1, b2, b3, b4, b5, b6, b7, b8, b9) h9 hm)) (a1, a2, a3, a4, a5, a6, a7, a8, a9) h
theorem lp10 {A1 A2 A3 A4 A5 A6 A7 A8 A9 A10 : Type} (W : Nat → A1 → A2 → A3 → A4 → A5 → A6 → A7 → A8 → A9 → A10 → Prop) (I : A1 → A2 → A3 → A4 → A5 → A6 → A7 → A8 → A9 → A10 → Prop) (μ : A1 → A2 → A3 → A4 → A5 → A6 → A7 → A8 → A9 → A10 → Nat) (hs : ∀ (n : Nat) (a1 : A1) (a2 : A2) (a3 : A3) (a4 : A4) (a5 : A5) (a6 : A6) (a7 : A7) (a8 : A8) (a9 : A9) (a10 : A10), I a1 a2 a3 a4 a5 a6 a7 a8 a9 a10 → (∀ (b1 : A1) (b2 : A2) (b3 : A3) (b4 : A4) (b5 : A5) (b6 : A6) (b7 : A7) (b8 : A8) (b9 : A9) (b10 : A10), I b1 b2 b3 b4 b5 b6 b7 b8 b9 b10 → μ b1 b2 b3 b4 b5 b6 b7 b8 b9 b10 < μ a1 a2 a3 a4 a5 a6 a7 a8 a9 a10 → W n b1 b2 b3 b4 b5 b6 b7 b8 b9 b10) → W (n + 1) a1 a2 a3 a4 a5 a6 a7 a8 a9 a10) (a1 : A1) (a2 : A2) (a3 : A3) (a4 : A4) (a5 : A5) (a6 : A6) (a7 : A7) (a8 : A8) (a9 : A9) (a10 : A10) (h : I a1 a2 a3 a4 a5 a6 a7 a8 a9 a10) : ∃ n, W n a1 a2 a3 a4 a5 a6 a7 a8 a9 a10 :=
  loop_m (σ := A1 × A2 × A3 × A4 × A5 × A6 × A7 × A8 × A9 × A10) (fun n s => W n s.1 s.2.1 s.2.2.1 s.2.2.2.1 s.2.2.2.2.1 s.2.2.2.2.2.1 s.2.2.2.2.2.2.1 s.2.2.2.2.2.2.2.1 s.2.2.2.2.2.2.2.2.1 s.2.2.2.2.2.2.2.2.2) (fun s => I s.1 s.2.1 s.2.2.1 s.2.2.2.1 s.2.2.2.2.1 s.2.2.2.2.2.1 s.2.2.2.2.2.2.1 s.2.2.2.2.2.2.2.1 s.2.2.2.2.2.2.2.2.1 s.2.2.2.2.2.2.2.2.2) (fun s => μ s.1 s.2.1 s.2.2.1 s.2.2.2.1 s.2.2.2.2.1 s.2.2.2.2.2.1 s.2.2.2.2.2.2.1 s.2.2.2.2.2.2.2.1 s.2.2.2.2.2.2.2.2.1 s.2.2.2.2.2.2.2.2.2) (fun n s hI hk => hs n s.1 s.2.1 s.2.2.1 s.2.2.2.1 s.2.2.2.2.1 s.2.2.2.2.2.1 s.2.2.2.2.2.2.1 s.2.2.2.2.2.2.2.1 s.2.2.2.2.2.2.2.2.1 s.2.2.2.2.2.2.2.2.2 hI (fun b1 b2 b3 b4 b5 b6 b7 b8 b9 b10 h9 hm => hk (b1, b2, b3, b4, b5, b6, b7, b8, b9, b10) h9 hm)) (a1, a2, a3, a4, a5, a6, a7, a8, a9, a10) h
theorem lp11 {A1 A2 A3 A4 A5 A6 A7 A8 A9 A10 A11 : Type} (W : Nat → A1 → A2 → A3 → A4 → A5 → A6 → A7 → A8 → A9 → A10 → A11 → Prop) (I : A1 → A2 → A3 → A4 → A5 → A6 → A7 → A8 → A9 → A10 → A11 → Prop) (μ : A1 → A2 → A3 → A4 → A5 → A6 → A7 → A8 → A9 → A10 → A11 → Nat) (hs : ∀ (n : Nat) (a1 : A1) (a2 : A2) (a3 : A3) (a4 : A4) (a5 : A5) (a6 : A6) (a7 : A7) (a8 : A8) (a9 : A9) (a10 : A10) (a11 : A11), I a1 a2 a3 a4 a5 a6 a7 a8 a9 a10 a11 → (∀ (b1 : A1) (b2 : A2) (b3 : A3) (b4 : A4) (b5 : A5) (b6 : A6) (b7 : A7) (b8 : A8) (b9 : A9) (b10 : A10) (b11 : A11), I b1 b2 b3 b4 b5 b6 b7 b8 b9 b10 b11 → μ b1 b2 b3 b4 b5 b6 b7 b8 b9 b10 b11 < μ a1 a2 a3 a4 a5 a6 a7 a8 a9 a10 a11 → W n b1 b2 b3 b4 b5 b6 b7 b8 b9 b10 b11) → W (n + 1) a1 a2 a3 a4 a5 a6 a7 a8 a9 a10 a11) (a1 : A1) (a2 : A2) (a3 : A3) (a4 : A4) (a5 : A5) (a6 : A6) (a7 : A7) (a8 : A8) (a9 : A9) (a10 : A10) (a11 : A11) (h : I a1 a2 a3 a4 a5 a6 a7 a8 a9 a10 a11) : ∃ n, W n a1 a2 a3 a4 a5 a6 a7 a8 a9 a10 a11 :=
  loop_m (σ := A1 × A2 × A3 × A4 × A5 × A6 × A7 × A8 × A9 × A10 × A11) (fun n s => W n s.1 s.2.1 s.2.2.1 s.2.2.2.1 s.2.2.2.2.1 s.2.2.2.2.2.1 s.2.2.2.2.2.2.1 s.2.2.2.2.2.2.2.1 s.2.2.2.2.2.2.2.2.1 s.2.2.2.2.2.2.2.2.2.1 s.2.2.2.2.2.2.2.2.2.2) (fun s => I s.1 s.2.1 s.2.2.1 s.2.2.2.1 s.2.2.2.2.1 s.2.2.2.2.2.1 s.2.2.2.2.2.2.1 s.2.2.2.2.2.2.2.1 s.2.2.2.2.2.2.2.2.1 s.2.2.2.2.2.2.2.2.2.1 s.2.2.2.2.2.2.2.2.2.2) (fun s => μ s.1 s.2.1 s.2.2.1 s.2.2.2.1 s.2.2.2.2.1 s.2.2.2.2.2.1 s.2.2.2.2.2.2.1 s.2.2.2.2.2.2.2.1 s.2.2.2.2.2.2.2.2.1 s.2.2.2.2.2.2.2.2.2.1 s.2.2.2.2.2.2.2.2.2.2) (fun n s hI hk => hs n s.1 s.2.1 s.2.2.1 s.2.2.2.1 s.2.2.2.2.1 s.2.2.2.2.2.1 s.2.2.2.2.2.2.1 s.2.2.2.2.2.2.2.1 s.2.2.2.2.2.2.2.2.1 s.2.2.2.2.2.2.2.2.2.1 s.2.2.2.2.2.2.2.2.2.2 hI (fun b1 b2 b3 b4 b5 b6 b7 b8 b9 b10 b11 h9 hm => hk (b1, b2, b3, b4, b5, b6, b7, b8, b9, b10, b11) h9 hm)) (a1, a2, a3, a4, a5, a6, a7, a8, a9, a10, a11) h
theorem lp12 {A1 A2 A3 A4 A5 A6 A7 A8 A9 A10 A11 A12 : Type} (W : Nat → A1 → A2 → A3 → A4 → A5 → A6 → A7 → A8 → A9 → A10 → A11 → A12 → Prop) (I : A1 → A2 → A3 → A4 → A5 → A6 → A7 → A8 → A9 → A10 → A11 → A12 → Prop) (μ : A1 → A2 → A3 → A4 → A5 → A6 → A7 → A8 → A9 → A10 → A11 → A12 → Nat) (hs : ∀ (n : Nat) (a1 : A1) (a2 : A2) (a3 : A3) (a4 : A4) (a5 : A5) (a6 : A6) (a7 : A7) (a8 : A8) (a9 : A9) (a10 : A10) (a11 : A11) (a12 : A12), I a1 a2 a3 a4 a5 a6 a7 a8 a9 a10 a11 a12 → (∀ (b1 : A1) (b2 : A2) (b3 : A3) (b4 : A4) (b5 : A5) (b6 : A6) (b7 : A7) (b8 : A8) (b9 : A9) (b10 : A10) (b11 : A11) (b12 : A12), I b1 b2 b3 b4 b5 b6 b7 b8 b9 b10 b11 b12 → μ b1 b2 b3 b4 b5 b6 b7 b8 b9 b10 b11 b12 < μ a1 a2 a3 a4 a5 a6 a7 a8 a9 a10 a11 a12 → W n b1 b2 b3 b4 b5 b6 b7 b8 b9 b10 b11 b12) → W (n + 1) a1 a2 a3 a4 a5 a6 a7 a8 a9 a10 a11 a12) (a1 : A1) (a2 : A2) (a3 : A3) (a4 : A4) (a5 : A5) (a6 : A6) (a7 : A7) (a8 : A8) (a9 : A9) (a10 : A10) (a11 : A11) (a12 : A12) (h : I a1 a2 a3 a4 a5 a6 a7 a8 a9 a10 a11 a12) : ∃ n, W n a1 a2 a3 a4 a5 a6 a7 a8 a9 a10 a11 a12 :=
  loop_m (σ := A1 × A2 × A3 × A4 × A5 × A6 × A7 × A8 × A9 × A10 × A11 × A12) (fun n s => W n s.1 s.2.1 s.2.2.1 s.2.2.2.1 s.2.2.2.2.1 s.2.2.2.2.2.1 s.2.2.2.2.2.2.1 s.2.2.2.2.2.2.2.1 s.2.2.2.2.2.2.2.2.1 s.2.2.2.2.2.2.2.2.2.1 s.2.2.2.2.2.2.2.2.2.2.1 s.2.2.2.2.2.2.2.2.2.2.2) (fun s => I s.1 s.2.1 s.2.2.1 s.2.2.2.1 s.2.2.2.2.1 s.2.2.2.2.2.1 s.2.2.2.2.2.2.1 s.2.2.2.2.2.2.2.1 s.2.2.2.2.2.2.2.2.1 s.2.2.2.2.2.2.2.2.2.1 s.2.2.2.2.2.2.2.2.2.2.1 s.2.2.2.2.2.2.2.2.2.2.2) (fun s => μ s.1 s.2.1 s.2.2.1 s.2.2.2.1 s.2.2.2.2.1 s.2.2.2.2.2.1 s.2.2.2.2.2.2.1 s.2.2.2.2.2.2.2.1 s.2.2.2.2.2.2.2.2.1 s.2.2.2.2.2.2.2.2.2.1 s.2.2.2.2.2.2.2.2.2.2.1 s.2.2.2.2.2.2.2.2.2.2.2) (fun n s hI hk => hs n s.1 s.2.1 s.2.2.1 s.2.2.2.1 s.2.2.2.2.1 s.2.2.2.2.2.1 s.2.2.2.2.2.2.1 s.2.2.2.2.2.2.2.1 s.2.2.2.2.2.2.2.2.1 s.2.2.2.2.2.2.2.2.2.1 s.2.2.2.2.2.2.2.2.2.2.1 s.2.2.2.2.2.2.2.2.2.2.2 hI (fun b1 b2 b3 b4 b5 b6 b7 b8 b9 b10 b11 b12 h9 hm => hk (b1, b2, b3, b4, b5, b6, b7, b8, b9, b10, b11, b12) h9 hm)) (a1, a2, a3, a4, a5, a6, a7, a8, a9, a10, a11, a12) h
theorem lp13 {A1 A2 A3 A4 A5 A6 A7 A8 A9 A10 A11 A12 A13 : Type} (W : Nat → A1 → A2 → A3 → A4 → A5 → A6 → A7 → A8 → A9 → A10 → A11 → A12 → A13 → Prop) (I : A1 → A2 → A3 → A4 → A5 → A6 → A7 → A8 → A9 → A10 → A11 → A12 → A13 → Prop) (μ : A1 → A2 → A3 → A4 → A5 → A6 → A7 → A8 → A9 → A10 → A11 → A12 → A13 → Nat) (hs : ∀ (n : Nat) (a1 : A1) (a2 : A2) (a3 : A3) (a4 : A4) (a5 : A5) (a6 : A6) (a7 : A7) (a8 : A8) (a9 : A9) (a10 : A10) (a11 : A11) (a12 : A12) (a13 : A13), I a1 a2 a3 a4 a5 a6 a7 a8 a9 a10 a11 a12 a13 → (∀ (b1 : A1) (b2 : A2) (b3 : A3) (b4 : A4) (b5 : A5) (b6 : A6) (b7 : A7) (b8 : A8) (b9 : A9) (b10 : A10) (b11 : A11) (b12 : A12) (b13 : A13), I b1 b2 b3 b4 b5 b6 b7 b8 b9 b10 b11 b12 b13 → μ b1 b2 b3 b4 b5 b6 b7 b8 b9 b10 b11 b12 b13 < μ a1 a2 a3 a4 a5 a6 a7 a8 a9 a10 a11 a12 a13 → W n b1 b2 b3 b4 b5 b6 b7 b8 b9 b10 b11 b12 b13) → W (n + 1) a1 a2 a3 a4 a5 a6 a7 a8 a9 a10 a11 a12 a13) (a1 : A1) (a2 : A2) (a3 : A3) (a4 : A4) (a5 : A5) (a6 : A6) (a7 : A7) (a8 : A8) (a9 : A9) (a10 : A10) (a11 : A11) (a12 : A12) (a13 : A13) (h : I a1 a2 a3 a4 a5 a6 a7 a8 a9 a10 a11 a12 a13) : ∃ n, W n a1 a2 a3 a4 a5 a6 a7 a8 a9 a10 a11 a12 a13 :=
  loop_m (σ := A1 × A2 × A3 × A4 × A5 × A6 × A7 × A8 × A9 × A10 × A11 × A12 × A13) (fun n s => W n s.1 s.2.1 s.2.2.1 s.2.2.2.1 s.2.2.2.2.1 s.2.2.2.2.2.1 s.2.2.2.2.2.2.1 s.2.2.2.2.2.2.2.1 s.2.2.2.2.2.2.2.2.1 s.2.2.2.2.2.2.2.2.2.1 s.2.2.2.2.2.2.2.2.2.2.1 s.2.2.2.2.2.2.2.2.2.2.2.1 s.2.2.2.2.2.2.2.2.2.2.2.2) (fun s => I s.1 s.2.1 s.2.2.1 s.2.2.2.1 s.2.2.2.2.1 s.2.2.2.2.2.1 s.2.2.2.2.2.2.1 s.2.2.2.2.2.2.2.1 s.2.2.2.2.2.2.2.2.1 s.2.2.2.2.2.2.2.2.2.1 s.2.2.2.2.2.2.2.2.2.2.1 s.2.2.2.2.2.2.2.2.2.2.2.1 s.2.2.2.2.2.2.2.2.2.2.2.2) (fun s => μ s.1 s.2.1 s.2.2.1 s.2.2.2.1 s.2.2.2.2.1 s.2.2.2.2.2.1 s.2.2.2.2.2.2.1 s.2.2.2.2.2.2.2.1 s.2.2.2.2.2.2.2.2.1 s.2.2.2.2.2.2.2.2.2.1 s.2.2.2.2.2.2.2.2.2.2.1 s.2.2.2.2.2.2.2.2.2.2.2.1 s.2.2.2.2.2.2.2.2.2.2.2.2) (fun n s hI hk => hs n s.1 s.2.1 s.2.2.1 s.2.2.2.1 s.2.2.2.2.1 s.2.2.2.2.2.1 s.2.2.2.2.2.2.1 s.2.2.2.2.2.2.2.1 s.2.2.2.2.2.2.2.2.1 s.2.2.2.2.2.2.2.2.2.1 s.2.2.2.2.2.2.2.2.2.2.1 s.2.2.2.2.2.2.2.2.2.2.2.1 s.2.2.2.2.2.2.2.2.2.2.2.2 hI (fun b1 b2 b3 b4 b5 b6 b7 b8 b9 b10 b11 b12 b13 h9 hm => hk (b1, b2, b3, b4, b5, b6, b7, b8, b9, b10, b11, b12, b13) h9 hm)) (a1, a2, a3, a4, a5, a6, a7, a8, a9, a10, a11, a12, a13) h
theorem lp14 {A1 A2 A3 A4 A5 A6 A7 A8 A9 A10 A11 A12 A13 A14 : Type} (W : Nat → A1 → A2 → A3 → A4 → A5 → A6 → A7 → A8 → A9 → A10 → A11 → A12 → A13 → A14 → Prop) (I : A1 → A2 → A3 → A4 → A5 → A6 → A7 → A8 → A9 → A10 → A11 → A12 → A13 → A14 → Prop) (μ : A1 → A2 → A3 → A4 → A5 → A6 → A7 → A8 → A9 → A10 → A11 → A12 → A13 → A14 → Nat) (hs : ∀ (n : Nat) (a1 : A1) (a2 : A2) (a3 : A3) (a4 : A4) (a5 : A5) (a6 : A6) (a7 : A7) (a8 : A8) (a9 : A9) (a10 : A10) (a11 : A11) (a12 : A12) (a13 : A13) (a14 : A14), I a1 a2 a3 a4 a5 a6 a7 a8 a9 a10 a11 a12 a13 a14 → (∀ (b1 : A1) (b2 : A2) (b3 : A3) (b4 : A4) (b5 : A5) (b6 : A6) (b7 : A7) (b8 : A8) (b9 : A9) (b10 : A10) (b11 : A11) (b12 : A12) (b13 : A13) (b14 : A14), I b1 b2 b3 b4 b5 b6 b7 b8 b9 b10 b11 b12 b13 b14 → μ b1 b2 b3 b4 b5 b6 b7 b8 b9 b10 b11 b12 b13 b14 < μ a1 a2 a3 a4 a5 a6 a7 a8 a9 a10 a11 a12 a13 a14 → W n b1 b2 b3 b4 b5 b6 b7 b8 b9 b10 b11 b12 b13 b14) → W (n + 1) a1 a2 a3 a4 a5 a6 a7 a8 a9 a10 a11 a12 a13 a14) (a1 : A1) (a2 : A2) (a3 : A3) (a4 : A4) (a5 : A5) (a6 : A6) (a7 : A7) (a8 : A8) (a9 : A9) (a10 : A10) (a11 : A11) (a12 : A12) (a13 : A13) (a14 : A14) (h : I a1 a2 a3 a4 a5 a6 a7 a8 a9 a10 a11 a12 a13 a14) : ∃ n, W n a1 a2 a3 a4 a5 a6 a7 a8 a9 a10 a11 a12 a13 a14 :=
  loop_m (σ := A1 × A2 × A3 × A4 × A5 × A6 × A7 × A8 × A9 × A10 × A11 × A12 × A13 × A14) (fun n s => W n s.1 s.2.1 s.2.2.1 s.2.2.2.1 s.2.2.2.2.1 s.2.2.2.2.2.1 s.2.2.2.2.2.2.1 s.2.2.2.2.2.2.2.1 s.2.2.2.2.2.2.2.2.1 s.2.2.2.2.2.2.2.2.2.1 s.2.2.2.2.2.2.2.2.2.2.1 s.2.2.2.2.2.2.2.2.2.2.2.1 s.2.2.2.2.2.2.2.2.2.2.2.2.1 s.2.2.2.2.2.2.2.2.2.2.2.2.2) (fun s => I s.1 s.2.1 s.2.2.1 s.2.2.2.1 s.2.2.2.2.1 s.2.2.2.2.2.1 s.2.2.2.2.2.2.1 s.2.2.2.2.2.2.2.1 s.2.2.2.2.2.2.2.2.1 s.2.2.2.2.2.2.2.2.2.1 s.2.2.2.2.2.2.2.2.2.2.1 s.2.2.2.2.2.2.2.2.2.2.2.1 s.2.2.2.2.2.2.2.2.2.2.2.2.1 s.2.2.2.2.2.2.2.2.2.2.2.2.2) (fun s => μ s.1 s.2.1 s.2.2.1 s.2.2.2.1 s.2.2.2.2.1 s.2.2.2.2.2.1 s.2.2.2.2.2.2.1 s.2.2.2.2.2.2.2.1 s.2.2.2.2.2.2.2.2.1 s.2.2.2.2.2.2.2.2.2.1 s.2.2.2.2.2.2.2.2.2.2.1 s.2.2.2.2.2.2.2.2.2.2.2.1 s.2.2.2.2.2.2.2.2.2.2.2.2.1 s.2.2.2.2.2.2.2.2.2.2.2.2.2) (fun n s hI hk => hs n s.1 s.2.1 s.2.2.1 s.2.2.2.1 s.2.2.2.2.1 s.2.2.2.2.2.1 s.2.2.2.2.2.2.1 s.2.2.2.2.2.2.2.1 s.2.2.2.2.2.2.2.2.1 s.2.2.2.2.2.2.2.2.2.1 s.2.2.2.2.2.2.2.2.2.2.1 s.2.2.2.2.2.2.2.2.2.2.2.1 s.2.2.2.2.2.2.2.2.2.2.2.2.1 s.2.2.2.2.2.2.2.2.2.2.2.2.2 hI (fun b1 b2 b3 b4 b5 b6 b7 b8 b9 b10 b11 b12 b13 b14 h9 hm => hk (b1, b2, b3, b4, b5, b6, b7, b8, b9, b10, b11, b12, b13, b14) h9 hm)) (a1, a2, a3, a4, a5, a6, a7, a8, a9, a10, a11, a12, a13, a14) h
theorem lp15 {A1 A2 A3 A4 A5 A6 A7 A8 A9 A10 A11 A12 A13 A14 A15 : Type} (W : Nat → A1 → A2 → A3 → A4 → A5 → A6 → A7 → A8 → A9 → A10 → A11 → A12 → A13 → A14 → A15 → Prop) (I : A1 → A2 → A3 → A4 → A5 → A6 → A7 → A8 → A9 → A10 → A11 → A12 → A13 → A14 → A15 → Prop) (μ : A1 → A2 → A3 → A4 → A5 → A6 → A7 → A8 → A9 → A10 → A11 → A12 → A13 → A14 → A15 → Nat) (hs : ∀ (n : Nat) (a1 : A1) (a2 : A2) (a3 : A3) (a4 : A4) (a5 : A5) (a6 : A6) (a7 : A7) (a8 : A8) (a9 : A9) (a10 : A10) (a11 : A11) (a12 : A12) (a13 : A13) (a14 : A14) (a15 : A15), I a1 a2 a3 a4 a5 a6 a7 a8 a9 a10 a11 a12 a13 a14 a15 → (∀ (b1 : A1) (b2 : A2) (b3 : A3) (b4 : A4) (b5 : A5) (b6 : A6) (b7 : A7) (b8 : A8) (b9 : A9) (b10 : A10) (b11 : A11) (b12 : A12) (b13 : A13) (b14 : A14) (b15 : A15), I b1 b2 b3 b4 b5 b6 b7 b8 b9 b10 b11 b12 b13 b14 b15 → μ b1 b2 b3 b4 b5 b6 b7 b8 b9 b10 b11 b12 b13 b14 b15 < μ a1 a2 a3 a4 a5 a6 a7 a8 a9 a10 a11 a12 a13 a14 a15 → W n b1 b2 b3 b4 b5 b6 b7 b8 b9 b10 b11 b12 b13 b14 b15) → W (n + 1) a1 a2 a3 a4 a5 a6 a7 a8 a9 a10 a11 a12 a13 a14 a15) (a1 : A1) (a2 : A2) (a3 : A3) (a4 : A4) (a5 : A5) (a6 : A6) (a7 : A7) (a8 : A8) (a9 : A9) (a10 : A10) (a11 : A11) (a12 : A12) (a13 : A13) (a14 : A14) (a15 : A15) (h : I a1 a2 a3 a4 a5 a6 a7 a8 a9 a10 a11 a12 a13 a14 a15) : ∃ n, W n a1 a2 a3 a4 a5 a6 a7 a8 a9 a10 a11 a12 a13 a14 a15 :=
  loop_m (σ := A1 × A2 × A3 × A4 × A5 × A6 × A7 × A8 × A9 × A10 × A11 × A12 × A13 × A14 × A15) (fun n s => W n s.1 s.2.1 s.2.2.1 s.2.2.2.1 s.2.2.2.2.1 s.2.2.2.2.2.1 s.2.2.2.2.2.2.1 s.2.2.2.2.2.2.2.1 s.2.2.2.2.2.2.2.2.1 s.2.2.2.2.2.2.2.2.2.1 s.2.2.2.2.2.2.2.2.2.2.1 s.2.2.2.2.2.2.2.2.2.2.2.1 s.2.2.2.2.2.2.2.2.2.2.2.2.1 s.2.2.2.2.2.2.2.2.2.2.2.2.2.1 s.2.2.2.2.2.2.2.2.2.2.2.2.2.2) (fun s => I s.1 s.2.1 s.2.2.1 s.2.2.2.1 s.2.2.2.2.1 s.2.2.2.2.2.1 s.2.2.2.2.2.2.1 s.2.2.2.2.2.2.2.1 s.2.2.2.2.2.2.2.2.1 s.2.2.2.2.2.2.2.2.2.1 s.2.2.2.2.2.2.2.2.2.2.1 s.2.2.2.2.2.2.2.2.2.2.2.1 s.2.2.2.2.2.2.2.2.2.2.2.2.1 s.2.2.2.2.2.2.2.2.2.2.2.2.2.1 s.2.2.2.2.2.2.2.2.2.2.2.2.2.2) (fun s => μ s.1 s.2.1 s.2.2.1 s.2.2.2.1 s.2.2.2.2.1 s.2.2.2.2.2.1 s.2.2.2.2.2.2.1 s.2.2.2.2.2.2.2.1 s.2.2.2.2.2.2.2.2.1 s.2.2.2.2.2.2.2.2.2.1 s.2.2.2.2.2.2.2.2.2.2.1 s.2.2.2.2.2.2.2.2.2.2.2.1 s.2.2.2.2.2.2.2.2.2.2.2.2.1 s.2.2.2.2.2.2.2.2.2.2.2.2.2.1 s.2.2.2.2.2.2.2.2.2.2.2.2.2.2) (fun n s hI hk => hs n s.1 s.2.1 s.2.2.1 s.2.2.2.1 s.2.2.2.2.1 s.2.2.2.2.2.1 s.2.2.2.2.2.2.1 s.2.2.2.2.2.2.2.1 s.2.2.2.2.2.2.2.2.1 s.2.2.2.2.2.2.2.2.2.1 s.2.2.2.2.2.2.2.2.2.2.1 s.2.2.2.2.2.2.2.2.2.2.2.1 s.2.2.2.2.2.2.2.2.2.2.2.2.1 s.2.2.2.2.2.2.2.2.2.2.2.2.2.1 s.2.2.2.2.2.2.2.2.2.2.2.2.2.2 hI (fun b1 b2 b3 b4 b5 b6 b7 b8 b9 b10 b11 b12 b13 b14 b15 h9 hm => hk (b1, b2, b3, b4, b5, b6, b7, b8, b9, b10, b11, b12, b13, b14, b15) h9 hm)) (a1, a2, a3, a4, a5, a6, a7, a8, a9, a10, a11, a12, a13, a14, a15) h
theorem lp16 {A1 A2 A3 A4 A5 A6 A7 A8 A9 A10 A11 A12 A13 A14 A15 A16 : Type} (W : Nat → A1 → A2 → A3 → A4 → A5 → A6 → A7 → A8 → A9 → A10 → A11 → A12 → A13 → A14 → A15 → A16 → Prop) (I : A1 → A2 → A3 → A4 → A5 → A6 → A7 → A8 → A9 → A10 → A11 → A12 → A13 → A14 → A15 → A16 → Prop) (μ : A1 → A2 → A3 → A4 → A5 → A6 → A7 → A8 → A9 → A10 → A11 → A12 → A13 → A14 → A15 → A16 → Nat) (hs : ∀ (n : Nat) (a1 : A1) (a2 : A2) (a3 : A3) (a4 : A4) (a5 : A5) (a6 : A6) (a7 : A7) (a8 : A8) (a9 : A9) (a10 : A10) (a11 : A11) (a12 : A12) (a13 : A13) (a14 : A14) (a15 : A15) (a16 : A16), I a1 a2 a3 a4 a5 a6 a7 a8 a9 a10 a11 a12 a13 a14 a15 a16 → (∀ (b1 : A1) (b2 : A2) (b3 : A3) (b4 : A4) (b5 : A5) (b6 : A6) (b7 : A7) (b8 : A8) (b9 : A9) (b10 : A10) (b11 : A11) (b12 : A12) (b13 : A13) (b14 : A14) (b15 : A15) (b16 : A16), I b1 b2 b3 b4 b5 b6 b7 b8 b9 b10 b11 b12 b13 b14 b15 b16 → μ b1 b2 b3 b4 b5 b6 b7 b8 b9 b10 b11 b12 b13 b14 b15 b16 < μ a1 a2 a3 a4 a5 a6 a7 a8 a9 a10 a11 a12 a13 a14 a15 a16 → W n b1 b2 b3 b4 b5 b6 b7 b8 b9 b10 b11 b12 b13 b14 b15 b16) → W (n + 1) a1 a2 a3 a4 a5 a6 a7 a8 a9 a10 a11 a12 a13 a14 a15 a16) (a1 : A1) (a2 : A2) (a3 : A3) (a4 : A4) (a5 : A5) (a6 : A6) (a7 : A7) (a8 : A8) (a9 : A9) (a10 : A10) (a11 : A11) (a12 : A12) (a13 : A13) (a14 : A14) (a15 : A15) (a16 : A16) (h : I a1 a2 a3 a4 a5 a6 a7 a8 a9 a10 a11 a12 a13 a14 a15 a16) : ∃ n, W n a1 a2 a3 a4 a5 a6 a7 a8 a9 a10 a11 a12 a13 a14 a15 a16 :=
  loop_m (σ := A1 × A2 × A3 × A4 × A5 × A6 × A7 × A8 × A9 × A10 × A11 × A12 × A13 × A14 × A15 × A16) (fun n s => W n s.1 s.2.1 s.2.2.1 s.2.2.2.1 s.2.2.2.2.1 s.2.2.2.2.2.1 s.2.2.2.2.2.2.1 s.2.2.2.2.2.2.2.1 s.2.2.2.2.2.2.2.2.1 s.2.2.2.2.2.2.2.2.2.1 s.2.2.2.2.2.2.2.2.2.2.1 s.2.2.2.2.2.2.2.2.2.2.2.1 s.2.2.2.2.2.2.2.2.2.2.2.2.1 s.2.2.2.2.2.2.2.2.2.2.2.2.2.1 s.2.2.2.2.2.2.2.2.2.2.2.2.2.2.1 s.2.2.2.2.2.2.2.2.2.2.2.2.2.2.2) (fun s => I s.1 s.2.1 s.2.2.1 s.2.2.2.1 s.2.2.2.2.1 s.2.2.2.2.2.1 s.2.2.2.2.2.2.1 s.2.2.2.2.2.2.2.1 s.2.2.2.2.2.2.2.2.1 s.2.2.2.2.2.2.2.2.2.1 s.2.2.2.2.2.2.2.2.2.2.1 s.2.2.2.2.2.2.2.2.2.2.2.1 s.2.2.2.2.2.2.2.2.2.2.2.2.1 s.2.2.2.2.2.2.2.2.2.2.2.2.2.1 s.2.2.2.2.2.2.2.2.2.2.2.2.2.2.1 s.2.2.2.2.2.2.2.2.2.2.2.2.2.2.2) (fun s => μ s.1 s.2.1 s.2.2.1 s.2.2.2.1 s.2.2.2.2.1 s.2.2.2.2.2.1 s.2.2.2.2.2.2.1 s.2.2.2.2.2.2.2.1 s.2.2.2.2.2.2.2.2.1 s.2.2.2.2.2.2.2.2.2.1 s.2.2.2.2.2.2.2.2.2.2.1 s.2.2.2.2.2.2.2.2.2.2.2.1 s.2.2.2.2.2.2.2.2.2.2.2.2.1 s.2.2.2.2.2.2.2.2.2.2.2.2.2.1 s.2.2.2.2.2.2.2.2.2.2.2.2.2.2.1 s.2.2.2.2.2.2.2.2.2.2.2.2.2.2.2) (fun n s hI hk => hs n s.1 s.2.1 s.2.2.1 s.2.2.2.1 s.2.2.2.2.1 s.2.2.2.2.2.1 s.2.2.2.2.2.2.1 s.2.2.2.2.2.2.2.1 s.2.2.2.2.2.2.2.2.1 s.2.2.2.2.2.2.2.2.2.1 s.2.2.2.2.2.2.2.2.2.2.1 s.2.2.2.2.2.2.2.2.2.2.2.1 s.2.2.2.2.2.2.2.2.2.2.2.2.1 s.2.2.2.2.2.2.2.2.2.2.2.2.2.1 s.2.2.2.2.2.2.2.2.2.2.2.2.2.2.1 s.2.2.2.2.2.2.2.2.2.2.2.2.2.2.2 hI (fun b1 b2 b3 b4 b5 b6 b7 b8 b9 b10 b11 b12 b13 b14 b15 b16 h9 hm => hk (b1, b2, b3, b4, b5, b6, b7, b8, b9, b10, b11, b12, b13, b14, b15, b16) h9 hm)) (a1, a2, a3, a4, a5, a6, a7, a8, a9, a10, a11, a12, a13, a14, a15, a16) h
theorem pk_least (P : Nat → Prop) (h : ∃ k, P k) : ∃ k, P k ∧ ∀ j, j < k → ¬ P j := by
  obtain ⟨k, hk⟩ := h
  induction k using Nat.strongRecOn with
  | ind k ih =>
    by_cases e : ∃ j, j < k ∧ P j
    · obtain ⟨j, hj, pj⟩ := e
      exact ih j hj pj
    · exact ⟨k, hk, fun j hj pj => e ⟨j, hj, pj⟩⟩
theorem rp1 {ρ A1 : Type} (W : Nat → (ρ → Prop) → A1 → Prop) (ok : A1 → Prop) (μ : A1 → Nat) (val : A1 → ρ)
    (hs : ∀ (d : Nat) (post : ρ → Prop) (a1 : A1), ok a1 → post (val a1) → (∀ (post' : ρ → Prop) (b1 : A1), ok b1 → μ b1 < μ a1 → post' (val b1) → W d post' b1) → W (d + 1) post a1) :
    ∀ (d : Nat) (post : ρ → Prop) (a1 : A1), ok a1 → μ a1 < d → post (val a1) → W d post a1 := by
  intro d
  induction d with
  | zero => intro post a1 _ h; omega
  | succ d ih =>
    intro post a1 ho hm hp
    exact hs d post a1 ho hp (fun post' b1 ho' hm' hp' => ih post' b1 ho' (by omega) hp')
theorem rp2 {ρ A1 A2 : Type} (W : Nat → (ρ → Prop) → A1 → A2 → Prop) (ok : A1 → A2 → Prop) (μ : A1 → A2 → Nat) (val : A1 → A2 → ρ)
    (hs : ∀ (d : Nat) (post : ρ → Prop) (a1 : A1) (a2 : A2), ok a1 a2 → post (val a1 a2) → (∀ (post' : ρ → Prop) (b1 : A1) (b2 : A2), ok b1 b2 → μ b1 b2 < μ a1 a2 → post' (val b1 b2) → W d post' b1 b2) → W (d + 1) post a1 a2) :
    ∀ (d : Nat) (post : ρ → Prop) (a1 : A1) (a2 : A2), ok a1 a2 → μ a1 a2 < d → post (val a1 a2) → W d post a1 a2 := by
  intro d
  induction d with
  | zero => intro post a1 a2 _ h; omega
  | succ d ih =>
    intro post a1 a2 ho hm hp
    exact hs d post a1 a2 ho hp (fun post' b1 b2 ho' hm' hp' => ih post' b1 b2 ho' (by omega) hp')
theorem rp3 {ρ A1 A2 A3 : Type} (W : Nat → (ρ → Prop) → A1 → A2 → A3 → Prop) (ok : A1 → A2 → A3 → Prop) (μ : A1 → A2 → A3 → Nat) (val : A1 → A2 → A3 → ρ)
    (hs : ∀ (d : Nat) (post : ρ → Prop) (a1 : A1) (a2 : A2) (a3 : A3), ok a1 a2 a3 → post (val a1 a2 a3) → (∀ (post' : ρ → Prop) (b1 : A1) (b2 : A2) (b3 : A3), ok b1 b2 b3 → μ b1 b2 b3 < μ a1 a2 a3 → post' (val b1 b2 b3) → W d post' b1 b2 b3) → W (d + 1) post a1 a2 a3) :
    ∀ (d : Nat) (post : ρ → Prop) (a1 : A1) (a2 : A2) (a3 : A3), ok a1 a2 a3 → μ a1 a2 a3 < d → post (val a1 a2 a3) → W d post a1 a2 a3 := by
  intro d
  induction d with
  | zero => intro post a1 a2 a3 _ h; omega
  | succ d ih =>
    intro post a1 a2 a3 ho hm hp
    exact hs d post a1 a2 a3 ho hp (fun post' b1 b2 b3 ho' hm' hp' => ih post' b1 b2 b3 ho' (by omega) hp')
theorem rp4 {ρ A1 A2 A3 A4 : Type} (W : Nat → (ρ → Prop) → A1 → A2 → A3 → A4 → Prop) (ok : A1 → A2 → A3 → A4 → Prop) (μ : A1 → A2 → A3 → A4 → Nat) (val : A1 → A2 → A3 → A4 → ρ)
    (hs : ∀ (d : Nat) (post : ρ → Prop) (a1 : A1) (a2 : A2) (a3 : A3) (a4 : A4), ok a1 a2 a3 a4 → post (val a1 a2 a3 a4) → (∀ (post' : ρ → Prop) (b1 : A1) (b2 : A2) (b3 : A3) (b4 : A4), ok b1 b2 b3 b4 → μ b1 b2 b3 b4 < μ a1 a2 a3 a4 → post' (val b1 b2 b3 b4) → W d post' b1 b2 b3 b4) → W (d + 1) post a1 a2 a3 a4) :
    ∀ (d : Nat) (post : ρ → Prop) (a1 : A1) (a2 : A2) (a3 : A3) (a4 : A4), ok a1 a2 a3 a4 → μ a1 a2 a3 a4 < d → post (val a1 a2 a3 a4) → W d post a1 a2 a3 a4 := by
  intro d
  induction d with
  | zero => intro post a1 a2 a3 a4 _ h; omega
  | succ d ih =>
    intro post a1 a2 a3 a4 ho hm hp
    exact hs d post a1 a2 a3 a4 ho hp (fun post' b1 b2 b3 b4 ho' hm' hp' => ih post' b1 b2 b3 b4 ho' (by omega) hp')
theorem rp5 {ρ A1 A2 A3 A4 A5 : Type} (W : Nat → (ρ → Prop) → A1 → A2 → A3 → A4 → A5 → Prop) (ok : A1 → A2 → A3 → A4 → A5 → Prop) (μ : A1 → A2 → A3 → A4 → A5 → Nat) (val : A1 → A2 → A3 → A4 → A5 → ρ)
    (hs : ∀ (d : Nat) (post : ρ → Prop) (a1 : A1) (a2 : A2) (a3 : A3) (a4 : A4) (a5 : A5), ok a1 a2 a3 a4 a5 → post (val a1 a2 a3 a4 a5) → (∀ (post' : ρ → Prop) (b1 : A1) (b2 : A2) (b3 : A3) (b4 : A4) (b5 : A5), ok b1 b2 b3 b4 b5 → μ b1 b2 b3 b4 b5 < μ a1 a2 a3 a4 a5 → post' (val b1 b2 b3 b4 b5) → W d post' b1 b2 b3 b4 b5) → W (d + 1) post a1 a2 a3 a4 a5) :
    ∀ (d : Nat) (post : ρ → Prop) (a1 : A1) (a2 : A2) (a3 : A3) (a4 : A4) (a5 : A5), ok a1 a2 a3 a4 a5 → μ a1 a2 a3 a4 a5 < d → post (val a1 a2 a3 a4 a5) → W d post a1 a2 a3 a4 a5 := by
  intro d
  induction d with
  | zero => intro post a1 a2 a3 a4 a5 _ h; omega
  | succ d ih =>
    intro post a1 a2 a3 a4 a5 ho hm hp
    exact hs d post a1 a2 a3 a4 a5 ho hp (fun post' b1 b2 b3 b4 b5 ho' hm' hp' => ih post' b1 b2 b3 b4 b5 ho' (by omega) hp')
theorem rp6 {ρ A1 A2 A3 A4 A5 A6 : Type} (W : Nat → (ρ → Prop) → A1 → A2 → A3 → A4 → A5 → A6 → Prop) (ok : A1 → A2 → A3 → A4 → A5 → A6 → Prop) (μ : A1 → A2 → A3 → A4 → A5 → A6 → Nat) (val : A1 → A2 → A3 → A4 → A5 → A6 → ρ)
    (hs : ∀ (d : Nat) (post : ρ → Prop) (a1 : A1) (a2 : A2) (a3 : A3) (a4 : A4) (a5 : A5) (a6 : A6), ok a1 a2 a3 a4 a5 a6 → post (val a1 a2 a3 a4 a5 a6) → (∀ (post' : ρ → Prop) (b1 : A1) (b2 : A2) (b3 : A3) (b4 : A4) (b5 : A5) (b6 : A6), ok b1 b2 b3 b4 b5 b6 → μ b1 b2 b3 b4 b5 b6 < μ a1 a2 a3 a4 a5 a6 → post' (val b1 b2 b3 b4 b5 b6) → W d post' b1 b2 b3 b4 b5 b6) → W (d + 1) post a1 a2 a3 a4 a5 a6) :
    ∀ (d : Nat) (post : ρ → Prop) (a1 : A1) (a2 : A2) (a3 : A3) (a4 : A4) (a5 : A5) (a6 : A6), ok a1 a2 a3 a4 a5 a6 → μ a1 a2 a3 a4 a5 a6 < d → post (val a1 a2 a3 a4 a5 a6) → W d post a1 a2 a3 a4 a5 a6 := by
  intro d
  induction d with
  | zero => intro post a1 a2 a3 a4 a5 a6 _ h; omega
  | succ d ih =>
    intro post a1 a2 a3 a4 a5 a6 ho hm hp
    exact hs d post a1 a2 a3 a4 a5 a6 ho hp (fun post' b1 b2 b3 b4 b5 b6 ho' hm' hp' => ih post' b1 b2 b3 b4 b5 b6 ho' (by omega) hp')
theorem rec_p {σ ρ : Type} (W : Nat → (ρ → Prop) → σ → Prop) (ok : σ → Prop) (μ : σ → Nat) (val : σ → ρ)
    (hs : ∀ d s post, ok s → post (val s) → (∀ s' post', ok s' → μ s' < μ s → post' (val s') → W d post' s') → W (d + 1) post s) :
    ∀ d s post, ok s → μ s < d → post (val s) → W d post s := by
  intro d
  induction d with
  | zero => intro s post _ h; omega
  | succ d ih =>
    intro s post ho hm hp
    exact hs d s post ho hp (fun s' post' ho' hm' hp' => ih s' post' ho' (by omega) hp')
theorem rec_q {σ ρ : Type} (W : Nat → (ρ → Prop) → σ → Prop) (ok : σ → Prop) (μ : σ → Nat) (Q : σ → ρ → Prop)
    (hs : ∀ d s post, ok s → (∀ r, Q s r → post r) → (∀ s' post', ok s' → μ s' < μ s → (∀ r, Q s' r → post' r) → W d post' s') → W (d + 1) post s) :
    ∀ d s post, ok s → μ s < d → (∀ r, Q s r → post r) → W d post s := by
  intro d
  induction d with
  | zero => intro s post _ h; omega
  | succ d ih =>
    intro s post ho hm hp
    exact hs d s post ho hp (fun s' post' ho' hm' hp' => ih s' post' ho' (by omega) hp')
def bx_sum (f : Nat → Int32) : Nat → Int32
  | 0 => 0
  | n + 1 => bx_sum f n + f n
theorem ek_u {A : Prop} {B : Nat → Prop} {k N : Nat} (hk : k < N) (h : B k) : (some k = none → A) ∧ (∀ y : Nat, some k = some y → (y < N ∧ B y)) :=
  ⟨fun z => absurd z (Option.some_ne_none k), fun _ e => (by cases e; exact ⟨hk, h⟩)⟩
theorem ek_nu {A : Prop} {B : Nat → Prop} (h : A) : ((none : Option Nat) = none → A) ∧ (∀ y : Nat, (none : Option Nat) = some y → B y) :=
  ⟨fun _ => h, fun _ e => (by cases e)⟩
theorem ek_if {c d A B : Prop} (e : c ↔ d) (f : d → A) (g : ¬ d → B) : (c → A) ∧ (¬ c → B) :=
  ⟨fun z => f (e.mp z), fun z => g (fun y => z (e.mpr y))⟩
theorem ek_v {α : Sort _} {P : α → Prop} {a b : α} (e : a = b) (h : P b) : P a := e ▸ h
theorem co_some {x : Option Nat} {A : Prop} {B : Nat → Prop} (i : Nat) (h : B i) (hx : x = some i := by rfl) : (x = none → A) ∧ (∀ y : Nat, x = some y → B y) := by
  subst hx
  exact ⟨fun e => (nomatch e), fun y e => Option.some.inj e ▸ h⟩
theorem co_none {x : Option Nat} {A : Prop} {B : Nat → Prop} (h : A) (hx : x = none := by rfl) : (x = none → A) ∧ (∀ y : Nat, x = some y → B y) := by
  subst hx
  exact ⟨fun _ => h, fun y e => (nomatch e)⟩
theorem co_any {x : Option Nat} {A : Prop} {B : Nat → Prop} (hn : x = none → A) (hs : ∀ i : Nat, x = some i → B i) : (x = none → A) ∧ (∀ y : Nat, x = some y → B y) := ⟨hn, hs⟩
theorem co_2 {P : Nat → Prop} (h0 : P 0) (h1 : P 1) {i : Nat} (hi : i < 2) : P i :=
  match i, hi with
  | 0, _ => h0
  | 1, _ => h1
theorem co_3 {P : Nat → Prop} (h0 : P 0) (h1 : P 1) (h2 : P 2) {i : Nat} (hi : i < 3) : P i :=
  match i, hi with
  | 0, _ => h0
  | 1, _ => h1
  | 2, _ => h2
theorem co_4 {P : Nat → Prop} (h0 : P 0) (h1 : P 1) (h2 : P 2) (h3 : P 3) {i : Nat} (hi : i < 4) : P i :=
  match i, hi with
  | 0, _ => h0
  | 1, _ => h1
  | 2, _ => h2
  | 3, _ => h3
theorem co_dec {N : Nat} {P : Nat → Prop} [DecidablePred P] (h : (List.range N).all (fun i => decide (P i)) = true) {i : Nat} (hi : i < N) : P i := by
  have := List.all_eq_true.mp h i (List.mem_range.mpr hi)
  exact of_decide_eq_true this
theorem co_tab {α : Type} {l : List α} {d : α} {P : α → Prop} (h : ∀ a, a ∈ l → P a) {i : Nat} (hi : i < l.length) : P (l.getD i d) := by
  rw [List.getD_eq_getElem?_getD, List.getElem?_eq_getElem hi]
  exact h _ (List.getElem_mem hi)
theorem pk_mu {x : Int32} {L : Nat} (h0 : ¬ x < 0) (h : ¬ nI L ≤ x) (hL : L < 2 ^ 31) : ∃ j : Nat, j < L ∧ x = nI j ∧ x + 1 = nI (j + 1) ∧ x.toNatClampNeg = j ∧ L - (x + 1).toNatClampNeg < L - x.toNatClampNeg := by
  obtain ⟨j, hj, rfl⟩ := nI_of h0
  have hl : j < L := Nat.not_le.mp fun q => h (nI_le q hj)
  refine ⟨j, hl, rfl, nI_1 j, nI_clamp hj, ?_⟩
  rw [nI_1, nI_clamp (by omega), nI_clamp hj]
  omega
theorem op_s {α : Type} {r : Option α} {A : Prop} {B : α → Prop} {y : α} (h : r = some y) (b : B y) : (r = none → A) ∧ ∀ z, r = some z → B z :=
  ⟨fun e => (by rw [h] at e; cases e), fun z e => (by rw [h] at e; cases e; exact b)⟩
def l_holds {α : Type} (a : Nat → Option Nat) (LP : List Nat) (p : Nat → α) (c : Nat) (b : Nat → α) : Prop :=
  ∀ j, j < c → ∃ y, a j = some y ∧ y ∈ LP ∧ p y = b j
theorem l_holds_0 {α : Type} {a : Nat → Option Nat} {LP : List Nat} {p b : Nat → α} : l_holds a LP p 0 b := fun j h => absurd h (Nat.not_lt_zero j)
theorem l_in_new (LP : List Nat) (q : Nat) : q ∈ LP ++ [q] := List.mem_append.mpr (Or.inr (List.mem_singleton.mpr rfl))
def l_sum (b : Nat → Int32) : Nat → Int32
  | 0 => 0
  | k + 1 => l_sum b k + b k
theorem sb_shr0 (x : Int32) : x >>> ((0 : Int32) &&& 31) = x := by
  rw [show ((0 : Int32) &&& 31) = 0 by decide]
  simp
theorem sb_shl0 (x : Int32) : x <<< ((0 : Int32) &&& 31) = x := by
  rw [show ((0 : Int32) &&& 31) = 0 by decide]
  simp
theorem sb_cl0 : (0 : Int32).toNatClampNeg = 0 := by decide
theorem sb_m1 {p : Nat} (h : 0 < p) : nI p + (-1) = nI (p - 1) := by
  obtain ⟨q, rfl⟩ : ∃ q, p = q + 1 := ⟨p - 1, by omega⟩
  exact pk_m1 q
def sb_b (c : Nat) : Int32 := (nI c).toInt8.toInt32
theorem sb_byte : ∀ c, c < 256 → sb_b c &&& 255 = nI c ∧ ((nI c).toUInt32 % 65536).toInt32 = nI c ∧ nI c ≤ 255 := by decide +kernel
def sb_Fit (a : Nat → Int32) : Prop := ∀ j, fits .byte (.int (a j)) = true
def sb_Lat (t : Nat → Nat) (n : Nat) (a : Nat → Int32) : Prop := ∀ j, j < n → t j < 256 ∧ a j = sb_b (t j)
theorem sb_fitB (c : Nat) : fits .byte (.int (sb_b c)) = true := pk_fb _
theorem sb_fit0 : sb_Fit (fun _ => 0) := fun _ => by
  show fits .byte (.int 0) = true
  decide
theorem sb_fitU {a : Nat → Int32} {k : Nat} {x : Int32} (h : sb_Fit a) (hx : fits .byte (.int x) = true) : sb_Fit (upd a k x) := by
  intro j
  by_cases e : j = k
  · subst e
    rw [pk_us]
    exact hx
  · rw [pk_un e]
    exact h j
def sb_cat (t : Nat → Nat) (n : Nat) (s : Nat → Nat) : Nat → Nat := fun j => if j < n then t j else s (j - n)
theorem sb_cat_lo {t s : Nat → Nat} {n j : Nat} (h : j < n) : sb_cat t n s j = t j := if_pos h
theorem sb_cat_hi {t s : Nat → Nat} {n j : Nat} : sb_cat t n s (n + j) = s j := by
  show (if n + j < n then t (n + j) else s (n + j - n)) = s j
  rw [if_neg (by omega), Nat.add_sub_cancel_left]
theorem sb_latPut {t s : Nat → Nat} {n w : Nat} {a a' : Nat → Int32} (h : sb_Lat t n a) (hk : ∀ j, j < n → a' j = a j) (hs : ∀ i, i < w → s i < 256 ∧ a' (n + i) = sb_b (s i)) : sb_Lat (sb_cat t n s) (n + w) a' := by
  intro j hj
  by_cases e : j < n
  · rw [sb_cat_lo e, hk j e]
    exact h j e
  · obtain ⟨i, rfl⟩ : ∃ i, j = n + i := ⟨j - n, by omega⟩
    rw [sb_cat_hi]
    exact hs i (by omega)
theorem sb_latKeep {t : Nat → Nat} {n : Nat} {a a' : Nat → Int32} (h : sb_Lat t n a) (hk : ∀ j, j < n → a' j = a j) : sb_Lat t n a' := fun j hj => by
  rw [hk j hj]
  exact h j hj
def sb_cap (q m : Nat) : Nat := if q ≤ m then m else if 2 * m + 2 < q then q else 2 * m + 2
def sb_Room (q m mc ms : Nat) : Prop := q ≤ m ∨ (1 ≤ mc ∧ sb_cap q m ≤ ms ∧ sb_cap q m ≤ 65536)
theorem sb_cap_ge (q m : Nat) : q ≤ sb_cap q m := by
  unfold sb_cap
  split
  · omega
  · split <;> omega
theorem sb_cap_gem (q m : Nat) : m ≤ sb_cap q m := by
  unfold sb_cap
  split
  · omega
  · split <;> omega
theorem sb_cap_le {q m mc ms : Nat} (hm : m ≤ 65536) (hr : sb_Room q m mc ms) : sb_cap q m ≤ 65536 := by
  rcases hr with h | h
  · rw [sb_cap, if_pos h]
    exact hm
  · exact h.2.2
theorem sb_at {P : Int32 → Prop} {x y : Int32} (e : x = y) (h : P y) : P x := e ▸ h
def sb_dg (w : Nat) : Nat := if w < 10 then 1 else if w < 100 then 2 else if w < 1000 then 3 else if w < 10000 then 4 else if w < 100000 then 5 else if w < 1000000 then 6 else if w < 10000000 then 7 else if w < 100000000 then 8 else if w < 1000000000 then 9 else 10
def sb_dec (v : Nat) : Nat → Nat := fun i => 48 + v / 10 ^ (sb_dg v - 1 - i) % 10
theorem sb_dg_in (w : Nat) : 1 ≤ sb_dg w ∧ sb_dg w ≤ 10 := by
  unfold sb_dg
  constructor <;> (repeat' split) <;> omega
theorem sb_dg100 {w : Nat} (h : 100 ≤ w) (hw : w < 2 ^ 31) : sb_dg w = sb_dg (w / 100) + 2 := by
  rw [sb_dg, sb_dg, if_neg (show ¬ w < 10 by omega), if_neg (show ¬ w < 100 by omega)]
  by_cases h3 : w < 1000
  · rw [if_pos h3, if_pos (show w / 100 < 10 by omega)]
  rw [if_neg h3, if_neg (show ¬ w / 100 < 10 by omega)]
  by_cases h4 : w < 10000
  · rw [if_pos h4, if_pos (show w / 100 < 100 by omega)]
  rw [if_neg h4, if_neg (show ¬ w / 100 < 100 by omega)]
  by_cases h5 : w < 100000
  · rw [if_pos h5, if_pos (show w / 100 < 1000 by omega)]
  rw [if_neg h5, if_neg (show ¬ w / 100 < 1000 by omega)]
  by_cases h6 : w < 1000000
  · rw [if_pos h6, if_pos (show w / 100 < 10000 by omega)]
  rw [if_neg h6, if_neg (show ¬ w / 100 < 10000 by omega)]
  by_cases h7 : w < 10000000
  · rw [if_pos h7, if_pos (show w / 100 < 100000 by omega)]
  rw [if_neg h7, if_neg (show ¬ w / 100 < 100000 by omega)]
  by_cases h8 : w < 100000000
  · rw [if_pos h8, if_pos (show w / 100 < 1000000 by omega)]
  rw [if_neg h8, if_neg (show ¬ w / 100 < 1000000 by omega)]
  by_cases h9 : w < 1000000000
  · rw [if_pos h9, if_pos (show w / 100 < 10000000 by omega)]
  rw [if_neg h9, if_neg (show ¬ w / 100 < 10000000 by omega)]
  rw [if_pos (show w / 100 < 100000000 by omega)]
theorem sb_negT {w : Nat} (h : w < 2 ^ 31) : (-nI w).toInt = -(w : Int) := by
  rw [Int32.toInt_neg, nI_toInt h]
  exact Int.bmod_eq_of_le (by omega) (by omega)
theorem sb_nle {a b : Nat} (ha : a < 2 ^ 31) (hb : b < 2 ^ 31) : -nI a ≤ -nI b ↔ b ≤ a := by
  rw [Int32.le_iff_toInt_le, sb_negT ha, sb_negT hb]
  omega
theorem sb_nlt {a b : Nat} (ha : a < 2 ^ 31) (hb : b < 2 ^ 31) : -nI a < -nI b ↔ b < a := by
  rw [Int32.lt_iff_toInt_lt, sb_negT ha, sb_negT hb]
  omega
theorem sb_cmp {A B : Prop} {x : Int32} (v c : Nat) (f : c ≤ v → A) (g : v < c → B) (hv : v < 2 ^ 31) (hx : x = -nI c := by rfl) (hc : c < 2 ^ 31 := by omega) : (-nI v ≤ x → A) ∧ (¬ -nI v ≤ x → B) := by
  subst hx
  rw [sb_nle hv hc]
  exact ⟨f, fun z => g (by omega)⟩
theorem sb_ndiv {w : Nat} (hw : w < 2 ^ 31) : (-nI w) / 100 = -nI (w / 100) := by
  apply Int32.toInt_inj.mp
  have h100 : (100 : Int32).toInt = 100 := by decide
  rw [Int32.toInt_div, sb_negT hw, h100, sb_negT (by omega), Int.neg_tdiv, Int.tdiv_eq_ediv_of_nonneg (by omega), Int.bmod_eq_of_le (by omega) (by omega)]
  omega
theorem sb_nrem {w : Nat} (hw : w < 2 ^ 31) : (-nI (w / 100)) * 100 - (-nI w) = nI (w % 100) := by
  have h := pk_rem (a := w) (d := 100) hw (by decide) (by decide)
  rw [pk_div hw (by decide) (by decide)] at h
  rw [← h]
  show (-nI (w / 100)) * nI 100 - (-nI w) = nI w - nI (w / 100) * nI 100
  rw [Int32.neg_mul, Int32.sub_neg, Int32.add_comm, ← Int32.sub_eq_add_neg]
end
section
/-! static: the check state -/
abbrev fl_Bl : Type := Int32 × Nat × Bool × List Bool
abbrev fl_CS : Type := List Bool × List fl_Bl
abbrev fl_isC (k : Int32) : Prop := k = 15 ∨ k = 16 ∨ k = 18 ∨ k = 19
abbrev fl_isO (k : Int32) : Prop := k = 14 ∨ k = 17
def fl_KD (k : Int32) : Prop := k = 0 ∨ k = 1 ∨ k = 2 ∨ k = 3 ∨ k = 4 ∨ k = 5 ∨ k = 6 ∨ k = 7 ∨ k = 8 ∨ k = 9 ∨ k = 10 ∨ k = 11 ∨ k = 12 ∨ k = 13 ∨ k = 14 ∨ k = 15 ∨ k = 16 ∨ k = 17 ∨ k = 18 ∨ k = 19
def fl_ft : List Bool → List fl_Bl → List Bool
  | ts, [] => ts
  | ts, B :: bs => ts ++ fl_ft B.2.2.2 bs
def fl_fr : List Bool → List fl_Bl → List Bool
  | ts, [] => ts
  | ts, B :: bs => if B.1 = 14 then ts else ts ++ fl_fr B.2.2.2 bs
def fl_lev : List fl_Bl → Nat
  | [] => 0
  | B :: bs => fl_lev bs + (if B.1 = 14 then 1 else 0)
def fl_bas : List fl_Bl → Nat
  | [] => 0
  | B :: bs => if B.1 = 14 then (fl_ft B.2.2.2 bs).length else fl_bas bs
def fl_sP : List fl_Bl → Nat
  | [] => 0
  | B :: bs => if B.1 = 14 then B.2.1 + 1 else fl_sP bs
def fl_fl : List fl_Bl → Nat
  | [] => 0
  | B :: bs => if B.1 = 14 then bs.length + 1 else fl_fl bs
theorem fl_ft_cons (t : Bool) (ts : List Bool) (bs : List fl_Bl) : fl_ft (t :: ts) bs = t :: fl_ft ts bs := by
  cases bs <;> simp [fl_ft]
theorem fl_fr_cons (t : Bool) (ts : List Bool) (bs : List fl_Bl) : fl_fr (t :: ts) bs = t :: fl_fr ts bs := by
  cases bs with
  | nil => simp [fl_fr]
  | cons B bs => by_cases h : B.1 = 14 <;> simp [fl_fr, h]
theorem fl_ft_len : ∀ (bs : List fl_Bl) (ts : List Bool), (fl_ft ts bs).length = (fl_fr ts bs).length + fl_bas bs
  | [], ts => by simp [fl_ft, fl_fr, fl_bas]
  | B :: bs, ts => by
    have ih := fl_ft_len bs B.2.2.2
    by_cases h : B.1 = 14
    · simp [fl_ft, fl_fr, fl_bas, h]
    · simp only [fl_ft, fl_fr, fl_bas, if_neg h, List.length_append, ih]; omega
def fl_psh (t : Bool) (c : fl_CS) : Nat ⊕ fl_CS := if 4 ≤ (fl_ft c.1 c.2).length then .inl 7 else .inr (t :: c.1, c.2)
def fl_un (t : Bool) (c : fl_CS) : Nat ⊕ fl_CS :=
  match c.1 with
  | [] => .inl 1
  | x :: r => if x = t then .inr ((!t) :: r, c.2) else .inl 2
def fl_bin (t : Bool) (c : fl_CS) : Nat ⊕ fl_CS :=
  match c.1 with
  | b :: a :: r => if a = t ∧ b = false then .inr (false :: r, c.2) else .inl 2
  | _ => .inl 1
def fl_opn (k : Int32) (p : Nat) (c : fl_CS) : Nat ⊕ fl_CS :=
  match c.1 with
  | [] => .inl 1
  | x :: r => if x = decide (k = 14) then (if 6 ≤ c.2.length ∨ (k = 14 ∧ 2 ≤ fl_lev c.2) then .inl 4 else .inr ([], (k, p, false, r) :: c.2)) else .inl 2
def fl_prt (k : Int32) (c : fl_CS) (f : Bool → fl_Bl → List fl_Bl → Nat ⊕ fl_CS) : Nat ⊕ fl_CS :=
  match c.2 with
  | [] => .inl 5
  | B :: bs => if B.1 = k then (match c.1 with | [] => .inl 1 | [t] => f t B bs | _ :: _ :: _ => .inl 6) else .inl 5
def fl_end (c : fl_CS) : Nat ⊕ fl_CS := fl_prt 14 c (fun t B bs => if t = true then .inl 2 else .inr (true :: B.2.2.2, bs))
def fl_els (p : Nat) (c : fl_CS) : Nat ⊕ fl_CS := fl_prt 17 c (fun t B bs => .inr ([], (18, p, t, B.2.2.2) :: bs))
def fl_fi (c : fl_CS) : Nat ⊕ fl_CS := fl_prt 18 c (fun t B bs => if t = B.2.2.1 then .inr (t :: B.2.2.2, bs) else .inl 2)
def fl_ck (k a : Int32) (p : Nat) (c : fl_CS) : Nat ⊕ fl_CS :=
  if k = 3 ∨ k = 4 then (if a < 0 ∨ nI (fl_lev c.2) ≤ a then .inl 3 else fl_psh false c)
  else if k = 0 ∨ k = 2 then fl_psh false c
  else if k = 1 then fl_psh true c
  else if k = 10 ∨ k = 11 then fl_un true c
  else if k = 13 then fl_un false c
  else if k = 12 then fl_bin true c
  else if k = 14 then fl_opn 14 p c
  else if k = 17 then fl_opn 17 p c
  else if k = 15 ∨ k = 16 then fl_end c
  else if k = 18 then fl_els p c
  else if k = 19 then fl_fi c
  else fl_bin false c
theorem fl_ck_0 (a p c) : fl_ck 0 a p c = fl_psh false c := by simp [fl_ck]
theorem fl_ck_1 (a p c) : fl_ck 1 a p c = fl_psh true c := by simp [fl_ck]
theorem fl_ck_2 (a p c) : fl_ck 2 a p c = fl_psh false c := by simp [fl_ck]
theorem fl_ck_3 (a p c) : fl_ck 3 a p c = (if a < 0 ∨ nI (fl_lev c.2) ≤ a then .inl 3 else fl_psh false c) := by simp [fl_ck]
theorem fl_ck_4 (a p c) : fl_ck 4 a p c = (if a < 0 ∨ nI (fl_lev c.2) ≤ a then .inl 3 else fl_psh false c) := by simp [fl_ck]
theorem fl_ck_5 (a p c) : fl_ck 5 a p c = fl_bin false c := by simp [fl_ck]
theorem fl_ck_6 (a p c) : fl_ck 6 a p c = fl_bin false c := by simp [fl_ck]
theorem fl_ck_7 (a p c) : fl_ck 7 a p c = fl_bin false c := by simp [fl_ck]
theorem fl_ck_8 (a p c) : fl_ck 8 a p c = fl_bin false c := by simp [fl_ck]
theorem fl_ck_9 (a p c) : fl_ck 9 a p c = fl_bin false c := by simp [fl_ck]
theorem fl_ck_10 (a p c) : fl_ck 10 a p c = fl_un true c := by simp [fl_ck]
theorem fl_ck_11 (a p c) : fl_ck 11 a p c = fl_un true c := by simp [fl_ck]
theorem fl_ck_12 (a p c) : fl_ck 12 a p c = fl_bin true c := by simp [fl_ck]
theorem fl_ck_13 (a p c) : fl_ck 13 a p c = fl_un false c := by simp [fl_ck]
theorem fl_ck_14 (a p c) : fl_ck 14 a p c = fl_opn 14 p c := by simp [fl_ck]
theorem fl_ck_15 (a p c) : fl_ck 15 a p c = fl_end c := by simp [fl_ck]
theorem fl_ck_16 (a p c) : fl_ck 16 a p c = fl_end c := by simp [fl_ck]
theorem fl_ck_17 (a p c) : fl_ck 17 a p c = fl_opn 17 p c := by simp [fl_ck]
theorem fl_ck_18 (a p c) : fl_ck 18 a p c = fl_els p c := by simp [fl_ck]
theorem fl_ck_19 (a p c) : fl_ck 19 a p c = fl_fi c := by simp [fl_ck]
theorem fl_psh_inv {t : Bool} {c c' : fl_CS} (h : fl_psh t c = .inr c') : (fl_ft c.1 c.2).length < 4 ∧ c' = (t :: c.1, c.2) := by
  unfold fl_psh at h
  split at h
  · cases h
  · cases h; exact ⟨by omega, rfl⟩
theorem fl_un_inv {t : Bool} {c c' : fl_CS} (h : fl_un t c = .inr c') : ∃ r, c.1 = t :: r ∧ c' = ((!t) :: r, c.2) := by
  unfold fl_un at h
  split at h
  · cases h
  · rename_i x r e
    split at h
    · rename_i hx; cases h; exact ⟨r, by rw [e, hx], rfl⟩
    · cases h
theorem fl_bin_inv {t : Bool} {c c' : fl_CS} (h : fl_bin t c = .inr c') : ∃ r, c.1 = false :: t :: r ∧ c' = (false :: r, c.2) := by
  unfold fl_bin at h
  split at h
  · rename_i b a r e
    split at h
    · rename_i hx; cases h; exact ⟨r, by rw [e, hx.1, hx.2], rfl⟩
    · cases h
  · cases h
theorem fl_opn_inv {k : Int32} {p : Nat} {c c' : fl_CS} (h : fl_opn k p c = .inr c') : ∃ r, c.1 = decide (k = 14) :: r ∧ c' = ([], (k, p, false, r) :: c.2) ∧ c.2.length < 6 ∧ (k = 14 → fl_lev c.2 < 2) := by
  unfold fl_opn at h
  split at h
  · cases h
  · rename_i x r e
    split at h
    · rename_i hx
      split at h
      · cases h
      · rename_i hn; cases h
        exact ⟨r, by rw [e, hx], rfl, by omega, fun h14 => Nat.lt_of_not_le fun h2 => hn (Or.inr ⟨h14, h2⟩)⟩
    · cases h
theorem fl_prt_inv {k : Int32} {c c' : fl_CS} {f : Bool → fl_Bl → List fl_Bl → Nat ⊕ fl_CS} (h : fl_prt k c f = .inr c') : ∃ B bs t, c.2 = B :: bs ∧ B.1 = k ∧ c.1 = [t] ∧ f t B bs = .inr c' := by
  unfold fl_prt at h
  split at h
  · cases h
  · rename_i B bs e
    split at h
    · rename_i hB
      split at h
      · cases h
      · rename_i t e1; exact ⟨B, bs, t, e, hB, e1, h⟩
      · cases h
    · cases h
theorem fl_end_inv {c c' : fl_CS} (h : fl_end c = .inr c') : ∃ B bs, c.2 = B :: bs ∧ B.1 = 14 ∧ c.1 = [false] ∧ c' = (true :: B.2.2.2, bs) := by
  obtain ⟨B, bs, t, h1, h2, h3, h4⟩ := fl_prt_inv h
  cases t
  · simp at h4; exact ⟨B, bs, h1, h2, h3, h4.symm⟩
  · simp at h4
theorem fl_els_inv {p : Nat} {c c' : fl_CS} (h : fl_els p c = .inr c') : ∃ B bs t, c.2 = B :: bs ∧ B.1 = 17 ∧ c.1 = [t] ∧ c' = ([], (18, p, t, B.2.2.2) :: bs) := by
  obtain ⟨B, bs, t, h1, h2, h3, h4⟩ := fl_prt_inv h
  cases h4; exact ⟨B, bs, t, h1, h2, h3, rfl⟩
theorem fl_fi_inv {c c' : fl_CS} (h : fl_fi c = .inr c') : ∃ B bs t, c.2 = B :: bs ∧ B.1 = 18 ∧ c.1 = [t] ∧ t = B.2.2.1 ∧ c' = (t :: B.2.2.2, bs) := by
  obtain ⟨B, bs, t, h1, h2, h3, h4⟩ := fl_prt_inv h
  split at h4
  · rename_i ht; cases h4; exact ⟨B, bs, t, h1, h2, h3, ht, rfl⟩
  · cases h4
/-- what a token does to the blocks -/
def fl_BST (k : Int32) (p : Nat) (b b' : List fl_Bl) : Prop :=
  (fl_isO k ∧ ¬ fl_isC k ∧ ∃ B0 : fl_Bl, b' = B0 :: b ∧ B0.2.1 = p) ∨ ((k = 15 ∨ k = 16 ∨ k = 19) ∧ ¬ fl_isO k ∧ ∃ B0, b = B0 :: b') ∨ (k = 18 ∧ ∃ B1 B0 r, b = B1 :: r ∧ b' = B0 :: r ∧ B0.2.1 = p) ∨ (¬ fl_isC k ∧ ¬ fl_isO k ∧ b' = b)
theorem fl_bst {k a : Int32} {p : Nat} {c c' : fl_CS} (hk : fl_KD k) (h : fl_ck k a p c = .inr c') : fl_BST k p c.2 c'.2 := by
  unfold fl_KD at hk
  rcases hk with rfl | rfl | rfl | rfl | rfl | rfl | rfl | rfl | rfl | rfl | rfl | rfl | rfl | rfl | rfl | rfl | rfl | rfl | rfl | rfl
  · rw [fl_ck_0] at h; obtain ⟨-, rfl⟩ := fl_psh_inv h; exact Or.inr (Or.inr (Or.inr ⟨by decide, by decide, rfl⟩))
  · rw [fl_ck_1] at h; obtain ⟨-, rfl⟩ := fl_psh_inv h; exact Or.inr (Or.inr (Or.inr ⟨by decide, by decide, rfl⟩))
  · rw [fl_ck_2] at h; obtain ⟨-, rfl⟩ := fl_psh_inv h; exact Or.inr (Or.inr (Or.inr ⟨by decide, by decide, rfl⟩))
  · rw [fl_ck_3] at h; split at h
    · cases h
    · obtain ⟨-, rfl⟩ := fl_psh_inv h; exact Or.inr (Or.inr (Or.inr ⟨by decide, by decide, rfl⟩))
  · rw [fl_ck_4] at h; split at h
    · cases h
    · obtain ⟨-, rfl⟩ := fl_psh_inv h; exact Or.inr (Or.inr (Or.inr ⟨by decide, by decide, rfl⟩))
  · rw [fl_ck_5] at h; obtain ⟨r, -, rfl⟩ := fl_bin_inv h; exact Or.inr (Or.inr (Or.inr ⟨by decide, by decide, rfl⟩))
  · rw [fl_ck_6] at h; obtain ⟨r, -, rfl⟩ := fl_bin_inv h; exact Or.inr (Or.inr (Or.inr ⟨by decide, by decide, rfl⟩))
  · rw [fl_ck_7] at h; obtain ⟨r, -, rfl⟩ := fl_bin_inv h; exact Or.inr (Or.inr (Or.inr ⟨by decide, by decide, rfl⟩))
  · rw [fl_ck_8] at h; obtain ⟨r, -, rfl⟩ := fl_bin_inv h; exact Or.inr (Or.inr (Or.inr ⟨by decide, by decide, rfl⟩))
  · rw [fl_ck_9] at h; obtain ⟨r, -, rfl⟩ := fl_bin_inv h; exact Or.inr (Or.inr (Or.inr ⟨by decide, by decide, rfl⟩))
  · rw [fl_ck_10] at h; obtain ⟨r, -, rfl⟩ := fl_un_inv h; exact Or.inr (Or.inr (Or.inr ⟨by decide, by decide, rfl⟩))
  · rw [fl_ck_11] at h; obtain ⟨r, -, rfl⟩ := fl_un_inv h; exact Or.inr (Or.inr (Or.inr ⟨by decide, by decide, rfl⟩))
  · rw [fl_ck_12] at h; obtain ⟨r, -, rfl⟩ := fl_bin_inv h; exact Or.inr (Or.inr (Or.inr ⟨by decide, by decide, rfl⟩))
  · rw [fl_ck_13] at h; obtain ⟨r, -, rfl⟩ := fl_un_inv h; exact Or.inr (Or.inr (Or.inr ⟨by decide, by decide, rfl⟩))
  · rw [fl_ck_14] at h; obtain ⟨r, -, rfl, -⟩ := fl_opn_inv h; exact Or.inl ⟨by decide, by decide, _, rfl, rfl⟩
  · rw [fl_ck_15] at h; obtain ⟨B, bs, h1, -, -, rfl⟩ := fl_end_inv h; exact Or.inr (Or.inl ⟨by decide, by decide, B, h1⟩)
  · rw [fl_ck_16] at h; obtain ⟨B, bs, h1, -, -, rfl⟩ := fl_end_inv h; exact Or.inr (Or.inl ⟨by decide, by decide, B, h1⟩)
  · rw [fl_ck_17] at h; obtain ⟨r, -, rfl, -⟩ := fl_opn_inv h; exact Or.inl ⟨by decide, by decide, _, rfl, rfl⟩
  · rw [fl_ck_18] at h; obtain ⟨B, bs, t, h1, -, -, rfl⟩ := fl_els_inv h; exact Or.inr (Or.inr (Or.inl ⟨rfl, B, _, bs, h1, rfl, rfl⟩))
  · rw [fl_ck_19] at h; obtain ⟨B, bs, t, h1, -, -, -, rfl⟩ := fl_fi_inv h; exact Or.inr (Or.inl ⟨by decide, by decide, B, h1⟩)
def fl_csf (kd ag : Nat → Int32) : Nat → fl_CS
  | 0 => ([], [])
  | p + 1 => match fl_ck (kd p) (ag p) p (fl_csf kd ag p) with
    | .inr c => c
    | .inl _ => fl_csf kd ag p
def fl_Gd (kd ag : Nat → Int32) (T : Nat) : Prop := (∀ p, p < T → fl_KD (kd p)) ∧ (∀ p, p < T → fl_ck (kd p) (ag p) p (fl_csf kd ag p) = .inr (fl_csf kd ag (p + 1))) ∧ ∃ t, fl_csf kd ag T = ([t], [])
def fl_nd (k : Int32) (d : Nat) : Nat := if k = 14 ∨ k = 17 then d + 1 else if k = 15 ∨ k = 16 ∨ k = 19 then d - 1 else d
def fl_sc (kd : Nat → Int32) : Nat → Nat → Nat → Nat
  | 0, q, _ => q
  | n + 1, q, d => if d = 0 ∧ fl_isC (kd q) then q else fl_sc kd n (q + 1) (fl_nd (kd q) d)
def fl_cl (kd : Nat → Int32) (T p : Nat) : Nat := fl_sc kd (T - (p + 1)) (p + 1) 0
theorem fl_sc_ge (kd : Nat → Int32) : ∀ n q d, q ≤ fl_sc kd n q d ∧ fl_sc kd n q d ≤ q + n
  | 0, q, d => ⟨Nat.le_refl _, Nat.le_refl _⟩
  | n + 1, q, d => by
    rw [fl_sc]
    split
    · exact ⟨Nat.le_refl _, by omega⟩
    · have := fl_sc_ge kd n (q + 1) (fl_nd (kd q) d); omega
theorem fl_cl_gt (kd : Nat → Int32) (T p : Nat) : p + 1 ≤ fl_cl kd T p := (fl_sc_ge kd _ _ _).1
section STA
variable {kd ag : Nat → Int32} {T : Nat}
theorem fl_SA (G : fl_Gd kd ag T) : ∀ n p X (B : fl_Bl) rest, p + n = T → (fl_csf kd ag p).2 = X ++ B :: rest → p ≤ fl_sc kd n p X.length ∧ fl_sc kd n p X.length < T ∧ (fl_csf kd ag (fl_sc kd n p X.length)).2 = B :: rest ∧ fl_isC (kd (fl_sc kd n p X.length)) := by
  intro n
  induction n with
  | zero =>
    intro p X B rest hp h
    obtain ⟨t, e⟩ := G.2.2
    have : p = T := by omega
    subst this
    rw [e] at h
    simp at h
  | succ n ih =>
    intro p X B rest hp h
    have hpT : p < T := by omega
    have S := fl_bst (G.1 p hpT) (G.2.1 p hpT)
    rw [fl_sc]
    by_cases z : X.length = 0 ∧ fl_isC (kd p)
    · rw [if_pos z]
      have : X = [] := List.eq_nil_of_length_eq_zero z.1
      subst this
      exact ⟨Nat.le_refl _, hpT, h, z.2⟩
    · rw [if_neg z]
      have key : ∃ X', (fl_csf kd ag (p + 1)).2 = X' ++ B :: rest ∧ X'.length = fl_nd (kd p) X.length := by
        rcases S with ⟨h1, h1', B0, h2, h3⟩ | ⟨h1, h1', B0, h2⟩ | ⟨h1, B1, B0, r, h2, h3, h4⟩ | ⟨h1, h2, h3⟩
        · refine ⟨B0 :: X, by rw [h2, h]; rfl, ?_⟩
          rw [fl_nd, if_pos h1]; rfl
        · cases X with
          | nil => exact absurd ⟨rfl, by rcases h1 with h | h | h <;> simp [fl_isC, h]⟩ z
          | cons x X =>
            rw [h2] at h
            injection h with e1 e2
            refine ⟨X, e2, ?_⟩
            rw [fl_nd, if_neg h1', if_pos h1]; simp
        · cases X with
          | nil => exact absurd ⟨rfl, by simp [fl_isC, h1]⟩ z
          | cons x X =>
            rw [h2] at h
            injection h with e1 e2
            refine ⟨B0 :: X, by rw [h3, e2]; rfl, ?_⟩
            rw [h1, fl_nd, if_neg (by decide), if_neg (by decide)]; rfl
        · refine ⟨X, by rw [h3, h], ?_⟩
          rw [fl_nd, if_neg h2, if_neg (fun w => h1 (by rcases w with w | w | w <;> simp [fl_isC, w]))]
      obtain ⟨X', e1, e2⟩ := key
      have := ih (p + 1) X' B rest (by omega) e1
      rw [e2] at this
      exact ⟨by omega, this.2⟩
theorem fl_SB (G : fl_Gd kd ag T) : ∀ p, p ≤ T → ∀ X (B : fl_Bl) rest, (fl_csf kd ag p).2 = X ++ B :: rest → B.2.1 < p ∧ fl_cl kd T B.2.1 = fl_sc kd (T - p) p X.length := by
  intro p
  induction p with
  | zero => intro _ X B rest h; simp [fl_csf] at h
  | succ p ih =>
    intro hp X B rest h
    have hpT : p < T := by omega
    have S := fl_bst (G.1 p hpT) (G.2.1 p hpT)
    have eT : T - p = (T - (p + 1)) + 1 := by omega
    have ih := ih (by omega)
    rcases S with ⟨h1, h1', B0, h2, h3⟩ | ⟨h1, h1', B0, h2⟩ | ⟨h1, B1, B0, r, h2, h3, h4⟩ | ⟨h1, h2, h3⟩
    · rw [h2] at h
      cases X with
      | nil =>
        injection h with e1 e2
        subst e1
        rw [h3]
        exact ⟨Nat.lt_succ_self _, rfl⟩
      | cons x X =>
        injection h with e1 e2
        obtain ⟨a1, a2⟩ := ih X B rest e2
        rw [eT, fl_sc, if_neg (fun w => h1' w.2), fl_nd, if_pos h1] at a2
        exact ⟨by omega, a2⟩
    · obtain ⟨a1, a2⟩ := ih (B0 :: X) B rest (by rw [h2, h]; rfl)
      rw [eT, fl_sc, if_neg (fun w => by simp at w), fl_nd, if_neg h1', if_pos h1] at a2
      exact ⟨by omega, a2⟩
    · rw [h3] at h
      cases X with
      | nil =>
        injection h with e1 e2
        subst e1
        rw [h4]
        exact ⟨Nat.lt_succ_self _, rfl⟩
      | cons x X =>
        injection h with e1 e2
        obtain ⟨a1, a2⟩ := ih (B1 :: X) B rest (by rw [h2, e2]; rfl)
        rw [eT, fl_sc, if_neg (fun w => by simp at w), h1, fl_nd, if_neg (by decide), if_neg (by decide)] at a2
        exact ⟨by omega, a2⟩
    · rw [h3] at h
      obtain ⟨a1, a2⟩ := ih X B rest h
      rw [eT, fl_sc, if_neg (fun w => h1 w.2), fl_nd, if_neg h2, if_neg (fun w => h1 (by rcases w with w | w | w <;> simp [fl_isC, w]))] at a2
      exact ⟨by omega, a2⟩
/-- the closer of a block -/
theorem fl_CL (G : fl_Gd kd ag T) {p : Nat} (hp : p ≤ T) {X : List fl_Bl} {B : fl_Bl} {rest : List fl_Bl} (h : (fl_csf kd ag p).2 = X ++ B :: rest) : B.2.1 < p ∧ p ≤ fl_cl kd T B.2.1 ∧ fl_cl kd T B.2.1 < T ∧ (fl_csf kd ag (fl_cl kd T B.2.1)).2 = B :: rest ∧ fl_isC (kd (fl_cl kd T B.2.1)) := by
  obtain ⟨a1, a2⟩ := fl_SB G p hp X B rest h
  have := fl_SA G (T - p) p X B rest (by omega) h
  rw [a2]
  exact ⟨a1, this⟩
theorem fl_CLq (G : fl_Gd kd ag T) {q : Nat} (hq : q < T) {B : fl_Bl} {rest : List fl_Bl} (h : (fl_csf kd ag q).2 = B :: rest) (hc : fl_isC (kd q)) : fl_cl kd T B.2.1 = q := by
  obtain ⟨a1, a2⟩ := fl_SB G q (by omega) [] B rest h
  rw [a2, show T - q = (T - (q + 1)) + 1 by omega, fl_sc, if_pos ⟨rfl, hc⟩]
theorem fl_lev_le : ∀ bs : List fl_Bl, fl_lev bs ≤ bs.length
  | [] => Nat.le_refl _
  | B :: bs => by have := fl_lev_le bs; rw [fl_lev, List.length_cons]; split <;> omega
/-- the state of the check stays within its bounds -/
theorem fl_bnd (G : fl_Gd kd ag T) : ∀ p, p ≤ T → (fl_ft (fl_csf kd ag p).1 (fl_csf kd ag p).2).length ≤ 4 ∧ (fl_csf kd ag p).2.length ≤ 6 ∧ fl_lev (fl_csf kd ag p).2 ≤ 2 := by
  intro p
  induction p with
  | zero => intro _; simp [fl_csf, fl_ft, fl_lev]
  | succ p ih =>
    intro hp
    have hpT : p < T := by omega
    obtain ⟨i1, i2, i3⟩ := ih (by omega)
    have hk := G.1 p hpT
    have h := G.2.1 p hpT
    generalize fl_csf kd ag (p + 1) = c' at h ⊢
    generalize fl_csf kd ag p = c at h i1 i2 i3
    obtain ⟨ts, bs⟩ := c
    simp only at i1 i2 i3
    generalize kd p = k at hk h
    unfold fl_KD at hk
    have PS : ∀ t, fl_psh t (ts, bs) = .inr c' → (fl_ft c'.1 c'.2).length ≤ 4 ∧ c'.2.length ≤ 6 ∧ fl_lev c'.2 ≤ 2 := by
      intro t h
      obtain ⟨h1, rfl⟩ := fl_psh_inv h
      simp only [fl_ft_cons, List.length_cons] at h1 ⊢
      exact ⟨by omega, i2, i3⟩
    have UN : ∀ t, fl_un t (ts, bs) = .inr c' → (fl_ft c'.1 c'.2).length ≤ 4 ∧ c'.2.length ≤ 6 ∧ fl_lev c'.2 ≤ 2 := by
      intro t h
      obtain ⟨r, h1, rfl⟩ := fl_un_inv h
      simp only at h1
      rw [h1, fl_ft_cons] at i1
      simp only [fl_ft_cons, List.length_cons] at i1 ⊢
      exact ⟨by omega, i2, i3⟩
    have BI : ∀ t, fl_bin t (ts, bs) = .inr c' → (fl_ft c'.1 c'.2).length ≤ 4 ∧ c'.2.length ≤ 6 ∧ fl_lev c'.2 ≤ 2 := by
      intro t h
      obtain ⟨r, h1, rfl⟩ := fl_bin_inv h
      simp only at h1
      rw [h1, fl_ft_cons, fl_ft_cons] at i1
      simp only [fl_ft_cons, List.length_cons] at i1 ⊢
      exact ⟨by omega, i2, i3⟩
    have EN : fl_end (ts, bs) = .inr c' → (fl_ft c'.1 c'.2).length ≤ 4 ∧ c'.2.length ≤ 6 ∧ fl_lev c'.2 ≤ 2 := by
      intro h
      obtain ⟨B, b, h1, h2, h3, rfl⟩ := fl_end_inv h
      simp only at h1 h3
      subst h1; subst h3
      simp only [fl_ft, fl_ft_cons, List.length_cons, List.length_append, List.length_nil, fl_lev, if_pos h2] at i1 i2 i3 ⊢
      exact ⟨by omega, by omega, by omega⟩
    rcases hk with rfl | rfl | rfl | rfl | rfl | rfl | rfl | rfl | rfl | rfl | rfl | rfl | rfl | rfl | rfl | rfl | rfl | rfl | rfl | rfl
    · rw [fl_ck_0] at h; exact PS _ h
    · rw [fl_ck_1] at h; exact PS _ h
    · rw [fl_ck_2] at h; exact PS _ h
    · rw [fl_ck_3] at h; split at h
      · cases h
      · exact PS _ h
    · rw [fl_ck_4] at h; split at h
      · cases h
      · exact PS _ h
    · rw [fl_ck_5] at h; exact BI _ h
    · rw [fl_ck_6] at h; exact BI _ h
    · rw [fl_ck_7] at h; exact BI _ h
    · rw [fl_ck_8] at h; exact BI _ h
    · rw [fl_ck_9] at h; exact BI _ h
    · rw [fl_ck_10] at h; exact UN _ h
    · rw [fl_ck_11] at h; exact UN _ h
    · rw [fl_ck_12] at h; exact BI _ h
    · rw [fl_ck_13] at h; exact UN _ h
    · rw [fl_ck_14] at h
      obtain ⟨r, h1, rfl, h2, h3⟩ := fl_opn_inv h
      simp only at h1 h2
      have h3 : fl_lev bs < 2 := h3 rfl
      rw [h1, fl_ft_cons] at i1
      simp only [fl_ft, List.length_cons, List.nil_append, fl_lev, if_true] at i1 ⊢
      exact ⟨by omega, by omega, by omega⟩
    · rw [fl_ck_15] at h; exact EN h
    · rw [fl_ck_16] at h; exact EN h
    · rw [fl_ck_17] at h
      obtain ⟨r, h1, rfl, h2, h3⟩ := fl_opn_inv h
      simp only at h1 h2
      rw [h1, fl_ft_cons] at i1
      have e : ¬ (17 : Int32) = 14 := by decide
      simp only [fl_ft, List.length_cons, List.nil_append, fl_lev, if_neg e] at i1 ⊢
      exact ⟨by omega, by omega, by omega⟩
    · rw [fl_ck_18] at h
      obtain ⟨B, b, t, h1, h2, h3, rfl⟩ := fl_els_inv h
      simp only at h1 h3
      subst h1; subst h3
      have e : ¬ (18 : Int32) = 14 := by decide
      have e' : ¬ (17 : Int32) = 14 := by decide
      simp only [fl_ft, List.length_cons, List.nil_append, List.cons_append, fl_lev, h2, if_neg e, if_neg e'] at i1 i2 i3 ⊢
      exact ⟨by omega, by omega, by omega⟩
    · rw [fl_ck_19] at h
      obtain ⟨B, b, t, h1, h2, h3, h4, rfl⟩ := fl_fi_inv h
      simp only at h1 h3
      subst h1; subst h3
      have e : ¬ (18 : Int32) = 14 := by decide
      simp only [fl_ft, fl_ft_cons, List.length_cons, List.nil_append, List.cons_append, fl_lev, h2, if_neg e] at i1 i2 i3 ⊢
      exact ⟨by omega, by omega, by omega⟩
end STA
end
section
/-! the pure evaluation -/
abbrev fl_V : Type := Int32 ⊕ List Int32
abbrev fl_E : Type := List (Int32 × Int32)
abbrev fl_F : Type := Nat × Int32
def fl_tg : fl_V → Bool
  | .inl _ => false
  | .inr _ => true
def fl_vi : fl_V → Int32
  | .inl x => x
  | .inr _ => 0
def fl_sm : Int32 → List Int32 → Int32
  | a, [] => a
  | a, x :: xs => fl_sm (a + x) xs
def fl_ap (k a b : Int32) : Int32 := if k = 5 then a + b else if k = 6 then a - b else if k = 7 then a * b else if k = 8 then (if b ≤ a then 0 else 1) else (if a = b then 1 else 0)
def fl_pk (kp : Bool) (x v : Int32) : List Int32 := if kp = true then (if v = 0 then [] else [x]) else [v]
def fl_ea (kp : Bool) (f : Int32 → Nat → fl_F ⊕ fl_V) : List Int32 → Nat → fl_F ⊕ List Int32
  | [], _ => .inr []
  | x :: xs, i => match f x i with
    | .inl e => .inl e
    | .inr v => match fl_ea kp f xs (i + 1) with
      | .inl e => .inl e
      | .inr ys => .inr (fl_pk kp x (fl_vi v) ++ ys)
abbrev fl_sK (k : Int32) : Prop := ¬ k = 14 ∧ ¬ k = 15 ∧ ¬ k = 16 ∧ ¬ k = 17 ∧ ¬ k = 18 ∧ ¬ k = 19
/-- a token that opens and closes nothing -/
def fl_sp (k a : Int32) (R : Nat) (rw : Nat → List Int32) (r p : Nat) (s : List fl_V) (e : fl_E) : fl_F ⊕ List fl_V :=
  if k = 0 then .inr (.inl a :: s)
  else if k = 1 then .inr (.inr (rw r) :: s)
  else if k = 2 then .inr (.inl (nI r) :: s)
  else if k = 3 then .inr (.inl (e.getD a.toNatClampNeg (0, 0)).1 :: s)
  else if k = 4 then .inr (.inl (e.getD a.toNatClampNeg (0, 0)).2 :: s)
  else if k = 10 then (match s with | .inr xs :: s' => .inr (.inl (fl_sm 0 xs) :: s') | _ => .inr [])
  else if k = 11 then (match s with | .inr xs :: s' => .inr (.inl (nI xs.length) :: s') | _ => .inr [])
  else if k = 12 then (match s with | .inl i :: .inr xs :: s' => if i < 0 ∨ ¬ i < nI xs.length then .inl (p, i) else .inr (.inl (xs.getD i.toNatClampNeg 0) :: s') | _ => .inr [])
  else if k = 13 then (match s with | .inl i :: s' => if i < 0 ∨ ¬ i < nI R then .inl (p, i) else .inr (.inr (rw i.toNatClampNeg) :: s') | _ => .inr [])
  else (match s with | .inl b :: .inl a :: s' => .inr (.inl (fl_ap k a b) :: s') | _ => .inr [])
def fl_st (kd ag : Nat → Int32) (T R : Nat) (rw : Nat → List Int32) (r : Nat) (F : Nat → List fl_V → fl_E → fl_F ⊕ fl_V) (p : Nat) (s : List fl_V) (e : fl_E) : fl_F ⊕ fl_V :=
  if T ≤ p then .inr (s.headD (.inl 0))
  else if kd p = 14 then (match s with
    | .inr xs :: s' => (match fl_ea (decide (kd (fl_cl kd T p) = 16)) (fun x i => F (p + 1) [] (e ++ [(x, nI i)])) xs 0 with
      | .inl f => .inl f
      | .inr ys => F (fl_cl kd T p + 1) (.inr ys :: s') e)
    | _ => .inr (.inl 0))
  else if kd p = 17 then (match s with
    | .inl c :: s' => if c = 0 then F (fl_cl kd T p + 1) s' e else F (p + 1) s' e
    | _ => .inr (.inl 0))
  else if kd p = 18 then F (fl_cl kd T p + 1) s e
  else if kd p = 19 then F (p + 1) s e
  else if kd p = 15 ∨ kd p = 16 then .inr (s.headD (.inl 0))
  else (match fl_sp (kd p) (ag p) R rw r p s e with
    | .inl f => .inl f
    | .inr s' => F (p + 1) s' e)
def fl_ev (kd ag : Nat → Int32) (T R : Nat) (rw : Nat → List Int32) (r : Nat) : Nat → Nat → List fl_V → fl_E → fl_F ⊕ fl_V
  | 0 => fun _ _ _ => .inr (.inl 0)
  | n + 1 => fun p s e => fl_st kd ag T R rw r (fl_ev kd ag T R rw r n) p s e
def fl_EV (kd ag : Nat → Int32) (T R : Nat) (rw : Nat → List Int32) (r p : Nat) (s : List fl_V) (e : fl_E) : fl_F ⊕ fl_V := fl_ev kd ag T R rw r (T + 1) p s e
section EVS
variable {kd ag : Nat → Int32} {T R : Nat} {rw : Nat → List Int32} {r : Nat}
theorem fl_st_c {F F' : Nat → List fl_V → fl_E → fl_F ⊕ fl_V} {p : Nat} (s : List fl_V) (e : fl_E) (h : p < T → ∀ p', p < p' → ∀ s e, F p' s e = F' p' s e) : fl_st kd ag T R rw r F p s e = fl_st kd ag T R rw r F' p s e := by
  unfold fl_st
  by_cases hT : T ≤ p
  · rw [if_pos hT, if_pos hT]
  · have h := h (by omega)
    have h1 := h (p + 1) (by omega)
    have h2 := h (fl_cl kd T p + 1) (by have := fl_cl_gt kd T p; omega)
    simp only [h1, h2]
theorem fl_ev_f : ∀ n m p s e, T - p < n → T - p < m → fl_ev kd ag T R rw r n p s e = fl_ev kd ag T R rw r m p s e := by
  intro n
  induction n with
  | zero => intro m p s e h; omega
  | succ n ih =>
    intro m p s e hn hm
    cases m with
    | zero => omega
    | succ m =>
      show fl_st kd ag T R rw r _ p s e = fl_st kd ag T R rw r _ p s e
      exact fl_st_c s e fun hp p' hp' s e => ih m p' s e (by omega) (by omega)
theorem fl_EV_eq (p : Nat) (s : List fl_V) (e : fl_E) : fl_EV kd ag T R rw r p s e = fl_st kd ag T R rw r (fl_EV kd ag T R rw r) p s e := by
  show fl_st kd ag T R rw r _ p s e = _
  exact fl_st_c s e fun hp p' hp' s e => fl_ev_f _ _ _ _ _ (by omega) (by omega)
theorem fl_EV_T {p : Nat} (h : T ≤ p) (s e) : fl_EV kd ag T R rw r p s e = .inr (s.headD (.inl 0)) := by
  rw [fl_EV_eq]; unfold fl_st; rw [if_pos h]
theorem fl_EV_E {p : Nat} (hk : kd p = 15 ∨ kd p = 16) (s e) : fl_EV kd ag T R rw r p s e = .inr (s.headD (.inl 0)) := by
  rw [fl_EV_eq]; unfold fl_st
  split
  · rfl
  · rcases hk with h | h <;> simp [h]
theorem fl_EV_18 {p : Nat} (hp : p < T) (hk : kd p = 18) (s e) : fl_EV kd ag T R rw r p s e = fl_EV kd ag T R rw r (fl_cl kd T p + 1) s e := by
  rw [fl_EV_eq]; unfold fl_st; rw [if_neg (by omega), hk, if_neg (by decide), if_neg (by decide), if_pos rfl]
theorem fl_EV_19 {p : Nat} (hp : p < T) (hk : kd p = 19) (s e) : fl_EV kd ag T R rw r p s e = fl_EV kd ag T R rw r (p + 1) s e := by
  rw [fl_EV_eq]; unfold fl_st; rw [if_neg (by omega), hk, if_neg (by decide), if_neg (by decide), if_neg (by decide), if_pos rfl]
theorem fl_EV_17 {p : Nat} (hp : p < T) (hk : kd p = 17) (c s e) : fl_EV kd ag T R rw r p (.inl c :: s) e = if c = 0 then fl_EV kd ag T R rw r (fl_cl kd T p + 1) s e else fl_EV kd ag T R rw r (p + 1) s e := by
  rw [fl_EV_eq]; unfold fl_st; rw [if_neg (by omega), hk, if_neg (by decide), if_pos rfl]
theorem fl_EV_14 {p : Nat} (hp : p < T) (hk : kd p = 14) (xs s e) : fl_EV kd ag T R rw r p (.inr xs :: s) e = (match fl_ea (decide (kd (fl_cl kd T p) = 16)) (fun x i => fl_EV kd ag T R rw r (p + 1) [] (e ++ [(x, nI i)])) xs 0 with
      | .inl f => .inl f
      | .inr ys => fl_EV kd ag T R rw r (fl_cl kd T p + 1) (.inr ys :: s) e) := by
  rw [fl_EV_eq]; unfold fl_st; rw [if_neg (by omega), hk, if_pos rfl]
theorem fl_EV_s {p : Nat} (hp : p < T) (hk : fl_sK (kd p)) (s e) : fl_EV kd ag T R rw r p s e = (match fl_sp (kd p) (ag p) R rw r p s e with
    | .inl f => .inl f
    | .inr s' => fl_EV kd ag T R rw r (p + 1) s' e) := by
  obtain ⟨h1, h2, h3, h4, h5, h6⟩ := hk
  rw [fl_EV_eq]; unfold fl_st; rw [if_neg (by omega), if_neg h1, if_neg h4, if_neg h5, if_neg h6, if_neg (by simp [h2, h3])]
theorem fl_EV_sr {p : Nat} (hp : p < T) (hk : fl_sK (kd p)) {s e s'} (h : fl_sp (kd p) (ag p) R rw r p s e = .inr s') : fl_EV kd ag T R rw r p s e = fl_EV kd ag T R rw r (p + 1) s' e := by
  rw [fl_EV_s hp hk, h]
theorem fl_EV_sl {p : Nat} (hp : p < T) (hk : fl_sK (kd p)) {s e f} (h : fl_sp (kd p) (ag p) R rw r p s e = .inl f) : fl_EV kd ag T R rw r p s e = .inl f := by
  rw [fl_EV_s hp hk, h]
end EVS
/-! the shape of typed stacks -/
theorem fl_sh_i {s : List fl_V} {ts : List Bool} (h : s.map fl_tg = false :: ts) : ∃ x s', s = .inl x :: s' ∧ s'.map fl_tg = ts := by
  cases s with
  | nil => simp at h
  | cons v s =>
    rw [List.map_cons] at h
    injection h with h1 h2
    cases v with
    | inl x => exact ⟨x, s, rfl, h2⟩
    | inr x => simp [fl_tg] at h1
theorem fl_sh_s {s : List fl_V} {ts : List Bool} (h : s.map fl_tg = true :: ts) : ∃ xs s', s = .inr xs :: s' ∧ s'.map fl_tg = ts := by
  cases s with
  | nil => simp at h
  | cons v s =>
    rw [List.map_cons] at h
    injection h with h1 h2
    cases v with
    | inl x => simp [fl_tg] at h1
    | inr x => exact ⟨x, s, rfl, h2⟩
theorem fl_sh_1 {s : List fl_V} {t : Bool} (h : s.map fl_tg = [t]) : ∃ v, s = [v] ∧ fl_tg v = t := by
  cases s with
  | nil => simp at h
  | cons v s =>
    rw [List.map_cons] at h
    injection h with h1 h2
    cases s with
    | nil => exact ⟨v, rfl, h1⟩
    | cons _ _ => simp at h2
/-! a stack as it lies in slots -/
def fl_MV (z : Prop) (lf : Nat → Int32) (cf : Nat → Nat → Int32) (h : Nat) : fl_V → Prop
  | .inl x => cf h 0 = x ∧ (z → lf h = 1)
  | .inr xs => lf h = nI xs.length ∧ xs.length ≤ 4 ∧ ∀ i (hi : i < xs.length), cf h i = xs[i]
def fl_MS (z : Prop) (lf : Nat → Int32) (cf : Nat → Nat → Int32) (b : Nat) : List fl_V → Prop
  | [] => True
  | v :: s => fl_MV z lf cf (b + s.length) v ∧ fl_MS z lf cf b s
theorem fl_MV_c {z : Prop} {lf lf' : Nat → Int32} {cf cf' : Nat → Nat → Int32} {h : Nat} {v : fl_V} (h1 : lf' h = lf h) (h2 : ∀ i, i < 4 → cf' h i = cf h i) (hv : fl_MV z lf cf h v) : fl_MV z lf' cf' h v := by
  cases v with
  | inl x => exact ⟨by rw [h2 0 (by omega)]; exact hv.1, fun w => by rw [h1]; exact hv.2 w⟩
  | inr xs => exact ⟨by rw [h1]; exact hv.1, hv.2.1, fun i hi => by rw [h2 i (Nat.lt_of_lt_of_le hi hv.2.1)]; exact hv.2.2 i hi⟩
theorem fl_MS_c {z : Prop} {lf lf' : Nat → Int32} {cf cf' : Nat → Nat → Int32} {b : Nat} : ∀ {s : List fl_V}, (∀ h, b ≤ h → h < b + s.length → lf' h = lf h ∧ ∀ i, i < 4 → cf' h i = cf h i) → fl_MS z lf cf b s → fl_MS z lf' cf' b s
  | [], _, _ => trivial
  | v :: s, H, h => by
    have e := H (b + s.length) (by omega) (by simp)
    exact ⟨fl_MV_c e.1 e.2 h.1, fl_MS_c (fun h a b => H h a (by simp; omega)) h.2⟩
/-! the rows -/
def fl_rw (rl dt : Nat → Int32) (i : Nat) : List Int32 := (List.range (rl i).toNatClampNeg).map (fun j => dt (i * 4 + j))
theorem fl_rw_len (rl dt : Nat → Int32) (i : Nat) : (fl_rw rl dt i).length = (rl i).toNatClampNeg := by simp [fl_rw]
theorem fl_rw_get (rl dt : Nat → Int32) (i j : Nat) (h : j < (fl_rw rl dt i).length) : (fl_rw rl dt i)[j] = dt (i * 4 + j) := by simp [fl_rw]
section STB
variable {kd ag : Nat → Int32} {T : Nat}
theorem fl_at14 (G : fl_Gd kd ag T) {p : Nat} (hp : p < T) (hk : kd p = 14) : ∃ r bs, fl_csf kd ag p = (true :: r, bs) ∧ fl_csf kd ag (p + 1) = ([], (14, p, false, r) :: bs) ∧ bs.length < 6 ∧ fl_lev bs < 2 ∧ p < fl_cl kd T p ∧ fl_cl kd T p < T ∧ fl_csf kd ag (fl_cl kd T p) = ([false], (14, p, false, r) :: bs) ∧ (kd (fl_cl kd T p) = 15 ∨ kd (fl_cl kd T p) = 16) ∧ fl_csf kd ag (fl_cl kd T p + 1) = (true :: r, bs) := by
  have h := G.2.1 p hp
  rw [hk, fl_ck_14] at h
  obtain ⟨r, h1, h2, h3, h4⟩ := fl_opn_inv h
  have H := fl_CL G (p := p + 1) (by omega) (X := []) (B := (14, p, false, r)) (rest := (fl_csf kd ag p).2) (by rw [h2]; rfl)
  simp only at H
  obtain ⟨a1, a2, a3, a4, a5⟩ := H
  refine ⟨r, (fl_csf kd ag p).2, by rw [show true = decide ((14 : Int32) = 14) by decide, ← h1], h2, h3, h4 rfl, by omega, a3, ?_⟩
  generalize fl_cl kd T p = q at a2 a3 a4 a5
  have g := G.2.1 q a3
  rcases a5 with e | e | e | e
  · rw [e, fl_ck_15] at g
    obtain ⟨B, b, g1, g2, g3, g4⟩ := fl_end_inv g
    rw [a4] at g1
    injection g1 with g5 g6
    subst g5; subst g6
    exact ⟨by rw [← g3, ← a4], Or.inl e, g4⟩
  · rw [e, fl_ck_16] at g
    obtain ⟨B, b, g1, g2, g3, g4⟩ := fl_end_inv g
    rw [a4] at g1
    injection g1 with g5 g6
    subst g5; subst g6
    exact ⟨by rw [← g3, ← a4], Or.inr e, g4⟩
  · rw [e, fl_ck_18] at g
    obtain ⟨B, b, t, g1, g2, g3, g4⟩ := fl_els_inv g
    rw [a4] at g1
    injection g1 with g5 g6
    subst g5
    exact absurd (show (14 : Int32) = _ from g2) (by decide)
  · rw [e, fl_ck_19] at g
    obtain ⟨B, b, t, g1, g2, g3, g4⟩ := fl_fi_inv g
    rw [a4] at g1
    injection g1 with g5 g6
    subst g5
    exact absurd (show (14 : Int32) = _ from g2) (by decide)
theorem fl_at17 (G : fl_Gd kd ag T) {p : Nat} (hp : p < T) (hk : kd p = 17) : ∃ r bs t, fl_csf kd ag p = (false :: r, bs) ∧ fl_csf kd ag (p + 1) = ([], (17, p, false, r) :: bs) ∧ bs.length < 6 ∧ p < fl_cl kd T p ∧ fl_cl kd T p < T ∧ fl_csf kd ag (fl_cl kd T p) = ([t], (17, p, false, r) :: bs) ∧ kd (fl_cl kd T p) = 18 ∧ fl_csf kd ag (fl_cl kd T p + 1) = ([], (18, fl_cl kd T p, t, r) :: bs) := by
  have h := G.2.1 p hp
  rw [hk, fl_ck_17] at h
  obtain ⟨r, h1, h2, h3, h4⟩ := fl_opn_inv h
  have H := fl_CL G (p := p + 1) (by omega) (X := []) (B := (17, p, false, r)) (rest := (fl_csf kd ag p).2) (by rw [h2]; rfl)
  simp only at H
  obtain ⟨a1, a2, a3, a4, a5⟩ := H
  have e1 : fl_csf kd ag p = (false :: r, (fl_csf kd ag p).2) := by rw [show false = decide ((17 : Int32) = 14) by decide, ← h1]
  generalize fl_cl kd T p = q at a2 a3 a4 a5
  have g := G.2.1 q a3
  rcases a5 with e | e | e | e
  · rw [e, fl_ck_15] at g
    obtain ⟨B, b, g1, g2, g3, g4⟩ := fl_end_inv g
    rw [a4] at g1
    injection g1 with g5 g6
    subst g5
    exact absurd (show (17 : Int32) = _ from g2) (by decide)
  · rw [e, fl_ck_16] at g
    obtain ⟨B, b, g1, g2, g3, g4⟩ := fl_end_inv g
    rw [a4] at g1
    injection g1 with g5 g6
    subst g5
    exact absurd (show (17 : Int32) = _ from g2) (by decide)
  · rw [e, fl_ck_18] at g
    obtain ⟨B, b, t, g1, g2, g3, g4⟩ := fl_els_inv g
    rw [a4] at g1
    injection g1 with g5 g6
    subst g5; subst g6
    exact ⟨r, _, t, e1, h2, h3, by omega, a3, by rw [← g3, ← a4], e, g4⟩
  · rw [e, fl_ck_19] at g
    obtain ⟨B, b, t, g1, g2, g3, g4⟩ := fl_fi_inv g
    rw [a4] at g1
    injection g1 with g5 g6
    subst g5
    exact absurd (show (17 : Int32) = _ from g2) (by decide)
theorem fl_at18 (G : fl_Gd kd ag T) {p : Nat} (hp : p < T) (hk : kd p = 18) : ∃ B bs t, fl_csf kd ag p = ([t], B :: bs) ∧ B.1 = 17 ∧ fl_cl kd T B.2.1 = p ∧ fl_csf kd ag (p + 1) = ([], (18, p, t, B.2.2.2) :: bs) ∧ p < fl_cl kd T p ∧ fl_cl kd T p < T ∧ fl_csf kd ag (fl_cl kd T p) = ([t], (18, p, t, B.2.2.2) :: bs) ∧ kd (fl_cl kd T p) = 19 ∧ fl_csf kd ag (fl_cl kd T p + 1) = (t :: B.2.2.2, bs) := by
  have h := G.2.1 p hp
  rw [hk, fl_ck_18] at h
  obtain ⟨B, bs, t, h1, h2, h3, h4⟩ := fl_els_inv h
  have hB := fl_CLq G hp h1 (by rw [hk]; decide)
  have H := fl_CL G (p := p + 1) (by omega) (X := []) (B := (18, p, t, B.2.2.2)) (rest := bs) (by rw [h4]; rfl)
  simp only at H
  obtain ⟨a1, a2, a3, a4, a5⟩ := H
  refine ⟨B, bs, t, by rw [← h3, ← h1], h2, hB, h4, by omega, a3, ?_⟩
  generalize fl_cl kd T p = q at a2 a3 a4 a5
  have g := G.2.1 q a3
  rcases a5 with e | e | e | e
  · rw [e, fl_ck_15] at g
    obtain ⟨B', b, g1, g2, g3, g4⟩ := fl_end_inv g
    rw [a4] at g1
    injection g1 with g5 g6
    subst g5
    exact absurd (show (18 : Int32) = _ from g2) (by decide)
  · rw [e, fl_ck_16] at g
    obtain ⟨B', b, g1, g2, g3, g4⟩ := fl_end_inv g
    rw [a4] at g1
    injection g1 with g5 g6
    subst g5
    exact absurd (show (18 : Int32) = _ from g2) (by decide)
  · rw [e, fl_ck_18] at g
    obtain ⟨B', b, t', g1, g2, g3, g4⟩ := fl_els_inv g
    rw [a4] at g1
    injection g1 with g5 g6
    subst g5
    exact absurd (show (18 : Int32) = _ from g2) (by decide)
  · rw [e, fl_ck_19] at g
    obtain ⟨B', b, t', g1, g2, g3, g5, g4⟩ := fl_fi_inv g
    rw [a4] at g1
    injection g1 with g6 g7
    subst g6; subst g7
    simp only at g5
    subst g5
    exact ⟨by rw [← g3, ← a4], e, g4⟩
theorem fl_at19 (G : fl_Gd kd ag T) {p : Nat} (hp : p < T) (hk : kd p = 19) : ∃ B bs t, fl_csf kd ag p = ([t], B :: bs) ∧ B.1 = 18 ∧ fl_cl kd T B.2.1 = p ∧ fl_csf kd ag (p + 1) = (t :: B.2.2.2, bs) := by
  have h := G.2.1 p hp
  rw [hk, fl_ck_19] at h
  obtain ⟨B, bs, t, h1, h2, h3, h4, h5⟩ := fl_fi_inv h
  have hB := fl_CLq G hp h1 (by rw [hk]; decide)
  exact ⟨B, bs, t, by rw [← h3, ← h1], h2, hB, h5⟩
theorem fl_at15 (G : fl_Gd kd ag T) {p : Nat} (hp : p < T) (hk : kd p = 15 ∨ kd p = 16) : ∃ B bs, fl_csf kd ag p = ([false], B :: bs) ∧ B.1 = 14 ∧ fl_cl kd T B.2.1 = p ∧ fl_csf kd ag (p + 1) = (true :: B.2.2.2, bs) := by
  have h := G.2.1 p hp
  have h' : fl_end (fl_csf kd ag p) = .inr (fl_csf kd ag (p + 1)) := by
    rcases hk with hk | hk
    · rw [hk, fl_ck_15] at h; exact h
    · rw [hk, fl_ck_16] at h; exact h
  obtain ⟨B, bs, h1, h2, h3, h4⟩ := fl_end_inv h'
  have hB := fl_CLq G hp h1 (by rcases hk with hk | hk <;> rw [hk] <;> decide)
  exact ⟨B, bs, by rw [← h3, ← h1], h2, hB, h4⟩
theorem fl_atS (G : fl_Gd kd ag T) {p : Nat} (hp : p < T) (hk : fl_sK (kd p)) : (fl_csf kd ag (p + 1)).2 = (fl_csf kd ag p).2 := by
  rcases fl_bst (G.1 p hp) (G.2.1 p hp) with ⟨h1, -⟩ | ⟨h1, -⟩ | ⟨h1, -⟩ | ⟨-, -, h⟩
  · rcases h1 with h | h
    · exact absurd h hk.1
    · exact absurd h hk.2.2.2.1
  · rcases h1 with h | h | h
    · exact absurd h hk.2.1
    · exact absurd h hk.2.2.1
    · exact absurd h hk.2.2.2.2.2
  · exact absurd h1 hk.2.2.2.2.1
  · exact h
end STB
end
section
/-! the check of X against fl_ck -/
def fl_bI (t : Bool) : Int32 := if t = true then 1 else 0
def fl_tI (t : Bool) : Int32 := if t = true then 2 else 1
theorem fl_bI_nar (t : Bool) : vp_nar .boolean (fl_bI t) = fl_bI t := by cases t <;> rfl
theorem fl_bI_01 (t : Bool) : fl_bI t = 0 ∨ fl_bI t = 1 := by cases t <;> simp [fl_bI]
theorem fl_bI_inj {t t' : Bool} : fl_bI t = fl_bI t' ↔ t = t' := by cases t <;> cases t' <;> decide
theorem fl_tI_inj {t t' : Bool} : fl_tI t = fl_tI t' ↔ t = t' := by cases t <;> cases t' <;> decide
def fl_TM (f : Bool → Int32) (a : Nat → Int32) : List Bool → Prop
  | [] => True
  | t :: l => a l.length = f t ∧ fl_TM f a l
def fl_BM (f : Bool → Int32) (ak ab aq : Nat → Int32) : List fl_Bl → Prop
  | [] => True
  | B :: bs => ak bs.length = B.1 ∧ ab bs.length = nI (fl_ft B.2.2.2 bs).length ∧ (B.1 = 18 → aq bs.length = f B.2.2.1) ∧ fl_BM f ak ab aq bs
theorem fl_TM_c {f : Bool → Int32} {a a' : Nat → Int32} : ∀ {l : List Bool}, (∀ j, j < l.length → a' j = a j) → fl_TM f a l → fl_TM f a' l
  | [], _, _ => trivial
  | t :: l, H, h => ⟨by rw [H _ (by simp)]; exact h.1, fl_TM_c (fun j hj => H j (by simp; omega)) h.2⟩
theorem fl_TM_u {f : Bool → Int32} {a : Nat → Int32} {l : List Bool} {k : Nat} {x : Int32} (hk : l.length ≤ k) (h : fl_TM f a l) : fl_TM f (upd a k x) l :=
  fl_TM_c (fun j hj => by rw [upd, if_neg (by omega)]) h
theorem fl_TM_a {f : Bool → Int32} {a : Nat → Int32} : ∀ {l l' : List Bool}, fl_TM f a (l ++ l') → fl_TM f a l'
  | [], _, h => h
  | _ :: _, _, h => fl_TM_a h.2
theorem fl_BM_c {f : Bool → Int32} {ak ab aq ak' ab' aq' : Nat → Int32} : ∀ {bs : List fl_Bl}, (∀ j, j < bs.length → ak' j = ak j ∧ ab' j = ab j ∧ aq' j = aq j) → fl_BM f ak ab aq bs → fl_BM f ak' ab' aq' bs
  | [], _, _ => trivial
  | B :: bs, H, h => by
    obtain ⟨e1, e2, e3⟩ := H bs.length (by simp)
    exact ⟨by rw [e1]; exact h.1, by rw [e2]; exact h.2.1, fun w => by rw [e3]; exact h.2.2.1 w, fl_BM_c (fun j hj => H j (by simp; omega)) h.2.2.2⟩
theorem fl_upn {a : Nat → Int32} {k j : Nat} {x : Int32} (h : j < k) : upd a k x j = a j := by rw [upd, if_neg (by omega)]
theorem fl_ups {a : Nat → Int32} {k : Nat} {x : Int32} : upd a k x k = x := by rw [upd, if_pos rfl]
theorem fl_n10 : ¬ (1 : Int32) ≤ nI 0 := by decide
theorem fl_n20 : ¬ (2 : Int32) ≤ nI 0 := by decide
theorem fl_n21 : ¬ (2 : Int32) ≤ nI 1 := by decide
theorem fl_p11 : (1 : Int32) ≤ nI 1 := by decide
theorem fl_q11 : nI 1 ≤ (1 : Int32) := by decide
def fl_CX (c : fl_CS) (h b l : Int32) (ts bk bb bq : Nat → Int32) : Prop :=
  h = nI (fl_ft c.1 c.2).length ∧ b = nI c.2.length ∧ l = nI (fl_lev c.2) ∧ (fl_ft c.1 c.2).length ≤ 4 ∧ c.2.length ≤ 6 ∧ fl_lev c.2 ≤ 2 ∧ fl_TM fl_bI ts (fl_ft c.1 c.2) ∧ fl_BM fl_bI bk bb bq c.2 ∧ ∀ j, ts j = 0 ∨ ts j = 1
theorem fl_01u {ts : Nat → Int32} (h : ∀ j, ts j = 0 ∨ ts j = 1) {k : Nat} {x : Int32} (hx : x = 0 ∨ x = 1) : ∀ j, upd ts k x j = 0 ∨ upd ts k x j = 1 := by
  intro j; unfold upd; split
  · exact hx
  · exact h j
theorem fl_ts_le (ts : List Bool) (bs : List fl_Bl) : ts.length ≤ (fl_ft ts bs).length := by cases bs <;> simp [fl_ft]
def fl_OX (post : Int32 → SX → Prop) (o : Nat ⊕ fl_CS) (f_rowCap f_cellCap f_tokenCap f_rowCount f_tokenCount f_status f_resultIsSeq f_height f_blocks f_level : Int32) (a_rowLen a_data a_kinds a_args a_recKind a_recLen a_rec a_typeSeq a_blockKind a_blockBase a_blockSeq a_laneCount a_owner a_parent a_elem a_place a_off a_cut a_lens a_cells : Nat → Int32) : Prop :=
  (∀ e, o = .inl e → post (nI e) (f_rowCap, f_cellCap, f_tokenCap, f_rowCount, f_tokenCount, f_status, f_resultIsSeq, f_height, f_blocks, f_level, a_rowLen, a_data, a_kinds, a_args, a_recKind, a_recLen, a_rec, a_typeSeq, a_blockKind, a_blockBase, a_blockSeq, a_laneCount, a_owner, a_parent, a_elem, a_place, a_off, a_cut, a_lens, a_cells)) ∧ ∀ c' h' b' l' ts' bk' bb' bq', o = .inr c' → fl_CX c' h' b' l' ts' bk' bb' bq' → post 0 (f_rowCap, f_cellCap, f_tokenCap, f_rowCount, f_tokenCount, f_status, f_resultIsSeq, h', b', l', a_rowLen, a_data, a_kinds, a_args, a_recKind, a_recLen, a_rec, ts', bk', bb', bq', a_laneCount, a_owner, a_parent, a_elem, a_place, a_off, a_cut, a_lens, a_cells)
theorem fl_prt_e {k : Int32} {c : fl_CS} {f : Bool → fl_Bl → List fl_Bl → Nat ⊕ fl_CS} {e : Nat} (hf : ∀ t B bs e, f t B bs = .inl e → e = 2) (h : fl_prt k c f = .inl e) : 1 ≤ e ∧ e ≤ 7 := by
  unfold fl_prt at h
  split at h
  · cases h; decide
  · split at h
    · split at h
      · cases h; decide
      · have := hf _ _ _ _ h; omega
      · cases h; decide
    · cases h; decide
section XCK
variable {f_rowCap f_cellCap f_tokenCap f_rowCount f_tokenCount f_status f_resultIsSeq f_height f_blocks f_level : Int32} {a_rowLen a_data a_kinds a_args a_recKind a_recLen a_rec a_typeSeq a_blockKind a_blockBase a_blockSeq a_laneCount a_owner a_parent a_elem a_place a_off a_cut a_lens a_cells : Nat → Int32} {post : Int32 → SX → Prop} {c : fl_CS}
theorem fl_xabove {post : Int32 → Prop} (H : fl_CX c f_height f_blocks f_level a_typeSeq a_blockKind a_blockBase a_blockSeq) (K : post (nI c.1.length)) : wpX_above post (f_rowCap, f_cellCap, f_tokenCap, f_rowCount, f_tokenCount, f_status, f_resultIsSeq, f_height, f_blocks, f_level, a_rowLen, a_data, a_kinds, a_args, a_recKind, a_recLen, a_rec, a_typeSeq, a_blockKind, a_blockBase, a_blockSeq, a_laneCount, a_owner, a_parent, a_elem, a_place, a_off, a_cut, a_lens, a_cells) := by
  obtain ⟨ts, bs⟩ := c
  obtain ⟨rfl, rfl, rfl, h1, h2, h3, h4, h5, h6⟩ := H
  dsimp only at h1 h2 h3 h4 h5 ⊢
  cases bs with
  | nil => exact br_t rfl K
  | cons B bs =>
    simp only [List.length_cons] at h2
    have e1 : nI (bs.length + 1) - 1 = nI bs.length := nI_pred _
    have e2 : (nI bs.length).toNatClampNeg = bs.length := nI_clamp (by omega)
    refine br_f (nI_ne0 (by simp) (by simp; omega)) ⟨?_, ?_⟩
    · simp only [List.length_cons]; rw [e1]; exact vp_in_nI (by omega) (by omega)
    · simp only [List.length_cons]; rw [e1, e2, h5.2.1]
      simp only [fl_ft, List.length_append] at h1 ⊢
      rw [pk_sub (by omega)]
      simpa using K
theorem fl_xpsh {t : Bool} (H : fl_CX c f_height f_blocks f_level a_typeSeq a_blockKind a_blockBase a_blockSeq) (K : fl_OX post (fl_psh t c) f_rowCap f_cellCap f_tokenCap f_rowCount f_tokenCount f_status f_resultIsSeq f_height f_blocks f_level a_rowLen a_data a_kinds a_args a_recKind a_recLen a_rec a_typeSeq a_blockKind a_blockBase a_blockSeq a_laneCount a_owner a_parent a_elem a_place a_off a_cut a_lens a_cells) : wpX_checkPush post (f_rowCap, f_cellCap, f_tokenCap, f_rowCount, f_tokenCount, f_status, f_resultIsSeq, f_height, f_blocks, f_level, a_rowLen, a_data, a_kinds, a_args, a_recKind, a_recLen, a_rec, a_typeSeq, a_blockKind, a_blockBase, a_blockSeq, a_laneCount, a_owner, a_parent, a_elem, a_place, a_off, a_cut, a_lens, a_cells) (fl_bI t) := by
  obtain ⟨ts, bs⟩ := c
  obtain ⟨rfl, rfl, rfl, h1, h2, h3, h4, h5, h6⟩ := H
  dsimp only at h1 h2 h3 h4 h5 ⊢
  by_cases hL : (fl_ft ts bs).length < 4
  · refine br_t (nI_lt (b := 4) hL (by decide)) ⟨vp_in_nI hL (by decide), fun a1 e1 x1 e2 => ?_⟩
    refine K.2 (t :: ts, bs) _ _ _ _ _ _ _ (by unfold fl_psh; rw [if_neg (by dsimp only; omega)]) ?_
    rw [nI_clamp (by omega), fl_bI_nar] at e1
    subst e1; subst e2
    refine ⟨?_, rfl, rfl, ?_, h2, h3, ?_, h5, fl_01u h6 (fl_bI_01 t)⟩
    · rw [fl_ft_cons, nI_1]; rfl
    · simp only [fl_ft_cons, List.length_cons]; omega
    · simp only [fl_ft_cons]; exact ⟨fl_ups, fl_TM_u (Nat.le_refl _) h4⟩
  · refine br_f (nI_nlt (b := 4) (by omega) (by omega)) (K.1 7 ?_)
    unfold fl_psh; rw [if_pos (by dsimp only; omega)]
theorem fl_xun {t : Bool} (H : fl_CX c f_height f_blocks f_level a_typeSeq a_blockKind a_blockBase a_blockSeq) (K : fl_OX post (fl_un t c) f_rowCap f_cellCap f_tokenCap f_rowCount f_tokenCount f_status f_resultIsSeq f_height f_blocks f_level a_rowLen a_data a_kinds a_args a_recKind a_recLen a_rec a_typeSeq a_blockKind a_blockBase a_blockSeq a_laneCount a_owner a_parent a_elem a_place a_off a_cut a_lens a_cells) : wpX_checkUnary post (f_rowCap, f_cellCap, f_tokenCap, f_rowCount, f_tokenCount, f_status, f_resultIsSeq, f_height, f_blocks, f_level, a_rowLen, a_data, a_kinds, a_args, a_recKind, a_recLen, a_rec, a_typeSeq, a_blockKind, a_blockBase, a_blockSeq, a_laneCount, a_owner, a_parent, a_elem, a_place, a_off, a_cut, a_lens, a_cells) (fl_bI t) := by
  unfold wpX_checkUnary
  refine fl_xabove H ?_
  obtain ⟨ts, bs⟩ := c
  obtain ⟨rfl, rfl, rfl, h1, h2, h3, h4, h5, h6⟩ := H
  dsimp only at h1 h2 h3 h4 h5 ⊢
  cases ts with
  | nil => exact br_f fl_n10 (K.1 1 rfl)
  | cons x r =>
    have hr := fl_ts_le r bs
    simp only [fl_ft_cons, List.length_cons] at h1 h4 K ⊢
    have e1 : nI ((fl_ft r bs).length + 1) - 1 = nI (fl_ft r bs).length := nI_pred _
    have e2 : (nI (fl_ft r bs).length).toNatClampNeg = (fl_ft r bs).length := nI_clamp (by omega)
    have hv : vp_in (nI (fl_ft r bs).length) 4 := vp_in_nI (by omega) (by omega)
    refine br_t (nI_le (a := 1) (by omega) (by omega)) ?_
    rw [e1, e2]
    refine ⟨hv, ?_⟩
    rw [h4.1]
    by_cases hx : x = t
    · subst hx
      refine br_t rfl ?_
      have ho : fl_un x (x :: r, bs) = .inr ((!x) :: r, bs) := by simp [fl_un]
      have hc : ∀ a1, a1 = upd a_typeSeq (fl_ft r bs).length (fl_bI (!x)) → fl_CX ((!x) :: r, bs) (nI ((fl_ft r bs).length + 1)) (nI bs.length) (nI (fl_lev bs)) a1 a_blockKind a_blockBase a_blockSeq := by
        intro a1 ea; subst ea
        refine ⟨by rw [fl_ft_cons]; rfl, rfl, rfl, by simp only [fl_ft_cons, List.length_cons]; omega, h2, h3, ?_, h5, fl_01u h6 (fl_bI_01 _)⟩
        simp only [fl_ft_cons]; exact ⟨fl_ups, fl_TM_u (Nat.le_refl _) h4.2⟩
      cases x with
      | false => exact br_t rfl ⟨hv, fun a1 ea => K.2 _ _ _ _ _ _ _ _ ho (hc a1 ea)⟩
      | true => exact br_f (by decide) ⟨hv, fun a1 ea => K.2 _ _ _ _ _ _ _ _ ho (hc a1 ea)⟩
    · refine br_f (fun w => hx (fl_bI_inj.mp w)) (K.1 2 ?_)
      simp [fl_un, hx]
theorem fl_xbin {t : Bool} (H : fl_CX c f_height f_blocks f_level a_typeSeq a_blockKind a_blockBase a_blockSeq) (K : fl_OX post (fl_bin t c) f_rowCap f_cellCap f_tokenCap f_rowCount f_tokenCount f_status f_resultIsSeq f_height f_blocks f_level a_rowLen a_data a_kinds a_args a_recKind a_recLen a_rec a_typeSeq a_blockKind a_blockBase a_blockSeq a_laneCount a_owner a_parent a_elem a_place a_off a_cut a_lens a_cells) : wpX_checkBinary post (f_rowCap, f_cellCap, f_tokenCap, f_rowCount, f_tokenCount, f_status, f_resultIsSeq, f_height, f_blocks, f_level, a_rowLen, a_data, a_kinds, a_args, a_recKind, a_recLen, a_rec, a_typeSeq, a_blockKind, a_blockBase, a_blockSeq, a_laneCount, a_owner, a_parent, a_elem, a_place, a_off, a_cut, a_lens, a_cells) (fl_bI t) := by
  unfold wpX_checkBinary
  refine fl_xabove H ?_
  obtain ⟨ts, bs⟩ := c
  obtain ⟨rfl, rfl, rfl, h1, h2, h3, h4, h5, h6⟩ := H
  dsimp only at h1 h2 h3 h4 h5 ⊢
  rcases ts with _ | ⟨y, _ | ⟨x, r⟩⟩
  · exact br_f fl_n20 (K.1 1 rfl)
  · exact br_f fl_n21 (K.1 1 rfl)
  · simp only [fl_ft_cons, List.length_cons] at h1 h4 K ⊢
    have hr := fl_ts_le r bs
    have e1 : nI ((fl_ft r bs).length + 1 + 1) - 1 = nI ((fl_ft r bs).length + 1) := nI_pred _
    have e0 : nI ((fl_ft r bs).length + 1) - 1 = nI (fl_ft r bs).length := nI_pred _
    have e2 : nI ((fl_ft r bs).length + 1 + 1) - 2 = nI (fl_ft r bs).length := pk_sub (a := (fl_ft r bs).length + 1 + 1) (b := 2) (by omega)
    have e3 : (nI (fl_ft r bs).length).toNatClampNeg = (fl_ft r bs).length := nI_clamp (by omega)
    have e4 : (nI ((fl_ft r bs).length + 1)).toNatClampNeg = (fl_ft r bs).length + 1 := nI_clamp (by omega)
    have hv : vp_in (nI (fl_ft r bs).length) 4 := vp_in_nI (by omega) (by omega)
    have hv' : vp_in (nI ((fl_ft r bs).length + 1)) 4 := vp_in_nI (by omega) (by omega)
    refine br_t (nI_le (a := 2) (by omega) (by omega)) ?_
    rw [e2, e1, e3, e4]
    refine ⟨hv, ?_⟩
    rw [h4.2.1]
    by_cases hx : x = t
    · subst hx
      refine br_t rfl ⟨hv', ?_⟩
      have h40 : a_typeSeq ((fl_ft r bs).length + 1) = fl_bI y := h4.1
      rw [h40]
      cases y with
      | false =>
        refine br_t rfl fun x1 ex => ?_
        subst ex
        rw [e0, e3]
        refine ⟨hv, fun a1 ea => K.2 (false :: r, bs) _ _ _ _ _ _ _ ?_ ?_⟩
        · unfold fl_bin; simp
        · subst ea
          refine ⟨by rw [fl_ft_cons]; rfl, rfl, rfl, by simp only [fl_ft_cons, List.length_cons]; omega, h2, h3, ?_, h5, fl_01u h6 (Or.inl rfl)⟩
          simp only [fl_ft_cons]; exact ⟨fl_ups, fl_TM_u (Nat.le_refl _) h4.2.2⟩
      | true =>
        refine br_f (by decide) (K.1 2 ?_)
        unfold fl_bin; simp
    · refine br_f (fun w => hx (fl_bI_inj.mp w)) (K.1 2 ?_)
      unfold fl_bin; simp [hx]
theorem fl_xop62 {k : Int32} {p : Nat} {r : List Bool} {bs : List fl_Bl} {x2 : Int32} {x : Bool} (hk : (k = 14 ∧ x2 = 1) ∨ (k = 17 ∧ x2 = 0)) (H : fl_CX (x :: r, bs) f_height f_blocks f_level a_typeSeq a_blockKind a_blockBase a_blockSeq) (hb : bs.length < 6) (hl : k = 14 → fl_lev bs < 2)
    (K : ∀ c' h' b' l' ts' bk' bb' bq', c' = ([], (k, p, false, r) :: bs) → fl_CX c' h' b' l' ts' bk' bb' bq' → post 0 (f_rowCap, f_cellCap, f_tokenCap, f_rowCount, f_tokenCount, f_status, f_resultIsSeq, h', b', l', a_rowLen, a_data, a_kinds, a_args, a_recKind, a_recLen, a_rec, ts', bk', bb', bq', a_laneCount, a_owner, a_parent, a_elem, a_place, a_off, a_cut, a_lens, a_cells)) : wX_checkOpen_62 post k x2 f_rowCap f_cellCap f_tokenCap f_rowCount f_tokenCount f_status f_resultIsSeq f_height f_blocks f_level a_rowLen a_data a_kinds a_args a_recKind a_recLen a_rec a_typeSeq a_blockKind a_blockBase a_blockSeq a_laneCount a_owner a_parent a_elem a_place a_off a_cut a_lens a_cells := by
  obtain ⟨rfl, rfl, rfl, h1, h2, h3, h4, h5, h6⟩ := H
  simp only [fl_ft_cons, List.length_cons] at h1 h2 h3 h4 h5 ⊢
  have e1 : nI ((fl_ft r bs).length + 1) - 1 = nI (fl_ft r bs).length := nI_pred _
  have hv : vp_in (nI bs.length) 6 := vp_in_nI hb (by omega)
  have e2 : (nI bs.length).toNatClampNeg = bs.length := nI_clamp (by omega)
  intro x1 ex
  refine ⟨hv, fun a1 ea => ⟨hv, fun a2 eb y ey => ?_⟩⟩
  rw [e1] at ex
  rw [e2] at ea eb
  rw [nI_1] at ey
  subst ex; subst ea; subst eb; subst ey
  have hcx : ∀ l', l' = nI (fl_lev ((k, p, false, r) :: bs)) → fl_lev ((k, p, false, r) :: bs) ≤ 2 → fl_CX ([], (k, p, false, r) :: bs) (nI (fl_ft r bs).length) (nI (bs.length + 1)) l' a_typeSeq (upd a_blockKind bs.length k) (upd a_blockBase bs.length (nI (fl_ft r bs).length)) a_blockSeq := by
    intro l' el hle
    refine ⟨rfl, rfl, el, ?_, ?_, hle, ?_, ?_, h6⟩
    · simp only [fl_ft, List.nil_append]; omega
    · simp only [List.length_cons]; omega
    · simp only [fl_ft, List.nil_append]; exact h4.2
    · refine ⟨fl_ups, fl_ups, fun w => ?_, fl_BM_c (fun j hj => ⟨fl_upn hj, fl_upn hj, rfl⟩) h5⟩
      rcases hk with ⟨rfl, -⟩ | ⟨rfl, -⟩
      · exact absurd (show (14 : Int32) = 18 from w) (by decide)
      · exact absurd (show (17 : Int32) = 18 from w) (by decide)
  rcases hk with ⟨rfl, rfl⟩ | ⟨rfl, rfl⟩
  · have hl := hl rfl
    refine br_f (by decide) fun z ez => ?_
    rw [nI_1] at ez
    exact K _ _ _ _ _ _ _ _ rfl (hcx z (by rw [ez]; rfl) (by rw [fl_lev, if_pos rfl]; omega))
  · exact br_t rfl (K _ _ _ _ _ _ _ _ rfl (hcx _ (by rw [fl_lev, if_neg (show ¬ (17 : Int32) = 14 by decide)]; rfl) (by rw [fl_lev, if_neg (show ¬ (17 : Int32) = 14 by decide)]; omega)))
theorem fl_xop11 {k : Int32} {p : Nat} {x2 : Int32} (hk : (k = 14 ∧ x2 = 1) ∨ (k = 17 ∧ x2 = 0)) (H : fl_CX c f_height f_blocks f_level a_typeSeq a_blockKind a_blockBase a_blockSeq) (K : fl_OX post (fl_opn k p c) f_rowCap f_cellCap f_tokenCap f_rowCount f_tokenCount f_status f_resultIsSeq f_height f_blocks f_level a_rowLen a_data a_kinds a_args a_recKind a_recLen a_rec a_typeSeq a_blockKind a_blockBase a_blockSeq a_laneCount a_owner a_parent a_elem a_place a_off a_cut a_lens a_cells) : wX_checkOpen_11 post k x2 f_rowCap f_cellCap f_tokenCap f_rowCount f_tokenCount f_status f_resultIsSeq f_height f_blocks f_level a_rowLen a_data a_kinds a_args a_recKind a_recLen a_rec a_typeSeq a_blockKind a_blockBase a_blockSeq a_laneCount a_owner a_parent a_elem a_place a_off a_cut a_lens a_cells := by
  unfold wX_checkOpen_11
  refine fl_xabove H ?_
  have H' := H
  obtain ⟨ts, bs⟩ := c
  obtain ⟨rfl, rfl, rfl, h1, h2, h3, h4, h5, h6⟩ := H
  dsimp only at h1 h2 h3 h4 h5 ⊢
  cases ts with
  | nil => exact br_f fl_n10 (K.1 1 rfl)
  | cons x r =>
    have hr := fl_ts_le r bs
    have ek : x2 = fl_bI (decide (k = 14)) := by rcases hk with ⟨rfl, rfl⟩ | ⟨rfl, rfl⟩ <;> decide
    have hK1 := K.1
    have hK2 := K.2
    simp only [fl_ft_cons, List.length_cons] at h1 h4 hK1 ⊢
    have e1 : nI ((fl_ft r bs).length + 1) - 1 = nI (fl_ft r bs).length := nI_pred _
    have e2 : (nI (fl_ft r bs).length).toNatClampNeg = (fl_ft r bs).length := nI_clamp (by omega)
    refine br_t (nI_le (a := 1) (by omega) (by omega)) ?_
    rw [e1, e2]
    refine ⟨vp_in_nI (by omega) (by omega), ?_⟩
    rw [h4.1, ek]
    by_cases hx : x = decide (k = 14)
    · refine br_t (by rw [hx]) ?_
      rw [← ek]
      by_cases hb : bs.length < 6
      · refine br_f (nI_ge (b := 6) hb (by decide)) ?_
        rcases hk with ⟨rfl, rfl⟩ | ⟨rfl, rfl⟩
        · refine br_f (by decide) ?_
          by_cases hl : fl_lev bs < 2
          · refine br_t (nI_lt (b := 2) hl (by decide)) ?_
            have := fl_xop62 (post := post) (p := p) (Or.inl ⟨rfl, rfl⟩) H' hb (fun _ => hl) (fun c' h' b' l' ts' bk' bb' bq' ec hc => K.2 c' h' b' l' ts' bk' bb' bq' (by unfold fl_opn; dsimp only; rw [if_pos hx, if_neg (by omega), ec]) hc)
            simpa only [fl_ft_cons, List.length_cons] using this
          · refine br_f (nI_nlt (b := 2) (by omega) (by omega)) (hK1 4 ?_)
            unfold fl_opn; dsimp only; rw [if_pos hx, if_pos (Or.inr ⟨rfl, by omega⟩)]
        · refine br_t rfl ?_
          have := fl_xop62 (post := post) (p := p) (Or.inr ⟨rfl, rfl⟩) H' hb (fun w => absurd w (by decide)) (fun c' h' b' l' ts' bk' bb' bq' ec hc => K.2 c' h' b' l' ts' bk' bb' bq' (by unfold fl_opn; dsimp only; rw [if_pos hx, if_neg (fun w => by rcases w with w | w; omega; exact absurd w.1 (by decide)), ec]) hc)
          simpa only [fl_ft_cons, List.length_cons] using this
      · refine br_t (nI_le (a := 6) (by omega) (by omega)) (hK1 4 ?_)
        unfold fl_opn; dsimp only; rw [if_pos hx, if_pos (Or.inl (by omega))]
    · refine br_f (fun w => hx (fl_bI_inj.mp w)) (hK1 2 ?_)
      unfold fl_opn; dsimp only; rw [if_neg hx]
theorem fl_xprt {k : Int32} {f : Bool → fl_Bl → List fl_Bl → Nat ⊕ fl_CS} {post : Int32 → Prop} (H : fl_CX c f_height f_blocks f_level a_typeSeq a_blockKind a_blockBase a_blockSeq) (K1 : ∀ e, e ≠ 0 → fl_prt k c f = .inl e → post (nI e)) (K2 : ∀ t B bs, c = ([t], B :: bs) → B.1 = k → post 0) : wpX_checkPart post (f_rowCap, f_cellCap, f_tokenCap, f_rowCount, f_tokenCount, f_status, f_resultIsSeq, f_height, f_blocks, f_level, a_rowLen, a_data, a_kinds, a_args, a_recKind, a_recLen, a_rec, a_typeSeq, a_blockKind, a_blockBase, a_blockSeq, a_laneCount, a_owner, a_parent, a_elem, a_place, a_off, a_cut, a_lens, a_cells) k := by
  have H' := H
  obtain ⟨ts, bs⟩ := c
  obtain ⟨rfl, rfl, rfl, h1, h2, h3, h4, h5, h6⟩ := H
  dsimp only at h1 h2 h3 h4 h5 ⊢
  cases bs with
  | nil => exact br_t rfl (K1 5 (by decide) rfl)
  | cons B bs =>
    simp only [List.length_cons] at h2
    have e1 : nI (bs.length + 1) - 1 = nI bs.length := nI_pred _
    have e2 : (nI bs.length).toNatClampNeg = bs.length := nI_clamp (by omega)
    refine br_f (nI_ne0 (by simp) (by simp; omega)) ⟨?_, ?_⟩
    · simp only [List.length_cons]; rw [e1]; exact vp_in_nI (by omega) (by omega)
    · have q : a_blockKind (nI (B :: bs).length - 1).toNatClampNeg = B.1 := by
        simp only [List.length_cons]; rw [e1, e2]; exact h5.1
      rw [q]
      by_cases hB : B.1 = k
      · refine br_t hB (fl_xabove H' ?_)
        rcases ts with _ | ⟨y, _ | ⟨x, r⟩⟩
        · exact br_f fl_n10 (K1 1 (by decide) (by unfold fl_prt; simp [hB]))
        · exact br_t fl_p11 (br_t fl_q11 (K2 y B bs rfl hB))
        · have := fl_ts_le (y :: x :: r) (B :: bs)
          simp only [List.length_cons] at this h1 ⊢
          refine br_t (nI_le (a := 1) (by omega) (by omega)) (br_f (nI_ge (a := 1) (by omega) (by omega)) (K1 6 (by decide) (by unfold fl_prt; simp [hB])))
      · refine br_f hB (K1 5 (by decide) (by unfold fl_prt; simp [hB]))
theorem fl_xend (H : fl_CX c f_height f_blocks f_level a_typeSeq a_blockKind a_blockBase a_blockSeq) (K : fl_OX post (fl_end c) f_rowCap f_cellCap f_tokenCap f_rowCount f_tokenCount f_status f_resultIsSeq f_height f_blocks f_level a_rowLen a_data a_kinds a_args a_recKind a_recLen a_rec a_typeSeq a_blockKind a_blockBase a_blockSeq a_laneCount a_owner a_parent a_elem a_place a_off a_cut a_lens a_cells) : wpX_checkEnd post (f_rowCap, f_cellCap, f_tokenCap, f_rowCount, f_tokenCount, f_status, f_resultIsSeq, f_height, f_blocks, f_level, a_rowLen, a_data, a_kinds, a_args, a_recKind, a_recLen, a_rec, a_typeSeq, a_blockKind, a_blockBase, a_blockSeq, a_laneCount, a_owner, a_parent, a_elem, a_place, a_off, a_cut, a_lens, a_cells) := by
  unfold wpX_checkEnd
  refine fl_xprt (f := fun t B bs => if t = true then .inl 2 else .inr (true :: B.2.2.2, bs)) H (fun e he h => ?_) (fun t B bs hc hB => ?_)
  · refine br_f (fun w => he ?_) (K.1 e h)
    have : e < 2 ^ 31 := by have := fl_prt_e (fun t B bs e h => by (try dsimp only at h); first | (split at h <;> cases h; rfl) | cases h) h; omega
    exact (nI_eq this (by decide)).mp w
  · subst hc
    obtain ⟨rfl, rfl, rfl, h1, h2, h3, h4, h5, h6⟩ := H
    simp only [fl_ft, List.cons_append, List.nil_append, List.length_cons] at h1 h2 h4 K ⊢
    have e1 : nI ((fl_ft B.2.2.2 bs).length + 1) - 1 = nI (fl_ft B.2.2.2 bs).length := nI_pred _
    have e2 : (nI (fl_ft B.2.2.2 bs).length).toNatClampNeg = (fl_ft B.2.2.2 bs).length := nI_clamp (by omega)
    have hv : vp_in (nI (fl_ft B.2.2.2 bs).length) 4 := vp_in_nI (by omega) (by omega)
    refine br_t trivial ?_
    rw [e1, e2]
    refine ⟨hv, ?_⟩
    rw [h4.1]
    cases t with
    | false =>
      refine br_t rfl ⟨hv, fun a1 ea x1 ex l1 el => K.2 (true :: B.2.2.2, bs) _ _ _ _ _ _ _ ?_ ?_⟩
      · unfold fl_end fl_prt; simp [hB]
      · subst ea; subst ex; subst el
        have el : fl_lev (B :: bs) = fl_lev bs + 1 := by rw [fl_lev, if_pos hB]
        rw [el] at h3 ⊢
        refine ⟨by rw [fl_ft_cons]; rfl, nI_pred _, nI_pred _, by simp only [fl_ft_cons, List.length_cons]; omega, by dsimp only; omega, by dsimp only; omega, ?_, h5.2.2.2, fl_01u h6 (Or.inr rfl)⟩
        simp only [fl_ft_cons]; exact ⟨fl_ups, fl_TM_u (Nat.le_refl _) h4.2⟩
    | true =>
      refine br_f (by decide) (K.1 2 ?_)
      unfold fl_end fl_prt; simp [hB]
theorem fl_xels {p : Nat} (H : fl_CX c f_height f_blocks f_level a_typeSeq a_blockKind a_blockBase a_blockSeq) (K : fl_OX post (fl_els p c) f_rowCap f_cellCap f_tokenCap f_rowCount f_tokenCount f_status f_resultIsSeq f_height f_blocks f_level a_rowLen a_data a_kinds a_args a_recKind a_recLen a_rec a_typeSeq a_blockKind a_blockBase a_blockSeq a_laneCount a_owner a_parent a_elem a_place a_off a_cut a_lens a_cells) : wpX_checkElse post (f_rowCap, f_cellCap, f_tokenCap, f_rowCount, f_tokenCount, f_status, f_resultIsSeq, f_height, f_blocks, f_level, a_rowLen, a_data, a_kinds, a_args, a_recKind, a_recLen, a_rec, a_typeSeq, a_blockKind, a_blockBase, a_blockSeq, a_laneCount, a_owner, a_parent, a_elem, a_place, a_off, a_cut, a_lens, a_cells) := by
  unfold wpX_checkElse
  refine fl_xprt (f := fun t B bs => .inr ([], (18, p, t, B.2.2.2) :: bs)) H (fun e he h => ?_) (fun t B bs hc hB => ?_)
  · refine br_f (fun w => he ?_) (K.1 e h)
    have : e < 2 ^ 31 := by have := fl_prt_e (fun t B bs e h => by (try dsimp only at h); first | (split at h <;> cases h; rfl) | cases h) h; omega
    exact (nI_eq this (by decide)).mp w
  · subst hc
    obtain ⟨rfl, rfl, rfl, h1, h2, h3, h4, h5, h6⟩ := H
    simp only [fl_ft, List.cons_append, List.nil_append, List.length_cons] at h1 h2 h4 K ⊢
    have e1 : nI ((fl_ft B.2.2.2 bs).length + 1) - 1 = nI (fl_ft B.2.2.2 bs).length := nI_pred _
    have e2 : (nI (fl_ft B.2.2.2 bs).length).toNatClampNeg = (fl_ft B.2.2.2 bs).length := nI_clamp (by omega)
    have e3 : nI (bs.length + 1) - 1 = nI bs.length := nI_pred _
    have e4 : (nI bs.length).toNatClampNeg = bs.length := nI_clamp (by omega)
    have hv : vp_in (nI (fl_ft B.2.2.2 bs).length) 4 := vp_in_nI (by omega) (by omega)
    have hv' : vp_in (nI bs.length) 6 := vp_in_nI (by omega) (by omega)
    refine br_t trivial fun x1 ex => ?_
    subst ex
    rw [e1, e2, e3, e4, h4.1, fl_bI_nar]
    refine ⟨hv, hv', fun a1 ea => ⟨hv', fun a2 eb => K.2 ([], (18, p, t, B.2.2.2) :: bs) _ _ _ _ _ _ _ ?_ ?_⟩⟩
    · unfold fl_els fl_prt; simp [hB]
    · subst ea; subst eb
      have el : fl_lev ((18, p, t, B.2.2.2) :: bs) = fl_lev (B :: bs) := by
        rw [fl_lev, fl_lev, if_neg (show ¬ (18 : Int32) = 14 by decide), if_neg (by rw [hB]; decide)]
      refine ⟨rfl, rfl, by rw [el], ?_, ?_, by rw [el]; exact h3, ?_, ?_, h6⟩
      · simp only [fl_ft, List.nil_append]; omega
      · simp only [List.length_cons]; omega
      · simp only [fl_ft, List.nil_append]; exact h4.2
      · refine ⟨fl_ups, h5.2.1, fun _ => fl_ups, fl_BM_c (fun j hj => ⟨fl_upn hj, rfl, fl_upn hj⟩) h5.2.2.2⟩
theorem fl_xfi (H : fl_CX c f_height f_blocks f_level a_typeSeq a_blockKind a_blockBase a_blockSeq) (K : fl_OX post (fl_fi c) f_rowCap f_cellCap f_tokenCap f_rowCount f_tokenCount f_status f_resultIsSeq f_height f_blocks f_level a_rowLen a_data a_kinds a_args a_recKind a_recLen a_rec a_typeSeq a_blockKind a_blockBase a_blockSeq a_laneCount a_owner a_parent a_elem a_place a_off a_cut a_lens a_cells) : wpX_checkFi post (f_rowCap, f_cellCap, f_tokenCap, f_rowCount, f_tokenCount, f_status, f_resultIsSeq, f_height, f_blocks, f_level, a_rowLen, a_data, a_kinds, a_args, a_recKind, a_recLen, a_rec, a_typeSeq, a_blockKind, a_blockBase, a_blockSeq, a_laneCount, a_owner, a_parent, a_elem, a_place, a_off, a_cut, a_lens, a_cells) := by
  unfold wpX_checkFi
  refine fl_xprt (f := fun t B bs => if t = B.2.2.1 then .inr (t :: B.2.2.2, bs) else .inl 2) H (fun e he h => ?_) (fun t B bs hc hB => ?_)
  · refine br_f (fun w => he ?_) (K.1 e h)
    have : e < 2 ^ 31 := by have := fl_prt_e (fun t B bs e h => by (try dsimp only at h); first | (split at h <;> cases h; rfl) | cases h) h; omega
    exact (nI_eq this (by decide)).mp w
  · subst hc
    obtain ⟨rfl, rfl, rfl, h1, h2, h3, h4, h5, h6⟩ := H
    simp only [fl_ft, List.cons_append, List.nil_append, List.length_cons] at h1 h2 h4 K ⊢
    have e1 : nI ((fl_ft B.2.2.2 bs).length + 1) - 1 = nI (fl_ft B.2.2.2 bs).length := nI_pred _
    have e2 : (nI (fl_ft B.2.2.2 bs).length).toNatClampNeg = (fl_ft B.2.2.2 bs).length := nI_clamp (by omega)
    have e3 : nI (bs.length + 1) - 1 = nI bs.length := nI_pred _
    have e4 : (nI bs.length).toNatClampNeg = bs.length := nI_clamp (by omega)
    have hv : vp_in (nI (fl_ft B.2.2.2 bs).length) 4 := vp_in_nI (by omega) (by omega)
    have hv' : vp_in (nI bs.length) 6 := vp_in_nI (by omega) (by omega)
    refine br_t trivial ?_
    rw [e1, e2, e3, e4, h4.1, h5.2.2.1 hB]
    refine ⟨hv, hv', ?_⟩
    by_cases ht : t = B.2.2.1
    · refine br_t (by rw [ht]) fun x1 ex => K.2 (t :: B.2.2.2, bs) _ _ _ _ _ _ _ ?_ ?_
      · unfold fl_fi fl_prt; simp [hB, ht]
      · subst ex
        have el : fl_lev (B :: bs) = fl_lev bs := by rw [fl_lev, if_neg (by rw [hB]; decide)]; rfl
        rw [el] at h3 ⊢
        refine ⟨by rw [fl_ft_cons]; rfl, rfl, rfl, by simp only [fl_ft_cons, List.length_cons]; omega, by dsimp only; omega, h3, ?_, h5.2.2.2, h6⟩
        simp only [fl_ft_cons]; exact h4
    · refine br_f (fun w => ht (fl_bI_inj.mp w)) (K.1 2 ?_)
      unfold fl_fi fl_prt; simp [hB, ht]
theorem fl_x96 {a : Int32} (H : fl_CX c f_height f_blocks f_level a_typeSeq a_blockKind a_blockBase a_blockSeq) (K : fl_OX post (if a < 0 ∨ nI (fl_lev c.2) ≤ a then .inl 3 else fl_psh false c) f_rowCap f_cellCap f_tokenCap f_rowCount f_tokenCount f_status f_resultIsSeq f_height f_blocks f_level a_rowLen a_data a_kinds a_args a_recKind a_recLen a_rec a_typeSeq a_blockKind a_blockBase a_blockSeq a_laneCount a_owner a_parent a_elem a_place a_off a_cut a_lens a_cells) : wX_checkToken_96 post a f_rowCap f_cellCap f_tokenCap f_rowCount f_tokenCount f_status f_resultIsSeq f_height f_blocks f_level a_rowLen a_data a_kinds a_args a_recKind a_recLen a_rec a_typeSeq a_blockKind a_blockBase a_blockSeq a_laneCount a_owner a_parent a_elem a_place a_off a_cut a_lens a_cells := by
  by_cases h0 : a < 0
  · rw [if_pos (Or.inl h0)] at K
    exact br_t h0 (K.1 3 rfl)
  · refine br_f h0 ?_
    have hl := H.2.2.1
    by_cases h1 : nI (fl_lev c.2) ≤ a
    · rw [if_pos (Or.inr h1)] at K
      exact br_f (by rw [hl]; exact Int32.not_lt.mpr h1) (K.1 3 rfl)
    · rw [if_neg (by simp [h0, h1])] at K
      exact br_t (by rw [hl]; exact Int32.not_le.mp h1) (fl_xpsh (t := false) H K)
theorem fl_xck {k a : Int32} {p : Nat} (hk : fl_KD k) (H : fl_CX c f_height f_blocks f_level a_typeSeq a_blockKind a_blockBase a_blockSeq) (K : fl_OX post (fl_ck k a p c) f_rowCap f_cellCap f_tokenCap f_rowCount f_tokenCount f_status f_resultIsSeq f_height f_blocks f_level a_rowLen a_data a_kinds a_args a_recKind a_recLen a_rec a_typeSeq a_blockKind a_blockBase a_blockSeq a_laneCount a_owner a_parent a_elem a_place a_off a_cut a_lens a_cells) : wpX_checkToken post (f_rowCap, f_cellCap, f_tokenCap, f_rowCount, f_tokenCount, f_status, f_resultIsSeq, f_height, f_blocks, f_level, a_rowLen, a_data, a_kinds, a_args, a_recKind, a_recLen, a_rec, a_typeSeq, a_blockKind, a_blockBase, a_blockSeq, a_laneCount, a_owner, a_parent, a_elem, a_place, a_off, a_cut, a_lens, a_cells) k a := by
  unfold fl_KD at hk
  rcases hk with rfl | rfl | rfl | rfl | rfl | rfl | rfl | rfl | rfl | rfl | rfl | rfl | rfl | rfl | rfl | rfl | rfl | rfl | rfl | rfl
  · rw [fl_ck_0] at K; exact br_f (by decide) (br_f (by decide) (br_t rfl (fl_xpsh (t := false) H K)))
  · rw [fl_ck_1] at K; exact br_f (by decide) (br_f (by decide) (br_f (by decide) (br_t rfl (fl_xpsh (t := true) H K))))
  · rw [fl_ck_2] at K; exact br_f (by decide) (br_f (by decide) (br_f (by decide) (br_f (by decide) (br_t rfl (fl_xpsh (t := false) H K)))))
  · rw [fl_ck_3] at K; exact br_f (by decide) (br_f (by decide) (br_f (by decide) (br_f (by decide) (br_f (by decide) (br_t rfl (fl_x96 H K))))))
  · rw [fl_ck_4] at K; exact br_f (by decide) (br_f (by decide) (br_f (by decide) (br_f (by decide) (br_f (by decide) (br_f (by decide) (br_t rfl (fl_x96 H K)))))))
  · rw [fl_ck_5] at K; exact br_f (by decide) (br_f (by decide) (br_f (by decide) (br_f (by decide) (br_f (by decide) (br_f (by decide) (br_f (by decide) (br_t rfl (fl_xbin (t := false) H K))))))))
  · rw [fl_ck_6] at K; exact br_f (by decide) (br_f (by decide) (br_f (by decide) (br_f (by decide) (br_f (by decide) (br_f (by decide) (br_f (by decide) (br_f (by decide) (br_t rfl (fl_xbin (t := false) H K)))))))))
  · rw [fl_ck_7] at K; exact br_f (by decide) (br_f (by decide) (br_f (by decide) (br_f (by decide) (br_f (by decide) (br_f (by decide) (br_f (by decide) (br_f (by decide) (br_f (by decide) (br_t rfl (fl_xbin (t := false) H K))))))))))
  · rw [fl_ck_8] at K; exact br_f (by decide) (br_f (by decide) (br_f (by decide) (br_f (by decide) (br_f (by decide) (br_f (by decide) (br_f (by decide) (br_f (by decide) (br_f (by decide) (br_f (by decide) (br_t rfl (fl_xbin (t := false) H K)))))))))))
  · rw [fl_ck_9] at K; exact br_f (by decide) (br_f (by decide) (br_f (by decide) (br_f (by decide) (br_f (by decide) (br_f (by decide) (br_f (by decide) (br_f (by decide) (br_f (by decide) (br_f (by decide) (br_f (by decide) (br_t rfl (fl_xbin (t := false) H K))))))))))))
  · rw [fl_ck_10] at K; exact br_f (by decide) (br_f (by decide) (br_f (by decide) (br_f (by decide) (br_f (by decide) (br_f (by decide) (br_f (by decide) (br_f (by decide) (br_f (by decide) (br_f (by decide) (br_f (by decide) (br_f (by decide) (br_t rfl (fl_xun (t := true) H K)))))))))))))
  · rw [fl_ck_11] at K; exact br_f (by decide) (br_f (by decide) (br_f (by decide) (br_f (by decide) (br_f (by decide) (br_f (by decide) (br_f (by decide) (br_f (by decide) (br_f (by decide) (br_f (by decide) (br_f (by decide) (br_f (by decide) (br_f (by decide) (br_t rfl (fl_xun (t := true) H K))))))))))))))
  · rw [fl_ck_12] at K; exact br_f (by decide) (br_f (by decide) (br_f (by decide) (br_f (by decide) (br_f (by decide) (br_f (by decide) (br_f (by decide) (br_f (by decide) (br_f (by decide) (br_f (by decide) (br_f (by decide) (br_f (by decide) (br_f (by decide) (br_f (by decide) (br_t rfl (fl_xbin (t := true) H K)))))))))))))))
  · rw [fl_ck_13] at K; exact br_f (by decide) (br_f (by decide) (br_f (by decide) (br_f (by decide) (br_f (by decide) (br_f (by decide) (br_f (by decide) (br_f (by decide) (br_f (by decide) (br_f (by decide) (br_f (by decide) (br_f (by decide) (br_f (by decide) (br_f (by decide) (br_f (by decide) (br_t rfl (fl_xun (t := false) H K))))))))))))))))
  · rw [fl_ck_14] at K; exact br_f (by decide) (br_f (by decide) (br_f (by decide) (br_f (by decide) (br_f (by decide) (br_f (by decide) (br_f (by decide) (br_f (by decide) (br_f (by decide) (br_f (by decide) (br_f (by decide) (br_f (by decide) (br_f (by decide) (br_f (by decide) (br_f (by decide) (br_f (by decide) (br_t rfl (br_t rfl (fl_xop11 (Or.inl ⟨rfl, rfl⟩) H K))))))))))))))))))
  · rw [fl_ck_15] at K; exact br_f (by decide) (br_f (by decide) (br_f (by decide) (br_f (by decide) (br_f (by decide) (br_f (by decide) (br_f (by decide) (br_f (by decide) (br_f (by decide) (br_f (by decide) (br_f (by decide) (br_f (by decide) (br_f (by decide) (br_f (by decide) (br_f (by decide) (br_f (by decide) (br_f (by decide) (br_t rfl (fl_xend H K))))))))))))))))))
  · rw [fl_ck_16] at K; exact br_f (by decide) (br_f (by decide) (br_f (by decide) (br_f (by decide) (br_f (by decide) (br_f (by decide) (br_f (by decide) (br_f (by decide) (br_f (by decide) (br_f (by decide) (br_f (by decide) (br_f (by decide) (br_f (by decide) (br_f (by decide) (br_f (by decide) (br_f (by decide) (br_f (by decide) (br_f (by decide) (br_t rfl (fl_xend H K)))))))))))))))))))
  · rw [fl_ck_17] at K; exact br_f (by decide) (br_f (by decide) (br_f (by decide) (br_f (by decide) (br_f (by decide) (br_f (by decide) (br_f (by decide) (br_f (by decide) (br_f (by decide) (br_f (by decide) (br_f (by decide) (br_f (by decide) (br_f (by decide) (br_f (by decide) (br_f (by decide) (br_f (by decide) (br_f (by decide) (br_f (by decide) (br_f (by decide) (br_t rfl (br_f (by decide) (fl_xop11 (Or.inr ⟨rfl, rfl⟩) H K)))))))))))))))))))))
  · rw [fl_ck_18] at K; exact br_f (by decide) (br_f (by decide) (br_f (by decide) (br_f (by decide) (br_f (by decide) (br_f (by decide) (br_f (by decide) (br_f (by decide) (br_f (by decide) (br_f (by decide) (br_f (by decide) (br_f (by decide) (br_f (by decide) (br_f (by decide) (br_f (by decide) (br_f (by decide) (br_f (by decide) (br_f (by decide) (br_f (by decide) (br_f (by decide) (br_t rfl (fl_xels H K)))))))))))))))))))))
  · rw [fl_ck_19] at K; exact br_f (by decide) (br_f (by decide) (br_f (by decide) (br_f (by decide) (br_f (by decide) (br_f (by decide) (br_f (by decide) (br_f (by decide) (br_f (by decide) (br_f (by decide) (br_f (by decide) (br_f (by decide) (br_f (by decide) (br_f (by decide) (br_f (by decide) (br_f (by decide) (br_f (by decide) (br_f (by decide) (br_f (by decide) (br_f (by decide) (br_f (by decide) (br_t rfl (fl_xfi H K))))))))))))))))))))))
end XCK
end
section
/-! the check of Y against fl_ck -/
def fl_CY (c : fl_CS) (h b : Int32) (ty bk bb bt : Nat → Int32) : Prop :=
  h = nI (fl_ft c.1 c.2).length ∧ b = nI c.2.length ∧ (fl_ft c.1 c.2).length ≤ 4 ∧ c.2.length ≤ 6 ∧ fl_lev c.2 ≤ 2 ∧ fl_TM fl_tI ty (fl_ft c.1 c.2) ∧ fl_BM fl_tI bk bb bt c.2
def fl_OY (post : Int32 → SY → Prop) (o : Nat ⊕ fl_CS) (g_rowCap g_cellCap g_tokenCap g_rows g_tokens g_height g_blocks g_status : Int32) (b_mem b_lens b_recKind b_kinds b_args b_at b_start b_types b_blockKind b_blockBase b_blockType : Nat → Int32) : Prop :=
  (∀ e, o = .inl e → post (nI e) (g_rowCap, g_cellCap, g_tokenCap, g_rows, g_tokens, g_height, g_blocks, g_status, b_mem, b_lens, b_recKind, b_kinds, b_args, b_at, b_start, b_types, b_blockKind, b_blockBase, b_blockType)) ∧ ∀ c' h' b' ty' bk' bb' bt', o = .inr c' → fl_CY c' h' b' ty' bk' bb' bt' → post 0 (g_rowCap, g_cellCap, g_tokenCap, g_rows, g_tokens, h', b', g_status, b_mem, b_lens, b_recKind, b_kinds, b_args, b_at, b_start, ty', bk', bb', bt')
def fl_tp : List Bool → Int32
  | [] => 0
  | t :: _ => fl_tI t
def fl_ud : List Bool → Int32
  | _ :: a :: _ => fl_tI a
  | _ => 0
theorem fl_BM_a {f : Bool → Int32} {ak ab aq : Nat → Int32} : ∀ {X Y : List fl_Bl}, fl_BM f ak ab aq (X ++ Y) → fl_BM f ak ab aq Y
  | [], _, h => h
  | _ :: _, _, h => fl_BM_a h.2.2.2
section YCK
variable {g_rowCap g_cellCap g_tokenCap g_rows g_tokens g_height g_blocks g_status : Int32} {b_mem b_lens b_recKind b_kinds b_args b_at b_start b_types b_blockKind b_blockBase b_blockType : Nat → Int32} {post : Int32 → SY → Prop} {c : fl_CS} {x1 x2 x3 x4 : Int32}
theorem fl_y76 {ts : List Bool} {bs : List fl_Bl} (H : fl_CY (ts, bs) g_height g_blocks b_types b_blockKind b_blockBase b_blockType) (K : wY_check_121 post x1 x2 x3 x4 (nI ts.length) (fl_tp ts) (fl_ud ts) g_rowCap g_cellCap g_tokenCap g_rows g_tokens g_height g_blocks g_status b_mem b_lens b_recKind b_kinds b_args b_at b_start b_types b_blockKind b_blockBase b_blockType) : wY_check_76 post x1 x2 x3 x4 (nI ts.length) g_rowCap g_cellCap g_tokenCap g_rows g_tokens g_height g_blocks g_status b_mem b_lens b_recKind b_kinds b_args b_at b_start b_types b_blockKind b_blockBase b_blockType := by
  obtain ⟨rfl, rfl, h1, h2, h3, h4, h5⟩ := H
  rcases ts with _ | ⟨y, _ | ⟨x, r⟩⟩
  · exact br_t (by decide) (br_t (by decide) K)
  · simp only [fl_ft_cons, List.length_cons] at h1 h4 K ⊢
    have e1 : nI ((fl_ft [] bs).length + 1) - 1 = nI (fl_ft [] bs).length := nI_pred _
    have e3 : (nI (fl_ft [] bs).length).toNatClampNeg = (fl_ft [] bs).length := nI_clamp (by omega)
    refine br_f (by decide) ?_
    rw [e1, e3, h4.1]
    exact ⟨vp_in_nI (by omega) (by omega), br_t (by decide) K⟩
  · have hr := fl_ts_le r bs
    simp only [fl_ft_cons, List.length_cons] at h1 h4 K ⊢
    have e1 : nI ((fl_ft r bs).length + 1 + 1) - 1 = nI ((fl_ft r bs).length + 1) := nI_pred _
    have e2 : nI ((fl_ft r bs).length + 1 + 1) - 2 = nI (fl_ft r bs).length := pk_sub (a := (fl_ft r bs).length + 1 + 1) (b := 2) (by omega)
    have e3 : (nI (fl_ft r bs).length).toNatClampNeg = (fl_ft r bs).length := nI_clamp (by omega)
    have e4 : (nI ((fl_ft r bs).length + 1)).toNatClampNeg = (fl_ft r bs).length + 1 := nI_clamp (by omega)
    have h40 : b_types ((fl_ft r bs).length + 1) = fl_tI y := h4.1
    refine br_f (nI_ge (a := 0) (by omega) (by omega)) ?_
    rw [e1, e4, h40]
    refine ⟨vp_in_nI (by omega) (by omega), br_f (nI_ge (a := 1) (by omega) (by omega)) ?_⟩
    rw [e2, e3, h4.2.1]
    exact ⟨vp_in_nI (by omega) (by omega), K⟩
theorem fl_y20 {ts : List Bool} {bs : List fl_Bl} (H : fl_CY (ts, bs) g_height g_blocks b_types b_blockKind b_blockBase b_blockType) (hx4 : x4 = nI bs.length - 1) (K : wY_check_121 post x1 x2 (nI (fl_lev bs)) x4 (nI ts.length) (fl_tp ts) (fl_ud ts) g_rowCap g_cellCap g_tokenCap g_rows g_tokens g_height g_blocks g_status b_mem b_lens b_recKind b_kinds b_args b_at b_start b_types b_blockKind b_blockBase b_blockType) :
    ∀ n X Z, bs = X ++ Z → X.length < n → wY_check_20 post x1 x2 x4 g_rowCap g_cellCap g_tokenCap g_rows g_tokens g_height g_blocks g_status b_mem b_lens b_recKind b_kinds b_args b_at b_start b_types b_blockKind b_blockBase b_blockType n (nI (fl_lev Z)) (nI Z.length) := by
  have H' := H
  obtain ⟨rfl, rfl, h1, h2, h3, h4, h5⟩ := H
  dsimp only at h1 h2 h3 h4 h5 ⊢
  intro n
  induction n with
  | zero => intro X Z _ h; omega
  | succ n ih =>
    intro X Z e hn
    rcases List.eq_nil_or_concat X with rfl | ⟨X', B, rfl⟩
    · rw [List.nil_append] at e
      subst e
      refine br_t (nI_le (Nat.le_refl _) (by omega)) ?_
      have K' := fl_y76 H' K
      cases bs with
      | nil => exact br_t rfl K'
      | cons B bs =>
        simp only [List.length_cons] at h2 hx4 ⊢
        have e1 : nI (bs.length + 1) - 1 = nI bs.length := nI_pred _
        have e2 : (nI bs.length).toNatClampNeg = bs.length := nI_clamp (by omega)
        refine br_f (nI_ne0 (by omega) (by omega)) ?_
        have q : nI (fl_ft ts (B :: bs)).length - b_blockBase x4.toNatClampNeg = nI ts.length := by
          rw [hx4, e1, e2, h5.2.1]
          simp only [fl_ft, List.length_append]
          rw [pk_sub (by omega)]
          simp
        rw [q]
        refine ⟨?_, K'⟩
        rw [hx4, e1]; exact vp_in_nI (by omega) (by omega)
    · have e' : bs = X' ++ (B :: Z) := by rw [e]; simp
      have hl : Z.length < bs.length := by rw [e']; simp; omega
      have hb := fl_BM_a (X := X') (by rw [e'] at h5; exact h5)
      refine br_f (nI_ge hl (by omega)) ⟨vp_in_nI (by omega) (by omega), ?_⟩
      rw [nI_clamp (by omega), hb.1]
      have ih := ih X' (B :: Z) e' (by simp at hn; omega)
      rw [fl_lev, List.length_cons] at ih
      by_cases hB : B.1 = 14
      · rw [if_pos hB] at ih
        refine br_t hB fun y ey z ez => ?_
        rw [nI_1] at ey ez
        subst ey; subst ez
        exact ih
      · rw [if_neg hB] at ih
        refine br_f hB fun z ez => ?_
        rw [nI_1] at ez
        subst ez
        exact ih
theorem fl_ypsh {t : Bool} (ht : (x2 = 1 ∧ t = true) ∨ (¬ x2 = 1 ∧ t = false)) (H : fl_CY c g_height g_blocks b_types b_blockKind b_blockBase b_blockType) (K : fl_OY post (fl_psh t c) g_rowCap g_cellCap g_tokenCap g_rows g_tokens g_height g_blocks g_status b_mem b_lens b_recKind b_kinds b_args b_at b_start b_types b_blockKind b_blockBase b_blockType) : wY_check_159 post x2 g_rowCap g_cellCap g_tokenCap g_rows g_tokens g_height g_blocks g_status b_mem b_lens b_recKind b_kinds b_args b_at b_start b_types b_blockKind b_blockBase b_blockType := by
  obtain ⟨ts, bs⟩ := c
  obtain ⟨rfl, rfl, h1, h2, h3, h4, h5⟩ := H
  dsimp only at h1 h2 h3 h4 h5 ⊢
  by_cases hL : (fl_ft ts bs).length < 4
  · have ho : fl_psh t (ts, bs) = .inr (t :: ts, bs) := by unfold fl_psh; rw [if_neg (by dsimp only; omega)]
    have hv : vp_in (nI (fl_ft ts bs).length) 4 := vp_in_nI hL (by decide)
    have hc : ∀ y a1, y = nI (fl_ft ts bs).length + 1 → a1 = upd b_types (nI (fl_ft ts bs).length).toNatClampNeg (fl_tI t) → fl_CY (t :: ts, bs) y (nI bs.length) a1 b_blockKind b_blockBase b_blockType := by
      intro y a1 ey ea
      rw [nI_clamp (by omega)] at ea
      rw [nI_1] at ey
      subst ey; subst ea
      refine ⟨by rw [fl_ft_cons]; rfl, rfl, by simp only [fl_ft_cons, List.length_cons]; omega, h2, h3, ?_, h5⟩
      simp only [fl_ft_cons]; exact ⟨fl_ups, fl_TM_u (Nat.le_refl _) h4⟩
    refine br_f (fun w => ?_) fun y ey => ?_
    · have := (nI_eq (b := 4) (by omega) (by decide)).mp w; omega
    · rcases ht with ⟨hx, rfl⟩ | ⟨hx, rfl⟩
      · exact br_t hx ⟨hv, fun a1 ea => K.2 _ _ _ _ _ _ _ ho (hc y a1 ey ea)⟩
      · exact br_f hx ⟨hv, fun a1 ea => K.2 _ _ _ _ _ _ _ ho (hc y a1 ey ea)⟩
  · have e4 : (fl_ft ts bs).length = 4 := by omega
    refine br_t (by rw [e4]; rfl) (K.1 7 ?_)
    unfold fl_psh; rw [if_pos (by dsimp only; omega)]
theorem fl_y321 {t : Bool} {pre r : List Bool} {bs : List fl_Bl} {x8 : Int32} (h14 : x2 < 14) (ht : (x2 = 13 ∧ t = true) ∨ (¬ x2 = 13 ∧ t = false)) (h8 : x8 = nI pre.length) (hp : 0 < pre.length) (H : fl_CY (pre ++ r, bs) g_height g_blocks b_types b_blockKind b_blockBase b_blockType)
    (K : ∀ h' b' ty' bk' bb' bt', fl_CY (t :: r, bs) h' b' ty' bk' bb' bt' → post 0 (g_rowCap, g_cellCap, g_tokenCap, g_rows, g_tokens, h', b', g_status, b_mem, b_lens, b_recKind, b_kinds, b_args, b_at, b_start, ty', bk', bb', bt')) : wY_check_321 post x2 x8 g_rowCap g_cellCap g_tokenCap g_rows g_tokens g_height g_blocks g_status b_mem b_lens b_recKind b_kinds b_args b_at b_start b_types b_blockKind b_blockBase b_blockType := by
  obtain ⟨rfl, rfl, h1, h2, h3, h4, h5⟩ := H
  dsimp only at h1 h2 h3 h4 h5 ⊢
  have ea : fl_ft (pre ++ r) bs = pre ++ fl_ft r bs := by cases bs <;> simp [fl_ft]
  rw [ea, List.length_append] at h1
  rw [ea] at h4
  have h4 := fl_TM_a h4
  have e1 : nI (fl_ft (pre ++ r) bs).length - x8 = nI (fl_ft r bs).length := by
    rw [ea, h8, List.length_append, pk_sub (by omega)]; simp
  have hv : vp_in (nI (fl_ft r bs).length) 4 := vp_in_nI (by omega) (by decide)
  intro y ey
  rw [e1] at ey
  subst ey
  have hc : ∀ y a1, y = nI (fl_ft r bs).length + 1 → a1 = upd b_types (nI (fl_ft r bs).length).toNatClampNeg (fl_tI t) → fl_CY (t :: r, bs) y (nI bs.length) a1 b_blockKind b_blockBase b_blockType := by
    intro y a1 ey ea
    rw [nI_clamp (by omega)] at ea
    rw [nI_1] at ey
    subst ey; subst ea
    refine ⟨by rw [fl_ft_cons]; rfl, rfl, by simp only [fl_ft_cons, List.length_cons]; omega, h2, h3, ?_, h5⟩
    simp only [fl_ft_cons]; exact ⟨fl_ups, fl_TM_u (Nat.le_refl _) h4⟩
  refine br_t h14 fun z ez => ?_
  rcases ht with ⟨hx, rfl⟩ | ⟨hx, rfl⟩
  · exact br_t hx ⟨hv, fun a1 ea => K _ _ _ _ _ _ (hc z a1 ez ea)⟩
  · exact br_f hx ⟨hv, fun a1 ea => K _ _ _ _ _ _ (hc z a1 ez ea)⟩
theorem fl_ybin {t : Bool} (hk : ((x2 = 5 ∨ x2 = 6 ∨ x2 = 7 ∨ x2 = 8 ∨ x2 = 9) ∧ t = false) ∨ (x2 = 12 ∧ t = true)) (H : fl_CY c g_height g_blocks b_types b_blockKind b_blockBase b_blockType) (K : fl_OY post (fl_bin t c) g_rowCap g_cellCap g_tokenCap g_rows g_tokens g_height g_blocks g_status b_mem b_lens b_recKind b_kinds b_args b_at b_start b_types b_blockKind b_blockBase b_blockType) : wY_check_228 post x2 x3 (nI c.1.length) (fl_tp c.1) (fl_ud c.1) 2 g_rowCap g_cellCap g_tokenCap g_rows g_tokens g_height g_blocks g_status b_mem b_lens b_recKind b_kinds b_args b_at b_start b_types b_blockKind b_blockBase b_blockType := by
  have f : ¬ x2 = 10 ∧ ¬ x2 = 11 ∧ ¬ x2 = 14 ∧ x2 < 14 ∧ ¬ x2 = 13 := by
    rcases hk with ⟨rfl | rfl | rfl | rfl | rfl, -⟩ | ⟨rfl, -⟩ <;> decide
  obtain ⟨f1, f2, f3, f4, f5⟩ := f
  obtain ⟨ts, bs⟩ := c
  have hle := fl_ts_le ts bs
  have h1 := H.2.2.1
  dsimp only at h1
  rcases ts with _ | ⟨y, _ | ⟨x, r⟩⟩
  · exact br_f fl_n20 (K.1 1 rfl)
  · exact br_f fl_n21 (K.1 1 rfl)
  · simp only [List.length_cons] at hle ⊢
    refine br_t (nI_le (a := 2) (by omega) (by omega)) (br_f f1 (br_f f2 (br_f f3 ?_)))
    show wY_check_264 post x2 x3 (fl_tI x) 2 1 (fl_tI y) g_rowCap g_cellCap g_tokenCap g_rows g_tokens g_height g_blocks g_status b_mem b_lens b_recKind b_kinds b_args b_at b_start b_types b_blockKind b_blockBase b_blockType
    cases y with
    | true =>
      refine br_f (by decide) (K.1 2 ?_)
      unfold fl_bin; simp
    | false =>
      refine br_t rfl (br_t rfl ?_)
      have h288 : wY_check_288 post x2 x3 2 (fl_tI t) (fl_tI x) g_rowCap g_cellCap g_tokenCap g_rows g_tokens g_height g_blocks g_status b_mem b_lens b_recKind b_kinds b_args b_at b_start b_types b_blockKind b_blockBase b_blockType := by
        by_cases hx : x = t
        · subst hx
          exact br_t rfl (br_f f3 (br_t f4 (fl_y321 (pre := [false, x]) f4 (Or.inr ⟨f5, rfl⟩) rfl (by simp) H fun h' b' ty' bk' bb' bt' hc => K.2 (false :: r, bs) _ _ _ _ _ _ (by unfold fl_bin; simp) hc)))
        · refine br_f (fun w => hx (fl_tI_inj.mp w)) (K.1 2 ?_)
          unfold fl_bin; simp [hx]
      rcases hk with ⟨hk, rfl⟩ | ⟨hk, rfl⟩
      · exact br_f (by rcases hk with rfl | rfl | rfl | rfl | rfl <;> decide) h288
      · exact br_t hk h288
theorem fl_yun {t : Bool} (hk : ((x2 = 10 ∨ x2 = 11) ∧ t = true) ∨ (x2 = 13 ∧ t = false)) (H : fl_CY c g_height g_blocks b_types b_blockKind b_blockBase b_blockType) (K : fl_OY post (fl_un t c) g_rowCap g_cellCap g_tokenCap g_rows g_tokens g_height g_blocks g_status b_mem b_lens b_recKind b_kinds b_args b_at b_start b_types b_blockKind b_blockBase b_blockType) : wY_check_228 post x2 x3 (nI c.1.length) (fl_tp c.1) (fl_ud c.1) 1 g_rowCap g_cellCap g_tokenCap g_rows g_tokens g_height g_blocks g_status b_mem b_lens b_recKind b_kinds b_args b_at b_start b_types b_blockKind b_blockBase b_blockType := by
  have f : ¬ x2 = 14 ∧ x2 < 14 := by
    rcases hk with ⟨rfl | rfl, -⟩ | ⟨rfl, -⟩ <;> decide
  obtain ⟨f3, f4⟩ := f
  have ft : (x2 = 13 ∧ (!t) = true) ∨ (¬ x2 = 13 ∧ (!t) = false) := by
    rcases hk with ⟨rfl | rfl, rfl⟩ | ⟨rfl, rfl⟩ <;> decide
  obtain ⟨ts, bs⟩ := c
  have hle := fl_ts_le ts bs
  have h1 := H.2.2.1
  dsimp only at h1
  rcases ts with _ | ⟨x, r⟩
  · exact br_f fl_n10 (K.1 1 rfl)
  · simp only [List.length_cons] at hle ⊢
    refine br_t (nI_le (a := 1) (by omega) (by omega)) ?_
    have h264 : wY_check_264 post x2 x3 (fl_ud (x :: r)) 1 (fl_tI t) (fl_tI x) g_rowCap g_cellCap g_tokenCap g_rows g_tokens g_height g_blocks g_status b_mem b_lens b_recKind b_kinds b_args b_at b_start b_types b_blockKind b_blockBase b_blockType := by
      by_cases hx : x = t
      · subst hx
        exact br_t rfl (br_f (by decide) (br_f f3 (br_t f4 (fl_y321 (pre := [x]) f4 ft rfl (by simp) H fun h' b' ty' bk' bb' bt' hc => K.2 ((!x) :: r, bs) _ _ _ _ _ _ (by unfold fl_un; simp) hc))))
      · refine br_f (fun w => hx (fl_tI_inj.mp w)) (K.1 2 ?_)
        unfold fl_un; simp [hx]
    rcases hk with ⟨rfl | rfl, rfl⟩ | ⟨rfl, rfl⟩
    · exact br_t rfl h264
    · exact br_f (by decide) (br_t rfl h264)
    · exact br_f (by decide) (br_f (by decide) (br_f (by decide) h264))
theorem fl_yopn {p : Nat} {bs : List fl_Bl} {ts : List Bool} (hk : x2 = 14 ∨ x2 = 17) (H : fl_CY (ts, bs) g_height g_blocks b_types b_blockKind b_blockBase b_blockType) (K : fl_OY post (fl_opn x2 p (ts, bs)) g_rowCap g_cellCap g_tokenCap g_rows g_tokens g_height g_blocks g_status b_mem b_lens b_recKind b_kinds b_args b_at b_start b_types b_blockKind b_blockBase b_blockType) : wY_check_228 post x2 (nI (fl_lev bs)) (nI ts.length) (fl_tp ts) (fl_ud ts) 1 g_rowCap g_cellCap g_tokenCap g_rows g_tokens g_height g_blocks g_status b_mem b_lens b_recKind b_kinds b_args b_at b_start b_types b_blockKind b_blockBase b_blockType := by
  have f : ¬ x2 = 10 ∧ ¬ x2 = 11 ∧ ¬ x2 < 14 ∧ ¬ x2 = 13 ∧ ¬ x2 = 18 := by rcases hk with rfl | rfl <;> decide
  obtain ⟨f1, f2, f3, f4, f5⟩ := f
  have hle := fl_ts_le ts bs
  obtain ⟨rfl, rfl, h1, h2, h3, h4, h5⟩ := H
  dsimp only at h1 h2 h3 h4 h5
  rcases ts with _ | ⟨x, r⟩
  · exact br_f fl_n10 (K.1 1 rfl)
  · have hK1 := K.1
    have hK2 := K.2
    simp only [fl_ft_cons, List.length_cons] at hle h1 h4 hK1 hK2 ⊢
    refine br_t (nI_le (a := 1) (by omega) (by omega)) (br_f f1 (br_f f2 ?_))
    have h321 : x = decide (x2 = 14) → ¬ (6 ≤ bs.length ∨ (x2 = 14 ∧ 2 ≤ fl_lev bs)) → wY_check_321 post x2 1 g_rowCap g_cellCap g_tokenCap g_rows g_tokens (nI ((fl_ft r bs).length + 1)) (nI bs.length) g_status b_mem b_lens b_recKind b_kinds b_args b_at b_start b_types b_blockKind b_blockBase b_blockType := by
      intro hx hno
      have ho : fl_opn x2 p (x :: r, bs) = .inr ([], (x2, p, false, r) :: bs) := by unfold fl_opn; dsimp only; rw [if_pos hx, if_neg hno]
      have e1 : nI ((fl_ft r bs).length + 1) - 1 = nI (fl_ft r bs).length := nI_pred _
      have hv : vp_in (nI bs.length) 6 := vp_in_nI (by omega) (by decide)
      intro y ey
      rw [e1] at ey
      subst ey
      refine br_f f3 ⟨hv, fun a1 ea z ez => ⟨hv, fun a2 eb => hK2 _ _ _ _ _ _ _ ho ?_⟩⟩
      rw [nI_clamp (by omega)] at ea eb
      rw [nI_1] at ez
      subst ea; subst eb; subst ez
      refine ⟨rfl, rfl, ?_, ?_, ?_, ?_, ?_⟩
      · simp only [fl_ft, List.nil_append]; omega
      · simp only [List.length_cons]; omega
      · rw [fl_lev]; split
        · rename_i w; have : ¬ 2 ≤ fl_lev bs := fun w2 => hno (Or.inr ⟨w, w2⟩); omega
        · omega
      · simp only [fl_ft, List.nil_append]; exact h4.2
      · exact ⟨fl_ups, fl_ups, fun w => absurd w f5, fl_BM_c (fun j hj => ⟨fl_upn hj, fl_upn hj, rfl⟩) h5⟩
    have h304 : x = decide (x2 = 14) → ¬ (x2 = 14 ∧ 2 ≤ fl_lev bs) → wY_check_304 post x2 1 g_rowCap g_cellCap g_tokenCap g_rows g_tokens (nI ((fl_ft r bs).length + 1)) (nI bs.length) g_status b_mem b_lens b_recKind b_kinds b_args b_at b_start b_types b_blockKind b_blockBase b_blockType := by
      intro hx hno
      refine br_f f3 ?_
      by_cases h6 : bs.length = 6
      · refine br_t (by rw [h6]; rfl) (hK1 4 ?_)
        unfold fl_opn; dsimp only; rw [if_pos hx, if_pos (Or.inl (by omega))]
      · refine br_f (fun w => h6 ((nI_eq (b := 6) (by omega) (by decide)).mp w)) (h321 hx fun w => ?_)
        rcases w with w | w
        · omega
        · exact hno w
    have h293 : x = decide (x2 = 14) → wY_check_293 post x2 (nI (fl_lev bs)) 1 g_rowCap g_cellCap g_tokenCap g_rows g_tokens (nI ((fl_ft r bs).length + 1)) (nI bs.length) g_status b_mem b_lens b_recKind b_kinds b_args b_at b_start b_types b_blockKind b_blockBase b_blockType := by
      intro hx
      by_cases h14 : x2 = 14
      · refine br_t h14 ?_
        by_cases hl : fl_lev bs = 2
        · refine br_t (by rw [hl]; rfl) (hK1 4 ?_)
          unfold fl_opn; dsimp only; rw [if_pos hx, if_pos (Or.inr ⟨h14, by omega⟩)]
        · exact br_f (fun w => hl ((nI_eq (b := 2) (by omega) (by decide)).mp w)) (h304 hx fun w => by omega)
      · exact br_f h14 (h304 hx fun w => h14 w.1)
    have h264 : wY_check_264 post x2 (nI (fl_lev bs)) (fl_ud (x :: r)) 1 (fl_tI (decide (x2 = 14))) (fl_tI x) g_rowCap g_cellCap g_tokenCap g_rows g_tokens (nI ((fl_ft r bs).length + 1)) (nI bs.length) g_status b_mem b_lens b_recKind b_kinds b_args b_at b_start b_types b_blockKind b_blockBase b_blockType := by
      by_cases hx : x = decide (x2 = 14)
      · exact br_t (by rw [hx]) (br_f (by decide) (h293 hx))
      · refine br_f (fun w => hx (fl_tI_inj.mp w)) (hK1 2 ?_)
        unfold fl_opn; dsimp only; rw [if_neg hx]
    rcases hk with rfl | rfl
    · exact br_t rfl h264
    · exact br_f (by decide) h264
theorem fl_y544a {x : Int32} (hx : x = 15 ∨ x = 16) (K : wY_check_556 post g_rowCap g_cellCap g_tokenCap g_rows g_tokens g_height g_blocks g_status b_mem b_lens b_recKind b_kinds b_args b_at b_start b_types b_blockKind b_blockBase b_blockType) : wY_check_544 post x g_rowCap g_cellCap g_tokenCap g_rows g_tokens g_height g_blocks g_status b_mem b_lens b_recKind b_kinds b_args b_at b_start b_types b_blockKind b_blockBase b_blockType := by
  rcases hx with rfl | rfl
  · exact br_t rfl K
  · exact br_f (by decide) (br_t rfl K)
theorem fl_yprt {k : Int32} {bs : List fl_Bl} {ts : List Bool} {f : Bool → fl_Bl → List fl_Bl → Nat ⊕ fl_CS} (hx4 : x4 = nI bs.length - 1) (hk : (x2 = 18 ∧ k = 17) ∨ (x2 = 19 ∧ k = 18) ∨ ((x2 = 15 ∨ x2 = 16) ∧ k = 14)) (H : fl_CY (ts, bs) g_height g_blocks b_types b_blockKind b_blockBase b_blockType) (K1 : ∀ e, fl_prt k (ts, bs) f = .inl e → post (nI e) (g_rowCap, g_cellCap, g_tokenCap, g_rows, g_tokens, g_height, g_blocks, g_status, b_mem, b_lens, b_recKind, b_kinds, b_args, b_at, b_start, b_types, b_blockKind, b_blockBase, b_blockType))
    (K2 : ∀ t B b, ts = [t] → bs = B :: b → B.1 = k → x4 = nI b.length → (x2 = 19 → vp_in x4 6 ∧ ((fl_tI t = b_blockType x4.toNatClampNeg → wY_check_497 post x2 x4 (fl_tI t) g_rowCap g_cellCap g_tokenCap g_rows g_tokens g_height g_blocks g_status b_mem b_lens b_recKind b_kinds b_args b_at b_start b_types b_blockKind b_blockBase b_blockType) ∧ (¬ fl_tI t = b_blockType x4.toNatClampNeg → post 2 (g_rowCap, g_cellCap, g_tokenCap, g_rows, g_tokens, g_height, g_blocks, g_status, b_mem, b_lens, b_recKind, b_kinds, b_args, b_at, b_start, b_types, b_blockKind, b_blockBase, b_blockType)))) ∧ (¬ x2 = 19 → (x2 = 18 → wY_check_497 post x2 x4 (fl_tI t) g_rowCap g_cellCap g_tokenCap g_rows g_tokens g_height g_blocks g_status b_mem b_lens b_recKind b_kinds b_args b_at b_start b_types b_blockKind b_blockBase b_blockType) ∧ (¬ x2 = 18 → (fl_tI t = 1 → wY_check_497 post x2 x4 (fl_tI t) g_rowCap g_cellCap g_tokenCap g_rows g_tokens g_height g_blocks g_status b_mem b_lens b_recKind b_kinds b_args b_at b_start b_types b_blockKind b_blockBase b_blockType) ∧ (¬ fl_tI t = 1 → post 2 (g_rowCap, g_cellCap, g_tokenCap, g_rows, g_tokens, g_height, g_blocks, g_status, b_mem, b_lens, b_recKind, b_kinds, b_args, b_at, b_start, b_types, b_blockKind, b_blockBase, b_blockType))))) : wY_check_121 post x1 x2 x3 x4 (nI ts.length) (fl_tp ts) (fl_ud ts) g_rowCap g_cellCap g_tokenCap g_rows g_tokens g_height g_blocks g_status b_mem b_lens b_recKind b_kinds b_args b_at b_start b_types b_blockKind b_blockBase b_blockType := by
  have f : 4 < x2 ∧ ¬ x2 ≤ 14 ∧ ¬ x2 = 17 := by rcases hk with ⟨rfl, -⟩ | ⟨rfl, -⟩ | ⟨rfl | rfl, -⟩ <;> decide
  obtain ⟨f1, f2, f3⟩ := f
  refine br_t f1 (br_f f2 (br_f f3 ?_))
  have hle := fl_ts_le ts bs
  obtain ⟨rfl, rfl, h1, h2, h3, h4, h5⟩ := H
  dsimp only at h1 h2 h3 h4 h5
  cases bs with
  | nil => exact br_t rfl (K1 5 rfl)
  | cons B bs =>
    simp only [List.length_cons] at h2 hx4
    have e1 : nI (bs.length + 1) - 1 = nI bs.length := nI_pred _
    have e2 : (nI bs.length).toNatClampNeg = bs.length := nI_clamp (by omega)
    rw [e1] at hx4
    have hq : b_blockKind x4.toNatClampNeg = B.1 := by rw [hx4, e2]; exact h5.1
    have hv : vp_in x4 6 := by rw [hx4]; exact vp_in_nI (by omega) (by decide)
    have h439 : wY_check_439 post x2 x4 (nI ts.length) (fl_tp ts) k B.1 g_rowCap g_cellCap g_tokenCap g_rows g_tokens (nI (fl_ft ts (B :: bs)).length) (nI (B :: bs).length) g_status b_mem b_lens b_recKind b_kinds b_args b_at b_start b_types b_blockKind b_blockBase b_blockType := by
      by_cases hB : B.1 = k
      · refine br_t hB ?_
        rcases ts with _ | ⟨y, _ | ⟨x, r⟩⟩
        · exact br_f (by decide) (br_t rfl (K1 1 (by unfold fl_prt; simp [hB])))
        · exact br_t rfl (K2 y B bs rfl rfl hB hx4)
        · simp only [List.length_cons] at hle ⊢
          have n1 : ¬ nI (r.length + 1 + 1) = 1 := fun w => by have := (nI_eq (b := 1) (by omega) (by decide)).mp w; omega
          have n0 : ¬ nI (r.length + 1 + 1) = 0 := nI_ne0 (by omega) (by omega)
          exact br_f n1 (br_f n0 (K1 6 (by unfold fl_prt; simp [hB])))
      · exact br_f hB (K1 5 (by unfold fl_prt; simp [hB]))
    refine br_f (nI_ne0 (by simp) (by simp; omega)) ⟨hv, ?_⟩
    rw [hq]
    rcases hk with ⟨rfl, rfl⟩ | ⟨rfl, rfl⟩ | ⟨rfl | rfl, rfl⟩
    · exact br_t rfl h439
    · exact br_f (by decide) (br_t rfl h439)
    · exact br_f (by decide) (br_f (by decide) h439)
    · exact br_f (by decide) (br_f (by decide) h439)
theorem fl_yend {bs : List fl_Bl} {ts : List Bool} (hx4 : x4 = nI bs.length - 1) (hk : x2 = 15 ∨ x2 = 16) (H : fl_CY (ts, bs) g_height g_blocks b_types b_blockKind b_blockBase b_blockType) (K : fl_OY post (fl_end (ts, bs)) g_rowCap g_cellCap g_tokenCap g_rows g_tokens g_height g_blocks g_status b_mem b_lens b_recKind b_kinds b_args b_at b_start b_types b_blockKind b_blockBase b_blockType) : wY_check_121 post x1 x2 x3 x4 (nI ts.length) (fl_tp ts) (fl_ud ts) g_rowCap g_cellCap g_tokenCap g_rows g_tokens g_height g_blocks g_status b_mem b_lens b_recKind b_kinds b_args b_at b_start b_types b_blockKind b_blockBase b_blockType := by
  refine fl_yprt (k := 14) (f := fun t B bs => if t = true then .inl 2 else .inr (true :: B.2.2.2, bs)) hx4 (Or.inr (Or.inr ⟨hk, rfl⟩)) H K.1 (fun t B b e1 e2 hB e4 => ?_)
  subst e1; subst e2
  obtain ⟨rfl, rfl, h1, h2, h3, h4, h5⟩ := H
  simp only [fl_ft, List.cons_append, List.nil_append, List.length_cons] at h1 h2 h3 h4 h5 K ⊢
  have f19 : ¬ x2 = 19 := by rcases hk with rfl | rfl <;> decide
  have f18 : ¬ x2 = 18 := by rcases hk with rfl | rfl <;> decide
  refine br_f f19 (br_f f18 ?_)
  cases t with
  | true => exact br_f (by decide) (K.1 2 (by unfold fl_end fl_prt; simp [hB]))
  | false =>
    refine br_t rfl (br_f f18 fun y ey => fl_y544a hk ?_)
    have e1 : nI ((fl_ft B.2.2.2 b).length + 1) - 1 = nI (fl_ft B.2.2.2 b).length := nI_pred _
    unfold wY_check_556
    rw [e1, nI_clamp (by omega)]
    refine ⟨vp_in_nI (by omega) (by decide), fun a1 ea => K.2 (true :: B.2.2.2, b) _ _ _ _ _ _ ?_ ?_⟩
    · unfold fl_end fl_prt; simp [hB]
    · subst ea; subst ey
      have el : fl_lev (B :: b) = fl_lev b + 1 := by rw [fl_lev, if_pos hB]
      rw [el] at h3
      refine ⟨by rw [fl_ft_cons]; rfl, nI_pred _, by simp only [fl_ft_cons, List.length_cons]; omega, by dsimp only; omega, by dsimp only; omega, ?_, h5.2.2.2⟩
      simp only [fl_ft_cons]; exact ⟨fl_ups, fl_TM_u (Nat.le_refl _) h4.2⟩
theorem fl_yels {p : Nat} {bs : List fl_Bl} {ts : List Bool} (hx4 : x4 = nI bs.length - 1) (hk : x2 = 18) (H : fl_CY (ts, bs) g_height g_blocks b_types b_blockKind b_blockBase b_blockType) (K : fl_OY post (fl_els p (ts, bs)) g_rowCap g_cellCap g_tokenCap g_rows g_tokens g_height g_blocks g_status b_mem b_lens b_recKind b_kinds b_args b_at b_start b_types b_blockKind b_blockBase b_blockType) : wY_check_121 post x1 x2 x3 x4 (nI ts.length) (fl_tp ts) (fl_ud ts) g_rowCap g_cellCap g_tokenCap g_rows g_tokens g_height g_blocks g_status b_mem b_lens b_recKind b_kinds b_args b_at b_start b_types b_blockKind b_blockBase b_blockType := by
  subst hk
  refine fl_yprt (k := 17) (f := fun t B bs => .inr ([], (18, p, t, B.2.2.2) :: bs)) hx4 (Or.inl ⟨rfl, rfl⟩) H K.1 (fun t B b e1 e2 hB e4 => ?_)
  subst e1; subst e2
  obtain ⟨rfl, rfl, h1, h2, h3, h4, h5⟩ := H
  simp only [fl_ft, List.cons_append, List.nil_append, List.length_cons] at h1 h2 h3 h4 h5 K ⊢
  have hv : vp_in x4 6 := by rw [e4]; exact vp_in_nI (by omega) (by decide)
  have ex : x4.toNatClampNeg = b.length := by rw [e4]; exact nI_clamp (by omega)
  refine br_f (by decide) (br_t trivial (br_t rfl ⟨hv, fun a1 ea => ⟨hv, fun a2 eb y ey => ?_⟩⟩))
  refine br_f (by decide) (br_f (by decide) (K.2 ([], (18, p, t, B.2.2.2) :: b) _ _ _ _ _ _ (by unfold fl_els fl_prt; simp [hB]) ?_))
  rw [ex] at ea eb
  rw [nI_pred] at ey
  subst ea; subst eb; subst ey
  have el : fl_lev ((18, p, t, B.2.2.2) :: b) = fl_lev (B :: b) := by
    rw [fl_lev, fl_lev, if_neg (show ¬ (18 : Int32) = 14 by decide), if_neg (by rw [hB]; decide)]
  refine ⟨rfl, rfl, ?_, ?_, by rw [el]; exact h3, ?_, ?_⟩
  · simp only [fl_ft, List.nil_append]; omega
  · simp only [List.length_cons]; omega
  · simp only [fl_ft, List.nil_append]; exact h4.2
  · refine ⟨fl_ups, h5.2.1, fun _ => fl_ups, fl_BM_c (fun j hj => ⟨fl_upn hj, rfl, fl_upn hj⟩) h5.2.2.2⟩
theorem fl_yfi {bs : List fl_Bl} {ts : List Bool} (hx4 : x4 = nI bs.length - 1) (hk : x2 = 19) (H : fl_CY (ts, bs) g_height g_blocks b_types b_blockKind b_blockBase b_blockType) (K : fl_OY post (fl_fi (ts, bs)) g_rowCap g_cellCap g_tokenCap g_rows g_tokens g_height g_blocks g_status b_mem b_lens b_recKind b_kinds b_args b_at b_start b_types b_blockKind b_blockBase b_blockType) : wY_check_121 post x1 x2 x3 x4 (nI ts.length) (fl_tp ts) (fl_ud ts) g_rowCap g_cellCap g_tokenCap g_rows g_tokens g_height g_blocks g_status b_mem b_lens b_recKind b_kinds b_args b_at b_start b_types b_blockKind b_blockBase b_blockType := by
  subst hk
  refine fl_yprt (k := 18) (f := fun t B bs => if t = B.2.2.1 then .inr (t :: B.2.2.2, bs) else .inl 2) hx4 (Or.inr (Or.inl ⟨rfl, rfl⟩)) H K.1 (fun t B b e1 e2 hB e4 => ?_)
  subst e1; subst e2
  obtain ⟨rfl, rfl, h1, h2, h3, h4, h5⟩ := H
  simp only [fl_ft, List.cons_append, List.nil_append, List.length_cons] at h1 h2 h3 h4 h5 K ⊢
  have hv : vp_in x4 6 := by rw [e4]; exact vp_in_nI (by omega) (by decide)
  have ex : b_blockType x4.toNatClampNeg = fl_tI B.2.2.1 := by rw [e4, nI_clamp (by omega)]; exact h5.2.2.1 hB
  refine br_t trivial ⟨hv, ?_⟩
  rw [ex]
  by_cases ht : t = B.2.2.1
  · refine br_t (by rw [ht]) (br_f (by decide) fun y ey => br_f (by decide) (br_f (by decide) (K.2 (t :: B.2.2.2, b) _ _ _ _ _ _ (by unfold fl_fi fl_prt; simp [hB, ht]) ?_)))
    rw [nI_pred] at ey
    subst ey
    have el : fl_lev (B :: b) = fl_lev b := by rw [fl_lev, if_neg (by rw [hB]; decide)]; rfl
    rw [el] at h3
    refine ⟨by rw [fl_ft_cons]; rfl, rfl, by simp only [fl_ft_cons, List.length_cons]; omega, by dsimp only; omega, h3, ?_, h5.2.2.2⟩
    simp only [fl_ft_cons]; exact h4
  · refine br_f (fun w => ht (fl_tI_inj.mp w)) (K.1 2 ?_)
    unfold fl_fi fl_prt; simp [hB, ht]
theorem fl_y138 {p : Nat} (hp : p < 40) (hk : ¬ x2 = 1) (H : fl_CY c g_height g_blocks b_types b_blockKind b_blockBase b_blockType) (K : fl_OY post (if b_args p < 0 ∨ nI (fl_lev c.2) ≤ b_args p then .inl 3 else fl_psh false c) g_rowCap g_cellCap g_tokenCap g_rows g_tokens g_height g_blocks g_status b_mem b_lens b_recKind b_kinds b_args b_at b_start b_types b_blockKind b_blockBase b_blockType) : wY_check_138 post (nI p) x2 (nI (fl_lev c.2)) g_rowCap g_cellCap g_tokenCap g_rows g_tokens g_height g_blocks g_status b_mem b_lens b_recKind b_kinds b_args b_at b_start b_types b_blockKind b_blockBase b_blockType := by
  have hv : vp_in (nI p) 40 := vp_in_nI hp (by decide)
  unfold wY_check_138
  rw [nI_clamp (by omega)]
  refine ⟨hv, ?_⟩
  by_cases h0 : b_args p < 0
  · rw [if_pos (Or.inl h0)] at K
    exact br_t h0 (K.1 3 rfl)
  · refine br_f h0 ⟨hv, ?_⟩
    by_cases h1 : nI (fl_lev c.2) ≤ b_args p
    · rw [if_pos (Or.inr h1)] at K
      exact br_f (Int32.not_lt.mpr h1) (K.1 3 rfl)
    · rw [if_neg (by simp [h0, h1])] at K
      exact br_t (Int32.not_le.mp h1) (fl_ypsh (Or.inr ⟨hk, rfl⟩) H K)
theorem fl_yck {p : Nat} (hp : p < 40) (hk : fl_KD (b_kinds p)) (H : fl_CY c g_height g_blocks b_types b_blockKind b_blockBase b_blockType) (K : fl_OY post (fl_ck (b_kinds p) (b_args p) p c) g_rowCap g_cellCap g_tokenCap g_rows g_tokens g_height g_blocks g_status b_mem b_lens b_recKind b_kinds b_args b_at b_start b_types b_blockKind b_blockBase b_blockType) : wpY_check post (g_rowCap, g_cellCap, g_tokenCap, g_rows, g_tokens, g_height, g_blocks, g_status, b_mem, b_lens, b_recKind, b_kinds, b_args, b_at, b_start, b_types, b_blockKind, b_blockBase, b_blockType) (nI p) := by
  have e1 : (nI p).toNatClampNeg = p := nI_clamp (by omega)
  obtain ⟨ts, bs⟩ := c
  refine ⟨vp_in_nI hp (by decide), fun k ek x4 ex => ⟨bs.length + 1, ?_⟩⟩
  rw [e1] at ek
  rw [← ek] at hk K
  have hx4 : x4 = nI bs.length - 1 := by rw [ex, H.2.1]
  refine fl_y20 (bs := bs) H hx4 ?_ (bs.length + 1) bs [] (by simp) (by omega)
  unfold fl_KD at hk
  clear ek
  rcases hk with rfl | rfl | rfl | rfl | rfl | rfl | rfl | rfl | rfl | rfl | rfl | rfl | rfl | rfl | rfl | rfl | rfl | rfl | rfl | rfl
  · rw [fl_ck_0] at K; exact br_f (by decide) (br_f (by decide) (br_f (by decide) (fl_ypsh (Or.inr ⟨by decide, rfl⟩) H K)))
  · rw [fl_ck_1] at K; exact br_f (by decide) (br_f (by decide) (br_f (by decide) (fl_ypsh (Or.inl ⟨rfl, rfl⟩) H K)))
  · rw [fl_ck_2] at K; exact br_f (by decide) (br_f (by decide) (br_f (by decide) (fl_ypsh (Or.inr ⟨by decide, rfl⟩) H K)))
  · rw [fl_ck_3] at K; exact br_f (by decide) (br_t rfl (fl_y138 (c := (ts, bs)) hp (by decide) H K))
  · rw [fl_ck_4] at K; exact br_f (by decide) (br_f (by decide) (br_t rfl (fl_y138 (c := (ts, bs)) hp (by decide) H K)))
  · rw [fl_ck_5] at K; exact br_t (by decide) (br_t (by decide) (br_t (by decide) (fl_ybin (c := (ts, bs)) (t := false) (by decide) H K)))
  · rw [fl_ck_6] at K; exact br_t (by decide) (br_t (by decide) (br_t (by decide) (fl_ybin (c := (ts, bs)) (t := false) (by decide) H K)))
  · rw [fl_ck_7] at K; exact br_t (by decide) (br_t (by decide) (br_t (by decide) (fl_ybin (c := (ts, bs)) (t := false) (by decide) H K)))
  · rw [fl_ck_8] at K; exact br_t (by decide) (br_t (by decide) (br_t (by decide) (fl_ybin (c := (ts, bs)) (t := false) (by decide) H K)))
  · rw [fl_ck_9] at K; exact br_t (by decide) (br_t (by decide) (br_t (by decide) (fl_ybin (c := (ts, bs)) (t := false) (by decide) H K)))
  · rw [fl_ck_10] at K; exact br_t (by decide) (br_t (by decide) (br_f (by decide) (br_f (by decide) (fl_yun (c := (ts, bs)) (t := true) (by decide) H K))))
  · rw [fl_ck_11] at K; exact br_t (by decide) (br_t (by decide) (br_f (by decide) (br_f (by decide) (fl_yun (c := (ts, bs)) (t := true) (by decide) H K))))
  · rw [fl_ck_12] at K; exact br_t (by decide) (br_t (by decide) (br_f (by decide) (br_t rfl (fl_ybin (c := (ts, bs)) (t := true) (by decide) H K))))
  · rw [fl_ck_13] at K; exact br_t (by decide) (br_t (by decide) (br_f (by decide) (br_f (by decide) (fl_yun (c := (ts, bs)) (t := false) (by decide) H K))))
  · rw [fl_ck_14] at K; exact br_t (by decide) (br_t (by decide) (br_f (by decide) (br_f (by decide) (fl_yopn (by decide) H K))))
  · rw [fl_ck_15] at K; exact fl_yend hx4 (by decide) H K
  · rw [fl_ck_16] at K; exact fl_yend hx4 (by decide) H K
  · rw [fl_ck_17] at K; exact br_t (by decide) (br_f (by decide) (br_t rfl (br_f (by decide) (br_f (by decide) (fl_yopn (by decide) H K)))))
  · rw [fl_ck_18] at K; exact fl_yels hx4 rfl H K
  · rw [fl_ck_19] at K; exact fl_yfi hx4 rfl H K
end YCK
end
section
/-! forget, compile -/
def fl_fin (c : fl_CS) : Nat := if 0 < c.2.length then 5 else if (fl_ft c.1 c.2).length = 0 then 1 else if 1 < (fl_ft c.1 c.2).length then 6 else 0
def fl_cR (kd ag : Nat → Int32) : Nat → Nat → Nat
  | 0, p => if fl_fin (fl_csf kd ag p) = 0 then 0 else 64 * fl_fin (fl_csf kd ag p) + p
  | n + 1, p => match fl_ck (kd p) (ag p) p (fl_csf kd ag p) with
    | .inl e => 64 * e + p
    | .inr _ => fl_cR kd ag n (p + 1)
theorem fl_ck_e {k a : Int32} {p : Nat} {c : fl_CS} {e : Nat} (h : fl_ck k a p c = .inl e) : 1 ≤ e ∧ e ≤ 7 := by
  have P : ∀ t, fl_psh t c = .inl e → 1 ≤ e ∧ e ≤ 7 := by
    intro t h; unfold fl_psh at h; split at h <;> cases h; decide
  have U : ∀ t, fl_un t c = .inl e → 1 ≤ e ∧ e ≤ 7 := by
    intro t h; unfold fl_un at h; split at h
    · cases h; decide
    · split at h <;> cases h; decide
  have B : ∀ t, fl_bin t c = .inl e → 1 ≤ e ∧ e ≤ 7 := by
    intro t h; unfold fl_bin at h; split at h
    · split at h <;> cases h; decide
    · cases h; decide
  have O : ∀ k, fl_opn k p c = .inl e → 1 ≤ e ∧ e ≤ 7 := by
    intro k h; unfold fl_opn at h; split at h
    · cases h; decide
    · split at h
      · split at h <;> cases h; decide
      · cases h; decide
  unfold fl_ck at h
  split at h
  · split at h
    · cases h; decide
    · exact P _ h
  split at h
  · exact P _ h
  split at h
  · exact P _ h
  split at h
  · exact U _ h
  split at h
  · exact U _ h
  split at h
  · exact B _ h
  split at h
  · exact O _ h
  split at h
  · exact O _ h
  split at h
  · exact fl_prt_e (fun t B bs e h => by (try dsimp only at h); split at h <;> cases h; rfl) h
  split at h
  · exact fl_prt_e (fun t B bs e h => by (try dsimp only at h); cases h) h
  split at h
  · exact fl_prt_e (fun t B bs e h => by (try dsimp only at h); split at h <;> cases h; rfl) h
  · exact B _ h
theorem fl_fin_0 {c : fl_CS} (h : fl_fin c = 0) : ∃ t, c = ([t], []) := by
  obtain ⟨ts, bs⟩ := c
  unfold fl_fin at h
  split at h
  · cases h
  · rename_i h1
    split at h
    · cases h
    · rename_i h2
      split at h
      · cases h
      · rename_i h3
        cases bs with
        | cons _ _ => simp at h1
        | nil =>
          simp only [fl_ft] at h2 h3
          rcases ts with _ | ⟨y, _ | ⟨x, r⟩⟩
          · simp at h2
          · exact ⟨y, rfl⟩
          · simp at h3
theorem fl_cR_0 {kd ag : Nat → Int32} {T : Nat} : ∀ n p, p + n = T → fl_cR kd ag n p = 0 → (∀ q, p ≤ q → q < T → fl_ck (kd q) (ag q) q (fl_csf kd ag q) = .inr (fl_csf kd ag (q + 1))) ∧ ∃ t, fl_csf kd ag T = ([t], []) := by
  intro n
  induction n with
  | zero =>
    intro p hp h
    have : p = T := by omega
    subst this
    rw [fl_cR] at h
    split at h
    · rename_i h0; exact ⟨fun q a b => by omega, fl_fin_0 h0⟩
    · omega
  | succ n ih =>
    intro p hp h
    rw [fl_cR] at h
    split at h
    · rename_i e he; have := fl_ck_e he; omega
    · rename_i c' hc
      obtain ⟨i1, i2⟩ := ih (p + 1) (by omega) h
      refine ⟨fun q a b => ?_, i2⟩
      rcases Nat.lt_or_ge p q with w | w
      · exact i1 q w b
      · have : q = p := by omega
        subst this
        rw [hc]
        have : fl_csf kd ag (q + 1) = c' := by rw [fl_csf, hc]
        rw [this]
theorem fl_cR_G {kd ag : Nat → Int32} {T : Nat} (hk : ∀ p, p < T → fl_KD (kd p)) (h : fl_cR kd ag T 0 = 0) : fl_Gd kd ag T := by
  obtain ⟨h1, h2⟩ := fl_cR_0 (T := T) T 0 (by omega) h
  exact ⟨hk, fun p hp => h1 p (by omega) hp, h2⟩
section FGX
variable {f_rowCap f_cellCap f_tokenCap f_rowCount f_tokenCount f_status f_resultIsSeq f_height f_blocks f_level : Int32} {a_rowLen a_data a_kinds a_args a_recKind a_recLen a_rec a_typeSeq a_blockKind a_blockBase a_blockSeq a_laneCount a_owner a_parent a_elem a_place a_off a_cut a_lens a_cells : Nat → Int32}
theorem fl_xfg2 {post : SX → Prop} (K : ∀ rk rl, (∀ j, j < 4 → rk j = 0 ∧ rl j = 0) → post (f_rowCap, f_cellCap, f_tokenCap, f_rowCount, f_tokenCount, f_status, f_resultIsSeq, f_height, f_blocks, f_level, a_rowLen, a_data, a_kinds, a_args, rk, rl, a_rec, a_typeSeq, a_blockKind, a_blockBase, a_blockSeq, a_laneCount, a_owner, a_parent, a_elem, a_place, a_off, a_cut, a_lens, a_cells)) : ∀ d i rk rl, i + d = 4 → (∀ j, j < i → rk j = 0 ∧ rl j = 0) → wX_forget_2 post f_rowCap f_cellCap f_tokenCap f_rowCount f_tokenCount f_status f_resultIsSeq f_height f_blocks f_level (d + 1) (nI i) a_rowLen a_data a_kinds a_args rk rl a_rec a_typeSeq a_blockKind a_blockBase a_blockSeq a_laneCount a_owner a_parent a_elem a_place a_off a_cut a_lens a_cells := by
  intro d
  induction d with
  | zero =>
    intro i rk rl hi h
    have : i = 4 := by omega
    subst this
    exact br_t (by decide) (K rk rl h)
  | succ d ih =>
    intro i rk rl hi h
    refine br_f (nI_ge (b := 4) (by omega) (by decide)) ⟨vp_in_nI (by omega) (by decide), fun a ea => ⟨vp_in_nI (by omega) (by decide), fun b eb x ex => ?_⟩⟩
    rw [nI_clamp (by omega)] at ea eb
    rw [nI_1] at ex
    subst ea; subst eb; subst ex
    refine ih (i + 1) _ _ (by omega) fun j hj => ?_
    rcases Nat.lt_or_ge j i with w | w
    · rw [fl_upn w, fl_upn w]; exact h j w
    · have : j = i := by omega
      subst this
      exact ⟨fl_ups, fl_ups⟩
theorem fl_xfg {post : SX → Prop} (K : ∀ rk rl, (∀ j, j < 4 → rk j = 0 ∧ rl j = 0) → post (f_rowCap, f_cellCap, f_tokenCap, f_rowCount, f_tokenCount, f_status, f_resultIsSeq, f_height, f_blocks, f_level, a_rowLen, a_data, a_kinds, a_args, rk, rl, a_rec, a_typeSeq, a_blockKind, a_blockBase, a_blockSeq, a_laneCount, a_owner, a_parent, a_elem, a_place, a_off, a_cut, a_lens, a_cells)) : wpX_forget post (f_rowCap, f_cellCap, f_tokenCap, f_rowCount, f_tokenCount, f_status, f_resultIsSeq, f_height, f_blocks, f_level, a_rowLen, a_data, a_kinds, a_args, a_recKind, a_recLen, a_rec, a_typeSeq, a_blockKind, a_blockBase, a_blockSeq, a_laneCount, a_owner, a_parent, a_elem, a_place, a_off, a_cut, a_lens, a_cells) := by
  have := fl_xfg2 K 4 0 a_recKind a_recLen rfl (fun j h => absurd h (Nat.not_lt_zero _))
  exact ⟨5, this⟩
theorem fl_x94 {post : Int32 → SX → Prop} {z : Int32} (h01 : ∀ j, a_typeSeq j = 0 ∨ a_typeSeq j = 1) (K : post z (f_rowCap, f_cellCap, f_tokenCap, f_rowCount, f_tokenCount, z, a_typeSeq 0, f_height, f_blocks, f_level, a_rowLen, a_data, a_kinds, a_args, a_recKind, a_recLen, a_rec, a_typeSeq, a_blockKind, a_blockBase, a_blockSeq, a_laneCount, a_owner, a_parent, a_elem, a_place, a_off, a_cut, a_lens, a_cells)) : wX_compile_94 post z f_rowCap f_cellCap f_tokenCap f_rowCount f_tokenCount f_status f_resultIsSeq f_height f_blocks f_level a_rowLen a_data a_kinds a_args a_recKind a_recLen a_rec a_typeSeq a_blockKind a_blockBase a_blockSeq a_laneCount a_owner a_parent a_elem a_place a_off a_cut a_lens a_cells := by
  intro y ey
  subst ey
  refine ⟨?_, ?_, K⟩
  · rcases h01 0 with h | h <;> rw [h] <;> rfl
  · rcases h01 0 with h | h <;> rw [h] <;> rfl
theorem fl_xcomp {post : Int32 → SX → Prop} {T : Nat} (hT : T ≤ 40) (hk : ∀ p, p < T → fl_KD (a_kinds p)) :
    ∀ n p {h b l : Int32} {ts bk bb bq : Nat → Int32}, p + n = T → fl_CX (fl_csf a_kinds a_args p) h b l ts bk bb bq →
    (∀ rs h' b' l' ts' bk' bb' bq', (∀ j, ts' j = 0 ∨ ts' j = 1) → (fl_cR a_kinds a_args n p = 0 → ∀ t, fl_csf a_kinds a_args T = ([t], []) → rs = fl_bI t) → (rs = f_resultIsSeq ∨ rs = 0 ∨ rs = 1) → post (nI (fl_cR a_kinds a_args n p)) (f_rowCap, f_cellCap, f_tokenCap, f_rowCount, nI T, nI (fl_cR a_kinds a_args n p), rs, h', b', l', a_rowLen, a_data, a_kinds, a_args, a_recKind, a_recLen, a_rec, ts', bk', bb', bq', a_laneCount, a_owner, a_parent, a_elem, a_place, a_off, a_cut, a_lens, a_cells)) →
    wX_compile_21 post (n + 1) (nI p) f_rowCap f_cellCap f_tokenCap f_rowCount (nI T) f_status f_resultIsSeq h b l a_rowLen a_data a_kinds a_args a_recKind a_recLen a_rec ts bk bb bq a_laneCount a_owner a_parent a_elem a_place a_off a_cut a_lens a_cells := by
  intro n
  induction n with
  | zero =>
    intro p h b l ts bk bb bq hp H K
    have : p = T := by omega
    subst this
    refine br_t (nI_le (Nat.le_refl _) (by omega)) ?_
    have K' := K (ts 0) h b l ts bk bb bq H.2.2.2.2.2.2.2.2 (fun _ t et => by
      have := H.2.2.2.2.2.2.1
      rw [et] at this
      exact this.1) (Or.inr (H.2.2.2.2.2.2.2.2 0))
    have h01 := H.2.2.2.2.2.2.2.2
    rw [fl_cR] at K'
    unfold fl_fin at K'
    obtain ⟨rfl, rfl, rfl, h1, h2, h3, h4, h5, h6⟩ := H
    generalize fl_csf a_kinds a_args p = c at *
    have e64 : ∀ e : Nat, 64 * nI e + nI p = nI (64 * e + p) := fun e => by rw [← nI_add, ← pk_mul]; rfl
    unfold wpX_checkFinish
    by_cases hb : 0 < c.2.length
    · simp only [if_pos hb] at K'
      refine br_f (nI_ge (a := 0) hb (by omega)) (br_f (by decide) (fl_x94 h01 ?_))
      have := e64 5
      rw [show (64 * 5 + nI p : Int32) = 64 * nI 5 + nI p from rfl, this]
      simpa using K'
    · simp only [if_neg hb] at K'
      have hb0 : c.2.length = 0 := by omega
      refine br_t (by rw [hb0]; decide) ?_
      by_cases hh : (fl_ft c.1 c.2).length = 0
      · simp only [if_pos hh] at K'
        refine br_t (by rw [hh]; rfl) (br_f (by decide) (fl_x94 h01 ?_))
        have := e64 1
        rw [show (64 * 1 + nI p : Int32) = 64 * nI 1 + nI p from rfl, this]
        simpa using K'
      · simp only [if_neg hh] at K'
        refine br_f (nI_ne0 (by omega) (by omega)) ?_
        by_cases h1' : 1 < (fl_ft c.1 c.2).length
        · simp only [if_pos h1'] at K'
          refine br_f (nI_ge (a := 1) h1' (by omega)) (br_f (by decide) (fl_x94 h01 ?_))
          have := e64 6
          rw [show (64 * 6 + nI p : Int32) = 64 * nI 6 + nI p from rfl, this]
          simpa using K'
        · simp only [if_neg h1', if_true] at K'
          refine br_t (nI_le (b := 1) (by omega) (by decide)) (br_t rfl (fl_x94 h01 ?_))
          exact K'
  | succ n ih =>
    intro p h b l ts bk bb bq hp H K
    have hv : vp_in (nI p) 40 := vp_in_nI (by omega) (by decide)
    refine br_f (nI_ge (by omega) (by omega)) ⟨hv, hv, ?_⟩
    rw [nI_clamp (by omega)]
    refine fl_xck (hk p (by omega)) H (p := p) ⟨fun e he => ?_, fun c' h' b' l' ts' bk' bb' bq' hc HC => ?_⟩
    · have hr := fl_ck_e he
      refine br_f (nI_ne0 (by omega) (by omega)) fun y ey => ?_
      have e1 : fl_cR a_kinds a_args (n + 1) p = 64 * e + p := by rw [fl_cR, he]
      rw [show (64 : Int32) = nI 64 from rfl, pk_mul, nI_add] at ey
      subst ey
      have := K f_resultIsSeq h b l ts bk bb bq H.2.2.2.2.2.2.2.2 (fun w => by omega) (Or.inl rfl)
      rw [e1] at this
      exact this
    · refine br_t rfl fun y ey => ?_
      rw [nI_1] at ey
      subst ey
      have e1 : fl_cR a_kinds a_args (n + 1) p = fl_cR a_kinds a_args n (p + 1) := by rw [fl_cR, hc]
      have e2 : fl_csf a_kinds a_args (p + 1) = c' := by rw [fl_csf, hc]
      refine ih (p + 1) (by omega) (by rw [e2]; exact HC) ?_
      rw [e1] at K
      exact K
end FGX
section FGY
variable {g_rowCap g_cellCap g_tokenCap g_rows g_tokens g_height g_blocks g_status : Int32} {b_mem b_lens b_recKind b_kinds b_args b_at b_start b_types b_blockKind b_blockBase b_blockType : Nat → Int32}
theorem fl_yfg2 {post : SY → Prop} (K : ∀ rk ln, (∀ j, j < 4 → rk j = 0 ∧ ln (12 + j) = 0) → (∀ j, j < 12 → ln j = b_lens j) → post (g_rowCap, g_cellCap, g_tokenCap, g_rows, g_tokens, g_height, g_blocks, g_status, b_mem, ln, rk, b_kinds, b_args, b_at, b_start, b_types, b_blockKind, b_blockBase, b_blockType)) : ∀ d i rk ln, i + d = 4 → (∀ j, j < i → rk j = 0 ∧ ln (12 + j) = 0) → (∀ j, j < 12 → ln j = b_lens j) → wY_forget_2 post g_rowCap g_cellCap g_tokenCap g_rows g_tokens g_height g_blocks g_status (d + 1) (nI i) b_mem ln rk b_kinds b_args b_at b_start b_types b_blockKind b_blockBase b_blockType := by
  intro d
  induction d with
  | zero =>
    intro i rk rl hi h h'
    have : i = 4 := by omega
    subst this
    exact br_t (by decide) (K rk rl h h')
  | succ d ih =>
    intro i rk rl hi h h'
    have e12 : (12 : Int32) + nI i = nI (12 + i) := nI_add 12 i
    refine br_f (nI_ge (b := 4) (by omega) (by decide)) ⟨vp_in_nI (by omega) (by decide), fun a ea => ?_⟩
    rw [e12]
    refine ⟨vp_in_nI (by omega) (by decide), fun b eb x ex => ?_⟩
    rw [nI_clamp (by omega)] at ea eb
    rw [nI_1] at ex
    subst ea; subst eb; subst ex
    refine ih (i + 1) _ _ (by omega) (fun j hj => ?_) (fun j hj => by rw [fl_upn (by omega)]; exact h' j hj)
    rcases Nat.lt_or_ge j i with w | w
    · rw [fl_upn w, fl_upn (by omega)]; exact h j w
    · have : j = i := by omega
      subst this
      exact ⟨fl_ups, fl_ups⟩
theorem fl_yfg {post : SY → Prop} (K : ∀ rk ln, (∀ j, j < 4 → rk j = 0 ∧ ln (12 + j) = 0) → (∀ j, j < 12 → ln j = b_lens j) → post (g_rowCap, g_cellCap, g_tokenCap, g_rows, g_tokens, g_height, g_blocks, g_status, b_mem, ln, rk, b_kinds, b_args, b_at, b_start, b_types, b_blockKind, b_blockBase, b_blockType)) : wpY_forget post (g_rowCap, g_cellCap, g_tokenCap, g_rows, g_tokens, g_height, g_blocks, g_status, b_mem, b_lens, b_recKind, b_kinds, b_args, b_at, b_start, b_types, b_blockKind, b_blockBase, b_blockType) := by
  have := fl_yfg2 K 4 0 b_recKind b_lens rfl (fun j h => absurd h (Nat.not_lt_zero _)) (fun j _ => rfl)
  exact ⟨5, this⟩
theorem fl_ystop {post : Int32 → SY → Prop} {n p T : Nat} {s : Int32} (hp : p ≤ 41) (hT : T ≤ 40) (h : s ≠ 0 ∨ T < p) (K : post s (g_rowCap, g_cellCap, g_tokenCap, g_rows, nI T, g_height, g_blocks, s, b_mem, b_lens, b_recKind, b_kinds, b_args, b_at, b_start, b_types, b_blockKind, b_blockBase, b_blockType)) : wY_compile_21 post (n + 1) (nI p) g_rowCap g_cellCap g_tokenCap g_rows (nI T) g_height g_blocks s b_mem b_lens b_recKind b_kinds b_args b_at b_start b_types b_blockKind b_blockBase b_blockType := by
  rcases Nat.lt_or_ge T p with w | w
  · exact br_t (nI_lt w (by omega)) K
  · refine br_f (nI_nlt w (by omega)) (br_f ?_ K)
    rcases h with h | h
    · exact h
    · omega
theorem fl_y88 {post : Int32 → SY → Prop} {n p T e : Nat} (hp : p ≤ 40) (hT : T ≤ 40) (he : e ≤ 7) (h0 : e = 0 → wY_compile_21 post (n + 1) (nI (p + 1)) g_rowCap g_cellCap g_tokenCap g_rows (nI T) g_height g_blocks 0 b_mem b_lens b_recKind b_kinds b_args b_at b_start b_types b_blockKind b_blockBase b_blockType) (K : e ≠ 0 → post (nI (64 * e + p)) (g_rowCap, g_cellCap, g_tokenCap, g_rows, nI T, g_height, g_blocks, nI (64 * e + p), b_mem, b_lens, b_recKind, b_kinds, b_args, b_at, b_start, b_types, b_blockKind, b_blockBase, b_blockType)) : wY_compile_88 post (wY_compile_21 post (n + 1)) (nI p) (nI e) g_rowCap g_cellCap g_tokenCap g_rows (nI T) g_height g_blocks 0 b_mem b_lens b_recKind b_kinds b_args b_at b_start b_types b_blockKind b_blockBase b_blockType := by
  by_cases z : e = 0
  · refine br_t (by rw [z]; rfl) fun y ey => ?_
    rw [nI_1] at ey; subst ey
    exact h0 z
  · refine br_f (nI_ne0 (by omega) (by omega)) fun s es y ey => ?_
    rw [nI_1] at ey; subst ey
    rw [show (64 : Int32) = nI 64 from rfl, pk_mul, nI_add] at es
    subst es
    exact fl_ystop (by omega) hT (Or.inl (nI_ne0 (by omega) (by omega))) (K z)
theorem fl_ycomp {post : Int32 → SY → Prop} {T : Nat} (hT : T ≤ 40) (hk : ∀ p, p < T → fl_KD (b_kinds p)) :
    ∀ n p {h b : Int32} {ty bk bb bt : Nat → Int32}, p + n = T → fl_CY (fl_csf b_kinds b_args p) h b ty bk bb bt →
    (∀ h' b' ty' bk' bb' bt', (fl_cR b_kinds b_args n p = 0 → ∀ t, fl_csf b_kinds b_args T = ([t], []) → ty' 0 = fl_tI t) → post (nI (fl_cR b_kinds b_args n p)) (g_rowCap, g_cellCap, g_tokenCap, g_rows, nI T, h', b', nI (fl_cR b_kinds b_args n p), b_mem, b_lens, b_recKind, b_kinds, b_args, b_at, b_start, ty', bk', bb', bt')) →
    wY_compile_21 post (n + 2) (nI p) g_rowCap g_cellCap g_tokenCap g_rows (nI T) h b 0 b_mem b_lens b_recKind b_kinds b_args b_at b_start ty bk bb bt := by
  intro n
  induction n with
  | zero =>
    intro p h b ty bk bb bt hp H K
    have : p = T := by omega
    subst this
    have K' := K h b ty bk bb bt (fun _ t et => by
      have := H.2.2.2.2.2.1
      rw [et] at this
      exact this.1)
    rw [fl_cR] at K'
    obtain ⟨rfl, rfl, h1, h2, h3, h4, h5⟩ := H
    refine br_f (nI_nlt (Nat.le_refl _) (by omega)) (br_t rfl (br_t (nI_le (Nat.le_refl _) (by omega)) ?_))
    have done : ∀ e : Nat, e = fl_fin (fl_csf b_kinds b_args p) → e ≤ 7 → wY_compile_88 post (wY_compile_21 post 1) (nI p) (nI e) g_rowCap g_cellCap g_tokenCap g_rows (nI p) (nI (fl_ft (fl_csf b_kinds b_args p).1 (fl_csf b_kinds b_args p).2).length) (nI (fl_csf b_kinds b_args p).2.length) 0 b_mem b_lens b_recKind b_kinds b_args b_at b_start ty bk bb bt := by
      intro e ee he
      refine fl_y88 (n := 0) (by omega) hT he (fun z => ?_) (fun z => ?_)
      · rw [← ee, if_pos z] at K'
        exact fl_ystop (by omega) hT (Or.inr (by omega)) K'
      · rw [← ee, if_neg z] at K'
        exact K'
    unfold fl_fin at done
    generalize fl_csf b_kinds b_args p = c at *
    by_cases hb : 0 < c.2.length
    · simp only [if_pos hb] at done
      exact br_f (nI_ge (a := 0) hb (by omega)) (done 5 rfl (by decide))
    · simp only [if_neg hb] at done
      have hb0 : c.2.length = 0 := by omega
      refine br_t (by rw [hb0]; decide) ?_
      by_cases hh : (fl_ft c.1 c.2).length = 0
      · simp only [if_pos hh] at done
        exact br_t (by rw [hh]; rfl) (done 1 rfl (by decide))
      · simp only [if_neg hh] at done
        refine br_f (nI_ne0 (by omega) (by omega)) ?_
        by_cases h1' : 1 < (fl_ft c.1 c.2).length
        · simp only [if_pos h1'] at done
          exact br_f (nI_ge (a := 1) h1' (by omega)) (done 6 rfl (by decide))
        · simp only [if_neg h1'] at done
          exact br_t (nI_le (b := 1) (by omega) (by decide)) (done 0 rfl (by decide))
  | succ n ih =>
    intro p h b ty bk bb bt hp H K
    refine br_f (nI_nlt (by omega) (by omega)) (br_t rfl (br_f (nI_ge (by omega) (by omega)) ?_))
    refine fl_yck (by omega) (hk p (by omega)) H ⟨fun e he => ?_, fun c' h' b' ty' bk' bb' bt' hc HC => ?_⟩
    · have hr := fl_ck_e he
      have e1 : fl_cR b_kinds b_args (n + 1) p = 64 * e + p := by rw [fl_cR, he]
      refine fl_y88 (n := n + 1) (by omega) hT (by omega) (fun z => by omega) (fun z => ?_)
      have := K h b ty bk bb bt (fun w => by omega)
      rw [e1] at this
      exact this
    · have e1 : fl_cR b_kinds b_args (n + 1) p = fl_cR b_kinds b_args n (p + 1) := by rw [fl_cR, hc]
      have e2 : fl_csf b_kinds b_args (p + 1) = c' := by rw [fl_csf, hc]
      refine fl_y88 (n := n + 1) (e := 0) (by omega) hT (by omega) (fun z => ?_) (fun z => absurd rfl z)
      refine ih (p + 1) (by omega) (by rw [e2]; exact HC) ?_
      rw [e1] at K
      exact K
end FGY
end
section
/-! Y: copy, closer, answer -/
section YHP
variable {g_rowCap g_cellCap g_tokenCap g_rows g_tokens g_height g_blocks g_status : Int32} {b_mem b_lens b_recKind b_kinds b_args b_at b_start b_types b_blockKind b_blockBase b_blockType : Nat → Int32} {r R T : Nat}
theorem fl_ycp2 {post : SY → Prop} {a b : Nat} (ha : a < 16) (hb : b < 16) (hab : a ≠ b) {lx : Nat → Int32} (K : ∀ me, (∀ i, i < 4 → me (b * 4 + i) = b_mem (a * 4 + i)) → (∀ j, (j < b * 4 ∨ b * 4 + 4 ≤ j) → me j = b_mem j) → post (g_rowCap, g_cellCap, g_tokenCap, g_rows, g_tokens, g_height, g_blocks, g_status, me, lx, b_recKind, b_kinds, b_args, b_at, b_start, b_types, b_blockKind, b_blockBase, b_blockType)) : ∀ d i me, i + d = 4 → (∀ j, j < i → me (b * 4 + j) = b_mem (a * 4 + j)) → (∀ j, (j < b * 4 ∨ b * 4 + i ≤ j) → me j = b_mem j) → wY_copy_14 post (nI a) (nI b) g_rowCap g_cellCap g_tokenCap g_rows g_tokens g_height g_blocks g_status (d + 1) (nI i) me lx b_recKind b_kinds b_args b_at b_start b_types b_blockKind b_blockBase b_blockType := by
  intro d
  induction d with
  | zero =>
    intro i me hi h1 h2
    have : i = 4 := by omega
    subst this
    exact br_t (by decide) (K me h1 h2)
  | succ d ih =>
    intro i me hi h1 h2
    have ea : nI a * 4 + nI i = nI (a * 4 + i) := by rw [show (4 : Int32) = nI 4 from rfl, pk_mul, nI_add]
    have eb : nI b * 4 + nI i = nI (b * 4 + i) := by rw [show (4 : Int32) = nI 4 from rfl, pk_mul, nI_add]
    refine br_f (nI_ge (b := 4) (by omega) (by decide)) ?_
    rw [ea, eb]
    refine ⟨vp_in_nI (by omega) (by decide), vp_in_nI (by omega) (by decide), fun m em x ex => ?_⟩
    rw [nI_clamp (by omega), nI_clamp (by omega)] at em
    rw [nI_1] at ex
    subst ex
    have hs : me (a * 4 + i) = b_mem (a * 4 + i) := h2 _ (by omega)
    rw [hs] at em
    subst em
    refine ih (i + 1) _ (by omega) (fun j hj => ?_) (fun j hj => ?_)
    · rcases Nat.lt_or_ge j i with w | w
      · rw [fl_upn (by omega)]; exact h1 j w
      · have : j = i := by omega
        subst this
        exact fl_ups
    · rw [upd, if_neg (by omega)]; exact h2 j (by omega)
theorem fl_ycopy {post : SY → Prop} {a b : Nat} (ha : a < 16) (hb : b < 16) (hab : a ≠ b) (K : ∀ me, (∀ i, i < 4 → me (b * 4 + i) = b_mem (a * 4 + i)) → (∀ j, (j < b * 4 ∨ b * 4 + 4 ≤ j) → me j = b_mem j) → post (g_rowCap, g_cellCap, g_tokenCap, g_rows, g_tokens, g_height, g_blocks, g_status, me, upd b_lens b (b_lens a), b_recKind, b_kinds, b_args, b_at, b_start, b_types, b_blockKind, b_blockBase, b_blockType)) : wpY_copy post (g_rowCap, g_cellCap, g_tokenCap, g_rows, g_tokens, g_height, g_blocks, g_status, b_mem, b_lens, b_recKind, b_kinds, b_args, b_at, b_start, b_types, b_blockKind, b_blockBase, b_blockType) (nI a) (nI b) := by
  unfold wpY_copy
  dsimp only
  rw [nI_clamp (show a < 2 ^ 31 by omega), nI_clamp (show b < 2 ^ 31 by omega)]
  refine ⟨vp_in_nI ha (by decide), vp_in_nI hb (by decide), fun l el => ⟨5, ?_⟩⟩
  subst el
  exact fl_ycp2 ha hb hab K 4 0 b_mem rfl (fun j h => absurd h (Nat.not_lt_zero _)) (fun j _ => rfl)
theorem fl_yclo {post : Int32 → Prop} (hT : T ≤ 40) : ∀ n q d, q + n = T → d ≤ q → post (nI (fl_sc b_kinds n q d)) → wY_closer_6 post g_rowCap g_cellCap g_tokenCap g_rows (nI T) g_height g_blocks g_status b_mem b_lens b_recKind b_kinds b_args b_at b_start b_types b_blockKind b_blockBase b_blockType (n + 1) (nI d) (nI q) := by
  intro n
  induction n with
  | zero =>
    intro q d hq hd K
    have : q = T := by omega
    subst this
    exact br_t (nI_le (Nat.le_refl _) (by omega)) K
  | succ n ih =>
    intro q d hq hd K
    rw [fl_sc] at K
    refine br_f (nI_ge (by omega) (by omega)) ⟨vp_in_nI (by omega) (by decide), fun k ek => ?_⟩
    rw [nI_clamp (by omega)] at ek
    rw [← ek] at K
    have h56 : ¬ (d = 0 ∧ fl_isC k) → wY_closer_56 post (wY_closer_6 post g_rowCap g_cellCap g_tokenCap g_rows (nI T) g_height g_blocks g_status b_mem b_lens b_recKind b_kinds b_args b_at b_start b_types b_blockKind b_blockBase b_blockType (n + 1)) (nI d) (nI q) k g_rowCap g_cellCap g_tokenCap g_rows (nI T) g_height g_blocks g_status b_mem b_lens b_recKind b_kinds b_args b_at b_start b_types b_blockKind b_blockBase b_blockType := by
      intro hn
      rw [if_neg hn, fl_nd] at K
      have hp1 : nI d + 1 = nI (d + 1) := nI_1 d
      have hq1 : nI q + 1 = nI (q + 1) := nI_1 q
      have up : ∀ x y, x = nI d + 1 → y = nI q + 1 → (k = 14 ∨ k = 17) → wY_closer_6 post g_rowCap g_cellCap g_tokenCap g_rows (nI T) g_height g_blocks g_status b_mem b_lens b_recKind b_kinds b_args b_at b_start b_types b_blockKind b_blockBase b_blockType (n + 1) x y := by
        intro x y ex ey hk
        rw [hp1] at ex; rw [hq1] at ey; subst ex; subst ey
        rw [if_pos hk] at K
        exact ih (q + 1) (d + 1) (by omega) (by omega) K
      have dn : ∀ x y, x = nI d + (-1) → y = nI q + 1 → (k = 15 ∨ k = 16 ∨ k = 19) → wY_closer_6 post g_rowCap g_cellCap g_tokenCap g_rows (nI T) g_height g_blocks g_status b_mem b_lens b_recKind b_kinds b_args b_at b_start b_types b_blockKind b_blockBase b_blockType (n + 1) x y := by
        intro x y ex ey hk
        have hd0 : 0 < d := by
          rcases Nat.eq_zero_or_pos d with z | z
          · exact absurd ⟨z, by rcases hk with h | h | h <;> simp [fl_isC, h]⟩ hn
          · exact z
        rw [sb_m1 hd0] at ex; rw [hq1] at ey; subst ex; subst ey
        rw [if_neg (by rcases hk with h | h | h <;> rw [h] <;> decide), if_pos hk] at K
        exact ih (q + 1) (d - 1) (by omega) (by omega) K
      refine br_c (fun h x ex y ey => up x y ex ey (Or.inl h)) fun h14 => br_c (fun h x ex y ey => up x y ex ey (Or.inr h)) fun h17 => br_c (fun h x ex y ey => dn x y ex ey (Or.inl h)) fun h15 => br_c (fun h x ex y ey => dn x y ex ey (Or.inr (Or.inl h))) fun h16 => br_c (fun h x ex y ey => dn x y ex ey (Or.inr (Or.inr h))) fun h19 x ex y ey => ?_
      rw [Int32.add_zero] at ex; rw [hq1] at ey; subst ex; subst ey
      rw [if_neg (by simp [h14, h17]), if_neg (by simp [h15, h16, h19])] at K
      exact ih (q + 1) d (by omega) (by omega) K
    refine br_c (fun hd0 => ?_) (fun hd0 => h56 fun w => hd0 (by rw [w.1]; rfl))
    have hd0' : d = 0 := (nI_eq (by omega) (by decide)).mp hd0
    have stop : fl_isC k → post (nI q) := fun hc => by rw [if_pos ⟨hd0', hc⟩] at K; exact K
    refine br_c (fun h => stop (Or.inl h)) fun h15 => br_c (fun h => stop (Or.inr (Or.inl h))) fun h16 => br_c (fun h => stop (Or.inr (Or.inr (Or.inl h)))) fun h18 => br_c (fun h => stop (Or.inr (Or.inr (Or.inr h)))) fun h19 => h56 fun w => ?_
    simp [fl_isC, h15, h16, h18, h19] at w
theorem fl_yclose {post : Int32 → Prop} {p : Nat} (hT : T ≤ 40) (hp : p < T) (K : post (nI (fl_cl b_kinds T p))) : wpY_closer post (g_rowCap, g_cellCap, g_tokenCap, g_rows, nI T, g_height, g_blocks, g_status, b_mem, b_lens, b_recKind, b_kinds, b_args, b_at, b_start, b_types, b_blockKind, b_blockBase, b_blockType) (nI p) := by
  intro x ex
  rw [nI_1] at ex
  subst ex
  exact ⟨T - (p + 1) + 1, fl_yclo hT (T - (p + 1)) (p + 1) 0 (by omega) (by omega) K⟩
theorem fl_drop {xs : List Int32} {i : Nat} (h : i < xs.length) : xs.drop i = xs[i] :: xs.drop (i + 1) := List.drop_eq_getElem_cons h
theorem fl_y159 {post : Int32 → Prop} {k x6 : Int32} {s : Nat} {xs : List Int32} (hs : s < 16) (hl : b_lens s = nI xs.length) (h4 : xs.length ≤ 4) (hm : ∀ i (hi : i < xs.length), b_mem (s * 4 + i) = xs[i]) (K : ∀ x7, (k = 10 → x7 = fl_sm 0 xs) → (k = 10 → post x7) ∧ (¬ k = 10 → (k = 11 → vp_in (nI s) 16 ∧ post (b_lens (nI s).toNatClampNeg)) ∧ (¬ k = 11 → vp_in (nI s * 4 + x6) 64 ∧ post (b_mem (nI s * 4 + x6).toNatClampNeg)))) :
    ∀ d i acc, i + d = xs.length → fl_sm acc (xs.drop i) = fl_sm 0 xs → wY_answer_159 post k (nI s) x6 g_rowCap g_cellCap g_tokenCap g_rows g_tokens g_height g_blocks g_status b_mem b_lens b_recKind b_kinds b_args b_at b_start b_types b_blockKind b_blockBase b_blockType (d + 1) acc (nI i) := by
  have e0 : (nI s).toNatClampNeg = s := nI_clamp (by omega)
  intro d
  induction d with
  | zero =>
    intro i acc hi ha
    have hn : xs.drop i = [] := List.drop_eq_nil_of_le (by omega)
    rw [hn] at ha
    have hA : acc = fl_sm 0 xs := ha
    unfold wY_answer_159
    rw [e0, hl]
    have := K acc (fun _ => hA)
    rw [e0, hl] at this
    exact ⟨vp_in_nI hs (by decide), br_t (nI_le (by omega) (by omega)) this⟩
  | succ d ih =>
    intro i acc hi ha
    have hil : i < xs.length := by omega
    have ea : nI s * 4 + nI i = nI (s * 4 + i) := by rw [show (4 : Int32) = nI 4 from rfl, pk_mul, nI_add]
    rw [fl_drop hil] at ha
    unfold wY_answer_159
    rw [e0, hl, ea, nI_clamp (show s * 4 + i < 2 ^ 31 by omega), hm i hil]
    refine ⟨vp_in_nI hs (by decide), br_f (nI_ge hil (by omega)) ⟨vp_in_nI (by omega) (by decide), fun x ex y ey => ?_⟩⟩
    rw [nI_1] at ey
    subst ex; subst ey
    exact ih (i + 1) _ (by omega) ha
/-- the tail of a token that gives a value -/
theorem fl_y286 {post : SY → Prop} {J : Int32 → Int32 → Int32 → Int32 → Int32 → Int32 → Int32 → Int32 → Int32 → Int32 → Int32 → Int32 → (Nat → Int32) → (Nat → Int32) → (Nat → Int32) → (Nat → Int32) → (Nat → Int32) → (Nat → Int32) → (Nat → Int32) → (Nat → Int32) → (Nat → Int32) → (Nat → Int32) → (Nat → Int32) → Prop} {x1 k x4 x7 x8 x9 : Int32} {p h stp : Nat} (hk : fl_sK k) (h13 : k ≤ 13) (K : J (nI (p + 1)) (nI (h + 1)) x4 (nI (stp + 1)) g_rowCap g_cellCap g_tokenCap g_rows g_tokens g_height g_blocks g_status b_mem b_lens b_recKind b_kinds b_args b_at b_start b_types b_blockKind b_blockBase b_blockType) : wY_work_286 post J x1 (nI p) (nI h) x4 (nI stp) k x7 x8 x9 g_rowCap g_cellCap g_tokenCap g_rows g_tokens g_height g_blocks g_status b_mem b_lens b_recKind b_kinds b_args b_at b_start b_types b_blockKind b_blockBase b_blockType := by
  obtain ⟨k1, k2, k3, k4, k5, k6⟩ := hk
  refine br_f k1 (br_t h13 fun y ey => br_t rfl (br_f k5 (br_f k4 (br_f k1 (br_f k2 (br_f k3 fun a ea b eb => ?_))))))
  rw [nI_1] at ey ea eb
  subst ey; subst ea; subst eb
  exact K
end YHP
end
section
/-! Y: the plain tokens -/
def fl_YM (b : Nat) (s : List fl_V) (me ln : Nat → Int32) : Prop := fl_MS True (fun h => ln (4 + h)) (fun h i => me ((4 + h) * 4 + i)) b s
def fl_YF (b V : Nat) (me ln aa sa me' ln' aa' sa' : Nat → Int32) : Prop :=
  (∀ t, (t < 4 + b ∨ (8 ≤ t ∧ t < 8 + V) ∨ (10 ≤ t ∧ t < 10 + V) ∨ 12 ≤ t) → ln' t = ln t ∧ ∀ i, i < 4 → me' (t * 4 + i) = me (t * 4 + i)) ∧ (∀ v, v < V → aa' v = aa v ∧ sa' v = sa v)
def fl_YE (V : Nat) (e : fl_E) (me aa : Nat → Int32) : Prop := e.length = V ∧ ∀ v, v < V → ∃ a, a < 4 ∧ aa v = nI a ∧ e.getD v (0, 0) = (me ((8 + v) * 4 + a), nI a)
def fl_YR (R : Nat) (rw : Nat → List Int32) (me ln : Nat → Int32) : Prop := ∀ i, i < R → ln i = nI (rw i).length ∧ (rw i).length ≤ 4 ∧ ∀ j (hj : j < (rw i).length), me (i * 4 + j) = (rw i)[j]
theorem fl_YF_r {b V : Nat} {me ln aa sa : Nat → Int32} : fl_YF b V me ln aa sa me ln aa sa := ⟨fun _ _ => ⟨rfl, fun _ _ => rfl⟩, fun _ _ => ⟨rfl, rfl⟩⟩
theorem fl_YF_t {b V : Nat} {me ln aa sa me' ln' aa' sa' me2 ln2 aa2 sa2 : Nat → Int32} (h : fl_YF b V me ln aa sa me' ln' aa' sa') (h' : fl_YF b V me' ln' aa' sa' me2 ln2 aa2 sa2) : fl_YF b V me ln aa sa me2 ln2 aa2 sa2 :=
  ⟨fun t ht => ⟨(h'.1 t ht).1.trans (h.1 t ht).1, fun i hi => ((h'.1 t ht).2 i hi).trans ((h.1 t ht).2 i hi)⟩, fun v hv => ⟨(h'.2 v hv).1.trans (h.2 v hv).1, (h'.2 v hv).2.trans (h.2 v hv).2⟩⟩
theorem fl_YF_m {b V b' V' : Nat} {me ln aa sa me' ln' aa' sa' : Nat → Int32} (hb : b ≤ b') (hV : V ≤ V') (h : fl_YF b' V' me ln aa sa me' ln' aa' sa') : fl_YF b V me ln aa sa me' ln' aa' sa' :=
  ⟨fun t ht => h.1 t (by omega), fun v hv => h.2 v (by omega)⟩
theorem fl_YE_f {b V : Nat} {e : fl_E} {me ln aa sa me' ln' aa' sa' : Nat → Int32} (hf : fl_YF b V me ln aa sa me' ln' aa' sa') (h : fl_YE V e me aa) : fl_YE V e me' aa' := by
  refine ⟨h.1, fun v hv => ?_⟩
  obtain ⟨a, h1, h2, h3⟩ := h.2 v hv
  exact ⟨a, h1, by rw [(hf.2 v hv).1]; exact h2, by rw [(hf.1 (8 + v) (by omega)).2 a h1]; exact h3⟩
theorem fl_YR_f {b V R : Nat} {rw : Nat → List Int32} {me ln aa sa me' ln' aa' sa' : Nat → Int32} (hR : R ≤ 4) (hf : fl_YF b V me ln aa sa me' ln' aa' sa') (h : fl_YR R rw me ln) : fl_YR R rw me' ln' := by
  intro i hi
  obtain ⟨h1, h2, h3⟩ := h i hi
  have hf := hf.1 i (by omega)
  exact ⟨by rw [hf.1]; exact h1, h2, fun j hj => by rw [hf.2 j (by omega)]; exact h3 j hj⟩
def fl_tk (k : Int32) : Nat := if k ≤ 4 ∨ k = 18 ∨ k = 19 then 0 else if k ≤ 9 ∨ k = 12 then 2 else 1
section YSI
variable {g_rowCap g_cellCap g_tokenCap g_rows g_tokens g_height g_blocks g_status : Int32} {b_mem b_lens b_recKind b_kinds b_args b_at b_start b_types b_blockKind b_blockBase b_blockType : Nat → Int32} {r R T : Nat}
abbrev fl_J : Type := Int32 → Int32 → Int32 → Int32 → Int32 → Int32 → Int32 → Int32 → Int32 → Int32 → Int32 → Int32 → (Nat → Int32) → (Nat → Int32) → (Nat → Int32) → (Nat → Int32) → (Nat → Int32) → (Nat → Int32) → (Nat → Int32) → (Nat → Int32) → (Nat → Int32) → (Nat → Int32) → (Nat → Int32) → Prop
variable {post : SY → Prop} {J : fl_J} {x1 x2 x3 x4 x5 x6 x7 x8 x9 k : Int32}
theorem fl_y10 {p m stp : Nat} (hp : p < T) (hT : T ≤ 40) (hs : stp < 1000) (K : wY_work_78 post (wY_work_10 post x1 m) x1 (nI p) x4 (nI stp) (b_kinds p) (nI (fl_tk (b_kinds p))) x3 g_rowCap g_cellCap g_tokenCap g_rows (nI T) g_height g_blocks g_status b_mem b_lens b_recKind b_kinds b_args b_at b_start b_types b_blockKind b_blockBase b_blockType) : wY_work_10 post x1 (m + 1) (nI p) x3 x4 (nI stp) g_rowCap g_cellCap g_tokenCap g_rows (nI T) g_height g_blocks g_status b_mem b_lens b_recKind b_kinds b_args b_at b_start b_types b_blockKind b_blockBase b_blockType := by
  refine br_f (nI_ge (b := 1000) hs (by decide)) (br_f (nI_ge hp (by omega)) ⟨vp_in_nI (by omega) (by decide), fun k ek => ?_⟩)
  rw [nI_clamp (by omega)] at ek
  rw [← ek] at K
  clear ek
  unfold fl_tk at K
  refine br_c (fun h => by rw [if_pos (Or.inl h)] at K; exact K) fun h4 => br_c (fun h => by rw [if_pos (Or.inr (Or.inl h))] at K; exact K) fun h18 => br_c (fun h => by rw [if_pos (Or.inr (Or.inr h))] at K; exact K) fun h19 => ?_
  rw [if_neg (by simp only [h4, h18, h19, or_self, not_false_eq_true])] at K
  refine br_c (fun h => by rw [if_pos (Or.inl h)] at K; exact K) fun h9 => br_c (fun h => by rw [if_pos (Or.inr h)] at K; exact K) fun h12 => ?_
  rw [if_neg (by simp only [h9, h12, or_self, not_false_eq_true])] at K
  exact K
theorem fl_y78 {h tk : Nat} (h12 : ¬ k = 12) (h13 : ¬ k = 13) (htk : tk ≤ h) (hh : h ≤ 4) (K : wY_work_213 post J x1 x2 (nI (h - tk)) x4 x5 k (nI (4 + (h - tk))) (x4 - 1) (b_mem ((4 + (h - tk)) * 4)) g_rowCap g_cellCap g_tokenCap g_rows g_tokens g_height g_blocks g_status b_mem b_lens b_recKind b_kinds b_args b_at b_start b_types b_blockKind b_blockBase b_blockType) : wY_work_78 post J x1 x2 x4 x5 k (nI tk) (nI h) g_rowCap g_cellCap g_tokenCap g_rows g_tokens g_height g_blocks g_status b_mem b_lens b_recKind b_kinds b_args b_at b_start b_types b_blockKind b_blockBase b_blockType := by
  intro a ea b eb c ec
  rw [pk_sub htk] at ea
  subst ea
  rw [show (4 : Int32) = nI 4 from rfl, nI_add] at eb
  subst eb; subst ec
  have e4 : nI (4 + (h - tk)) * 4 = nI ((4 + (h - tk)) * 4) := pk_mul _ 4
  refine br_f h12 ?_
  rw [e4, nI_clamp (by omega)]
  exact ⟨vp_in_nI (by omega) (by decide), br_f h12 (br_f h13 K)⟩
theorem fl_y168 {p : Nat} (hr : r < 4) (K : post (g_rowCap, g_cellCap, g_tokenCap, g_rows, g_tokens, g_height, g_blocks, g_status, upd (upd b_mem ((12 + r) * 4) (nI p)) ((12 + r) * 4 + 1) x9, upd b_lens (12 + r) 2, upd b_recKind r 3, b_kinds, b_args, b_at, b_start, b_types, b_blockKind, b_blockBase, b_blockType)) : wY_work_168 post (nI r) (nI p) x9 g_rowCap g_cellCap g_tokenCap g_rows g_tokens g_height g_blocks g_status b_mem b_lens b_recKind b_kinds b_args b_at b_start b_types b_blockKind b_blockBase b_blockType := by
  have e12 : (12 : Int32) + nI r = nI (12 + r) := nI_add 12 r
  have e4 : nI (12 + r) * 4 = nI ((12 + r) * 4) := pk_mul _ 4
  have e5 : nI ((12 + r) * 4) + 1 = nI ((12 + r) * 4 + 1) := nI_1 _
  unfold wY_work_168
  rw [e12, e4, e5, nI_clamp (show r < 2 ^ 31 by omega), nI_clamp (show 12 + r < 2 ^ 31 by omega), nI_clamp (show (12 + r) * 4 < 2 ^ 31 by omega), nI_clamp (show (12 + r) * 4 + 1 < 2 ^ 31 by omega)]
  exact ⟨vp_in_nI hr (by decide), nm_e ⟨vp_in_nI (by omega) (by decide), nm_e ⟨vp_in_nI (by omega) (by decide), nm_e ⟨vp_in_nI (by omega) (by decide), nm_e K⟩⟩⟩⟩
theorem fl_yans {post : Int32 → Prop} {sl : Nat} {a : Int32} (hs : sl < 15) (K : ∀ x5 x6, x5 = b_mem (sl * 4) → x6 = b_mem (sl * 4 + 4) → ((4 < k → (((7 < k → (((9 < k → (∃ n159 : Nat, wY_answer_159 post k (nI sl) x6 g_rowCap g_cellCap g_tokenCap g_rows g_tokens g_height g_blocks g_status b_mem b_lens b_recKind b_kinds b_args b_at b_start b_types b_blockKind b_blockBase b_blockType n159 0 0)) ∧ (¬ 9 < k → (((k = 8 → (((x6 ≤ x5 → (post 0)) ∧ (¬ x6 ≤ x5 → (post 1))))) ∧ (¬ k = 8 → (((x5 = x6 → (post 1)) ∧ (¬ x5 = x6 → (post 0))))))))))) ∧ (¬ 7 < k → (((k = 5 → (post (x5 + x6))) ∧ (¬ k = 5 → (((k = 6 → (post (x5 - x6))) ∧ (¬ k = 6 → (post (x5 * x6)))))))))))) ∧ (¬ 4 < k → (((k = 0 → (post a)) ∧ (¬ k = 0 → (((k = 2 → (post x1)) ∧ (¬ k = 2 → (((k = 4 → (vp_in a 2 ∧ (post (b_at a.toNatClampNeg)))) ∧ (¬ k = 4 → (vp_in a 2 ∧ (vp_in (((8 + a) * 4) + (b_at a.toNatClampNeg)) 64 ∧ (post (b_mem (((8 + a) * 4) + (b_at a.toNatClampNeg)).toNatClampNeg)))))))))))))))) : wpY_answer post (g_rowCap, g_cellCap, g_tokenCap, g_rows, g_tokens, g_height, g_blocks, g_status, b_mem, b_lens, b_recKind, b_kinds, b_args, b_at, b_start, b_types, b_blockKind, b_blockBase, b_blockType) k a x1 (nI sl) := by
  have e4 : nI sl * 4 = nI (sl * 4) := pk_mul _ 4
  have e5 : nI (sl * 4) + 4 = nI (sl * 4 + 4) := nI_add _ 4
  unfold wpY_answer
  dsimp only
  rw [e4, e5, nI_clamp (show sl * 4 < 2 ^ 31 by omega), nI_clamp (show sl * 4 + 4 < 2 ^ 31 by omega)]
  exact ⟨vp_in_nI (by omega) (by decide), fun x5 e5 => ⟨vp_in_nI (by omega) (by decide), fun x6 e6 => K x5 x6 e5 e6⟩⟩
theorem fl_y213 {sl p h stp : Nat} {x : Int32} (hp : p < 40) (hs : sl < 15) (h1 : ¬ k = 1) (hk : fl_sK k) (hle : ¬ 12 < k) (hA : ∀ P : Int32 → Prop, P x → wpY_answer P (g_rowCap, g_cellCap, g_tokenCap, g_rows, g_tokens, g_height, g_blocks, g_status, b_mem, b_lens, b_recKind, b_kinds, b_args, b_at, b_start, b_types, b_blockKind, b_blockBase, b_blockType) k (b_args p) x1 (nI sl)) (K : J (nI (p + 1)) (nI (h + 1)) x4 (nI (stp + 1)) g_rowCap g_cellCap g_tokenCap g_rows g_tokens g_height g_blocks g_status (upd b_mem (sl * 4) x) (upd b_lens sl 1) b_recKind b_kinds b_args b_at b_start b_types b_blockKind b_blockBase b_blockType) : wY_work_213 post J x1 (nI p) (nI h) x4 (nI stp) k (nI sl) x8 x9 g_rowCap g_cellCap g_tokenCap g_rows g_tokens g_height g_blocks g_status b_mem b_lens b_recKind b_kinds b_args b_at b_start b_types b_blockKind b_blockBase b_blockType := by
  have h13 : ¬ k = 13 := fun w => hle (by rw [w]; decide)
  have e4 : nI sl * 4 = nI (sl * 4) := pk_mul _ 4
  refine br_f h1 (br_f h13 (br_f hle ?_))
  rw [nI_clamp (show p < 2 ^ 31 by omega)]
  refine ⟨vp_in_nI hp (by decide), hA _ ?_⟩
  rw [e4, nI_clamp (show sl * 4 < 2 ^ 31 by omega), nI_clamp (show sl < 2 ^ 31 by omega)]
  exact ⟨vp_in_nI (by omega) (by decide), nm_e ⟨vp_in_nI (by omega) (by decide), nm_e (fl_y286 hk (Int32.le_of_lt (Int32.lt_of_le_of_lt (Int32.not_lt.mp hle) (by decide))) K)⟩⟩
end YSI
end
section
section YS2
variable {g_rowCap g_cellCap g_tokenCap g_rows g_tokens g_height g_blocks g_status : Int32} {b_mem b_lens b_recKind b_kinds b_args b_at b_start b_types b_blockKind b_blockBase b_blockType : Nat → Int32} {r R T : Nat} {post : SY → Prop} {x1 k : Int32}
theorem fl_yap {P : Int32 → Prop} {sl : Nat} {a b g : Int32} (hk : k = 5 ∨ k = 6 ∨ k = 7 ∨ k = 8 ∨ k = 9) (hs : sl < 15) (ha : b_mem (sl * 4) = a) (hb : b_mem (sl * 4 + 4) = b) (hP : P (fl_ap k a b)) : wpY_answer P (g_rowCap, g_cellCap, g_tokenCap, g_rows, g_tokens, g_height, g_blocks, g_status, b_mem, b_lens, b_recKind, b_kinds, b_args, b_at, b_start, b_types, b_blockKind, b_blockBase, b_blockType) k g x1 (nI sl) := by
  refine fl_yans hs fun x5 x6 e5 e6 => ?_
  rw [ha] at e5; rw [hb] at e6
  subst e5; subst e6
  rcases hk with rfl | rfl | rfl | rfl | rfl
  · exact br_t (by decide) (br_f (by decide) (br_t rfl hP))
  · exact br_t (by decide) (br_f (by decide) (br_f (by decide) (br_t rfl hP)))
  · exact br_t (by decide) (br_f (by decide) (br_f (by decide) (br_f (by decide) hP)))
  · have e : fl_ap 8 x5 x6 = if x6 ≤ x5 then 0 else 1 := by simp [fl_ap]
    rw [e] at hP
    refine br_t (by decide) (br_t (by decide) (br_f (by decide) (br_t rfl (br_c (fun h => ?_) fun h => ?_))))
    · rw [if_pos h] at hP; exact hP
    · rw [if_neg h] at hP; exact hP
  · have e : fl_ap 9 x5 x6 = if x5 = x6 then 1 else 0 := by simp [fl_ap]
    rw [e] at hP
    refine br_t (by decide) (br_t (by decide) (br_f (by decide) (br_f (by decide) (br_c (fun h => ?_) fun h => ?_))))
    · rw [if_pos h] at hP; exact hP
    · rw [if_neg h] at hP; exact hP
theorem fl_ysimp {rw : Nat → List Int32} (G : fl_Gd b_kinds b_args T) (hT : T ≤ 40) (hr : r < R) (hR : R ≤ 4) {p stp m : Nat} {s : List fl_V} {e : fl_E} (hp : p < T) (hk : fl_sK (b_kinds p)) (hs : s.map fl_tg = fl_fr (fl_csf b_kinds b_args p).1 (fl_csf b_kinds b_args p).2) (hM : fl_YM (fl_bas (fl_csf b_kinds b_args p).2) s b_mem b_lens) (hE : fl_YE (fl_lev (fl_csf b_kinds b_args p).2) e b_mem b_at) (hW : fl_YR R rw b_mem b_lens) (hst : stp < 1000)
    (Kf : ∀ i, fl_sp (b_kinds p) (b_args p) R rw r p s e = .inl (p, i) → post (g_rowCap, g_cellCap, g_tokenCap, nI R, nI T, g_height, g_blocks, g_status, upd (upd b_mem ((12 + r) * 4) (nI p)) ((12 + r) * 4 + 1) i, upd b_lens (12 + r) 2, upd b_recKind r 3, b_kinds, b_args, b_at, b_start, b_types, b_blockKind, b_blockBase, b_blockType))
    (Ks : ∀ s' me' ln', fl_sp (b_kinds p) (b_args p) R rw r p s e = .inr s' → fl_YF (fl_bas (fl_csf b_kinds b_args p).2) (fl_lev (fl_csf b_kinds b_args p).2) b_mem b_lens b_at b_start me' ln' b_at b_start → s'.map fl_tg = fl_fr (fl_csf b_kinds b_args (p + 1)).1 (fl_csf b_kinds b_args (p + 1)).2 → fl_YM (fl_bas (fl_csf b_kinds b_args p).2) s' me' ln' → wY_work_10 post (nI r) m (nI (p + 1)) (nI (fl_bas (fl_csf b_kinds b_args p).2 + s'.length)) (nI (fl_lev (fl_csf b_kinds b_args p).2)) (nI (stp + 1)) g_rowCap g_cellCap g_tokenCap (nI R) (nI T) g_height g_blocks g_status me' ln' b_recKind b_kinds b_args b_at b_start b_types b_blockKind b_blockBase b_blockType) :
    wY_work_10 post (nI r) (m + 1) (nI p) (nI (fl_bas (fl_csf b_kinds b_args p).2 + s.length)) (nI (fl_lev (fl_csf b_kinds b_args p).2)) (nI stp) g_rowCap g_cellCap g_tokenCap (nI R) (nI T) g_height g_blocks g_status b_mem b_lens b_recKind b_kinds b_args b_at b_start b_types b_blockKind b_blockBase b_blockType := by
  have hb := fl_bnd G p (by omega)
  have h := G.2.1 p hp
  have hkd := G.1 p hp
  have hl := fl_ft_len (fl_csf b_kinds b_args p).2 (fl_csf b_kinds b_args p).1
  have hsl : s.length = (fl_fr (fl_csf b_kinds b_args p).1 (fl_csf b_kinds b_args p).2).length := by rw [← hs, List.length_map]
  generalize fl_csf b_kinds b_args (p + 1) = c' at h Ks
  generalize fl_csf b_kinds b_args p = c at hb h hl hsl hs hM hE Ks ⊢
  obtain ⟨ts, bs⟩ := c
  dsimp only at hb hl hsl hs hM hE Ks ⊢
  obtain ⟨hb1, hb2, hb3⟩ := hb
  have e0 : (fl_ft ts bs).length = fl_bas bs + s.length := by omega
  have fin : ∀ x s2 t2, fl_sp (b_kinds p) (b_args p) R rw r p s e = .inr (.inl x :: s2) → c' = (false :: t2, bs) → s2.map fl_tg = fl_fr t2 bs → fl_YM (fl_bas bs) s2 b_mem b_lens → fl_bas bs + s2.length ≤ 3 → wY_work_10 post (nI r) m (nI (p + 1)) (nI (fl_bas bs + s2.length + 1)) (nI (fl_lev bs)) (nI (stp + 1)) g_rowCap g_cellCap g_tokenCap (nI R) (nI T) g_height g_blocks g_status (upd b_mem ((4 + (fl_bas bs + s2.length)) * 4) x) (upd b_lens (4 + (fl_bas bs + s2.length)) 1) b_recKind b_kinds b_args b_at b_start b_types b_blockKind b_blockBase b_blockType := by
    intro x s2 t2 h1 h2 h3 h4 h5
    refine Ks (.inl x :: s2) _ _ h1 ⟨fun t ht => ⟨?_, fun i hi => ?_⟩, fun v _ => ⟨rfl, rfl⟩⟩ ?_ ⟨⟨fl_ups, fun _ => fl_ups⟩, fl_MS_c (fun hh a b => ⟨?_, fun i hi => ?_⟩) h4⟩
    · rw [upd, if_neg (by omega)]
    · rw [upd, if_neg (by omega)]
    · rw [h2, fl_fr_cons, List.map_cons, h3]; rfl
    · show upd _ _ _ _ = _; rw [upd, if_neg (by omega)]
    · show upd _ _ _ _ = _; rw [upd, if_neg (by omega)]
  have finS : ∀ xs s2 t2 me', fl_sp (b_kinds p) (b_args p) R rw r p s e = .inr (.inr xs :: s2) → c' = (true :: t2, bs) → s2.map fl_tg = fl_fr t2 bs → fl_YM (fl_bas bs) s2 b_mem b_lens → fl_bas bs + s2.length ≤ 3 → xs.length ≤ 4 → (∀ i (hi : i < xs.length), me' ((4 + (fl_bas bs + s2.length)) * 4 + i) = xs[i]) → (∀ j, (j < (4 + (fl_bas bs + s2.length)) * 4 ∨ (4 + (fl_bas bs + s2.length)) * 4 + 4 ≤ j) → me' j = b_mem j) → wY_work_10 post (nI r) m (nI (p + 1)) (nI (fl_bas bs + s2.length + 1)) (nI (fl_lev bs)) (nI (stp + 1)) g_rowCap g_cellCap g_tokenCap (nI R) (nI T) g_height g_blocks g_status me' (upd b_lens (4 + (fl_bas bs + s2.length)) (nI xs.length)) b_recKind b_kinds b_args b_at b_start b_types b_blockKind b_blockBase b_blockType := by
    intro xs s2 t2 me' h1 h2 h3 h4 h5 h6 h7 h8
    refine Ks (.inr xs :: s2) _ _ h1 ⟨fun t ht => ⟨?_, fun i hi => ?_⟩, fun v _ => ⟨rfl, rfl⟩⟩ ?_ ⟨⟨fl_ups, h6, h7⟩, fl_MS_c (fun hh a b => ⟨?_, fun i hi => ?_⟩) h4⟩
    · rw [upd, if_neg (by omega)]
    · exact h8 _ (by omega)
    · rw [h2, fl_fr_cons, List.map_cons, h3]; rfl
    · show upd _ _ _ _ = _; rw [upd, if_neg (by omega)]
    · exact h8 _ (by omega)
  have copyR : ∀ i s2 t2 x8 x9, i < R → fl_sp (b_kinds p) (b_args p) R rw r p s e = .inr (.inr (rw i) :: s2) → c' = (true :: t2, bs) → s2.map fl_tg = fl_fr t2 bs → fl_YM (fl_bas bs) s2 b_mem b_lens → fl_bas bs + s2.length ≤ 3 → b_kinds p ≤ 13 → wY_work_239 post (wY_work_10 post (nI r) m) (nI r) (nI p) (nI (fl_bas bs + s2.length)) (nI (fl_lev bs)) (nI stp) (b_kinds p) (nI (4 + (fl_bas bs + s2.length))) x8 x9 (nI i) g_rowCap g_cellCap g_tokenCap (nI R) (nI T) g_height g_blocks g_status b_mem b_lens b_recKind b_kinds b_args b_at b_start b_types b_blockKind b_blockBase b_blockType := by
    intro i s2 t2 x8 x9 hi h1 h2 h3 h4 h5 h6
    obtain ⟨w1, w2, w3⟩ := hW i hi
    refine fl_ycopy (by omega) (by omega) (by omega) fun me hm1 hm2 => fl_y286 hk h6 ?_
    rw [w1]
    exact finS _ s2 t2 me h1 h2 h3 h4 h5 w2 (fun j hj => by rw [hm1 j (by omega)]; exact w3 j hj) hm2
  have ek : ∀ k, b_kinds p = k → fl_tk (b_kinds p) = fl_tk k := fun k h => by rw [h]
  refine fl_y10 hp hT hst ?_
  unfold fl_KD at hkd
  rcases hkd with hq | hq | hq | hq | hq | hq | hq | hq | hq | hq | hq | hq | hq | hq | hq | hq | hq | hq | hq | hq
  -- 0
  · rw [hq] at h hk fin ⊢
    rw [fl_ck_0] at h; obtain ⟨h1, h2⟩ := fl_psh_inv h; dsimp only at h1 h2
    rw [show fl_tk 0 = 0 by decide]
    exact fl_y78 (by decide) (by decide) (by omega) (by omega) (fl_y213 (by omega) (by omega) (by decide) hk (by decide) (fun P hP => fl_yans (by omega) fun x5 x6 _ _ => br_f (by decide) (br_t rfl hP)) (fin _ s ts rfl h2 hs hM (by omega)))
  -- 1
  · rw [hq] at h hk finS copyR ⊢
    rw [fl_ck_1] at h; obtain ⟨h1, h2⟩ := fl_psh_inv h; dsimp only at h1 h2
    rw [show fl_tk 1 = 0 by decide]
    exact fl_y78 (by decide) (by decide) (by omega) (by omega) (br_t rfl (br_t rfl (copyR r s ts _ _ hr rfl h2 hs hM (by omega) (by decide))))
  -- 2
  · rw [hq] at h hk fin ⊢
    rw [fl_ck_2] at h; obtain ⟨h1, h2⟩ := fl_psh_inv h; dsimp only at h1 h2
    rw [show fl_tk 2 = 0 by decide]
    exact fl_y78 (by decide) (by decide) (by omega) (by omega) (fl_y213 (by omega) (by omega) (by decide) hk (by decide) (fun P hP => fl_yans (by omega) fun x5 x6 _ _ => br_f (by decide) (br_f (by decide) (br_t rfl hP))) (fin _ s ts rfl h2 hs hM (by omega)))
  -- 3
  · rw [hq] at h hk fin ⊢
    rw [fl_ck_3] at h
    split at h
    · cases h
    rename_i hsc
    obtain ⟨h1, h2⟩ := fl_psh_inv h; dsimp only at h1 h2 hsc
    obtain ⟨j, hj, ej⟩ := nI_of (x := b_args p) (fun w => hsc (Or.inl w))
    rw [ej, nI_leI (by omega) hj] at hsc
    have hjl : j < fl_lev bs := by omega
    obtain ⟨a, a1, a2, a3⟩ := hE.2 j hjl
    rw [show fl_tk 3 = 0 by decide]
    refine fl_y78 (by decide) (by decide) (by omega) (by omega) (fl_y213 (x := b_mem ((8 + j) * 4 + a)) (by omega) (by omega) (by decide) hk (by decide) (fun P hP => fl_yans (by omega) fun x5 x6 _ _ => br_f (by decide) (br_f (by decide) (br_f (by decide) (br_f (by decide) ?_)))) (fin _ s ts ?_ h2 hs hM (by omega)))
    · have ea : ((8 : Int32) + nI j) * 4 + nI a = nI ((8 + j) * 4 + a) := by rw [show (8 : Int32) = nI 8 from rfl, nI_add, show (4 : Int32) = nI 4 from rfl, pk_mul, nI_add]
      rw [ej, nI_clamp hj, a2, ea, nI_clamp (by omega)]
      exact ⟨vp_in_nI (by omega) (by decide), vp_in_nI (by omega) (by decide), hP⟩
    · rw [ej]
      show Sum.inr (Sum.inl (e.getD (nI j).toNatClampNeg (0, 0)).1 :: s) = _
      rw [nI_clamp hj, a3]
  -- 4
  · rw [hq] at h hk fin ⊢
    rw [fl_ck_4] at h
    split at h
    · cases h
    rename_i hsc
    obtain ⟨h1, h2⟩ := fl_psh_inv h; dsimp only at h1 h2 hsc
    obtain ⟨j, hj, ej⟩ := nI_of (x := b_args p) (fun w => hsc (Or.inl w))
    rw [ej, nI_leI (by omega) hj] at hsc
    have hjl : j < fl_lev bs := by omega
    obtain ⟨a, a1, a2, a3⟩ := hE.2 j hjl
    rw [show fl_tk 4 = 0 by decide]
    refine fl_y78 (by decide) (by decide) (by omega) (by omega) (fl_y213 (x := nI a) (by omega) (by omega) (by decide) hk (by decide) (fun P hP => fl_yans (by omega) fun x5 x6 _ _ => br_f (by decide) (br_f (by decide) (br_f (by decide) (br_t rfl ?_)))) (fin _ s ts ?_ h2 hs hM (by omega)))
    · rw [ej, nI_clamp hj, a2]
      exact ⟨vp_in_nI (by omega) (by decide), hP⟩
    · rw [ej]
      show Sum.inr (Sum.inl (e.getD (nI j).toNatClampNeg (0, 0)).2 :: s) = _
      rw [nI_clamp hj, a3]
  -- 5
  · rw [hq] at h hk fin ⊢
    rw [fl_ck_5] at h; obtain ⟨t2, h1, h2⟩ := fl_bin_inv h; dsimp only at h1 h2
    subst h1
    rw [fl_fr_cons, fl_fr_cons] at hs
    obtain ⟨b, s1, rfl, hs1⟩ := fl_sh_i hs
    obtain ⟨a, s2, rfl, hs2⟩ := fl_sh_i hs1
    obtain ⟨⟨m0, -⟩, ⟨m1, -⟩, m4⟩ := hM
    simp only [List.length_cons] at e0 m0 ⊢
    rw [show fl_tk 5 = 2 by decide]
    have m0' : b_mem ((4 + (fl_bas bs + s2.length)) * 4 + 4) = b := by rw [← m0]; exact congrArg b_mem (by omega)
    exact fl_y78 (h := fl_bas bs + s2.length + 2) (by decide) (by decide) (by omega) (by omega) (fl_y213 (x := fl_ap 5 a b) (by omega) (by simp; omega) (by decide) hk (by decide) (fun P hP => fl_yap (by decide) (by simp; omega) m1 m0' hP) (fin _ s2 t2 rfl h2 hs2 m4 (by omega)))
  -- 6
  · rw [hq] at h hk fin ⊢
    rw [fl_ck_6] at h; obtain ⟨t2, h1, h2⟩ := fl_bin_inv h; dsimp only at h1 h2
    subst h1
    rw [fl_fr_cons, fl_fr_cons] at hs
    obtain ⟨b, s1, rfl, hs1⟩ := fl_sh_i hs
    obtain ⟨a, s2, rfl, hs2⟩ := fl_sh_i hs1
    obtain ⟨⟨m0, -⟩, ⟨m1, -⟩, m4⟩ := hM
    simp only [List.length_cons] at e0 m0 ⊢
    rw [show fl_tk 6 = 2 by decide]
    have m0' : b_mem ((4 + (fl_bas bs + s2.length)) * 4 + 4) = b := by rw [← m0]; exact congrArg b_mem (by omega)
    exact fl_y78 (h := fl_bas bs + s2.length + 2) (by decide) (by decide) (by omega) (by omega) (fl_y213 (x := fl_ap 6 a b) (by omega) (by simp; omega) (by decide) hk (by decide) (fun P hP => fl_yap (by decide) (by simp; omega) m1 m0' hP) (fin _ s2 t2 rfl h2 hs2 m4 (by omega)))
  -- 7
  · rw [hq] at h hk fin ⊢
    rw [fl_ck_7] at h; obtain ⟨t2, h1, h2⟩ := fl_bin_inv h; dsimp only at h1 h2
    subst h1
    rw [fl_fr_cons, fl_fr_cons] at hs
    obtain ⟨b, s1, rfl, hs1⟩ := fl_sh_i hs
    obtain ⟨a, s2, rfl, hs2⟩ := fl_sh_i hs1
    obtain ⟨⟨m0, -⟩, ⟨m1, -⟩, m4⟩ := hM
    simp only [List.length_cons] at e0 m0 ⊢
    rw [show fl_tk 7 = 2 by decide]
    have m0' : b_mem ((4 + (fl_bas bs + s2.length)) * 4 + 4) = b := by rw [← m0]; exact congrArg b_mem (by omega)
    exact fl_y78 (h := fl_bas bs + s2.length + 2) (by decide) (by decide) (by omega) (by omega) (fl_y213 (x := fl_ap 7 a b) (by omega) (by simp; omega) (by decide) hk (by decide) (fun P hP => fl_yap (by decide) (by simp; omega) m1 m0' hP) (fin _ s2 t2 rfl h2 hs2 m4 (by omega)))
  -- 8
  · rw [hq] at h hk fin ⊢
    rw [fl_ck_8] at h; obtain ⟨t2, h1, h2⟩ := fl_bin_inv h; dsimp only at h1 h2
    subst h1
    rw [fl_fr_cons, fl_fr_cons] at hs
    obtain ⟨b, s1, rfl, hs1⟩ := fl_sh_i hs
    obtain ⟨a, s2, rfl, hs2⟩ := fl_sh_i hs1
    obtain ⟨⟨m0, -⟩, ⟨m1, -⟩, m4⟩ := hM
    simp only [List.length_cons] at e0 m0 ⊢
    rw [show fl_tk 8 = 2 by decide]
    have m0' : b_mem ((4 + (fl_bas bs + s2.length)) * 4 + 4) = b := by rw [← m0]; exact congrArg b_mem (by omega)
    exact fl_y78 (h := fl_bas bs + s2.length + 2) (by decide) (by decide) (by omega) (by omega) (fl_y213 (x := fl_ap 8 a b) (by omega) (by simp; omega) (by decide) hk (by decide) (fun P hP => fl_yap (by decide) (by simp; omega) m1 m0' hP) (fin _ s2 t2 rfl h2 hs2 m4 (by omega)))
  -- 9
  · rw [hq] at h hk fin ⊢
    rw [fl_ck_9] at h; obtain ⟨t2, h1, h2⟩ := fl_bin_inv h; dsimp only at h1 h2
    subst h1
    rw [fl_fr_cons, fl_fr_cons] at hs
    obtain ⟨b, s1, rfl, hs1⟩ := fl_sh_i hs
    obtain ⟨a, s2, rfl, hs2⟩ := fl_sh_i hs1
    obtain ⟨⟨m0, -⟩, ⟨m1, -⟩, m4⟩ := hM
    simp only [List.length_cons] at e0 m0 ⊢
    rw [show fl_tk 9 = 2 by decide]
    have m0' : b_mem ((4 + (fl_bas bs + s2.length)) * 4 + 4) = b := by rw [← m0]; exact congrArg b_mem (by omega)
    exact fl_y78 (h := fl_bas bs + s2.length + 2) (by decide) (by decide) (by omega) (by omega) (fl_y213 (x := fl_ap 9 a b) (by omega) (by simp; omega) (by decide) hk (by decide) (fun P hP => fl_yap (by decide) (by simp; omega) m1 m0' hP) (fin _ s2 t2 rfl h2 hs2 m4 (by omega)))
  -- 10
  · rw [hq] at h hk fin ⊢
    rw [fl_ck_10] at h; obtain ⟨t2, h1, h2⟩ := fl_un_inv h; dsimp only at h1 h2
    subst h1
    rw [fl_fr_cons] at hs
    obtain ⟨xs, s2, rfl, hs2⟩ := fl_sh_s hs
    obtain ⟨⟨m1, m2, m3⟩, m4⟩ := hM
    simp only [List.length_cons] at e0 ⊢
    rw [show fl_tk 10 = 1 by decide]
    exact fl_y78 (h := fl_bas bs + s2.length + 1) (by decide) (by decide) (by omega) (by omega) (fl_y213 (x := fl_sm 0 xs) (by omega) (by simp; omega) (by decide) hk (by decide) (fun P hP => fl_yans (by simp; omega) fun x5 x6 _ _ => br_t (by decide) (br_t (by decide) (br_t (by decide) ⟨xs.length + 1, fl_y159 (xs := xs) (s := 4 + (fl_bas bs + s2.length)) (by omega) m1 m2 m3 (fun x7 hx => br_t rfl (by rw [hx rfl]; exact hP)) xs.length 0 0 (by omega) rfl⟩))) (fin _ s2 t2 rfl h2 hs2 m4 (by omega)))
  -- 11
  · rw [hq] at h hk fin ⊢
    rw [fl_ck_11] at h; obtain ⟨t2, h1, h2⟩ := fl_un_inv h; dsimp only at h1 h2
    subst h1
    rw [fl_fr_cons] at hs
    obtain ⟨xs, s2, rfl, hs2⟩ := fl_sh_s hs
    obtain ⟨⟨m1, m2, m3⟩, m4⟩ := hM
    simp only [List.length_cons] at e0 ⊢
    rw [show fl_tk 11 = 1 by decide]
    have m1' : b_lens (4 + (fl_bas bs + s2.length)) = nI xs.length := m1
    exact fl_y78 (h := fl_bas bs + s2.length + 1) (by decide) (by decide) (by omega) (by omega) (fl_y213 (x := nI xs.length) (by omega) (by simp; omega) (by decide) hk (by decide) (fun P hP => fl_yans (by simp; omega) fun x5 x6 _ _ => br_t (by decide) (br_t (by decide) (br_t (by decide) ⟨xs.length + 1, fl_y159 (xs := xs) (s := 4 + (fl_bas bs + s2.length)) (by omega) m1 m2 m3 (fun x7 hx => br_f (by decide) (br_t rfl ⟨vp_in_nI (by omega) (by decide), by rw [nI_clamp (by omega), m1']; exact hP⟩)) xs.length 0 0 (by omega) rfl⟩))) (fin _ s2 t2 rfl h2 hs2 m4 (by omega)))
  -- 12
  · rw [hq] at h hk fin Kf ⊢
    rw [fl_ck_12] at h; obtain ⟨t2, h1, h2⟩ := fl_bin_inv h; dsimp only at h1 h2
    subst h1
    rw [fl_fr_cons, fl_fr_cons] at hs
    obtain ⟨i, s1, rfl, hs1⟩ := fl_sh_i hs
    obtain ⟨xs, s2, rfl, hs2⟩ := fl_sh_s hs1
    obtain ⟨⟨m0, -⟩, ⟨m1, m2, m3⟩, m4⟩ := hM
    simp only [List.length_cons] at e0 m0 ⊢
    rw [show fl_tk 12 = 2 by decide]
    have e1 : nI (fl_bas bs + (s2.length + 1 + 1)) - nI 2 = nI (fl_bas bs + s2.length) := by rw [pk_sub (by omega)]; exact congrArg nI (by omega)
    have e2 : (4 : Int32) + nI (fl_bas bs + s2.length) = nI (4 + (fl_bas bs + s2.length)) := nI_add 4 _
    have e3 : nI (4 + (fl_bas bs + s2.length)) * 4 + 4 = nI ((4 + (fl_bas bs + s2.length)) * 4 + 4) := by rw [show (4 : Int32) = nI 4 from rfl, pk_mul, nI_add]
    have m0' : b_mem ((4 + (fl_bas bs + s2.length)) * 4 + 4) = i := by rw [← m0]; exact congrArg b_mem (by omega)
    have m1' : b_lens (4 + (fl_bas bs + s2.length)) = nI xs.length := m1
    have hflt : (i < 0 ∨ ¬ i < nI xs.length) → wY_work_168 post (nI r) (nI p) i g_rowCap g_cellCap g_tokenCap (nI R) (nI T) g_height g_blocks g_status b_mem b_lens b_recKind b_kinds b_args b_at b_start b_types b_blockKind b_blockBase b_blockType := fun w => fl_y168 (by omega) (Kf i (by
      show (if i < 0 ∨ ¬ i < nI xs.length then _ else _) = _
      rw [if_pos w]))
    intro a ea b eb c ec
    rw [e1] at ea; subst ea
    rw [e2] at eb; subst eb
    refine br_t rfl ?_
    rw [e3, nI_clamp (by omega), m0']
    refine ⟨vp_in_nI (by omega) (by decide), br_t rfl ?_⟩
    by_cases hi0 : i < 0
    · exact br_t hi0 (hflt (Or.inl hi0))
    refine br_f hi0 (br_t rfl ?_)
    rw [nI_clamp (by omega), m1']
    refine ⟨vp_in_nI (by omega) (by decide), ?_⟩
    by_cases hi1 : i < nI xs.length
    · refine br_t hi1 ?_
      obtain ⟨j, hj, rfl⟩ := nI_of hi0
      rw [nI_ltI hj (by omega)] at hi1
      have ho : fl_sp 12 (b_args p) R rw r p (.inl (nI j) :: .inr xs :: s2) e = .inr (.inl (xs[j]) :: s2) := by
        show (if nI j < 0 ∨ ¬ nI j < nI xs.length then _ else _) = _
        rw [if_neg (by rw [nI_ltI hj (by omega)]; simp [hi0, hi1]), nI_clamp hj, List.getD_eq_getElem?_getD, List.getElem?_eq_getElem hi1]; rfl
      have em : nI (4 + (fl_bas bs + s2.length)) * 4 + nI j = nI ((4 + (fl_bas bs + s2.length)) * 4 + j) := by rw [show (4 : Int32) = nI 4 from rfl, pk_mul, nI_add]
      refine fl_y213 (x := xs[j]) (by omega) (by omega) (by decide) hk (by decide) (fun P hP => fl_yans (by omega) fun x5 x6 _ e6 => br_t (by decide) (br_t (by decide) (br_t (by decide) ⟨xs.length + 1, fl_y159 (xs := xs) (s := 4 + (fl_bas bs + s2.length)) (by omega) m1 m2 m3 (fun x7 hx => br_f (by decide) (br_f (by decide) ?_)) xs.length 0 0 (by omega) rfl⟩))) (fin _ s2 t2 ho h2 hs2 m4 (by omega))
      rw [m0'] at e6
      rw [e6, em, nI_clamp (by omega)]
      exact ⟨vp_in_nI (by omega) (by decide), by rw [show b_mem _ = xs[j] from m3 j hi1]; exact hP⟩
    · exact br_f hi1 (hflt (Or.inr hi1))
  -- 13
  · rw [hq] at h hk finS copyR Kf ⊢
    rw [fl_ck_13] at h; obtain ⟨t2, h1, h2⟩ := fl_un_inv h; dsimp only at h1 h2
    subst h1
    rw [fl_fr_cons] at hs
    obtain ⟨i, s2, rfl, hs2⟩ := fl_sh_i hs
    obtain ⟨⟨m0, -⟩, m4⟩ := hM
    simp only [List.length_cons] at e0 ⊢
    rw [show fl_tk 13 = 1 by decide]
    have e1 : nI (fl_bas bs + (s2.length + 1)) - nI 1 = nI (fl_bas bs + s2.length) := by rw [pk_sub (by omega)]; exact congrArg nI (by omega)
    have e2 : (4 : Int32) + nI (fl_bas bs + s2.length) = nI (4 + (fl_bas bs + s2.length)) := nI_add 4 _
    have e3 : nI (4 + (fl_bas bs + s2.length)) * 4 = nI ((4 + (fl_bas bs + s2.length)) * 4) := pk_mul _ 4
    have m0' : b_mem ((4 + (fl_bas bs + s2.length)) * 4) = i := m0
    have hflt : (i < 0 ∨ ¬ i < nI R) → wY_work_168 post (nI r) (nI p) i g_rowCap g_cellCap g_tokenCap (nI R) (nI T) g_height g_blocks g_status b_mem b_lens b_recKind b_kinds b_args b_at b_start b_types b_blockKind b_blockBase b_blockType := fun w => fl_y168 (by omega) (Kf i (by
      show (if i < 0 ∨ ¬ i < nI R then _ else _) = _
      rw [if_pos w]))
    intro a ea b eb c ec
    rw [e1] at ea; subst ea
    rw [e2] at eb; subst eb
    refine br_f (by decide) ?_
    rw [e3, nI_clamp (by omega), m0']
    refine ⟨vp_in_nI (by omega) (by decide), br_f (by decide) (br_t rfl ?_)⟩
    by_cases hi0 : i < 0
    · exact br_t hi0 (hflt (Or.inl hi0))
    refine br_f hi0 (br_f (by decide) ?_)
    by_cases hi1 : i < nI R
    · refine br_t hi1 (br_f (by decide) (br_t rfl (br_f (by decide) ?_)))
      obtain ⟨j, hj, rfl⟩ := nI_of hi0
      rw [nI_ltI hj (by omega)] at hi1
      have ho : fl_sp 13 (b_args p) R rw r p (.inl (nI j) :: s2) e = .inr (.inr (rw j) :: s2) := by
        show (if nI j < 0 ∨ ¬ nI j < nI R then _ else _) = _
        rw [if_neg (by rw [nI_ltI hj (by omega)]; simp [hi0, hi1]), nI_clamp hj]
      exact copyR j s2 t2 _ _ hi1 ho h2 hs2 m4 (by omega) (by decide)
    · exact br_f hi1 (hflt (Or.inr hi1))
  · exact absurd hq hk.1
  · exact absurd hq hk.2.1
  · exact absurd hq hk.2.2.1
  · exact absurd hq hk.2.2.2.1
  · exact absurd hq hk.2.2.2.2.1
  · exact absurd hq hk.2.2.2.2.2
end YS2
end
section
/-! Y: the tokens of blocks -/
section YCT
variable {g_rowCap g_cellCap g_tokenCap g_rows g_tokens g_height g_blocks g_status : Int32} {b_mem b_lens b_recKind b_kinds b_args b_at b_start b_types b_blockKind b_blockBase b_blockType : Nat → Int32} {r R T : Nat} {post : SY → Prop} {J : fl_J} {x1 x2 x3 x4 x5 x7 x8 x9 k : Int32}
theorem fl_y349 {p stp : Nat} (hT : T ≤ 40) (hp : p < T) (K : J (nI (fl_cl b_kinds T p + 1)) x3 x4 (nI (stp + 1)) g_rowCap g_cellCap g_tokenCap g_rows (nI T) g_height g_blocks g_status b_mem b_lens b_recKind b_kinds b_args b_at b_start b_types b_blockKind b_blockBase b_blockType) : wY_work_349 post J x1 (nI p) x3 x4 (nI stp) g_rowCap g_cellCap g_tokenCap g_rows (nI T) g_height g_blocks g_status b_mem b_lens b_recKind b_kinds b_args b_at b_start b_types b_blockKind b_blockBase b_blockType := by
  refine fl_yclose hT hp fun a ea b eb => ?_
  rw [nI_1] at ea eb
  subst ea; subst eb
  exact K
theorem fl_y213c (hk : ¬ k = 1 ∧ ¬ k = 13 ∧ 12 < k ∧ ¬ k = 14 ∧ ¬ k ≤ 13) (K : wY_work_325 post J x1 x2 x3 x4 x5 k x7 x8 x9 0 g_rowCap g_cellCap g_tokenCap g_rows g_tokens g_height g_blocks g_status b_mem b_lens b_recKind b_kinds b_args b_at b_start b_types b_blockKind b_blockBase b_blockType) : wY_work_213 post J x1 x2 x3 x4 x5 k x7 x8 x9 g_rowCap g_cellCap g_tokenCap g_rows g_tokens g_height g_blocks g_status b_mem b_lens b_recKind b_kinds b_args b_at b_start b_types b_blockKind b_blockBase b_blockType :=
  br_f hk.1 (br_f hk.2.1 (br_t hk.2.2.1 (br_f hk.2.2.2.1 (br_f hk.2.2.2.2 (br_t rfl K)))))
/-- one END or KEEP -/
theorem fl_yfin {kp : Bool} {q p m stp V h i len : Nat} {x y : Int32} {ys : List Int32} (hT : T ≤ 40) (hq : q < T) (hst : stp < 1000) (hkq : (b_kinds q = 15 ∧ kp = false) ∨ (b_kinds q = 16 ∧ kp = true)) (hV : V < 2) (hh : h ≤ 3) (hpT : p < 40)
    (hx : b_mem ((4 + h) * 4) = x) (hat : b_at V = nI i) (hi : i < len) (h4 : len ≤ 4) (hlt : b_lens (8 + V) = nI len) (hy : b_mem ((8 + V) * 4 + i) = y) (hlm : b_lens (10 + V) = nI ys.length) (hys : ys.length ≤ i) (hym : ∀ j (hj : j < ys.length), b_mem ((10 + V) * 4 + j) = ys[j]) (hsa : b_start V = nI p)
    (K1 : i + 1 < len → ∀ me ln, ln (10 + V) = nI (ys ++ fl_pk kp y x).length → (∀ j (hj : j < (ys ++ fl_pk kp y x).length), me ((10 + V) * 4 + j) = (ys ++ fl_pk kp y x)[j]) → (∀ t, t ≠ 10 + V → ln t = b_lens t ∧ ∀ j, j < 4 → me (t * 4 + j) = b_mem (t * 4 + j)) → wY_work_10 post x1 m (nI (p + 1)) (nI h) (nI (V + 1)) (nI (stp + 1)) g_rowCap g_cellCap g_tokenCap g_rows (nI T) g_height g_blocks g_status me ln b_recKind b_kinds b_args (upd b_at V (nI (i + 1))) b_start b_types b_blockKind b_blockBase b_blockType)
    (K2 : i + 1 = len → ∀ me ln, ln (4 + h) = nI (ys ++ fl_pk kp y x).length → (∀ j (hj : j < (ys ++ fl_pk kp y x).length), me ((4 + h) * 4 + j) = (ys ++ fl_pk kp y x)[j]) → (∀ t, t ≠ 10 + V → t ≠ 4 + h → ln t = b_lens t ∧ ∀ j, j < 4 → me (t * 4 + j) = b_mem (t * 4 + j)) → wY_work_10 post x1 m (nI (q + 1)) (nI (h + 1)) (nI V) (nI (stp + 1)) g_rowCap g_cellCap g_tokenCap g_rows (nI T) g_height g_blocks g_status me ln b_recKind b_kinds b_args (upd b_at V (nI (i + 1))) b_start b_types b_blockKind b_blockBase b_blockType) :
    wY_work_10 post x1 (m + 1) (nI q) (nI (h + 1)) (nI (V + 1)) (nI stp) g_rowCap g_cellCap g_tokenCap g_rows (nI T) g_height g_blocks g_status b_mem b_lens b_recKind b_kinds b_args b_at b_start b_types b_blockKind b_blockBase b_blockType := by
  have e10 : (10 : Int32) + nI V = nI (10 + V) := nI_add 10 V
  have e8 : (8 : Int32) + nI V = nI (8 + V) := nI_add 8 V
  have eV : nI (V + 1) - 1 = nI V := nI_pred V
  have v2 : vp_in (nI V) 2 := vp_in_nI hV (by decide)
  have v16 : vp_in (nI (10 + V)) 16 := vp_in_nI (by omega) (by decide)
  have v16' : vp_in (nI (8 + V)) 16 := vp_in_nI (by omega) (by decide)
  have cV : (nI V).toNatClampNeg = V := nI_clamp (by omega)
  have c10 : (nI (10 + V)).toNatClampNeg = 10 + V := nI_clamp (by omega)
  have c8 : (nI (8 + V)).toNatClampNeg = 8 + V := nI_clamp (by omega)
  have hpl : (ys ++ fl_pk kp y x).length ≤ ys.length + 1 := by
    unfold fl_pk; split
    · split <;> simp
    · simp
  -- behind the append
  have h499 : ∀ me ln, ln (10 + V) = nI (ys ++ fl_pk kp y x).length → (∀ j (hj : j < (ys ++ fl_pk kp y x).length), me ((10 + V) * 4 + j) = (ys ++ fl_pk kp y x)[j]) → (∀ t, t ≠ 10 + V → ln t = b_lens t ∧ ∀ j, j < 4 → me (t * 4 + j) = b_mem (t * 4 + j)) → wY_work_499 post (wY_work_10 post x1 m) x1 (nI q) (nI h) (nI (V + 1)) (nI stp) (nI (4 + h)) (nI V) g_rowCap g_cellCap g_tokenCap g_rows (nI T) g_height g_blocks g_status me ln b_recKind b_kinds b_args b_at b_start b_types b_blockKind b_blockBase b_blockType := by
    intro me ln hl hm ho
    have e1 : nI i + 1 = nI (i + 1) := nI_1 i
    unfold wY_work_499
    rw [cV, hat, e8, c8, e10, e1]
    refine ⟨v2, v2, fun a ea => ?_⟩
    subst ea
    have eu : upd b_at V (nI (i + 1)) V = nI (i + 1) := fl_ups
    rw [eu, (ho (8 + V) (by omega)).1, hlt]
    refine ⟨v2, v16', ?_⟩
    rcases Nat.lt_or_ge (i + 1) len with w | w
    · refine br_f (nI_ge w (by omega)) ⟨v2, fun a ea b eb c ec => ?_⟩
      rw [hsa] at ea
      subst ea
      rw [nI_1] at eb ec
      subst eb; subst ec
      exact K1 w me ln hl hm ho
    · refine br_t (nI_le w (by omega)) (fl_ycopy (by omega) (by omega) (by omega) fun me' hm1 hm2 a ea b eb c ec d ed => ?_)
      rw [nI_1] at ea ec ed
      rw [pk_m1] at eb
      subst ea; subst eb; subst ec; subst ed
      refine K2 (by omega) me' _ (by rw [fl_ups, hl]) (fun j hj => by rw [hm1 j (by omega)]; exact hm j hj) (fun t t1 t2 => ⟨?_, fun j hj => ?_⟩)
      · rw [upd, if_neg t2]; exact (ho t t1).1
      · rw [hm2 _ (by omega)]; exact (ho t t1).2 j hj
  have h469 : ∀ z, fl_pk kp y x = [z] → wY_work_469 post (wY_work_10 post x1 m) x1 (nI q) (nI h) (nI (V + 1)) (nI stp) (nI (4 + h)) (nI V) z g_rowCap g_cellCap g_tokenCap g_rows (nI T) g_height g_blocks g_status b_mem b_lens b_recKind b_kinds b_args b_at b_start b_types b_blockKind b_blockBase b_blockType := by
    intro z hz
    have e1 : nI ys.length + 1 = nI (ys.length + 1) := nI_1 _
    have e2 : nI (10 + V) * 4 + nI ys.length = nI ((10 + V) * 4 + ys.length) := by rw [show (4 : Int32) = nI 4 from rfl, pk_mul, nI_add]
    unfold wY_work_469
    rw [e10, c10, hlm, e1, e2, nI_clamp (by omega)]
    refine ⟨v16, v16, fun a ea => ⟨vp_in_nI (by omega) (by decide), fun b eb => ?_⟩⟩
    subst ea; subst eb
    refine h499 _ _ ?_ (fun j hj => ?_) (fun t ht => ⟨?_, fun j hj => ?_⟩)
    · rw [fl_ups, hz]; simp
    · simp only [hz, List.length_append, List.length_cons, List.length_nil] at hj
      rcases Nat.lt_or_ge j ys.length with w | w
      · rw [fl_upn (by omega)]
        simp only [hz, List.getElem_append_left w]
        exact hym j w
      · have : j = ys.length := by omega
        subst this
        rw [fl_ups]
        simp [hz]
    · rw [upd, if_neg ht]
    · rw [upd, if_neg (by omega)]
  have h455 : ∀ z0, (z0 = if kp = true then y else x) → wY_work_455 post (wY_work_10 post x1 m) x1 (nI q) (nI h) (nI (V + 1)) (nI stp) (b_kinds q) (nI (4 + h)) (nI V) x z0 g_rowCap g_cellCap g_tokenCap g_rows (nI T) g_height g_blocks g_status b_mem b_lens b_recKind b_kinds b_args b_at b_start b_types b_blockKind b_blockBase b_blockType := by
    intro z0 hz
    rcases hkq with ⟨w, rfl⟩ | ⟨w, rfl⟩
    · rw [w]
      exact br_t rfl (h469 z0 (by rw [hz]; rfl))
    · rw [w]
      refine br_f (by decide) (br_c (fun h0 => ?_) fun h0 => h469 z0 ?_)
      · have e : fl_pk true y x = [] := by simp [fl_pk, h0]
        refine h499 _ _ (by rw [e, hlm]; simp) (fun j hj => ?_) (fun t _ => ⟨rfl, fun _ _ => rfl⟩)
        simp only [e, List.append_nil] at hj ⊢
        exact hym j hj
      · rw [hz]; simp [fl_pk, h0]
  have h423 : wY_work_423 post (wY_work_10 post x1 m) x1 (nI q) (nI h) (nI (V + 1)) (nI stp) (b_kinds q) (nI (4 + h)) (nI V) x g_rowCap g_cellCap g_tokenCap g_rows (nI T) g_height g_blocks g_status b_mem b_lens b_recKind b_kinds b_args b_at b_start b_types b_blockKind b_blockBase b_blockType := by
    refine br_c (fun w => h455 x ?_) fun w => ?_
    · rcases hkq with ⟨_, rfl⟩ | ⟨w', _⟩
      · rfl
      · rw [w] at w'; exact absurd w' (by decide)
    · have e2 : nI (8 + V) * 4 + nI i = nI ((8 + V) * 4 + i) := by rw [show (4 : Int32) = nI 4 from rfl, pk_mul, nI_add]
      rw [cV, hat, e8, e2, nI_clamp (by omega), hy]
      refine ⟨v2, vp_in_nI (by omega) (by decide), h455 y ?_⟩
      rcases hkq with ⟨w', _⟩ | ⟨_, rfl⟩
      · exact absurd w' w
      · rfl
  refine fl_y10 hq hT hst ?_
  have htk : fl_tk (b_kinds q) = 1 := by rcases hkq with ⟨w, _⟩ | ⟨w, _⟩ <;> rw [w] <;> decide
  rw [htk]
  have f : ¬ b_kinds q = 12 ∧ ¬ b_kinds q = 13 ∧ (¬ b_kinds q = 1 ∧ ¬ b_kinds q = 13 ∧ 12 < b_kinds q ∧ ¬ b_kinds q = 14 ∧ ¬ b_kinds q ≤ 13) ∧ ¬ b_kinds q = 18 ∧ ¬ b_kinds q = 17 := by
    rcases hkq with ⟨w, _⟩ | ⟨w, _⟩ <;> rw [w] <;> decide
  obtain ⟨f1, f2, f3, f4, f5⟩ := f
  refine fl_y78 (h := h + 1) f1 f2 (by omega) (by omega) (fl_y213c f3 (br_t rfl (br_f f4 (br_f f5 (br_f f3.2.2.2.1 ?_)))))
  rw [eV]
  have hx' : b_mem ((4 + (h + 1 - 1)) * 4) = x := hx
  rw [hx']
  rcases hkq with ⟨w, _⟩ | ⟨w, _⟩
  · exact br_t w h423
  · exact br_f (by rw [w]; decide) (br_t w h423)
end YCT
end
section
/-! Y: work is the evaluation -/
def fl_qe (kd : Nat → Int32) (T : Nat) : List fl_Bl → Nat
  | [] => T
  | B :: bs => if B.1 = 14 then fl_cl kd T B.2.1 else fl_qe kd T bs
theorem fl_qe_le {kd ag : Nat → Int32} {T p : Nat} (G : fl_Gd kd ag T) (hp : p ≤ T) : ∀ (bs X : List fl_Bl), (fl_csf kd ag p).2 = X ++ bs → p ≤ fl_qe kd T bs ∧ fl_qe kd T bs ≤ T
  | [], _, _ => ⟨hp, Nat.le_refl _⟩
  | B :: bs, X, h => by
    rw [fl_qe]
    split
    · have := fl_CL G hp h
      exact ⟨this.2.1, by omega⟩
    · exact fl_qe_le G hp bs (X ++ [B]) (by rw [h]; simp)
def fl_w : Nat → Nat
  | 0 => 16
  | 1 => 4
  | _ => 1
theorem fl_w_p (V : Nat) : 1 ≤ fl_w V := by unfold fl_w; split <;> decide
theorem fl_w_s {V : Nat} (h : V < 2) : fl_w V = 4 * fl_w (V + 1) := by
  have : V = 0 ∨ V = 1 := by omega
  rcases this with rfl | rfl <;> rfl
theorem fl_bud1 {stp K qe p q w : Nat} (hq : p < q) (hqe : q ≤ qe) (hw : 1 ≤ w) (h : stp + (qe - p) * w ≤ K) : stp + 1 + (qe - q) * w ≤ K := by
  have e : qe - p = (qe - q) + (q - p) := by omega
  rw [e, Nat.add_mul] at h
  have : 0 < (q - p) * w := Nat.mul_pos (by omega) hw
  omega
theorem fl_bud2 {stp K qe p q w len : Nat} (h1 : p < q) (h2 : q + 1 ≤ qe) (hw : 1 ≤ w) (hl : len ≤ 4) (h : stp + (qe - p) * (4 * w) ≤ K) : stp + 1 + len * ((q - (p + 1)) * w + 1) + (qe - (q + 1)) * (4 * w) ≤ K := by
  have e : qe - p = (qe - (q + 1)) + ((q - (p + 1)) + 2) := by omega
  rw [e, Nat.add_mul, Nat.add_mul] at h
  have e2 : (q - (p + 1)) * (4 * w) = 4 * ((q - (p + 1)) * w) := Nat.mul_left_comm _ _ _
  have h3 : len * ((q - (p + 1)) * w + 1) ≤ 4 * ((q - (p + 1)) * w + 1) := Nat.mul_le_mul_right _ hl
  rw [e2] at h
  generalize (q - (p + 1)) * w = P at *
  generalize (qe - (q + 1)) * (4 * w) = Q at *
  omega
theorem fl_ne14 (kd : Nat → Int32) (T : Nat) {B : fl_Bl} (h : ¬ B.1 = 14) (ts : List Bool) (bs : List fl_Bl) : fl_bas (B :: bs) = fl_bas bs ∧ fl_lev (B :: bs) = fl_lev bs ∧ fl_qe kd T (B :: bs) = fl_qe kd T bs ∧ fl_fr ts (B :: bs) = ts ++ fl_fr B.2.2.2 bs := by
  rw [fl_bas, fl_lev, fl_qe, fl_fr, if_neg h, if_neg h, if_neg h, if_neg h]
  exact ⟨rfl, rfl, rfl, rfl⟩
section YSM
variable {g_rowCap g_cellCap g_tokenCap g_rows g_tokens g_height g_blocks g_status : Int32} {b_mem b_lens b_recKind b_kinds b_args b_at b_start b_types b_blockKind b_blockBase b_blockType : Nat → Int32} {r R T : Nat} {post : SY → Prop}
theorem fl_YS {rw : Nat → List Int32} (G : fl_Gd b_kinds b_args T) (hT : T ≤ 40) (hr : r < R) (hR : R ≤ 4) : ∀ n p s e me ln aa sa stp m K, T - p < n → p ≤ T → s.map fl_tg = fl_fr (fl_csf b_kinds b_args p).1 (fl_csf b_kinds b_args p).2 → fl_YM (fl_bas (fl_csf b_kinds b_args p).2) s me ln → fl_YE (fl_lev (fl_csf b_kinds b_args p).2) e me aa → fl_YR R rw me ln →
    stp + (fl_qe b_kinds T (fl_csf b_kinds b_args p).2 - p) * fl_w (fl_lev (fl_csf b_kinds b_args p).2) ≤ K → K ≤ 999 → m + stp = 1001 →
    (∀ f me' ln' aa' sa', fl_EV b_kinds b_args T R rw r p s e = .inl f → fl_YF (fl_bas (fl_csf b_kinds b_args p).2) (fl_lev (fl_csf b_kinds b_args p).2) me ln aa sa me' ln' aa' sa' → post (g_rowCap, g_cellCap, g_tokenCap, nI R, nI T, g_height, g_blocks, g_status, upd (upd me' ((12 + r) * 4) (nI f.1)) ((12 + r) * 4 + 1) f.2, upd ln' (12 + r) 2, upd b_recKind r 3, b_kinds, b_args, aa', sa', b_types, b_blockKind, b_blockBase, b_blockType)) →
    (∀ v me' ln' aa' sa' stp' m', fl_EV b_kinds b_args T R rw r p s e = .inr v → fl_YF (fl_bas (fl_csf b_kinds b_args p).2) (fl_lev (fl_csf b_kinds b_args p).2) me ln aa sa me' ln' aa' sa' → fl_MV True (fun h => ln' (4 + h)) (fun h i => me' ((4 + h) * 4 + i)) (fl_bas (fl_csf b_kinds b_args p).2) v → [fl_tg v] = fl_fr (fl_csf b_kinds b_args (fl_qe b_kinds T (fl_csf b_kinds b_args p).2)).1 (fl_csf b_kinds b_args (fl_qe b_kinds T (fl_csf b_kinds b_args p).2)).2 → stp' ≤ K → m' + stp' = 1001 → wY_work_10 post (nI r) m' (nI (fl_qe b_kinds T (fl_csf b_kinds b_args p).2)) (nI (fl_bas (fl_csf b_kinds b_args p).2 + 1)) (nI (fl_lev (fl_csf b_kinds b_args p).2)) (nI stp') g_rowCap g_cellCap g_tokenCap (nI R) (nI T) g_height g_blocks g_status me' ln' b_recKind b_kinds b_args aa' sa' b_types b_blockKind b_blockBase b_blockType) →
    wY_work_10 post (nI r) m (nI p) (nI (fl_bas (fl_csf b_kinds b_args p).2 + s.length)) (nI (fl_lev (fl_csf b_kinds b_args p).2)) (nI stp) g_rowCap g_cellCap g_tokenCap (nI R) (nI T) g_height g_blocks g_status me ln b_recKind b_kinds b_args aa sa b_types b_blockKind b_blockBase b_blockType := by
  intro n
  induction n with
  | zero => intro p s e me ln aa sa stp m K h; omega
  | succ n ih =>
  intro p s e me ln aa sa stp m K hn hp hs hM hE hW hK hK9 hm Kf Kd
  have hqe := fl_qe_le G hp (fl_csf b_kinds b_args p).2 [] rfl
  have hw := fl_w_p (fl_lev (fl_csf b_kinds b_args p).2)
  have hbnd := fl_bnd G p hp
  have hfl := fl_ft_len (fl_csf b_kinds b_args p).2 (fl_csf b_kinds b_args p).1
  have hsl : s.length = (fl_fr (fl_csf b_kinds b_args p).1 (fl_csf b_kinds b_args p).2).length := by rw [← hs, List.length_map]
  rcases Nat.lt_or_ge p T with hpT | hpT
  case inr =>
    have epT : p = T := by omega
    subst epT
    obtain ⟨t, et⟩ := G.2.2
    have es : fl_fr (fl_csf b_kinds b_args p).1 (fl_csf b_kinds b_args p).2 = [t] := by rw [et]; rfl
    have eq : fl_qe b_kinds p (fl_csf b_kinds b_args p).2 = p := by rw [et]; rfl
    rw [es] at hs
    obtain ⟨v, rfl, hv⟩ := fl_sh_1 hs
    rw [eq] at Kd
    exact Kd v me ln aa sa stp m (fl_EV_T (Nat.le_refl _) _ _) fl_YF_r hM.1 (by rw [es, hv]) (by omega) hm
  have hst : stp ≤ 999 := by omega
  obtain ⟨m0, rfl⟩ : ∃ m0, m = m0 + 1 := ⟨m - 1, by omega⟩
  by_cases hk : fl_sK (b_kinds p)
  · have hbs := fl_atS G hpT hk
    have hqe' := fl_qe_le G (p := p + 1) hpT (fl_csf b_kinds b_args (p + 1)).2 [] rfl
    rw [hbs] at hqe'
    refine fl_ysimp (b_mem := me) (b_lens := ln) (b_at := aa) (b_start := sa) G hT hr hR hpT hk hs hM hE hW (by omega) (fun i hi => Kf (p, i) me ln aa sa (fl_EV_sl hpT hk hi) fl_YF_r) (fun s' me' ln' hsp hF ht hM' => ?_)
    have ihq := ih (p + 1) s' e me' ln' aa sa (stp + 1) m0 K (by omega) (by omega) ht
    rw [hbs] at ihq
    have eE := fl_EV_sr (T := T) hpT hk hsp
    exact ihq hM' (fl_YE_f hF hE) (fl_YR_f hR hF hW) (fl_bud1 (by omega) hqe'.1 hw hK) hK9 (by omega)
      (fun f me2 ln2 aa2 sa2 h1 h2 => Kf f me2 ln2 aa2 sa2 (eE.trans h1) (fl_YF_t hF h2))
      (fun v me2 ln2 aa2 sa2 stp2 m2 h1 h2 h3 h4 h5 h6 => Kd v me2 ln2 aa2 sa2 stp2 m2 (eE.trans h1) (fl_YF_t hF h2) h3 h4 h5 h6)
  have hkd := G.1 p hpT
  have hctl : b_kinds p = 14 ∨ (b_kinds p = 15 ∨ b_kinds p = 16) ∨ b_kinds p = 17 ∨ b_kinds p = 18 ∨ b_kinds p = 19 := by
    by_cases h1 : b_kinds p = 14; exact Or.inl h1
    by_cases h2 : b_kinds p = 15; exact Or.inr (Or.inl (Or.inl h2))
    by_cases h3 : b_kinds p = 16; exact Or.inr (Or.inl (Or.inr h3))
    by_cases h4 : b_kinds p = 17; exact Or.inr (Or.inr (Or.inl h4))
    by_cases h5 : b_kinds p = 18; exact Or.inr (Or.inr (Or.inr (Or.inl h5)))
    by_cases h6 : b_kinds p = 19; exact Or.inr (Or.inr (Or.inr (Or.inr h6)))
    exact absurd ⟨h1, h2, h3, h4, h5, h6⟩ hk
  rcases hctl with hk | hk | hk | hk | hk
  · -- EACH
    obtain ⟨r', bs, c1, c2, l1, l2, l3, l4, c3, k3, c4⟩ := fl_at14 G hpT hk
    have hqq := fl_qe_le G (p := fl_cl b_kinds T p + 1) (by omega) _ [] rfl
    rw [c4] at hqq
    rw [c1] at hs hM hE hK Kf Kd hqe hw hbnd hfl hsl ⊢
    dsimp only at hs hM hE hK Kf Kd hqe hw hbnd hfl hsl hqq ⊢
    generalize hq : fl_cl b_kinds T p = q at *
    rw [fl_fr_cons] at hs
    obtain ⟨xs, s2, rfl, hs2⟩ := fl_sh_s hs
    have hM0 := hM
    obtain ⟨⟨m1, m2, m3⟩, m4⟩ := hM0
    have m1' : ln (4 + (fl_bas bs + s2.length)) = nI xs.length := m1
    have hln : (Sum.inr xs :: s2 : List fl_V).length = s2.length + 1 := rfl
    have eb : fl_bas ((14, p, false, r') :: bs) = fl_bas bs + s2.length := by
      rw [fl_bas, if_pos rfl]
      have := fl_ft_len bs r'
      have h2 : s2.length = (fl_fr r' bs).length := by rw [← hs2, List.length_map]
      simp only; omega
    have el : fl_lev ((14, p, false, r') :: bs) = fl_lev bs + 1 := by rw [fl_lev, if_pos rfl]
    have eq : fl_qe b_kinds T ((14, p, false, r') :: bs) = q := by rw [fl_qe, if_pos rfl]; exact hq
    have ef : ∀ ts, fl_fr ts ((14, p, false, r') :: bs) = ts := fun ts => by rw [fl_fr, if_pos rfl]
    have hEV := fl_EV_14 (kd := b_kinds) (ag := b_args) (R := R) (rw := rw) (r := r) hpT hk xs s2 e
    rw [hq] at hEV
    have hws := fl_w_s l2
    have hw1 := fl_w_p (fl_lev bs + 1)
    rw [fl_ft_cons, List.length_cons] at hbnd hfl
    simp only [fl_fr_cons, List.length_cons] at hfl hsl
    have hh3 : fl_bas bs + s2.length ≤ 3 := by omega
    -- what follows the whole EACH
    have after : ∀ ys me' ln' aa' sa' stp' m', fl_ea (decide (b_kinds q = 16)) (fun x i => fl_EV b_kinds b_args T R rw r (p + 1) [] (e ++ [(x, nI i)])) xs 0 = .inr ys → fl_YF (fl_bas bs) (fl_lev bs) me ln aa sa me' ln' aa' sa' → fl_YM (fl_bas bs) (.inr ys :: s2) me' ln' → stp' + (fl_qe b_kinds T bs - (q + 1)) * fl_w (fl_lev bs) ≤ K → m' + stp' = 1001 → wY_work_10 post (nI r) m' (nI (q + 1)) (nI (fl_bas bs + s2.length + 1)) (nI (fl_lev bs)) (nI stp') g_rowCap g_cellCap g_tokenCap (nI R) (nI T) g_height g_blocks g_status me' ln' b_recKind b_kinds b_args aa' sa' b_types b_blockKind b_blockBase b_blockType := by
      intro ys me' ln' aa' sa' stp' m' hea hF hM' hb hm'
      have ihq := ih (q + 1) (.inr ys :: s2) e me' ln' aa' sa' stp' m' K (by omega) (by omega)
      rw [c4] at ihq
      dsimp only at ihq
      rw [hea] at hEV
      exact ihq (by rw [fl_fr_cons, List.map_cons, hs2]; rfl) hM' (fl_YE_f hF hE) (fl_YR_f hR hF hW) hb hK9 hm'
        (fun f me2 ln2 aa2 sa2 h1 h2 => Kf f me2 ln2 aa2 sa2 (hEV.trans h1) (fl_YF_t hF h2))
        (fun v me2 ln2 aa2 sa2 stp2 m2 h1 h2 h3 h4 h5 h6 => Kd v me2 ln2 aa2 sa2 stp2 m2 (hEV.trans h1) (fl_YF_t hF h2) h3 h4 h5 h6)
    have LOOP : ∀ d i me' ln' aa' sa' stp' m' (ys : List Int32), i + d = xs.length → 0 < d →
        fl_YF (fl_bas bs + s2.length) (fl_lev bs) me ln aa sa me' ln' aa' sa' → ln' (8 + fl_lev bs) = nI xs.length → (∀ j (hj : j < xs.length), me' ((8 + fl_lev bs) * 4 + j) = xs[j]) → aa' (fl_lev bs) = nI i → sa' (fl_lev bs) = nI p → ln' (10 + fl_lev bs) = nI ys.length → ys.length ≤ i → (∀ j (hj : j < ys.length), me' ((10 + fl_lev bs) * 4 + j) = ys[j]) →
        fl_ea (decide (b_kinds q = 16)) (fun x i => fl_EV b_kinds b_args T R rw r (p + 1) [] (e ++ [(x, nI i)])) xs 0 = (match fl_ea (decide (b_kinds q = 16)) (fun x i => fl_EV b_kinds b_args T R rw r (p + 1) [] (e ++ [(x, nI i)])) (xs.drop i) i with | .inl g => .inl g | .inr zs => .inr (ys ++ zs)) →
        stp' + d * ((q - (p + 1)) * fl_w (fl_lev bs + 1) + 1) + (fl_qe b_kinds T bs - (q + 1)) * fl_w (fl_lev bs) ≤ K → m' + stp' = 1001 →
        wY_work_10 post (nI r) m' (nI (p + 1)) (nI (fl_bas bs + s2.length)) (nI (fl_lev bs + 1)) (nI stp') g_rowCap g_cellCap g_tokenCap (nI R) (nI T) g_height g_blocks g_status me' ln' b_recKind b_kinds b_args aa' sa' b_types b_blockKind b_blockBase b_blockType := by
      intro d
      induction d with
      | zero => intro i me' ln' aa' sa' stp' m' ys _ h; omega
      | succ d dih =>
        intro i me' ln' aa' sa' stp' m' ys hi _ hF t1 t2 a1 s1 y1 y2 y3 hea hb hm'
        have hil : i < xs.length := by omega
        have hi4 : i < 4 := by omega
        rw [fl_drop hil, fl_ea] at hea
        have ihb := ih (p + 1) [] (e ++ [(xs[i], nI i)]) me' ln' aa' sa' stp' m' (stp' + (q - (p + 1)) * fl_w (fl_lev bs + 1)) (by omega) (by omega)
        rw [c2] at ihb
        dsimp only at ihb
        rw [eb, el, eq, c3] at ihb
        dsimp only at ihb
        rw [ef, ef] at ihb
        rw [Nat.succ_mul] at hb
        have hb2 : stp' + (q - (p + 1)) * fl_w (fl_lev bs + 1) ≤ 999 := by
          generalize (q - (p + 1)) * fl_w (fl_lev bs + 1) = P at hb ⊢
          generalize d * (P + 1) = Q at hb
          generalize (fl_qe b_kinds T bs - (q + 1)) * fl_w (fl_lev bs) = S at hb
          omega
        have hFb : fl_YF (fl_bas bs) (fl_lev bs) me ln aa sa me' ln' aa' sa' := fl_YF_m (by omega) (Nat.le_refl _) hF
        have hE' := fl_YE_f hFb hE
        refine ihb rfl trivial ⟨by rw [List.length_append, hE.1]; rfl, fun v hv => ?_⟩ (fl_YR_f hR hF hW) (Nat.le_refl _) hb2 hm' (fun f me2 ln2 aa2 sa2 h1 h2 => ?_) (fun v me2 ln2 aa2 sa2 stp2 m2 h1 h2 h3 h4 h5 h6 => ?_)
        · rcases Nat.lt_or_ge v (fl_lev bs) with w | w
          · obtain ⟨a, b1, b2, b3⟩ := hE'.2 v w
            refine ⟨a, b1, b2, ?_⟩
            rw [← b3, List.getD_eq_getElem?_getD, List.getD_eq_getElem?_getD, List.getElem?_append_left (by rw [hE.1]; exact w)]
          · have ev : v = fl_lev bs := by omega
            subst ev
            refine ⟨i, hi4, a1, ?_⟩
            rw [List.getD_eq_getElem?_getD, List.getElem?_append_right (by rw [hE.1]; exact Nat.le_refl _), hE.1, Nat.sub_self, t2 i hil]
            rfl
        · rw [h1] at hea
          rw [hea] at hEV
          exact Kf f me2 ln2 aa2 sa2 hEV (fl_YF_t hFb (fl_YF_m (by omega) (by omega) h2))
        · -- the value of one element
          rw [h1] at hea
          have hvx : ∃ x, v = .inl x := by
            cases v with
            | inl x => exact ⟨x, rfl⟩
            | inr x => simp [fl_tg] at h4
          obtain ⟨x, rfl⟩ := hvx
          obtain ⟨h31, h32⟩ := h3
          obtain ⟨m3, rfl⟩ : ∃ m3, m2 = m3 + 1 := ⟨m2 - 1, by omega⟩
          have g8 := h2.1 (8 + fl_lev bs) (by omega)
          have g10 := h2.1 (10 + fl_lev bs) (by omega)
          have ga := h2.2 (fl_lev bs) (by omega)
          have hF2 : fl_YF (fl_bas bs + s2.length) (fl_lev bs) me ln aa sa me2 ln2 aa2 sa2 := fl_YF_t hF (fl_YF_m (Nat.le_refl _) (by omega) h2)
          have hkp : (b_kinds q = 15 ∧ decide (b_kinds q = 16) = false) ∨ (b_kinds q = 16 ∧ decide (b_kinds q = 16) = true) := by
            rcases k3 with w | w
            · exact Or.inl ⟨w, by rw [w]; decide⟩
            · exact Or.inr ⟨w, by rw [w]; decide⟩
          have hpkl : (fl_pk (decide (b_kinds q = 16)) xs[i] x).length ≤ 1 := by
            unfold fl_pk; split
            · split <;> simp
            · simp
          refine fl_yfin (b_mem := me2) (b_lens := ln2) (b_at := aa2) (b_start := sa2) (p := p) (len := xs.length) (x := x) (y := xs[i]) (ys := ys) hT l4 (by omega) hkp l2 hh3 (by omega) h31 (by rw [ga.1]; exact a1) hil m2 (by rw [g8.1]; exact t1) (by rw [g8.2 i hi4]; exact t2 i hil) (by rw [g10.1]; exact y1) y2 (fun j hj => by rw [g10.2 j (by omega)]; exact y3 j hj) (by rw [ga.2]; exact s1) (fun w me3 ln3 e1 e2 e3 => ?_) (fun w me3 ln3 e1 e2 e3 => ?_)
          · refine dih (i + 1) me3 ln3 _ sa2 (stp2 + 1) m3 (ys ++ fl_pk (decide (b_kinds q = 16)) xs[i] x) (by omega) (by omega) (fl_YF_t hF2 ⟨fun t ht => e3 t (by omega), fun v hv => ⟨by rw [upd, if_neg (by omega)], rfl⟩⟩) (by rw [(e3 _ (by omega)).1, g8.1]; exact t1) (fun j hj => by rw [(e3 _ (by omega)).2 j (by omega), g8.2 j (by omega)]; exact t2 j hj) fl_ups (by rw [ga.2]; exact s1) e1 (by rw [List.length_append]; omega) e2 ?_ ?_ (by omega)
            · rw [hea]
              dsimp only
              generalize fl_ea (decide (b_kinds q = 16)) (fun x i => fl_EV b_kinds b_args T R rw r (p + 1) [] (e ++ [(x, nI i)])) (xs.drop (i + 1)) (i + 1) = o
              cases o with
              | inl g => rfl
              | inr zs => simp [fl_vi]
            · generalize (q - (p + 1)) * fl_w (fl_lev bs + 1) = P at hb h5 ⊢
              generalize d * (P + 1) = Q at hb ⊢
              generalize (fl_qe b_kinds T bs - (q + 1)) * fl_w (fl_lev bs) = S at hb ⊢
              omega
          · have hd0 : d = 0 := by omega
            subst hd0
            have hdr : xs.drop (i + 1) = [] := List.drop_eq_nil_of_le (by omega)
            refine after (ys ++ fl_pk (decide (b_kinds q = 16)) xs[i] x) me3 ln3 _ sa2 (stp2 + 1) m3 ?_ (fl_YF_m (by omega) (Nat.le_refl _) (fl_YF_t hF2 ⟨fun t ht => e3 t (by omega) (by omega), fun v hv => ⟨by rw [upd, if_neg (by omega)], rfl⟩⟩)) ⟨⟨e1, by rw [List.length_append]; omega, e2⟩, fl_MS_c (fun hh a b => ?_) m4⟩ ?_ (by omega)
            · rw [hea]
              dsimp only
              rw [hdr]
              simp [fl_ea, fl_vi]
            · have q1 := e3 (4 + hh) (by omega) (by omega)
              have q2 := hF2.1 (4 + hh) (by omega)
              exact ⟨q1.1.trans q2.1, fun j hj => (q1.2 j hj).trans (q2.2 j hj)⟩
            · generalize (q - (p + 1)) * fl_w (fl_lev bs + 1) = P at hb h5 ⊢
              generalize (fl_qe b_kinds T bs - (q + 1)) * fl_w (fl_lev bs) = S at hb ⊢
              omega
    -- the opening
    refine fl_y10 hpT hT (by omega) ?_
    rw [show fl_tk (b_kinds p) = 1 by rw [hk]; decide, hk]
    refine fl_y78 (h := fl_bas bs + s2.length + 1) (by decide) (by decide) (by omega) (by omega) (br_f (by decide) (br_f (by decide) (br_t (by decide) (br_t rfl ?_))))
    have cs : (nI (4 + (fl_bas bs + s2.length + 1 - 1))).toNatClampNeg = 4 + (fl_bas bs + s2.length) := nI_clamp (by omega)
    rw [cs, m1']
    refine ⟨vp_in_nI (by omega) (by decide), ?_⟩
    cases xs with
    | nil =>
      refine br_t rfl (br_f (by decide) (br_f (by decide) fun a ea => br_f (by decide) (fl_y349 hT hpT ?_)))
      rw [nI_1] at ea
      subst ea
      rw [hq]
      exact after [] me ln aa sa (stp + 1) m0 rfl fl_YF_r hM (fl_bud1 (by omega) hqq.1 hw hK) (by omega)
    | cons x0 xs0 =>
      refine br_f (nI_ne0 (by simp) (by simp at m2 ⊢; omega)) (br_f (by decide) (br_t rfl (br_t rfl (br_f (by decide) (br_f (by decide) (br_t rfl ?_))))))
      have e8 : (8 : Int32) + nI (fl_lev bs) = nI (8 + fl_lev bs) := nI_add 8 _
      have e10 : (10 : Int32) + nI (fl_lev bs) = nI (10 + fl_lev bs) := nI_add 10 _
      have cV : (nI (fl_lev bs)).toNatClampNeg = fl_lev bs := nI_clamp (by omega)
      have c10 : (nI (10 + fl_lev bs)).toNatClampNeg = 10 + fl_lev bs := nI_clamp (by omega)
      rw [e8, e10, cV, c10]
      refine fl_ycopy (a := 4 + (fl_bas bs + s2.length)) (by omega) (by omega) (by omega) fun me1 u1 u2 => ⟨vp_in_nI (by omega) (by decide), fun a ea => ⟨vp_in_nI l2 (by decide), fun b eb' c ec => ⟨vp_in_nI l2 (by decide), fun d ed f ef' g eg => ?_⟩⟩⟩
      rw [nI_1] at ec ef' eg
      subst ea; subst eb'; subst ec; subst ed; subst ef'; subst eg
      refine LOOP (x0 :: xs0).length 0 me1 _ _ _ (stp + 1) m0 [] (by omega) (by simp) ⟨fun t ht => ⟨?_, fun j hj => u2 _ (by omega)⟩, fun v hv => ⟨by rw [upd, if_neg (by omega)], by rw [upd, if_neg (by omega)]⟩⟩ ?_ (fun j hj => ?_) fl_ups fl_ups fl_ups (Nat.le_refl _) (fun j hj => absurd hj (Nat.not_lt_zero _)) ?_ ?_ (by omega)
      · rw [upd, if_neg (by omega), upd, if_neg (by omega)]
      · rw [upd, if_neg (by omega), fl_ups]; exact m1'
      · rw [u1 j (by omega)]; exact m3 j hj
      · rw [List.drop_zero]
        generalize fl_ea (decide (b_kinds q = 16)) (fun x i => fl_EV b_kinds b_args T R rw r (p + 1) [] (e ++ [(x, nI i)])) (x0 :: xs0) 0 = o
        cases o <;> rfl
      · rw [hws]
        rw [hws] at hK
        exact fl_bud2 l3 hqq.1 hw1 m2 hK
  · -- END, KEEP
    obtain ⟨B, bs, c1, hB, hcl, c2⟩ := fl_at15 G hpT hk
    have es : fl_fr (fl_csf b_kinds b_args p).1 (fl_csf b_kinds b_args p).2 = [false] := by rw [c1]; dsimp only; rw [fl_fr, if_pos hB]
    have eq : fl_qe b_kinds T (fl_csf b_kinds b_args p).2 = p := by rw [c1]; dsimp only; rw [fl_qe, if_pos hB]; exact hcl
    rw [es] at hs
    obtain ⟨v, rfl, hv⟩ := fl_sh_1 hs
    rw [eq] at Kd hK
    exact Kd v me ln aa sa stp (m0 + 1) (fl_EV_E hk _ _) fl_YF_r hM.1 (by rw [es, hv]) (by omega) hm
  · -- THEN
    obtain ⟨r', bs, t, c1, c2, l1, l2, l3, c3, k3, c4⟩ := fl_at17 G hpT hk
    have hqq := fl_qe_le G (p := fl_cl b_kinds T p + 1) (by omega) _ [] rfl
    have hqp := fl_qe_le G (p := p + 1) (by omega) _ [] rfl
    obtain ⟨n1, n2, n3, n4⟩ := fl_ne14 b_kinds T (B := (17, p, false, r')) (show ¬ (17 : Int32) = 14 by decide) [] bs
    obtain ⟨o1, o2, o3, o4⟩ := fl_ne14 b_kinds T (B := (18, fl_cl b_kinds T p, t, r')) (show ¬ (18 : Int32) = 14 by decide) [] bs
    rw [c4] at hqq
    rw [c2] at hqp
    rw [c1] at hs hM hE hK Kf Kd hqe hw hbnd hfl hsl ⊢
    dsimp only at hs hM hE hK Kf Kd hqe hw hbnd hfl hsl hqq hqp ⊢
    rw [o3] at hqq
    rw [n3] at hqp
    rw [fl_fr_cons] at hs
    obtain ⟨x, s2, rfl, hs2⟩ := fl_sh_i hs
    obtain ⟨⟨m1, -⟩, m4⟩ := hM
    have hEV := fl_EV_17 (kd := b_kinds) (ag := b_args) (R := R) (rw := rw) (r := r) hpT hk x s2 e
    rw [fl_ft_cons, List.length_cons] at hbnd hfl
    simp only [fl_fr_cons, List.length_cons] at hfl hsl
    refine fl_y10 hpT hT (by omega) ?_
    rw [show fl_tk (b_kinds p) = 1 by rw [hk]; decide, hk]
    refine fl_y78 (h := fl_bas bs + s2.length + 1) (by decide) (by decide) (by omega) (by omega) (fl_y213c (by decide) (br_t rfl (br_f (by decide) (br_t rfl ?_))))
    have m1' : me ((4 + (fl_bas bs + s2.length + 1 - 1)) * 4) = x := m1
    rw [m1']
    refine br_c (fun h0 => fl_y349 hT hpT ?_) fun h0 => br_f (by decide) (br_f (by decide) (br_f (by decide) fun a ea b eb => ?_))
    · have ihq := ih (fl_cl b_kinds T p + 1) s2 e me ln aa sa (stp + 1) m0 K (by omega) (by omega)
      rw [c4] at ihq
      dsimp only at ihq
      rw [o1, o2, o3, o4] at ihq
      rw [if_pos h0] at hEV
      exact ihq hs2 m4 hE hW (fl_bud1 (by omega) hqq.1 hw hK) hK9 (by omega) (fun f me2 ln2 aa2 sa2 h1 h2 => Kf f me2 ln2 aa2 sa2 (hEV.trans h1) h2) (fun v me2 ln2 aa2 sa2 stp2 m2 h1 h2 h3 h4 h5 h6 => Kd v me2 ln2 aa2 sa2 stp2 m2 (hEV.trans h1) h2 h3 h4 h5 h6)
    · rw [nI_1] at ea eb
      subst ea; subst eb
      have ihq := ih (p + 1) s2 e me ln aa sa (stp + 1) m0 K (by omega) (by omega)
      rw [c2] at ihq
      dsimp only at ihq
      rw [n1, n2, n3, n4] at ihq
      rw [if_neg h0] at hEV
      exact ihq hs2 m4 hE hW (fl_bud1 (by omega) hqp.1 hw hK) hK9 (by omega) (fun f me2 ln2 aa2 sa2 h1 h2 => Kf f me2 ln2 aa2 sa2 (hEV.trans h1) h2) (fun v me2 ln2 aa2 sa2 stp2 m2 h1 h2 h3 h4 h5 h6 => Kd v me2 ln2 aa2 sa2 stp2 m2 (hEV.trans h1) h2 h3 h4 h5 h6)
  · -- ELSE
    obtain ⟨B, bs, t, c1, hB, hcl, c2, l2, l3, c3, k3, c4⟩ := fl_at18 G hpT hk
    have hqq := fl_qe_le G (p := fl_cl b_kinds T p + 1) (by omega) _ [] rfl
    obtain ⟨n1, n2, n3, n4⟩ := fl_ne14 b_kinds T (B := B) (show ¬ B.1 = 14 by rw [hB]; decide) [t] bs
    rw [c4] at hqq
    rw [c1] at hs hM hE hK Kf Kd hqe hw hbnd hfl hsl ⊢
    dsimp only at hs hM hE hK Kf Kd hqe hw hbnd hfl hsl hqq ⊢
    rw [n1] at hM Kf Kd hfl ⊢
    rw [n2] at hE hK Kf Kd hw hbnd ⊢
    rw [n3] at hK Kd hqe
    rw [n4] at hs hsl hfl
    have hEV := fl_EV_18 (kd := b_kinds) (ag := b_args) (R := R) (rw := rw) (r := r) hpT hk s e
    refine fl_y10 hpT hT (by omega) ?_
    rw [show fl_tk (b_kinds p) = 0 by rw [hk]; decide, hk]
    refine fl_y78 (by decide) (by decide) (by omega) (by omega) (fl_y213c (by decide) (br_t rfl (br_t rfl (fl_y349 hT hpT ?_))))
    have ihq := ih (fl_cl b_kinds T p + 1) s e me ln aa sa (stp + 1) m0 K (by omega) (by omega)
    rw [c4] at ihq
    dsimp only at ihq
    exact ihq (by rw [hs, fl_fr_cons]; rfl) hM hE hW (fl_bud1 (by omega) hqq.1 hw hK) hK9 (by omega) (fun f me2 ln2 aa2 sa2 h1 h2 => Kf f me2 ln2 aa2 sa2 (hEV.trans h1) h2) (fun v me2 ln2 aa2 sa2 stp2 m2 h1 h2 h3 h4 h5 h6 => Kd v me2 ln2 aa2 sa2 stp2 m2 (hEV.trans h1) h2 h3 h4 h5 h6)
  · -- FI
    obtain ⟨B, bs, t, c1, hB, hcl, c4⟩ := fl_at19 G hpT hk
    have hqq := fl_qe_le G (p := p + 1) (by omega) _ [] rfl
    obtain ⟨n1, n2, n3, n4⟩ := fl_ne14 b_kinds T (B := B) (show ¬ B.1 = 14 by rw [hB]; decide) [t] bs
    rw [c4] at hqq
    rw [c1] at hs hM hE hK Kf Kd hqe hw hbnd hfl hsl ⊢
    dsimp only at hs hM hE hK Kf Kd hqe hw hbnd hfl hsl hqq ⊢
    rw [n1] at hM Kf Kd hfl ⊢
    rw [n2] at hE hK Kf Kd hw hbnd ⊢
    rw [n3] at hK Kd hqe
    rw [n4] at hs hsl hfl
    have hEV := fl_EV_19 (kd := b_kinds) (ag := b_args) (R := R) (rw := rw) (r := r) hpT hk s e
    refine fl_y10 hpT hT (by omega) ?_
    rw [show fl_tk (b_kinds p) = 0 by rw [hk]; decide, hk]
    refine fl_y78 (by decide) (by decide) (by omega) (by omega) (fl_y213c (by decide) (br_t rfl (br_f (by decide) (br_f (by decide) (br_f (by decide) (br_f (by decide) (br_f (by decide) fun a ea b eb => ?_)))))))
    rw [nI_1] at ea eb
    subst ea; subst eb
    have ihq := ih (p + 1) s e me ln aa sa (stp + 1) m0 K (by omega) (by omega)
    rw [c4] at ihq
    dsimp only at ihq
    exact ihq (by rw [hs, fl_fr_cons]; rfl) hM hE hW (fl_bud1 (by omega) hqq.1 hw hK) hK9 (by omega) (fun f me2 ln2 aa2 sa2 h1 h2 => Kf f me2 ln2 aa2 sa2 (hEV.trans h1) h2) (fun v me2 ln2 aa2 sa2 stp2 m2 h1 h2 h3 h4 h5 h6 => Kd v me2 ln2 aa2 sa2 stp2 m2 (hEV.trans h1) h2 h3 h4 h5 h6)
end YSM
end
section
/-! Y: work as a whole -/
def fl_RC : fl_F ⊕ fl_V → Int32 → Int32 → (Nat → Int32) → Prop
  | .inl f, k, l, c => k = 3 ∧ l = 2 ∧ c 0 = nI f.1 ∧ c 1 = f.2
  | .inr (.inl x), k, l, c => k = 1 ∧ l = 1 ∧ c 0 = x
  | .inr (.inr xs), k, l, c => k = 2 ∧ l = nI xs.length ∧ xs.length ≤ 4 ∧ ∀ i (hi : i < xs.length), c i = xs[i]
theorem fl_RC_2 {o : fl_F ⊕ fl_V} {k k' l l' : Int32} {c c' : Nat → Int32} (h : fl_RC o k l c) (h' : fl_RC o k' l' c') : k = k' ∧ l = l' ∧ ∃ n, n ≤ 4 ∧ l = nI n ∧ ∀ i, i < n → c i = c' i := by
  rcases o with f | x | xs
  · obtain ⟨h1, h2, h3, h4⟩ := h
    obtain ⟨g1, g2, g3, g4⟩ := h'
    refine ⟨by rw [h1, g1], by rw [h2, g2], 2, by decide, h2, fun i hi => ?_⟩
    have : i = 0 ∨ i = 1 := by omega
    rcases this with rfl | rfl
    · rw [h3, g3]
    · rw [h4, g4]
  · obtain ⟨h1, h2, h3⟩ := h
    obtain ⟨g1, g2, g3⟩ := h'
    refine ⟨by rw [h1, g1], by rw [h2, g2], 1, by decide, h2, fun i hi => ?_⟩
    have : i = 0 := by omega
    subst this
    rw [h3, g3]
  · obtain ⟨h1, h2, h3, h4⟩ := h
    obtain ⟨g1, g2, g3, g4⟩ := h'
    exact ⟨by rw [h1, g1], by rw [h2, g2], xs.length, h3, h2, fun i hi => by rw [h4 i hi, g4 i hi]⟩
section YWK
variable {g_rowCap g_cellCap g_tokenCap g_rows g_tokens g_height g_blocks g_status : Int32} {b_mem b_lens b_recKind b_kinds b_args b_at b_start b_types b_blockKind b_blockBase b_blockType : Nat → Int32} {r R T : Nat} {post : SY → Prop}
theorem fl_ywork {rw : Nat → List Int32} (G : fl_Gd b_kinds b_args T) (hT : T ≤ 40) (hr : r < R) (hR : R ≤ 4) (hW : fl_YR R rw b_mem b_lens) (hty : ∀ t, fl_csf b_kinds b_args T = ([t], []) → b_types 0 = fl_tI t)
    (K : ∀ rk me ln aa sa, (∀ j, j ≠ r → rk j = b_recKind j) → (∀ t, (t < 4 ∨ (12 ≤ t ∧ t ≠ 12 + r)) → ln t = b_lens t ∧ ∀ i, i < 4 → me (t * 4 + i) = b_mem (t * 4 + i)) → fl_RC (fl_EV b_kinds b_args T R rw r 0 [] []) (rk r) (ln (12 + r)) (fun i => me ((12 + r) * 4 + i)) → post (g_rowCap, g_cellCap, g_tokenCap, nI R, nI T, g_height, g_blocks, g_status, me, ln, rk, b_kinds, b_args, aa, sa, b_types, b_blockKind, b_blockBase, b_blockType)) :
    wpY_work post (g_rowCap, g_cellCap, g_tokenCap, nI R, nI T, g_height, g_blocks, g_status, b_mem, b_lens, b_recKind, b_kinds, b_args, b_at, b_start, b_types, b_blockKind, b_blockBase, b_blockType) (nI r) := by
  refine ⟨1001, ?_⟩
  have h0 : fl_csf b_kinds b_args 0 = ([], []) := rfl
  obtain ⟨t, et⟩ := G.2.2
  have key := fl_YS (post := post) (g_rowCap := g_rowCap) (g_cellCap := g_cellCap) (g_tokenCap := g_tokenCap) (g_height := g_height) (g_blocks := g_blocks) (g_status := g_status) (b_recKind := b_recKind) (b_types := b_types) (b_blockKind := b_blockKind) (b_blockBase := b_blockBase) (b_blockType := b_blockType) (rw := rw) G hT hr hR (T + 1) 0 [] [] b_mem b_lens b_at b_start 0 1001 640 (by omega) (by omega)
  rw [h0] at key
  dsimp only [fl_bas, fl_lev, fl_qe, fl_w] at key
  refine key rfl trivial ⟨rfl, fun v hv => absurd hv (Nat.not_lt_zero _)⟩ hW (show 0 + (T - 0) * 16 ≤ 640 by omega) (by decide) rfl (fun f me ln aa sa h1 h2 => ?_) (fun v me ln aa sa stp m h1 h2 h3 h4 h5 h6 => ?_)
  · refine K _ _ _ _ _ (fun j hj => by rw [upd, if_neg hj]) (fun t ht => ?_) ?_
    · have := h2.1 t (by omega)
      exact ⟨by rw [upd, if_neg (by omega)]; exact this.1, fun i hi => by rw [upd, if_neg (by omega), upd, if_neg (by omega)]; exact this.2 i hi⟩
    · rw [h1]
      refine ⟨fl_ups, fl_ups, ?_, fl_ups⟩
      show upd _ _ _ _ = _
      rw [upd, if_neg (by omega)]; exact fl_ups
  · rw [et] at h4
    have h4 : [fl_tg v] = [t] := h4
    injection h4 with h4 _
    obtain ⟨m0, rfl⟩ : ∃ m0, m = m0 + 1 := ⟨m - 1, by omega⟩
    have e12 : (12 : Int32) + nI r = nI (12 + r) := nI_add 12 r
    refine br_f (nI_ge (b := 1000) (by omega) (by decide)) (br_t (nI_le (Nat.le_refl _) (by omega)) ⟨vp_in_nI (by omega) (by decide), fun a ea => ?_⟩)
    rw [nI_clamp (by omega), hty t et] at ea
    subst ea
    rw [e12]
    refine fl_ycopy (a := 4) (by omega) (by omega) (by omega) fun me2 u1 u2 => K _ _ _ _ _ (fun j hj => by rw [upd, if_neg hj]) (fun t ht => ?_) ?_
    · have := h2.1 t (by omega)
      exact ⟨by rw [upd, if_neg (by omega)]; exact this.1, fun i hi => by rw [u2 _ (by omega)]; exact this.2 i hi⟩
    · rw [h1, fl_ups, fl_ups]
      cases v with
      | inl x =>
        obtain ⟨w1, w2⟩ := h3
        refine ⟨by rw [← h4]; rfl, w2 trivial, ?_⟩
        show me2 _ = _
        rw [u1 0 (by omega)]; exact w1
      | inr xs =>
        obtain ⟨w1, w2, w3⟩ := h3
        refine ⟨by rw [← h4]; rfl, w1, w2, fun i hi => ?_⟩
        show me2 _ = _
        rw [u1 i (by omega)]; exact w3 i hi
end YWK
end
section
/-! X: the invariant of the run -/
def fl_xe (P K : Nat → Nat → Nat) (el : Nat → Int32) : Nat → Nat → fl_E
  | 0, _ => []
  | v + 1, l => fl_xe P K el v (P (v + 1) l) ++ [(el ((v + 1) * 64 + l), nI (K (v + 1) l))]
def fl_XM (ln ce : Nat → Int32) (v l b : Nat) (s : List fl_V) : Prop := fl_MS False (fun h => ln ((v * 4 + h) * 64 + l)) (fun h i => ce (((v * 4 + h) * 64 + l) * 4 + i)) b s
def fl_rp (kd : Nat → Int32) (T : Nat) : List fl_Bl → Nat → Nat
  | [], _ => 0
  | B :: bs, b => if b = bs.length + 1 then fl_cl kd T B.2.1 + 1 else fl_rp kd T bs b
def fl_cp (kd : Nat → Int32) (T : Nat) (bs : List fl_Bl) (f p : Nat) : Nat := if f = 0 then p else fl_rp kd T bs f
def fl_LC (kd : Nat → Int32) (ag : Nat → Int32) (T : Nat) (R : Nat) (rw : Nat → List Int32) (O : Nat → Nat → Nat) (P : Nat → Nat → Nat) (K : Nat → Nat → Nat) (el : Nat → Int32) (ln : Nat → Int32) (ce : Nat → Int32) (bs : List fl_Bl) (v l cp : Nat) : Prop := ∃ s, fl_bas bs + s.length ≤ 4 ∧ fl_XM ln ce v l (fl_bas bs) s ∧ s.map fl_tg = fl_fr (fl_csf kd ag cp).1 (fl_csf kd ag cp).2 ∧ fl_EV kd ag T R rw (O v l) (fl_sP bs) [] (fl_xe P K el v l) = fl_EV kd ag T R rw (O v l) cp s (fl_xe P K el v l)
def fl_FC (kd : Nat → Int32) (ag : Nat → Int32) (T : Nat) (R : Nat) (rw : Nat → List Int32) (P : Nat → Nat → Nat) (K : Nat → Nat → Nat) (el : Nat → Int32) (rk : Nat → Int32) (rl : Nat → Int32) (rc : Nat → Int32) (bs : List fl_Bl) (v l r : Nat) : Prop := ∃ f, fl_EV kd ag T R rw r (fl_sP bs) [] (fl_xe P K el v l) = .inl f ∧ fl_RC (.inl f) (rk r) (rl r) (fun i => rc (r * 4 + i))
def fl_XR (R : Nat) (N : Nat → Nat) (O : Nat → Nat → Nat) (P : Nat → Nat → Nat) (K : Nat → Nat → Nat) (F : Nat → Nat → Nat) (C : Nat → Nat → Nat) (lc : Nat → Int32) (ow : Nat → Int32) (pa : Nat → Int32) (pl : Nat → Int32) (of : Nat → Int32) (ct : Nat → Int32) (V : Nat) : Prop :=
  ∀ v, v ≤ V → lc v = nI (N v) ∧ N v ≤ 4 ^ (v + 1) ∧ (∀ l, l < N v → ow (v * 64 + l) = nI (O v l) ∧ O v l < R ∧ of (v * 64 + l) = nI (F v l) ∧ F v l ≤ 6 ∧ (0 < v → pa (v * 64 + l) = nI (P v l) ∧ P v l < N (v - 1) ∧ pl (v * 64 + l) = nI (K v l) ∧ K v l < 4)) ∧ ∀ r, r < 4 → ct (v * 4 + r) = nI (C v r) ∧ C v r ≤ 64
def fl_CU (kd : Nat → Int32) (ag : Nat → Int32) (T : Nat) (R : Nat) (rw : Nat → List Int32) (N : Nat → Nat) (O : Nat → Nat → Nat) (P : Nat → Nat → Nat) (K : Nat → Nat → Nat) (F : Nat → Nat → Nat) (C : Nat → Nat → Nat) (D : Nat → Nat → Nat) (el : Nat → Int32) (ln : Nat → Int32) (ce : Nat → Int32) (rk : Nat → Int32) (rl : Nat → Int32) (rc : Nat → Int32) (bs : List fl_Bl) (q : Nat → Nat) : Prop :=
  (∀ l, l < N (fl_lev bs) → l < C (fl_lev bs) (O (fl_lev bs) l) → fl_LC kd ag T R rw O P K el ln ce bs (fl_lev bs) l (fl_cp kd T bs (F (fl_lev bs) l) (q l))) ∧
  (∀ l, l < N (fl_lev bs) → F (fl_lev bs) l = 0 ∨ (fl_fl bs < F (fl_lev bs) l ∧ F (fl_lev bs) l ≤ bs.length)) ∧
  (∀ r, r < 4 → C (fl_lev bs) r < 64 → C (fl_lev bs) r < N (fl_lev bs) ∧ O (fl_lev bs) (C (fl_lev bs) r) = r ∧ fl_FC kd ag T R rw P K el rk rl rc bs (fl_lev bs) (C (fl_lev bs) r) r)
/-- a lane that has been spread: its children -/
def fl_CH (kd : Nat → Int32) (ag : Nat → Int32) (T : Nat) (R : Nat) (rw : Nat → List Int32) (O : Nat → Nat → Nat) (P : Nat → Nat → Nat) (K : Nat → Nat → Nat) (el : Nat → Int32) (ln : Nat → Int32) (ce : Nat → Int32) (B : fl_Bl) (rest : List fl_Bl) (st : Nat → Nat) (v l : Nat) : Prop :=
  ∃ xs s, fl_bas rest + s.length + 1 ≤ 4 ∧ fl_XM ln ce v l (fl_bas rest) (.inr xs :: s) ∧ s.map fl_tg = fl_fr B.2.2.2 rest ∧ fl_EV kd ag T R rw (O v l) (fl_sP rest) [] (fl_xe P K el v l) = fl_EV kd ag T R rw (O v l) B.2.1 (.inr xs :: s) (fl_xe P K el v l) ∧ st (l + 1) = st l + xs.length ∧ ∀ i (hi : i < xs.length), el ((v + 1) * 64 + (st l + i)) = xs[i] ∧ P (v + 1) (st l + i) = l ∧ K (v + 1) (st l + i) = i ∧ O (v + 1) (st l + i) = O v l
def fl_P1 (kd : Nat → Int32) (ag : Nat → Int32) (T : Nat) (R : Nat) (rw : Nat → List Int32) (N : Nat → Nat) (O : Nat → Nat → Nat) (P : Nat → Nat → Nat) (K : Nat → Nat → Nat) (F : Nat → Nat → Nat) (C : Nat → Nat → Nat) (D : Nat → Nat → Nat) (el : Nat → Int32) (ln : Nat → Int32) (ce : Nat → Int32) (rk : Nat → Int32) (rl : Nat → Int32) (rc : Nat → Int32) (B : fl_Bl) (rest : List fl_Bl) (v : Nat) : Prop :=
  (∃ st : Nat → Nat, st 0 = 0 ∧ st (N v) = N (v + 1) ∧ ∀ l, l < N v → (F v l = 0 → l < D v (O v l) → fl_CH kd ag T R rw O P K el ln ce B rest st v l) ∧ (¬ (F v l = 0 ∧ l < D v (O v l)) → st (l + 1) = st l)) ∧
  (∀ l, l < N v → ¬ F v l = 0 → l < D v (O v l) → fl_LC kd ag T R rw O P K el ln ce rest v l (fl_rp kd T rest (F v l))) ∧
  (∀ l, l < N v → F v l = 0 ∨ (fl_fl rest < F v l ∧ F v l ≤ rest.length))
def fl_P2 (kd : Nat → Int32) (ag : Nat → Int32) (T : Nat) (R : Nat) (rw : Nat → List Int32) (N : Nat → Nat) (O : Nat → Nat → Nat) (P : Nat → Nat → Nat) (K : Nat → Nat → Nat) (F : Nat → Nat → Nat) (C : Nat → Nat → Nat) (D : Nat → Nat → Nat) (el : Nat → Int32) (ln : Nat → Int32) (ce : Nat → Int32) (rk : Nat → Int32) (rl : Nat → Int32) (rc : Nat → Int32) (rest : List fl_Bl) (v : Nat) : Prop :=
  ∀ r, r < 4 → D v r ≤ 64 ∧ (D v r < 64 → D v r < N v ∧ O v (D v r) = r) ∧ (C (v + 1) r = 64 → C v r = D v r ∧ (D v r < 64 → fl_FC kd ag T R rw P K el rk rl rc rest v (D v r) r)) ∧ (C (v + 1) r < 64 → C v r = P (v + 1) (C (v + 1) r))
def fl_XJ (kd : Nat → Int32) (ag : Nat → Int32) (T : Nat) (R : Nat) (rw : Nat → List Int32) (N : Nat → Nat) (O : Nat → Nat → Nat) (P : Nat → Nat → Nat) (K : Nat → Nat → Nat) (F : Nat → Nat → Nat) (C : Nat → Nat → Nat) (D : Nat → Nat → Nat) (lc : Nat → Int32) (ow : Nat → Int32) (pa : Nat → Int32) (el : Nat → Int32) (pl : Nat → Int32) (of : Nat → Int32) (ct : Nat → Int32) (ln : Nat → Int32) (ce : Nat → Int32) (rk : Nat → Int32) (rl : Nat → Int32) (rc : Nat → Int32) (n0 : Nat) (fs : Nat) (rk0 : Nat → Int32) (rl0 : Nat → Int32) (rc0 : Nat → Int32) (bs : List fl_Bl) (q : Nat → Nat) : Prop :=
  fl_XR R N O P K F C lc ow pa pl of ct (fl_lev bs) ∧ fl_CU kd ag T R rw N O P K F C D el ln ce rk rl rc bs q ∧ (∀ X B rest, bs = X ++ B :: rest → B.1 = 14 → fl_P1 kd ag T R rw N O P K F C D el ln ce rk rl rc B rest (fl_lev rest) ∧ fl_P2 kd ag T R rw N O P K F C D el ln ce rk rl rc rest (fl_lev rest)) ∧ (N 0 = n0 ∧ ∀ l, l < n0 → O 0 l = fs + l) ∧ (∀ r, r < 4 → C 0 r = 64 → rk r = rk0 r ∧ rl r = rl0 r ∧ ∀ i, i < 4 → rc (r * 4 + i) = rc0 (r * 4 + i))
theorem fl_XM_c {ln ce ln' ce' : Nat → Int32} {v l b : Nat} {s : List fl_V} (hb : b + s.length ≤ 4) (h : ∀ h, h < 4 → ln' ((v * 4 + h) * 64 + l) = ln ((v * 4 + h) * 64 + l) ∧ ∀ i, i < 4 → ce' (((v * 4 + h) * 64 + l) * 4 + i) = ce (((v * 4 + h) * 64 + l) * 4 + i)) (H : fl_XM ln ce v l b s) : fl_XM ln' ce' v l b s :=
  fl_MS_c (fun hh _ b => h hh (by omega)) H
/-- the slots of level v, lane l are the same -/
def fl_AG (ln ce ln' ce' : Nat → Int32) (v l : Nat) : Prop := ∀ h, h < 4 → ln' ((v * 4 + h) * 64 + l) = ln ((v * 4 + h) * 64 + l) ∧ ∀ i, i < 4 → ce' (((v * 4 + h) * 64 + l) * 4 + i) = ce (((v * 4 + h) * 64 + l) * 4 + i)
section XIN
variable {kd : Nat → Int32} {ag : Nat → Int32} {T : Nat} {R : Nat} {rw : Nat → List Int32} {N : Nat → Nat} {O : Nat → Nat → Nat} {P : Nat → Nat → Nat} {K : Nat → Nat → Nat} {F : Nat → Nat → Nat} {C : Nat → Nat → Nat} {D : Nat → Nat → Nat} {lc : Nat → Int32} {ow : Nat → Int32} {pa : Nat → Int32} {el : Nat → Int32} {pl : Nat → Int32} {of : Nat → Int32} {ct : Nat → Int32} {ln : Nat → Int32} {ce : Nat → Int32} {rk : Nat → Int32} {rl : Nat → Int32} {rc : Nat → Int32} {n0 : Nat} {fs : Nat} {rk0 : Nat → Int32} {rl0 : Nat → Int32} {rc0 : Nat → Int32} {ln' ce' el' : Nat → Int32} {O' P' K' : Nat → Nat → Nat}
theorem fl_LC_c {bs : List fl_Bl} {v l cp : Nat} (h : fl_AG ln ce ln' ce' v l) (H : fl_LC kd ag T R rw O P K el ln ce bs v l cp) : fl_LC kd ag T R rw O P K el ln' ce' bs v l cp := by
  obtain ⟨s, h1, h2, h3, h4⟩ := H
  exact ⟨s, h1, fl_XM_c h1 h h2, h3, h4⟩
theorem fl_LC_g {bs : List fl_Bl} {v l cp : Nat} (hO : O' v l = O v l) (hx : fl_xe P' K' el' v l = fl_xe P K el v l) (H : fl_LC kd ag T R rw O P K el ln ce bs v l cp) : fl_LC kd ag T R rw O' P' K' el' ln ce bs v l cp := by
  obtain ⟨s, h1, h2, h3, h4⟩ := H
  exact ⟨s, h1, h2, h3, by rw [hO, hx]; exact h4⟩
theorem fl_LC_b {bs bs' : List fl_Bl} {v l cp : Nat} (h1 : fl_bas bs' = fl_bas bs) (h2 : fl_sP bs' = fl_sP bs) (H : fl_LC kd ag T R rw O P K el ln ce bs v l cp) : fl_LC kd ag T R rw O P K el ln ce bs' v l cp := by
  unfold fl_LC at *
  rw [h1, h2]
  exact H
theorem fl_CH_c {B : fl_Bl} {rest : List fl_Bl} {st : Nat → Nat} {v l : Nat} (h : fl_AG ln ce ln' ce' v l) (H : fl_CH kd ag T R rw O P K el ln ce B rest st v l) : fl_CH kd ag T R rw O P K el ln' ce' B rest st v l := by
  obtain ⟨xs, s, h1, h2, h3⟩ := H
  exact ⟨xs, s, h1, fl_XM_c (by rw [List.length_cons]; omega) h h2, h3⟩
theorem fl_CH_g {B : fl_Bl} {rest : List fl_Bl} {st : Nat → Nat} {v l : Nat} (hl : l < N v) (hs : ∀ i, st l + i < st (l + 1) → O' (v + 1) (st l + i) = O (v + 1) (st l + i) ∧ P' (v + 1) (st l + i) = P (v + 1) (st l + i) ∧ K' (v + 1) (st l + i) = K (v + 1) (st l + i) ∧ el' ((v + 1) * 64 + (st l + i)) = el ((v + 1) * 64 + (st l + i))) (hO : O' v l = O v l) (hx : fl_xe P' K' el' v l = fl_xe P K el v l) (H : fl_CH kd ag T R rw O P K el ln ce B rest st v l) : fl_CH kd ag T R rw O' P' K' el' ln ce B rest st v l := by
  obtain ⟨xs, s, h1, h2, h3, h4, h5, h6⟩ := H
  refine ⟨xs, s, h1, h2, h3, by rw [hO, hx]; exact h4, h5, fun i hi => ?_⟩
  obtain ⟨a1, a2, a3, a4⟩ := h6 i hi
  obtain ⟨b1, b2, b3, b4⟩ := hs i (by omega)
  exact ⟨by rw [b4]; exact a1, by rw [b2]; exact a2, by rw [b3]; exact a3, by rw [b1, hO]; exact a4⟩
theorem fl_P1_c {B : fl_Bl} {rest : List fl_Bl} {v : Nat} (h : ∀ l, l < N v → fl_AG ln ce ln' ce' v l) (H : fl_P1 kd ag T R rw N O P K F C D el ln ce rk rl rc B rest v) : fl_P1 kd ag T R rw N O P K F C D el ln' ce' rk rl rc B rest v := by
  obtain ⟨⟨st, s1, s2, s3⟩, h2, h3⟩ := H
  exact ⟨⟨st, s1, s2, fun l hl => ⟨fun a b => fl_CH_c (h l hl) ((s3 l hl).1 a b), (s3 l hl).2⟩⟩, fun l hl a b => fl_LC_c (h l hl) (h2 l hl a b), h3⟩
theorem fl_AG_o {v l V L k : Nat} {x : Int32} {a : Nat} (hl : l < 64) (hL : L < 64) (hne : v ≠ V ∨ l ≠ L) (hk : k < 4) (ha : a < 4) : fl_AG ln ce ln (upd ce (((V * 4 + k) * 64 + L) * 4 + a) x) v l := by
  intro h hh
  refine ⟨rfl, fun i hi => ?_⟩
  rw [upd, if_neg (by omega)]
theorem fl_pow {V v : Nat} (h : v ≤ V) (hV : V ≤ 2) : 4 ^ (v + 1) ≤ 64 := by
  have : v = 0 ∨ v = 1 ∨ v = 2 := by omega
  rcases this with rfl | rfl | rfl <;> decide
theorem fl_XR_N {V v : Nat} (H : fl_XR R N O P K F C lc ow pa pl of ct V) (hv : v ≤ V) (hV : V ≤ 2) : N v ≤ 64 := Nat.le_trans (H v hv).2.1 (fl_pow hv hV)
theorem fl_sfx_lev : ∀ (X : List fl_Bl) (B : fl_Bl) (rest : List fl_Bl), B.1 = 14 → fl_lev rest < fl_lev (X ++ B :: rest)
  | [], B, rest, h => by rw [List.nil_append, fl_lev, if_pos h]; omega
  | A :: X, B, rest, h => by
    have := fl_sfx_lev X B rest h
    rw [List.cons_append, fl_lev]; omega
/-- one lane more -/
theorem fl_xj_skip {bs : List fl_Bl} {p i : Nat} (hi : ¬ (F (fl_lev bs) i = 0 ∧ i < C (fl_lev bs) (O (fl_lev bs) i))) (H : fl_XJ kd ag T R rw N O P K F C D lc ow pa el pl of ct ln ce rk rl rc n0 fs rk0 rl0 rc0 bs (fun l => if l < i then p + 1 else p)) : fl_XJ kd ag T R rw N O P K F C D lc ow pa el pl of ct ln ce rk rl rc n0 fs rk0 rl0 rc0 bs (fun l => if l < i + 1 then p + 1 else p) := by
  obtain ⟨h1, ⟨c1, c2, c3⟩, h3⟩ := H
  refine ⟨h1, ⟨fun l hl ha => ?_, c2, c3⟩, h3⟩
  have c := c1 l hl ha
  by_cases e : l = i
  · subst e
    have hf : ¬ F (fl_lev bs) l = 0 := fun w => hi ⟨w, ha⟩
    unfold fl_cp at c ⊢
    rw [if_neg hf] at c ⊢
    exact c
  · have : (if l < i + 1 then p + 1 else p) = (if l < i then p + 1 else p) := by
      by_cases w : l < i
      · rw [if_pos w, if_pos (by omega)]
      · rw [if_neg w, if_neg (by omega)]
    dsimp only at c ⊢
    rw [this]
    exact c
/-- the claim of an active lane -/
theorem fl_xj_get {bs : List fl_Bl} {p i : Nat} (hi : i < N (fl_lev bs)) (hf : F (fl_lev bs) i = 0) (ha : i < C (fl_lev bs) (O (fl_lev bs) i)) (H : fl_XJ kd ag T R rw N O P K F C D lc ow pa el pl of ct ln ce rk rl rc n0 fs rk0 rl0 rc0 bs (fun l => if l < i then p + 1 else p)) : fl_LC kd ag T R rw O P K el ln ce bs (fl_lev bs) i p := by
  have := H.2.1.1 i hi ha
  dsimp only at this
  rw [if_neg (Nat.lt_irrefl _), fl_cp, if_pos hf] at this
  exact this
theorem fl_xj_ok {bs : List fl_Bl} {p i : Nat} {s s' : List fl_V} (hV : fl_lev bs ≤ 2) (hi : i < N (fl_lev bs)) (hf : F (fl_lev bs) i = 0) (H : fl_XJ kd ag T R rw N O P K F C D lc ow pa el pl of ct ln ce rk rl rc n0 fs rk0 rl0 rc0 bs (fun l => if l < i then p + 1 else p))
    (hE : fl_EV kd ag T R rw (O (fl_lev bs) i) (fl_sP bs) [] (fl_xe P K el (fl_lev bs) i) = fl_EV kd ag T R rw (O (fl_lev bs) i) (p + 1) s' (fl_xe P K el (fl_lev bs) i))
    (hag : ∀ v l, l < 64 → (v ≠ fl_lev bs ∨ l ≠ i) → fl_AG ln ce ln' ce' v l) (hb : fl_bas bs + s'.length ≤ 4) (hM : fl_XM ln' ce' (fl_lev bs) i (fl_bas bs) s') (ht : s'.map fl_tg = fl_fr (fl_csf kd ag (p + 1)).1 (fl_csf kd ag (p + 1)).2) : fl_XJ kd ag T R rw N O P K F C D lc ow pa el pl of ct ln' ce' rk rl rc n0 fs rk0 rl0 rc0 bs (fun l => if l < i + 1 then p + 1 else p) := by
  obtain ⟨h1, ⟨c1, c2, c3⟩, h3, h4, h5⟩ := H
  have hN := fl_XR_N h1 (Nat.le_refl _) hV
  refine ⟨h1, ⟨fun l hl ha => ?_, c2, c3⟩, fun X B rest e hB => ?_, h4, h5⟩
  · have c := c1 l hl ha
    by_cases e : l = i
    · subst e
      unfold fl_cp at c ⊢
      rw [if_pos hf] at c ⊢
      dsimp only
      rw [if_pos (Nat.lt_succ_self _)]
      exact ⟨s', hb, hM, ht, hE⟩
    · have : (if l < i + 1 then p + 1 else p) = (if l < i then p + 1 else p) := by
        by_cases w : l < i
        · rw [if_pos w, if_pos (by omega)]
        · rw [if_neg w, if_neg (by omega)]
      dsimp only at c ⊢
      rw [this]
      exact fl_LC_c (hag _ l (by omega) (Or.inr e)) c
  · have hlt := fl_sfx_lev X B rest hB
    rw [← e] at hlt
    have hN' := fl_XR_N h1 (Nat.le_of_lt hlt) hV
    exact ⟨fl_P1_c (fun l hl => hag _ l (by omega) (Or.inl (by omega))) (h3 X B rest e hB).1, (h3 X B rest e hB).2⟩
theorem fl_xj_end {bs : List fl_Bl} {p : Nat} (H : fl_XJ kd ag T R rw N O P K F C D lc ow pa el pl of ct ln ce rk rl rc n0 fs rk0 rl0 rc0 bs (fun l => if l < N (fl_lev bs) then p + 1 else p)) : fl_XJ kd ag T R rw N O P K F C D lc ow pa el pl of ct ln ce rk rl rc n0 fs rk0 rl0 rc0 bs (fun _ => p + 1) := by
  obtain ⟨h1, ⟨c1, c2, c3⟩, h3⟩ := H
  refine ⟨h1, ⟨fun l hl ha => ?_, c2, c3⟩, h3⟩
  have := c1 l hl ha
  dsimp only at this
  rw [if_pos hl] at this
  exact this
theorem fl_xj_beg {bs : List fl_Bl} {p : Nat} (H : fl_XJ kd ag T R rw N O P K F C D lc ow pa el pl of ct ln ce rk rl rc n0 fs rk0 rl0 rc0 bs (fun _ => p)) : fl_XJ kd ag T R rw N O P K F C D lc ow pa el pl of ct ln ce rk rl rc n0 fs rk0 rl0 rc0 bs (fun l => if l < 0 then p + 1 else p) := by
  have : (fun l => if l < 0 then p + 1 else p) = (fun _ : Nat => p) := by
    funext l; rw [if_neg (Nat.not_lt_zero _)]
  rw [this]; exact H
/-! the fault -/
def fl_an (P : Nat → Nat → Nat) : Nat → Nat → Nat → Nat
  | 0, l, _ => l
  | v + 1, l, u => if u = v + 1 then l else fl_an P v (P (v + 1) l) u
theorem fl_an_t : ∀ (v l : Nat), fl_an P v l v = l
  | 0, _ => rfl
  | v + 1, l => by rw [fl_an, if_pos rfl]
theorem fl_an_s : ∀ (v l u : Nat), u < v → fl_an P v l u = P (u + 1) (fl_an P v l (u + 1))
  | 0, _, u, h => absurd h (Nat.not_lt_zero _)
  | v + 1, l, u, h => by
    rw [fl_an, if_neg (by omega)]
    by_cases e : u = v
    · subst e
      rw [fl_an_t, fl_an_t]
    · rw [fl_an, if_neg (by omega)]
      exact fl_an_s v _ u (by omega)
theorem fl_an_lt {V : Nat} (H : fl_XR R N O P K F C lc ow pa pl of ct V) : ∀ (v l u : Nat), v ≤ V → l < N v → u ≤ v → fl_an P v l u < N u
  | 0, l, u, _, hl, hu => by
    have : u = 0 := by omega
    subst this
    exact hl
  | v + 1, l, u, hv, hl, hu => by
    rw [fl_an]
    split
    · rename_i e; rw [e]; exact hl
    · rename_i e
      exact fl_an_lt H v _ u (by omega) (((H (v + 1) hv).2.2.1 l hl).2.2.2.2 (by omega)).2.1 (by omega)
theorem fl_xj_flt {bs : List fl_Bl} {p i : Nat} {f : fl_F} {ct' rk' rl' rc' : Nat → Int32} (hV : fl_lev bs ≤ 2) (hR : R ≤ 4) (hi : i < N (fl_lev bs)) (ha : i < C (fl_lev bs) (O (fl_lev bs) i)) (H : fl_XJ kd ag T R rw N O P K F C D lc ow pa el pl of ct ln ce rk rl rc n0 fs rk0 rl0 rc0 bs (fun l => if l < i then p + 1 else p))
    (hE : fl_EV kd ag T R rw (O (fl_lev bs) i) (fl_sP bs) [] (fl_xe P K el (fl_lev bs) i) = .inl f)
    (hrk : ∀ r, r ≠ O (fl_lev bs) i → r < 4 → rk' r = rk r ∧ rl' r = rl r ∧ ∀ j, j < 4 → rc' (r * 4 + j) = rc (r * 4 + j)) (hrc : fl_RC (.inl f) (rk' (O (fl_lev bs) i)) (rl' (O (fl_lev bs) i)) (fun j => rc' (O (fl_lev bs) i * 4 + j)))
    (hc1 : ∀ v, v ≤ fl_lev bs → ct' (v * 4 + O (fl_lev bs) i) = nI (fl_an P (fl_lev bs) i v)) (hc2 : ∀ v r, v ≤ fl_lev bs → r < 4 → r ≠ O (fl_lev bs) i → ct' (v * 4 + r) = ct (v * 4 + r)) :
    fl_XJ kd ag T R rw N O P K F (fun v r => if r = O (fl_lev bs) i then fl_an P (fl_lev bs) i v else C v r) D lc ow pa el pl of ct' ln ce rk' rl' rc' n0 fs rk0 rl0 rc0 bs (fun l => if l < i + 1 then p + 1 else p) := by
  obtain ⟨h1, ⟨c1, c2, c3⟩, h3, h4, h5⟩ := H
  have hN : ∀ v, v ≤ fl_lev bs → N v ≤ 64 := fun v hv => fl_XR_N h1 hv hV
  have hO := ((h1 _ (Nat.le_refl _)).2.2.1 i hi).2.1
  have hal : ∀ v, v ≤ fl_lev bs → fl_an P (fl_lev bs) i v < N v := fun v hv => fl_an_lt h1 _ i v (Nat.le_refl _) hi hv
  have fcr : ∀ b v l r, r < 4 → r ≠ O (fl_lev bs) i → fl_FC kd ag T R rw P K el rk rl rc b v l r → fl_FC kd ag T R rw P K el rk' rl' rc' b v l r := by
    intro b v l r hr4 hr hfc
    obtain ⟨g, g1, g2, g3, g4, g5⟩ := hfc
    obtain ⟨q1, q2, q3⟩ := hrk r hr hr4
    exact ⟨g, g1, by rw [q1]; exact g2, by rw [q2]; exact g3, (q3 0 (by omega)).trans g4, (q3 1 (by omega)).trans g5⟩
  refine ⟨fun v hv => ?_, ⟨fun l hl hal' => ?_, c2, fun r hr hC => ?_⟩, fun X B rest e hB => ⟨(h3 X B rest e hB).1, fun r hr => ?_⟩, h4, fun r hr hC => ?_⟩
  · obtain ⟨a1, a2, a3, a4⟩ := h1 v hv
    refine ⟨a1, a2, a3, fun r hr => ?_⟩
    dsimp only
    by_cases e : r = O (fl_lev bs) i
    · rw [if_pos e, e, hc1 v hv]
      have := hal v hv
      have := hN v hv
      exact ⟨rfl, by omega⟩
    · rw [if_neg e, hc2 v r hv hr e]
      exact a4 r hr
  · dsimp only at hal'
    by_cases e : O (fl_lev bs) l = O (fl_lev bs) i
    · rw [if_pos e, fl_an_t] at hal'
      have c := c1 l hl (by rw [e]; omega)
      dsimp only at c ⊢
      rw [if_pos hal'] at c
      rw [if_pos (by omega)]
      exact c
    · rw [if_neg e] at hal'
      have c := c1 l hl hal'
      have : (if l < i + 1 then p + 1 else p) = (if l < i then p + 1 else p) := by
        by_cases w : l < i
        · rw [if_pos w, if_pos (by omega)]
        · have : l ≠ i := fun z => e (by rw [z])
          rw [if_neg w, if_neg (by omega)]
      dsimp only at c ⊢
      rw [this]
      exact c
  · dsimp only at hC ⊢
    by_cases e : r = O (fl_lev bs) i
    · rw [if_pos e, fl_an_t]
      exact ⟨hi, e.symm, f, by rw [e]; exact hE, by rw [e]; exact hrc⟩
    · rw [if_neg e] at hC ⊢
      obtain ⟨d1, d2, d3⟩ := c3 r hr hC
      exact ⟨d1, d2, fcr _ _ _ _ hr e d3⟩
  · have hlt := fl_sfx_lev X B rest hB
    rw [← e] at hlt
    obtain ⟨d1, d2, d3, d4⟩ := (h3 X B rest e hB).2 r hr
    dsimp only
    by_cases er : r = O (fl_lev bs) i
    · rw [if_pos er, if_pos er]
      have a1 := hal (fl_lev rest + 1) hlt
      have a2 := hN (fl_lev rest + 1) hlt
      exact ⟨d1, d2, fun w => by omega, fun _ => fl_an_s _ _ _ hlt⟩
    · rw [if_neg er, if_neg er]
      exact ⟨d1, d2, fun w => ⟨(d3 w).1, fun w2 => fcr _ _ _ _ hr er ((d3 w).2 w2)⟩, d4⟩
  · dsimp only at hC
    by_cases e : r = O (fl_lev bs) i
    · rw [if_pos e] at hC
      have a1 := hal 0 (Nat.zero_le _)
      have a2 := hN 0 (Nat.zero_le _)
      omega
    · rw [if_neg e] at hC
      obtain ⟨q1, q2, q3⟩ := hrk r e hr
      obtain ⟨g1, g2, g3⟩ := h5 r hr hC
      exact ⟨by rw [q1]; exact g1, by rw [q2]; exact g2, fun j hj => by rw [q3 j hj]; exact g3 j hj⟩
end XIN
end
section
/-! X: small walks of the run -/
def fl_RL (R : Nat) (rl : Nat → Int32) : Prop := ∀ i, i < R → ∃ n, n ≤ 4 ∧ rl i = nI n
theorem fl_RL_l {R : Nat} {rl dt : Nat → Int32} (h : fl_RL R rl) {i : Nat} (hi : i < R) : rl i = nI (fl_rw rl dt i).length ∧ (fl_rw rl dt i).length ≤ 4 := by
  obtain ⟨n, h1, h2⟩ := h i hi
  rw [fl_rw_len, h2, nI_clamp (by omega)]
  exact ⟨rfl, h1⟩
section XHP
variable {f_rowCap f_cellCap f_tokenCap f_rowCount f_tokenCount f_status f_resultIsSeq f_height f_blocks f_level : Int32} {a_rowLen a_data a_kinds a_args a_recKind a_recLen a_rec a_typeSeq a_blockKind a_blockBase a_blockSeq a_laneCount a_owner a_parent a_elem a_place a_off a_cut a_lens a_cells : Nat → Int32} {R T : Nat} {N : Nat → Nat} {O P K F C : Nat → Nat → Nat}
theorem fl_xact {post : Int32 → Prop} {V W l : Nat} (H : fl_XR R N O P K F C a_laneCount a_owner a_parent a_place a_off a_cut W) (hVW : V ≤ W) (hW : W ≤ 2) (hR : R ≤ 4) (hl : l < N V) (K1 : F V l = 0 → l < C V (O V l) → post 1) (K0 : ¬ (F V l = 0 ∧ l < C V (O V l)) → post 0) : wpX_active post (f_rowCap, f_cellCap, f_tokenCap, f_rowCount, f_tokenCount, f_status, f_resultIsSeq, f_height, f_blocks, nI V, a_rowLen, a_data, a_kinds, a_args, a_recKind, a_recLen, a_rec, a_typeSeq, a_blockKind, a_blockBase, a_blockSeq, a_laneCount, a_owner, a_parent, a_elem, a_place, a_off, a_cut, a_lens, a_cells) (nI l) := by
  have hN := fl_XR_N H hVW hW
  obtain ⟨h1, h2, h3, h4⟩ := H V hVW
  obtain ⟨o1, o2, o3, o4, -⟩ := h3 l hl
  obtain ⟨c1, c2⟩ := h4 (O V l) (by omega)
  have e1 : nI V * 64 + nI l = nI (V * 64 + l) := by rw [show (64 : Int32) = nI 64 from rfl, pk_mul, nI_add]
  have e2 : nI V * 4 + nI (O V l) = nI (V * 4 + O V l) := by rw [show (4 : Int32) = nI 4 from rfl, pk_mul, nI_add]
  have v1 : vp_in (nI (V * 64 + l)) 192 := vp_in_nI (by omega) (by decide)
  intro x ex
  rw [e1] at ex
  subst ex
  rw [nI_clamp (show V * 64 + l < 2 ^ 31 by omega), o1, o3, e2, nI_clamp (show V * 4 + O V l < 2 ^ 31 by omega), c1]
  refine ⟨v1, ?_⟩
  by_cases hf : F V l = 0
  · refine br_t (by rw [hf]; rfl) ⟨v1, vp_in_nI (by omega) (by decide), ?_⟩
    by_cases hc : l < C V (O V l)
    · exact br_f (nI_ge hc (by omega)) (K1 hf hc)
    · exact br_t (nI_le (by omega) (by omega)) (K0 fun w => hc w.2)
  · exact br_f (fun w => hf ((nI_eq (by omega) (by decide)).mp w)) (K0 fun w => hf w.1)
theorem fl_xleaf35 {post : Int32 → Prop} {W j : Nat} {k : Int32} (H : fl_XR R N O P K F C a_laneCount a_owner a_parent a_place a_off a_cut W) (hW : W ≤ 2) (hk : k = 3 ∨ ¬ k = 3) : ∀ v l, v ≤ W → j + 1 ≤ v → l < N v → post (if k = 3 then ((fl_xe P K a_elem v l).getD j (0, 0)).1 else ((fl_xe P K a_elem v l).getD j (0, 0)).2) → wX_leaf_35 post k (nI j) f_rowCap f_cellCap f_tokenCap f_rowCount f_tokenCount f_status f_resultIsSeq f_height f_blocks f_level a_rowLen a_data a_kinds a_args a_recKind a_recLen a_rec a_typeSeq a_blockKind a_blockBase a_blockSeq a_laneCount a_owner a_parent a_elem a_place a_off a_cut a_lens a_cells (v + 1) (nI l) (nI v) := by
  have hxl : ∀ v l, (fl_xe P K a_elem v l).length = v := by
    intro v
    induction v with
    | zero => intro l; rfl
    | succ v ih => intro l; rw [fl_xe, List.length_append, ih]; rfl
  intro v
  induction v with
  | zero => intro l _ h; omega
  | succ v ih =>
    intro l hv hj hl Kp
    have hN := fl_XR_N H hv hW
    have hx := ((H (v + 1) hv).2.2.1 l hl).2.2.2.2 (by omega)
    obtain ⟨p1, p2, p3, p4⟩ := hx
    rw [fl_xe] at Kp
    have e1 : nI j + 1 = nI (j + 1) := nI_1 j
    unfold wX_leaf_35
    rw [e1]
    rcases Nat.lt_or_ge (j + 1) (v + 1) with w | w
    · have e2 : nI (v + 1) * 64 + nI l = nI ((v + 1) * 64 + l) := by rw [show (64 : Int32) = nI 64 from rfl, pk_mul, nI_add]
      refine br_f (nI_ge w (by omega)) ?_
      rw [e2, nI_clamp (show (v + 1) * 64 + l < 2 ^ 31 by omega), p1, pk_m1]
      refine ⟨vp_in_nI (by omega) (by decide), nm_e (nm_e (ih (P (v + 1) l) (by omega) (by omega) p2 ?_))⟩
      rw [List.getD_eq_getElem?_getD, List.getElem?_append_left (by rw [hxl]; omega), ← List.getD_eq_getElem?_getD] at Kp
      exact Kp
    · have ej : j = v := by omega
      subst ej
      refine br_t (nI_le w (by omega)) ?_
      have e2 : nI (j + 1) * 64 + nI l = nI ((j + 1) * 64 + l) := by rw [show (64 : Int32) = nI 64 from rfl, pk_mul, nI_add]
      have v1 : vp_in (nI ((j + 1) * 64 + l)) 192 := vp_in_nI (by omega) (by decide)
      intro x ex
      rw [e2] at ex
      subst ex
      rw [nI_clamp (show (j + 1) * 64 + l < 2 ^ 31 by omega)]
      rw [List.getD_eq_getElem?_getD, List.getElem?_append_right (by rw [hxl]; exact Nat.le_refl _), hxl, Nat.sub_self] at Kp
      refine br_c (fun h => ⟨v1, ?_⟩) (fun h => ⟨v1, ?_⟩)
      · rw [if_pos h] at Kp; exact Kp
      · rw [if_neg h] at Kp; rw [p3]; exact Kp
theorem fl_xload14 {post : SX → Prop} {s r : Nat} (hs : s < 768) (hr : r < R) (hR : R ≤ 4) (hRL : fl_RL R a_rowLen) {lx : Nat → Int32} (K : ∀ ce, (∀ i (hi : i < (fl_rw a_rowLen a_data r).length), ce (s * 4 + i) = (fl_rw a_rowLen a_data r)[i]) → (∀ j, (j < s * 4 ∨ s * 4 + 4 ≤ j) → ce j = a_cells j) → post (f_rowCap, f_cellCap, f_tokenCap, f_rowCount, f_tokenCount, f_status, f_resultIsSeq, f_height, f_blocks, f_level, a_rowLen, a_data, a_kinds, a_args, a_recKind, a_recLen, a_rec, a_typeSeq, a_blockKind, a_blockBase, a_blockSeq, a_laneCount, a_owner, a_parent, a_elem, a_place, a_off, a_cut, lx, ce)) : ∀ d i ce, i + d = (fl_rw a_rowLen a_data r).length → (∀ j (hj : j < (fl_rw a_rowLen a_data r).length), j < i → ce (s * 4 + j) = (fl_rw a_rowLen a_data r)[j]) → (∀ j, (j < s * 4 ∨ s * 4 + 4 ≤ j) → ce j = a_cells j) → wX_loadRow_14 post (nI s) (nI r) f_rowCap f_cellCap f_tokenCap f_rowCount f_tokenCount f_status f_resultIsSeq f_height f_blocks f_level (d + 1) (nI i) a_rowLen a_data a_kinds a_args a_recKind a_recLen a_rec a_typeSeq a_blockKind a_blockBase a_blockSeq a_laneCount a_owner a_parent a_elem a_place a_off a_cut lx ce := by
  obtain ⟨l1, l2⟩ := fl_RL_l (dt := a_data) hRL hr
  have e0 : (nI r).toNatClampNeg = r := nI_clamp (by omega)
  intro d
  induction d with
  | zero =>
    intro i ce hi h1 h2
    unfold wX_loadRow_14
    rw [e0, l1]
    exact ⟨vp_in_nI (by omega) (by decide), br_t (nI_le (by omega) (by omega)) (K ce (fun j hj => h1 j hj (by omega)) h2)⟩
  | succ d ih =>
    intro i ce hi h1 h2
    have e1 : nI r * 4 + nI i = nI (r * 4 + i) := by rw [show (4 : Int32) = nI 4 from rfl, pk_mul, nI_add]
    have e2 : nI s * 4 + nI i = nI (s * 4 + i) := by rw [show (4 : Int32) = nI 4 from rfl, pk_mul, nI_add]
    have hil : i < (fl_rw a_rowLen a_data r).length := by omega
    unfold wX_loadRow_14
    rw [e0, l1, e1, e2, nI_clamp (show r * 4 + i < 2 ^ 31 by omega), nI_clamp (show s * 4 + i < 2 ^ 31 by omega), ← fl_rw_get a_rowLen a_data r i hil, nI_1]
    refine ⟨vp_in_nI (by omega) (by decide), br_f (nI_ge (by omega) (by omega)) ⟨vp_in_nI (by omega) (by decide), vp_in_nI (by omega) (by decide), nm_e (nm_e (ih (i + 1) _ (by omega) (fun j hj hji => ?_) (fun j hj => ?_)))⟩⟩
    · rcases Nat.lt_or_ge j i with w | w
      · rw [fl_upn (by omega)]; exact h1 j hj w
      · have : j = i := by omega
        subst this
        exact fl_ups
    · rw [upd, if_neg (by omega)]; exact h2 j hj
theorem fl_xload {post : SX → Prop} {s r : Nat} (hs : s < 768) (hr : r < R) (hR : R ≤ 4) (hRL : fl_RL R a_rowLen) (K : ∀ ce, (∀ i (hi : i < (fl_rw a_rowLen a_data r).length), ce (s * 4 + i) = (fl_rw a_rowLen a_data r)[i]) → (∀ j, (j < s * 4 ∨ s * 4 + 4 ≤ j) → ce j = a_cells j) → post (f_rowCap, f_cellCap, f_tokenCap, f_rowCount, f_tokenCount, f_status, f_resultIsSeq, f_height, f_blocks, f_level, a_rowLen, a_data, a_kinds, a_args, a_recKind, a_recLen, a_rec, a_typeSeq, a_blockKind, a_blockBase, a_blockSeq, a_laneCount, a_owner, a_parent, a_elem, a_place, a_off, a_cut, upd a_lens s (nI (fl_rw a_rowLen a_data r).length), ce)) : wpX_loadRow post (f_rowCap, f_cellCap, f_tokenCap, f_rowCount, f_tokenCount, f_status, f_resultIsSeq, f_height, f_blocks, f_level, a_rowLen, a_data, a_kinds, a_args, a_recKind, a_recLen, a_rec, a_typeSeq, a_blockKind, a_blockBase, a_blockSeq, a_laneCount, a_owner, a_parent, a_elem, a_place, a_off, a_cut, a_lens, a_cells) (nI s) (nI r) := by
  have hL := (fl_RL_l (dt := a_data) hRL hr).1
  unfold wpX_loadRow
  dsimp only
  rw [nI_clamp (show r < 2 ^ 31 by omega), nI_clamp (show s < 2 ^ 31 by omega), hL]
  exact ⟨vp_in_nI (by omega) (by decide), vp_in_nI hs (by decide), nm_e ⟨_, fl_xload14 hs hr hR hRL K (fl_rw a_rowLen a_data r).length 0 a_cells (by omega) (fun j _ h => absurd h (Nat.not_lt_zero _)) (fun j _ => rfl)⟩⟩
theorem fl_xsum4 {post : Int32 → Prop} {s : Nat} {xs : List Int32} (hs : s < 768) (hl : a_lens s = nI xs.length) (h4 : xs.length ≤ 4) (hm : ∀ i (hi : i < xs.length), a_cells (s * 4 + i) = xs[i]) (K : post (fl_sm 0 xs)) : ∀ d i acc, i + d = xs.length → fl_sm acc (xs.drop i) = fl_sm 0 xs → wX_sumOf_4 post (nI s) f_rowCap f_cellCap f_tokenCap f_rowCount f_tokenCount f_status f_resultIsSeq f_height f_blocks f_level a_rowLen a_data a_kinds a_args a_recKind a_recLen a_rec a_typeSeq a_blockKind a_blockBase a_blockSeq a_laneCount a_owner a_parent a_elem a_place a_off a_cut a_lens a_cells (d + 1) acc (nI i) := by
  have e0 : (nI s).toNatClampNeg = s := nI_clamp (by omega)
  intro d
  induction d with
  | zero =>
    intro i acc hi ha
    have hn : xs.drop i = [] := List.drop_eq_nil_of_le (by omega)
    rw [hn] at ha
    have hA : acc = fl_sm 0 xs := ha
    unfold wX_sumOf_4
    rw [e0, hl, hA]
    exact ⟨vp_in_nI hs (by decide), br_t (nI_le (by omega) (by omega)) K⟩
  | succ d ih =>
    intro i acc hi ha
    have hil : i < xs.length := by omega
    have ea : nI s * 4 + nI i = nI (s * 4 + i) := by rw [show (4 : Int32) = nI 4 from rfl, pk_mul, nI_add]
    rw [fl_drop hil] at ha
    unfold wX_sumOf_4
    rw [e0, hl, ea, nI_clamp (show s * 4 + i < 2 ^ 31 by omega), hm i hil, nI_1]
    exact ⟨vp_in_nI hs (by decide), br_f (nI_ge hil (by omega)) ⟨vp_in_nI (by omega) (by decide), nm_e (nm_e (ih (i + 1) _ (by omega) ha))⟩⟩
theorem fl_xsum {post : Int32 → Prop} {s : Nat} {xs : List Int32} (hs : s < 768) (hl : a_lens s = nI xs.length) (h4 : xs.length ≤ 4) (hm : ∀ i (hi : i < xs.length), a_cells (s * 4 + i) = xs[i]) (K : post (fl_sm 0 xs)) : wpX_sumOf post (f_rowCap, f_cellCap, f_tokenCap, f_rowCount, f_tokenCount, f_status, f_resultIsSeq, f_height, f_blocks, f_level, a_rowLen, a_data, a_kinds, a_args, a_recKind, a_recLen, a_rec, a_typeSeq, a_blockKind, a_blockBase, a_blockSeq, a_laneCount, a_owner, a_parent, a_elem, a_place, a_off, a_cut, a_lens, a_cells) (nI s) :=
  ⟨_, fl_xsum4 hs hl h4 hm K xs.length 0 0 (by omega) rfl⟩
theorem fl_xrst2 {post : SX → Prop} {v : Nat} (hv : v ≤ 2) (K : ∀ ct, (∀ r, r < 4 → ct (v * 4 + r) = nI 64) → (∀ j, (j < v * 4 ∨ v * 4 + 4 ≤ j) → ct j = a_cut j) → post (f_rowCap, f_cellCap, f_tokenCap, f_rowCount, f_tokenCount, f_status, f_resultIsSeq, f_height, f_blocks, f_level, a_rowLen, a_data, a_kinds, a_args, a_recKind, a_recLen, a_rec, a_typeSeq, a_blockKind, a_blockBase, a_blockSeq, a_laneCount, a_owner, a_parent, a_elem, a_place, a_off, ct, a_lens, a_cells)) : ∀ d i ct, i + d = 4 → (∀ r, r < i → ct (v * 4 + r) = nI 64) → (∀ j, (j < v * 4 ∨ v * 4 + 4 ≤ j) → ct j = a_cut j) → wX_resetCuts_2 post (nI v) f_rowCap f_cellCap f_tokenCap f_rowCount f_tokenCount f_status f_resultIsSeq f_height f_blocks f_level (d + 1) (nI i) a_rowLen a_data a_kinds a_args a_recKind a_recLen a_rec a_typeSeq a_blockKind a_blockBase a_blockSeq a_laneCount a_owner a_parent a_elem a_place a_off ct a_lens a_cells := by
  intro d
  induction d with
  | zero =>
    intro i ct hi h1 h2
    have : i = 4 := by omega
    subst this
    exact br_t (by decide) (K ct h1 h2)
  | succ d ih =>
    intro i ct hi h1 h2
    have e1 : nI v * 4 + nI i = nI (v * 4 + i) := by rw [show (4 : Int32) = nI 4 from rfl, pk_mul, nI_add]
    unfold wX_resetCuts_2
    rw [e1, nI_clamp (show v * 4 + i < 2 ^ 31 by omega), nI_1]
    refine br_f (nI_ge (b := 4) (by omega) (by decide)) ⟨vp_in_nI (by omega) (by decide), nm_e (nm_e (ih (i + 1) _ (by omega) (fun j hj => ?_) (fun j hj => ?_)))⟩
    · rcases Nat.lt_or_ge j i with w | w
      · rw [fl_upn (by omega)]; exact h1 j w
      · have : j = i := by omega
        subst this
        exact fl_ups
    · rw [upd, if_neg (by omega)]; exact h2 j hj
theorem fl_xrst {post : SX → Prop} {v : Nat} (hv : v ≤ 2) (K : ∀ ct, (∀ r, r < 4 → ct (v * 4 + r) = nI 64) → (∀ j, (j < v * 4 ∨ v * 4 + 4 ≤ j) → ct j = a_cut j) → post (f_rowCap, f_cellCap, f_tokenCap, f_rowCount, f_tokenCount, f_status, f_resultIsSeq, f_height, f_blocks, f_level, a_rowLen, a_data, a_kinds, a_args, a_recKind, a_recLen, a_rec, a_typeSeq, a_blockKind, a_blockBase, a_blockSeq, a_laneCount, a_owner, a_parent, a_elem, a_place, a_off, ct, a_lens, a_cells)) : wpX_resetCuts post (f_rowCap, f_cellCap, f_tokenCap, f_rowCount, f_tokenCount, f_status, f_resultIsSeq, f_height, f_blocks, f_level, a_rowLen, a_data, a_kinds, a_args, a_recKind, a_recLen, a_rec, a_typeSeq, a_blockKind, a_blockBase, a_blockSeq, a_laneCount, a_owner, a_parent, a_elem, a_place, a_off, a_cut, a_lens, a_cells) (nI v) :=
  ⟨5, fl_xrst2 hv K 4 0 a_cut rfl (fun j h => absurd h (Nat.not_lt_zero _)) (fun j _ => rfl)⟩
theorem fl_xflt63 {post : SX → Prop} {W r : Nat} (H : fl_XR R N O P K F C a_laneCount a_owner a_parent a_place a_off a_cut W) (hW : W ≤ 2) (hr : r < 4) : ∀ v l ct, v ≤ W → l < N v → (∀ ct', (∀ u, u ≤ v → ct' (u * 4 + r) = nI (fl_an P v l u)) → (∀ j, (∀ u, u ≤ v → j ≠ u * 4 + r) → ct' j = ct j) → post (f_rowCap, f_cellCap, f_tokenCap, f_rowCount, f_tokenCount, f_status, f_resultIsSeq, f_height, f_blocks, f_level, a_rowLen, a_data, a_kinds, a_args, a_recKind, a_recLen, a_rec, a_typeSeq, a_blockKind, a_blockBase, a_blockSeq, a_laneCount, a_owner, a_parent, a_elem, a_place, a_off, ct', a_lens, a_cells)) → wX_fault_63 post (nI r) f_rowCap f_cellCap f_tokenCap f_rowCount f_tokenCount f_status f_resultIsSeq f_height f_blocks f_level (v + 2) (nI l) (nI v) a_rowLen a_data a_kinds a_args a_recKind a_recLen a_rec a_typeSeq a_blockKind a_blockBase a_blockSeq a_laneCount a_owner a_parent a_elem a_place a_off ct a_lens a_cells := by
  intro v
  induction v with
  | zero =>
    intro l ct hv hl K
    have hN := fl_XR_N H hv hW
    have e1 : nI 0 * 4 + nI r = nI (0 * 4 + r) := by rw [show (4 : Int32) = nI 4 from rfl, pk_mul, nI_add]
    have e2 : nI 0 * 64 + nI l = nI (0 * 64 + l) := by rw [show (64 : Int32) = nI 64 from rfl, pk_mul, nI_add]
    unfold wX_fault_63
    rw [e1, e2, nI_clamp (show 0 * 4 + r < 2 ^ 31 by omega)]
    refine br_f (nI_pos (by decide)) ⟨vp_in_nI (by omega) (by decide), nm_e ⟨vp_in_nI (by omega) (by decide), fun x _ y ey => ?_⟩⟩
    subst ey
    refine br_t (by decide) (K _ (fun u hu => ?_) (fun j hj => ?_))
    · have : u = 0 := by omega
      subst this
      exact fl_ups
    · rw [upd, if_neg (hj 0 (by omega))]
  | succ v ih =>
    intro l ct hv hl K
    have hN := fl_XR_N H hv hW
    have e1 : nI (v + 1) * 4 + nI r = nI ((v + 1) * 4 + r) := by rw [show (4 : Int32) = nI 4 from rfl, pk_mul, nI_add]
    have e2 : nI (v + 1) * 64 + nI l = nI ((v + 1) * 64 + l) := by rw [show (64 : Int32) = nI 64 from rfl, pk_mul, nI_add]
    obtain ⟨p1, p2, -⟩ := ((H (v + 1) hv).2.2.1 l hl).2.2.2.2 (by omega)
    unfold wX_fault_63
    rw [e1, e2, nI_clamp (show (v + 1) * 4 + r < 2 ^ 31 by omega), nI_clamp (show (v + 1) * 64 + l < 2 ^ 31 by omega), p1, pk_m1]
    refine br_f (nI_pos (by omega)) ⟨vp_in_nI (by omega) (by decide), nm_e ⟨vp_in_nI (by omega) (by decide), nm_e (nm_e (ih (P (v + 1) l) _ (by omega) p2 fun ct' k1 k2 => K ct' (fun u hu => ?_) (fun j hj => ?_)))⟩⟩
    · rw [fl_an]
      split
      · rename_i e
        rw [e, k2 _ (fun u hu => by omega)]
        exact fl_ups
      · exact k1 u (by omega)
    · rw [k2 j (fun u hu => hj u (by omega)), upd, if_neg (hj (v + 1) (by omega))]
theorem fl_xflt {post : SX → Prop} {V l p : Nat} {idx : Int32} (H : fl_XR R N O P K F C a_laneCount a_owner a_parent a_place a_off a_cut V) (hV : V ≤ 2) (hR : R ≤ 4) (hl : l < N V)
    (K : ∀ ct', (∀ u, u ≤ V → ct' (u * 4 + O V l) = nI (fl_an P V l u)) → (∀ v r, v ≤ V → r < 4 → r ≠ O V l → ct' (v * 4 + r) = a_cut (v * 4 + r)) → post (f_rowCap, f_cellCap, f_tokenCap, f_rowCount, f_tokenCount, f_status, f_resultIsSeq, f_height, f_blocks, nI V, a_rowLen, a_data, a_kinds, a_args, upd a_recKind (O V l) 3, upd a_recLen (O V l) 2, upd (upd a_rec (O V l * 4) (nI p)) (O V l * 4 + 1) idx, a_typeSeq, a_blockKind, a_blockBase, a_blockSeq, a_laneCount, a_owner, a_parent, a_elem, a_place, a_off, ct', a_lens, a_cells)) : wpX_fault post (f_rowCap, f_cellCap, f_tokenCap, f_rowCount, f_tokenCount, f_status, f_resultIsSeq, f_height, f_blocks, nI V, a_rowLen, a_data, a_kinds, a_args, a_recKind, a_recLen, a_rec, a_typeSeq, a_blockKind, a_blockBase, a_blockSeq, a_laneCount, a_owner, a_parent, a_elem, a_place, a_off, a_cut, a_lens, a_cells) (nI p) idx (nI l) := by
  have hN := fl_XR_N H (Nat.le_refl _) hV
  obtain ⟨o1, o2, -⟩ := (H V (Nat.le_refl _)).2.2.1 l hl
  have e1 : nI V * 64 + nI l = nI (V * 64 + l) := by rw [show (64 : Int32) = nI 64 from rfl, pk_mul, nI_add]
  have e2 : nI (O V l) * 4 = nI (O V l * 4) := pk_mul _ 4
  have e3 : nI (O V l * 4) + 1 = nI (O V l * 4 + 1) := nI_1 _
  unfold wpX_fault
  dsimp only
  rw [e1, nI_clamp (show V * 64 + l < 2 ^ 31 by omega), o1]
  refine ⟨vp_in_nI (by omega) (by decide), nm_e ?_⟩
  rw [e2, e3, nI_clamp (show O V l < 2 ^ 31 by omega), nI_clamp (show O V l * 4 < 2 ^ 31 by omega), nI_clamp (show O V l * 4 + 1 < 2 ^ 31 by omega)]
  have v4 : vp_in (nI (O V l)) 4 := vp_in_nI (by omega) (by decide)
  refine ⟨v4, nm_e ⟨v4, nm_e ⟨vp_in_nI (by omega) (by decide), nm_e ⟨vp_in_nI (by omega) (by decide), nm_e ⟨V + 2, fl_xflt63 H hV (by omega) V l a_cut (Nat.le_refl _) hl fun ct' k1 k2 => K ct' k1 fun v r hv hr hne => k2 _ fun u hu => by omega⟩⟩⟩⟩⟩
end XHP
end
section
/-! X: tokens that only write cells -/
theorem fl_XM_int {ln ce : Nat → Int32} {v l b : Nat} {s : List fl_V} {x : Int32} (H : fl_XM ln ce v l b s) : fl_XM ln (upd ce (((v * 4 + (b + s.length)) * 64 + l) * 4) x) v l b (.inl x :: s) :=
  ⟨⟨fl_ups, fun h => h.elim⟩, fl_MS_c (fun hh a b => ⟨rfl, fun i hi => by show upd _ _ _ _ = _; rw [upd, if_neg (by omega)]⟩) H⟩
theorem fl_XM_seq {ln ce ce' : Nat → Int32} {v l b : Nat} {s : List fl_V} {xs : List Int32} (h4 : xs.length ≤ 4) (h1 : ∀ i (hi : i < xs.length), ce' (((v * 4 + (b + s.length)) * 64 + l) * 4 + i) = xs[i]) (h2 : ∀ j, (j < ((v * 4 + (b + s.length)) * 64 + l) * 4 ∨ ((v * 4 + (b + s.length)) * 64 + l) * 4 + 4 ≤ j) → ce' j = ce j) (H : fl_XM ln ce v l b s) : fl_XM (upd ln ((v * 4 + (b + s.length)) * 64 + l) (nI xs.length)) ce' v l b (.inr xs :: s) :=
  ⟨⟨fl_ups, h4, h1⟩, fl_MS_c (fun hh a b => ⟨by show upd _ _ _ _ = _; rw [upd, if_neg (by omega)], fun i hi => h2 _ (by omega)⟩) H⟩
theorem fl_AG_s {ln ce ce' : Nat → Int32} {v l V L k : Nat} {x : Int32} (hl : l < 64) (hL : L < 64) (hne : v ≠ V ∨ l ≠ L) (hk : k < 4) (h2 : ∀ j, (j < ((V * 4 + k) * 64 + L) * 4 ∨ ((V * 4 + k) * 64 + L) * 4 + 4 ≤ j) → ce' j = ce j) : fl_AG ln ce (upd ln ((V * 4 + k) * 64 + L) x) ce' v l := by
  intro h hh
  exact ⟨by rw [upd, if_neg (by omega)], fun i hi => h2 _ (by omega)⟩
theorem fl_slot (V h l : Nat) : (nI V * 4 + nI h) * 64 + nI l = nI ((V * 4 + h) * 64 + l) := by
  rw [show (4 : Int32) = nI 4 from rfl, pk_mul, nI_add, show (64 : Int32) = nI 64 from rfl, pk_mul, nI_add]
section XSI
variable {f_rowCap f_cellCap f_tokenCap f_rowCount f_tokenCount f_status f_resultIsSeq f_height f_blocks f_level : Int32} {a_rowLen a_data a_kinds a_args a_recKind a_recLen a_rec a_typeSeq a_blockKind a_blockBase a_blockSeq a_laneCount a_owner a_parent a_elem a_place a_off a_cut a_lens a_cells : Nat → Int32} {R T n0 fs p : Nat} {N : Nat → Nat} {O P K F C D : Nat → Nat → Nat} {rk0 rl0 rc0 : Nat → Int32} {post : SX → Prop}
theorem fl_xleaf {post : Int32 → Prop} {V l : Nat} {k a x : Int32} (H : fl_XR R N O P K F C a_laneCount a_owner a_parent a_place a_off a_cut V) (hV : V ≤ 2) (hl : l < N V) (hx : (k = 0 ∧ x = a) ∨ (k = 2 ∧ x = nI (O V l)) ∨ ∃ j, j < V ∧ a = nI j ∧ ((k = 3 ∧ x = ((fl_xe P K a_elem V l).getD j (0, 0)).1) ∨ (k = 4 ∧ x = ((fl_xe P K a_elem V l).getD j (0, 0)).2))) (Kp : post x) : wpX_leaf post (f_rowCap, f_cellCap, f_tokenCap, f_rowCount, f_tokenCount, f_status, f_resultIsSeq, f_height, f_blocks, nI V, a_rowLen, a_data, a_kinds, a_args, a_recKind, a_recLen, a_rec, a_typeSeq, a_blockKind, a_blockBase, a_blockSeq, a_laneCount, a_owner, a_parent, a_elem, a_place, a_off, a_cut, a_lens, a_cells) k a (nI l) := by
  have hN := fl_XR_N H (Nat.le_refl _) hV
  rcases hx with ⟨rfl, rfl⟩ | ⟨rfl, rfl⟩ | ⟨j, hj, rfl, h⟩
  · exact br_t rfl Kp
  · obtain ⟨o1, -⟩ := (H V (Nat.le_refl _)).2.2.1 l hl
    have e1 : nI V * 64 + nI l = nI (V * 64 + l) := by rw [show (64 : Int32) = nI 64 from rfl, pk_mul, nI_add]
    refine br_f (by decide) (br_t rfl ?_)
    rw [e1, nI_clamp (show V * 64 + l < 2 ^ 31 by omega), o1]
    exact ⟨vp_in_nI (by omega) (by decide), Kp⟩
  · rcases h with ⟨rfl, rfl⟩ | ⟨rfl, rfl⟩
    · exact br_f (by decide) (br_f (by decide) ⟨V + 1, fl_xleaf35 H hV (Or.inl rfl) V l (Nat.le_refl _) (by omega) hl (by rw [if_pos rfl]; exact Kp)⟩)
    · exact br_f (by decide) (br_f (by decide) ⟨V + 1, fl_xleaf35 H hV (Or.inr (by decide)) V l (Nat.le_refl _) (by omega) hl (by rw [if_neg (by decide)]; exact Kp)⟩)
theorem fl_xapply {post : Int32 → Prop} {k a b : Int32} (hk : k = 5 ∨ k = 6 ∨ k = 7 ∨ k = 8 ∨ k = 9) (Kp : post (fl_ap k a b)) : wpX_apply post (f_rowCap, f_cellCap, f_tokenCap, f_rowCount, f_tokenCount, f_status, f_resultIsSeq, f_height, f_blocks, f_level, a_rowLen, a_data, a_kinds, a_args, a_recKind, a_recLen, a_rec, a_typeSeq, a_blockKind, a_blockBase, a_blockSeq, a_laneCount, a_owner, a_parent, a_elem, a_place, a_off, a_cut, a_lens, a_cells) k a b := by
  rcases hk with rfl | rfl | rfl | rfl | rfl
  · exact br_t rfl Kp
  · exact br_f (by decide) (br_t rfl Kp)
  · exact br_f (by decide) (br_f (by decide) (br_t rfl Kp))
  · have e : fl_ap 8 a b = if b ≤ a then 0 else 1 := by simp [fl_ap]
    rw [e] at Kp
    refine br_f (by decide) (br_f (by decide) (br_f (by decide) (br_t rfl (br_c (fun h => ?_) fun h => ?_))))
    · rw [if_pos h] at Kp; exact br_t rfl Kp
    · rw [if_neg h] at Kp; exact br_f (by decide) Kp
  · have e : fl_ap 9 a b = if a = b then 1 else 0 := by simp [fl_ap]
    rw [e] at Kp
    refine br_f (by decide) (br_f (by decide) (br_f (by decide) (br_f (by decide) (br_c (fun h => ?_) fun h => ?_))))
    · rw [if_pos h] at Kp; exact br_f (by decide) Kp
    · rw [if_neg h] at Kp; exact br_t rfl Kp
/-- what a lane that does token p needs to know -/
theorem fl_lane {i : Nat} {ln ce : Nat → Int32} (G : fl_Gd a_kinds a_args T) (hp : p < T) (hi : i < N (fl_lev (fl_csf a_kinds a_args p).2)) (hf : F (fl_lev (fl_csf a_kinds a_args p).2) i = 0) (ha : i < C (fl_lev (fl_csf a_kinds a_args p).2) (O (fl_lev (fl_csf a_kinds a_args p).2) i)) (H : fl_XJ a_kinds a_args T R (fl_rw a_rowLen a_data) N O P K F C D a_laneCount a_owner a_parent a_elem a_place a_off a_cut ln ce a_recKind a_recLen a_rec n0 fs rk0 rl0 rc0 (fl_csf a_kinds a_args p).2 (fun l => if l < i then p + 1 else p)) : ∃ s, (fl_ft (fl_csf a_kinds a_args p).1 (fl_csf a_kinds a_args p).2).length = fl_bas (fl_csf a_kinds a_args p).2 + s.length ∧ fl_bas (fl_csf a_kinds a_args p).2 + s.length ≤ 4 ∧ fl_XM ln ce (fl_lev (fl_csf a_kinds a_args p).2) i (fl_bas (fl_csf a_kinds a_args p).2) s ∧ s.map fl_tg = fl_fr (fl_csf a_kinds a_args p).1 (fl_csf a_kinds a_args p).2 ∧ fl_EV a_kinds a_args T R (fl_rw a_rowLen a_data) (O (fl_lev (fl_csf a_kinds a_args p).2) i) (fl_sP (fl_csf a_kinds a_args p).2) [] (fl_xe P K a_elem (fl_lev (fl_csf a_kinds a_args p).2) i) = fl_EV a_kinds a_args T R (fl_rw a_rowLen a_data) (O (fl_lev (fl_csf a_kinds a_args p).2) i) p s (fl_xe P K a_elem (fl_lev (fl_csf a_kinds a_args p).2) i) := by
  obtain ⟨s, h1, h2, h3, h4⟩ := fl_xj_get hi hf ha H
  have := fl_ft_len (fl_csf a_kinds a_args p).2 (fl_csf a_kinds a_args p).1
  have hl : s.length = (fl_fr (fl_csf a_kinds a_args p).1 (fl_csf a_kinds a_args p).2).length := by rw [← h3, List.length_map]
  exact ⟨s, by omega, h1, h2, h3, h4⟩
/-- a lane writes one int at the place of the result -/
theorem fl_w1 {i : Nat} {ln ce : Nat → Int32} {s s2 : List fl_V} {x : Int32} {bs : List fl_Bl} {t2 : List Bool} (hpT : p < T) (hk : fl_sK (a_kinds p)) (hV : fl_lev bs ≤ 2) (hi : i < N (fl_lev bs)) (hf : F (fl_lev bs) i = 0) (H : fl_XJ a_kinds a_args T R (fl_rw a_rowLen a_data) N O P K F C D a_laneCount a_owner a_parent a_elem a_place a_off a_cut ln ce a_recKind a_recLen a_rec n0 fs rk0 rl0 rc0 bs (fun l => if l < i then p + 1 else p)) (hb : fl_bas bs + s2.length < 4) (hM : fl_XM ln ce (fl_lev bs) i (fl_bas bs) s2) (ht : s2.map fl_tg = fl_fr t2 bs) (hc : fl_csf a_kinds a_args (p + 1) = (false :: t2, bs))
    (hE : fl_EV a_kinds a_args T R (fl_rw a_rowLen a_data) (O (fl_lev bs) i) (fl_sP bs) [] (fl_xe P K a_elem (fl_lev bs) i) = fl_EV a_kinds a_args T R (fl_rw a_rowLen a_data) (O (fl_lev bs) i) p s (fl_xe P K a_elem (fl_lev bs) i))
    (hsp : fl_sp (a_kinds p) (a_args p) R (fl_rw a_rowLen a_data) (O (fl_lev bs) i) p s (fl_xe P K a_elem (fl_lev bs) i) = .inr (.inl x :: s2)) :
    fl_XJ a_kinds a_args T R (fl_rw a_rowLen a_data) N O P K F C D a_laneCount a_owner a_parent a_elem a_place a_off a_cut ln (upd ce (((fl_lev bs * 4 + (fl_bas bs + s2.length)) * 64 + i) * 4) x) a_recKind a_recLen a_rec n0 fs rk0 rl0 rc0 bs (fun l => if l < i + 1 then p + 1 else p) := by
  have hN := fl_XR_N H.1 (Nat.le_refl _) hV
  refine fl_xj_ok (s := s) hV hi hf H (hE.trans (fl_EV_sr hpT hk hsp)) (fun v l hl hne => fl_AG_o (a := 0) hl (by omega) hne hb (by decide)) (by rw [List.length_cons]; omega) (fl_XM_int hM) ?_
  rw [hc, fl_fr_cons, List.map_cons, ht]; rfl
/-- pushInts -/
theorem fl_xpi {k : Int32} (G : fl_Gd a_kinds a_args T) (hR : R ≤ 4) (hpT : p < T) (hk : k = 0 ∨ k = 2 ∨ k = 3 ∨ k = 4) (hkp : a_kinds p = k) {bs : List fl_Bl} {ts : List Bool} (hcs : fl_csf a_kinds a_args p = (ts, bs))
    (Kp : ∀ ce, fl_XJ a_kinds a_args T R (fl_rw a_rowLen a_data) N O P K F C D a_laneCount a_owner a_parent a_elem a_place a_off a_cut a_lens ce a_recKind a_recLen a_rec n0 fs rk0 rl0 rc0 bs (fun _ => p + 1) → post (f_rowCap, f_cellCap, f_tokenCap, f_rowCount, f_tokenCount, f_status, f_resultIsSeq, nI ((fl_ft ts bs).length + 1), f_blocks, nI (fl_lev bs), a_rowLen, a_data, a_kinds, a_args, a_recKind, a_recLen, a_rec, a_typeSeq, a_blockKind, a_blockBase, a_blockSeq, a_laneCount, a_owner, a_parent, a_elem, a_place, a_off, a_cut, a_lens, ce)) :
    ∀ d i ce, i + d = N (fl_lev bs) → fl_XJ a_kinds a_args T R (fl_rw a_rowLen a_data) N O P K F C D a_laneCount a_owner a_parent a_elem a_place a_off a_cut a_lens ce a_recKind a_recLen a_rec n0 fs rk0 rl0 rc0 bs (fun l => if l < i then p + 1 else p) → wX_pushInts_2 post k (a_args p) f_rowCap f_cellCap f_tokenCap f_rowCount f_tokenCount f_status f_resultIsSeq (nI (fl_ft ts bs).length) f_blocks (nI (fl_lev bs)) (d + 1) (nI i) a_rowLen a_data a_kinds a_args a_recKind a_recLen a_rec a_typeSeq a_blockKind a_blockBase a_blockSeq a_laneCount a_owner a_parent a_elem a_place a_off a_cut a_lens ce := by
  have hbd := fl_bnd G p (by omega)
  rw [hcs] at hbd
  obtain ⟨b1, b2, b3⟩ := hbd
  dsimp only at b1 b2 b3
  have hsk : fl_sK (a_kinds p) := by rw [hkp]; rcases hk with rfl | rfl | rfl | rfl <;> decide
  have hck := G.2.1 p hpT
  rw [hcs] at hck
  have hinv : (fl_ft ts bs).length < 4 ∧ fl_csf a_kinds a_args (p + 1) = (false :: ts, bs) ∧ ((k = 3 ∨ k = 4) → ∃ j, j < fl_lev bs ∧ a_args p = nI j) := by
    rw [hkp] at hck
    rcases hk with rfl | rfl | rfl | rfl
    · rw [fl_ck_0] at hck; obtain ⟨h1, h2⟩ := fl_psh_inv hck; exact ⟨h1, h2, fun w => by rcases w with w | w <;> exact absurd w (by decide)⟩
    · rw [fl_ck_2] at hck; obtain ⟨h1, h2⟩ := fl_psh_inv hck; exact ⟨h1, h2, fun w => by rcases w with w | w <;> exact absurd w (by decide)⟩
    · rw [fl_ck_3] at hck
      split at hck
      · cases hck
      · rename_i hsc
        obtain ⟨h1, h2⟩ := fl_psh_inv hck
        obtain ⟨j, hj, ej⟩ := nI_of (x := a_args p) (fun w => hsc (Or.inl w))
        dsimp only at hsc
        rw [ej, nI_leI (by omega) hj] at hsc
        exact ⟨h1, h2, fun _ => ⟨j, by omega, ej⟩⟩
    · rw [fl_ck_4] at hck
      split at hck
      · cases hck
      · rename_i hsc
        obtain ⟨h1, h2⟩ := fl_psh_inv hck
        obtain ⟨j, hj, ej⟩ := nI_of (x := a_args p) (fun w => hsc (Or.inl w))
        dsimp only at hsc
        rw [ej, nI_leI (by omega) hj] at hsc
        exact ⟨h1, h2, fun _ => ⟨j, by omega, ej⟩⟩
  obtain ⟨i1, i2, i3⟩ := hinv
  intro d
  induction d with
  | zero =>
    intro i ce hi H
    have ei : i = N (fl_lev bs) := by omega
    subst ei
    have hN := fl_XR_N H.1 (Nat.le_refl _) b3
    unfold wX_pushInts_2
    rw [nI_clamp (show fl_lev bs < 2 ^ 31 by omega), (H.1 _ (Nat.le_refl _)).1, nI_1]
    exact ⟨vp_in_nI (by omega) (by decide), br_t (nI_le (Nat.le_refl _) (by omega)) (nm_e (Kp ce (fl_xj_end H)))⟩
  | succ d ih =>
    intro i ce hi H
    have hN := fl_XR_N H.1 (Nat.le_refl _) b3
    have hil : i < N (fl_lev bs) := by omega
    unfold wX_pushInts_2
    rw [nI_clamp (show fl_lev bs < 2 ^ 31 by omega), (H.1 _ (Nat.le_refl _)).1]
    refine ⟨vp_in_nI (by omega) (by decide), br_f (nI_ge hil (by omega)) (fl_xact H.1 (Nat.le_refl _) b3 hR hil (fun hf ha => br_f (by decide) ?_) (fun hn => br_t rfl ?_))⟩
    · have hL := fl_lane (p := p) (i := i) (ln := a_lens) (ce := ce) G hpT (by rw [hcs]; exact hil) (by rw [hcs]; exact hf) (by rw [hcs]; exact ha) (by rw [hcs]; exact H)
      rw [hcs] at hL
      obtain ⟨s, l1, l2, l3, l4, l5⟩ := hL
      dsimp only at l1 l2 l3 l4 l5
      unfold wpX_slot
      dsimp only
      rw [fl_slot]
      have e4 : nI ((fl_lev bs * 4 + (fl_ft ts bs).length) * 64 + i) * 4 = nI (((fl_lev bs * 4 + (fl_ft ts bs).length) * 64 + i) * 4) := pk_mul _ 4
      rw [e4, nI_clamp (show ((fl_lev bs * 4 + (fl_ft ts bs).length) * 64 + i) * 4 < 2 ^ 31 by omega), nI_1]
      have key : ∀ x, fl_sp (a_kinds p) (a_args p) R (fl_rw a_rowLen a_data) (O (fl_lev bs) i) p s (fl_xe P K a_elem (fl_lev bs) i) = .inr (.inl x :: s) → vp_in (nI (((fl_lev bs * 4 + (fl_ft ts bs).length) * 64 + i) * 4)) 3072 ∧ ∀ a_cells_100 : Nat → Int32, a_cells_100 = upd ce (((fl_lev bs * 4 + (fl_ft ts bs).length) * 64 + i) * 4) x → ∀ x3_101 : Int32, x3_101 = nI (i + 1) → wX_pushInts_2 post k (a_args p) f_rowCap f_cellCap f_tokenCap f_rowCount f_tokenCount f_status f_resultIsSeq (nI (fl_ft ts bs).length) f_blocks (nI (fl_lev bs)) (d + 1) x3_101 a_rowLen a_data a_kinds a_args a_recKind a_recLen a_rec a_typeSeq a_blockKind a_blockBase a_blockSeq a_laneCount a_owner a_parent a_elem a_place a_off a_cut a_lens a_cells_100 := by
        intro x hsp
        have hx := fl_w1 hpT hsk b3 hil hf H (by omega) l3 l4 i2 l5 hsp
        rw [← l1] at hx
        refine ⟨vp_in_nI (by omega) (by decide), fun a ea y ey => ?_⟩
        subst ea; subst ey
        exact ih (i + 1) _ (by omega) hx
      rcases hk with rfl | rfl | rfl | rfl
      · exact fl_xleaf H.1 b3 hil (Or.inl ⟨rfl, rfl⟩) (key _ (by rw [hkp]; rfl))
      · exact fl_xleaf H.1 b3 hil (Or.inr (Or.inl ⟨rfl, rfl⟩)) (key _ (by rw [hkp]; rfl))
      · obtain ⟨j, j1, j2⟩ := i3 (Or.inl rfl)
        refine fl_xleaf H.1 b3 hil (Or.inr (Or.inr ⟨j, j1, j2, Or.inl ⟨rfl, rfl⟩⟩)) (key _ ?_)
        rw [hkp, j2]
        show Sum.inr (Sum.inl ((fl_xe P K a_elem (fl_lev bs) i).getD (nI j).toNatClampNeg (0, 0)).1 :: s) = _
        rw [nI_clamp (by omega)]
      · obtain ⟨j, j1, j2⟩ := i3 (Or.inr rfl)
        refine fl_xleaf H.1 b3 hil (Or.inr (Or.inr ⟨j, j1, j2, Or.inr ⟨rfl, rfl⟩⟩)) (key _ ?_)
        rw [hkp, j2]
        show Sum.inr (Sum.inl ((fl_xe P K a_elem (fl_lev bs) i).getD (nI j).toNatClampNeg (0, 0)).2 :: s) = _
        rw [nI_clamp (by omega)]
    · exact nm_r (nI_1 i) (ih (i + 1) ce (by omega) (fl_xj_skip hn H))
/-- combine -/
theorem fl_xcb {k : Int32} (G : fl_Gd a_kinds a_args T) (hR : R ≤ 4) (hpT : p < T) (hk : k = 5 ∨ k = 6 ∨ k = 7 ∨ k = 8 ∨ k = 9) (hkp : a_kinds p = k) {bs : List fl_Bl} {t2 : List Bool} (hcs : fl_csf a_kinds a_args p = (false :: false :: t2, bs)) (hc' : fl_csf a_kinds a_args (p + 1) = (false :: t2, bs))
    (Kp : ∀ ce, fl_XJ a_kinds a_args T R (fl_rw a_rowLen a_data) N O P K F C D a_laneCount a_owner a_parent a_elem a_place a_off a_cut a_lens ce a_recKind a_recLen a_rec n0 fs rk0 rl0 rc0 bs (fun _ => p + 1) → post (f_rowCap, f_cellCap, f_tokenCap, f_rowCount, f_tokenCount, f_status, f_resultIsSeq, nI ((fl_ft t2 bs).length + 1), f_blocks, nI (fl_lev bs), a_rowLen, a_data, a_kinds, a_args, a_recKind, a_recLen, a_rec, a_typeSeq, a_blockKind, a_blockBase, a_blockSeq, a_laneCount, a_owner, a_parent, a_elem, a_place, a_off, a_cut, a_lens, ce)) :
    ∀ d i ce, i + d = N (fl_lev bs) → fl_XJ a_kinds a_args T R (fl_rw a_rowLen a_data) N O P K F C D a_laneCount a_owner a_parent a_elem a_place a_off a_cut a_lens ce a_recKind a_recLen a_rec n0 fs rk0 rl0 rc0 bs (fun l => if l < i then p + 1 else p) → wX_combine_2 post k f_rowCap f_cellCap f_tokenCap f_rowCount f_tokenCount f_status f_resultIsSeq (nI ((fl_ft t2 bs).length + 2)) f_blocks (nI (fl_lev bs)) (d + 1) (nI i) a_rowLen a_data a_kinds a_args a_recKind a_recLen a_rec a_typeSeq a_blockKind a_blockBase a_blockSeq a_laneCount a_owner a_parent a_elem a_place a_off a_cut a_lens ce := by
  have hbd := fl_bnd G p (by omega)
  rw [hcs] at hbd
  obtain ⟨b1, b2, b3⟩ := hbd
  dsimp only at b1 b2 b3
  rw [fl_ft_cons, fl_ft_cons] at b1
  simp only [List.length_cons] at b1
  have hsk : fl_sK (a_kinds p) := by rw [hkp]; rcases hk with rfl | rfl | rfl | rfl | rfl <;> decide
  have eh1 : nI ((fl_ft t2 bs).length + 2) - 1 = nI ((fl_ft t2 bs).length + 1) := nI_pred _
  have eh2 : nI ((fl_ft t2 bs).length + 2) - 2 = nI (fl_ft t2 bs).length := pk_sub (a := (fl_ft t2 bs).length + 2) (b := 2) (by omega)
  intro d
  induction d with
  | zero =>
    intro i ce hi H
    have ei : i = N (fl_lev bs) := by omega
    subst ei
    have hN := fl_XR_N H.1 (Nat.le_refl _) b3
    unfold wX_combine_2
    rw [nI_clamp (show fl_lev bs < 2 ^ 31 by omega), (H.1 _ (Nat.le_refl _)).1, eh1]
    exact ⟨vp_in_nI (by omega) (by decide), br_t (nI_le (Nat.le_refl _) (by omega)) (nm_e (Kp ce (fl_xj_end H)))⟩
  | succ d ih =>
    intro i ce hi H
    have hN := fl_XR_N H.1 (Nat.le_refl _) b3
    have hil : i < N (fl_lev bs) := by omega
    unfold wX_combine_2
    rw [nI_clamp (show fl_lev bs < 2 ^ 31 by omega), (H.1 _ (Nat.le_refl _)).1]
    refine ⟨vp_in_nI (by omega) (by decide), br_f (nI_ge hil (by omega)) (fl_xact H.1 (Nat.le_refl _) b3 hR hil (fun hf ha => br_f (by decide) ?_) (fun hn => br_t rfl ?_))⟩
    · have hL := fl_lane (p := p) (i := i) (ln := a_lens) (ce := ce) G hpT (by rw [hcs]; exact hil) (by rw [hcs]; exact hf) (by rw [hcs]; exact ha) (by rw [hcs]; exact H)
      rw [hcs] at hL
      obtain ⟨s, l1, l2, l3, l4, l5⟩ := hL
      dsimp only at l1 l2 l3 l4 l5
      rw [fl_fr_cons, fl_fr_cons] at l4
      obtain ⟨b, s1, rfl, l6⟩ := fl_sh_i l4
      obtain ⟨a, s2, rfl, l7⟩ := fl_sh_i l6
      obtain ⟨⟨m1, -⟩, ⟨m2, -⟩, m3⟩ := l3
      simp only [fl_ft_cons, List.length_cons] at l1 l2 m1
      have l8 : (fl_ft t2 bs).length = fl_bas bs + s2.length := by omega
      unfold wpX_slot
      dsimp only
      rw [eh1, eh2, fl_slot, fl_slot]
      have e4 : nI ((fl_lev bs * 4 + (fl_ft t2 bs).length) * 64 + i) * 4 = nI (((fl_lev bs * 4 + (fl_ft t2 bs).length) * 64 + i) * 4) := pk_mul _ 4
      have e5 : nI ((fl_lev bs * 4 + ((fl_ft t2 bs).length + 1)) * 64 + i) * 4 = nI (((fl_lev bs * 4 + ((fl_ft t2 bs).length + 1)) * 64 + i) * 4) := pk_mul _ 4
      rw [e4, e5, nI_clamp (show ((fl_lev bs * 4 + (fl_ft t2 bs).length) * 64 + i) * 4 < 2 ^ 31 by omega), nI_clamp (show ((fl_lev bs * 4 + ((fl_ft t2 bs).length + 1)) * 64 + i) * 4 < 2 ^ 31 by omega), nI_1]
      have q1 : ce (((fl_lev bs * 4 + ((fl_ft t2 bs).length + 1)) * 64 + i) * 4) = b := by rw [l8]; exact m1
      have q2 : ce (((fl_lev bs * 4 + (fl_ft t2 bs).length) * 64 + i) * 4) = a := by rw [l8]; exact m2
      rw [q1, q2]
      have hx := fl_w1 (x := fl_ap k a b) hpT hsk b3 hil hf H (by omega) m3 l7 hc' l5 (by rw [hkp]; rcases hk with rfl | rfl | rfl | rfl | rfl <;> rfl)
      rw [← l8] at hx
      exact ⟨vp_in_nI (by omega) (by decide), vp_in_nI (by omega) (by decide), fl_xapply hk ⟨vp_in_nI (by omega) (by decide), nm_e (nm_e (ih (i + 1) _ (by omega) hx))⟩⟩
    · exact nm_r (nI_1 i) (ih (i + 1) ce (by omega) (fl_xj_skip hn H))
/-- reduce -/
theorem fl_xrd {k : Int32} (G : fl_Gd a_kinds a_args T) (hR : R ≤ 4) (hpT : p < T) (hk : k = 10 ∨ k = 11) (hkp : a_kinds p = k) {bs : List fl_Bl} {t2 : List Bool} (hcs : fl_csf a_kinds a_args p = (true :: t2, bs)) (hc' : fl_csf a_kinds a_args (p + 1) = (false :: t2, bs))
    (Kp : ∀ ce, fl_XJ a_kinds a_args T R (fl_rw a_rowLen a_data) N O P K F C D a_laneCount a_owner a_parent a_elem a_place a_off a_cut a_lens ce a_recKind a_recLen a_rec n0 fs rk0 rl0 rc0 bs (fun _ => p + 1) → post (f_rowCap, f_cellCap, f_tokenCap, f_rowCount, f_tokenCount, f_status, f_resultIsSeq, nI ((fl_ft t2 bs).length + 1), f_blocks, nI (fl_lev bs), a_rowLen, a_data, a_kinds, a_args, a_recKind, a_recLen, a_rec, a_typeSeq, a_blockKind, a_blockBase, a_blockSeq, a_laneCount, a_owner, a_parent, a_elem, a_place, a_off, a_cut, a_lens, ce)) :
    ∀ d i ce, i + d = N (fl_lev bs) → fl_XJ a_kinds a_args T R (fl_rw a_rowLen a_data) N O P K F C D a_laneCount a_owner a_parent a_elem a_place a_off a_cut a_lens ce a_recKind a_recLen a_rec n0 fs rk0 rl0 rc0 bs (fun l => if l < i then p + 1 else p) → wX_reduce_2 post k f_rowCap f_cellCap f_tokenCap f_rowCount f_tokenCount f_status f_resultIsSeq (nI ((fl_ft t2 bs).length + 1)) f_blocks (nI (fl_lev bs)) (d + 1) (nI i) a_rowLen a_data a_kinds a_args a_recKind a_recLen a_rec a_typeSeq a_blockKind a_blockBase a_blockSeq a_laneCount a_owner a_parent a_elem a_place a_off a_cut a_lens ce := by
  have hbd := fl_bnd G p (by omega)
  rw [hcs] at hbd
  obtain ⟨b1, b2, b3⟩ := hbd
  dsimp only at b1 b2 b3
  rw [fl_ft_cons] at b1
  simp only [List.length_cons] at b1
  have hsk : fl_sK (a_kinds p) := by rw [hkp]; rcases hk with rfl | rfl <;> decide
  have eh1 : nI ((fl_ft t2 bs).length + 1) - 1 = nI (fl_ft t2 bs).length := nI_pred _
  intro d
  induction d with
  | zero =>
    intro i ce hi H
    have ei : i = N (fl_lev bs) := by omega
    subst ei
    have hN := fl_XR_N H.1 (Nat.le_refl _) b3
    unfold wX_reduce_2
    rw [nI_clamp (show fl_lev bs < 2 ^ 31 by omega), (H.1 _ (Nat.le_refl _)).1]
    exact ⟨vp_in_nI (by omega) (by decide), br_t (nI_le (Nat.le_refl _) (by omega)) (Kp ce (fl_xj_end H))⟩
  | succ d ih =>
    intro i ce hi H
    have hN := fl_XR_N H.1 (Nat.le_refl _) b3
    have hil : i < N (fl_lev bs) := by omega
    unfold wX_reduce_2
    rw [nI_clamp (show fl_lev bs < 2 ^ 31 by omega), (H.1 _ (Nat.le_refl _)).1]
    refine ⟨vp_in_nI (by omega) (by decide), br_f (nI_ge hil (by omega)) (fl_xact H.1 (Nat.le_refl _) b3 hR hil (fun hf ha => br_f (by decide) ?_) (fun hn => br_t rfl ?_))⟩
    · have hL := fl_lane (p := p) (i := i) (ln := a_lens) (ce := ce) G hpT (by rw [hcs]; exact hil) (by rw [hcs]; exact hf) (by rw [hcs]; exact ha) (by rw [hcs]; exact H)
      rw [hcs] at hL
      obtain ⟨s, l1, l2, l3, l4, l5⟩ := hL
      dsimp only at l1 l2 l3 l4 l5
      rw [fl_fr_cons] at l4
      obtain ⟨xs, s2, rfl, l7⟩ := fl_sh_s l4
      obtain ⟨⟨m1, m2, m4⟩, m3⟩ := l3
      simp only [fl_ft_cons, List.length_cons] at l1 l2
      have l8 : (fl_ft t2 bs).length = fl_bas bs + s2.length := by omega
      unfold wpX_slot
      dsimp only
      rw [eh1, fl_slot]
      have e4 : nI ((fl_lev bs * 4 + (fl_ft t2 bs).length) * 64 + i) * 4 = nI (((fl_lev bs * 4 + (fl_ft t2 bs).length) * 64 + i) * 4) := pk_mul _ 4
      rw [e4, nI_clamp (show ((fl_lev bs * 4 + (fl_ft t2 bs).length) * 64 + i) * 4 < 2 ^ 31 by omega), nI_clamp (show (fl_lev bs * 4 + (fl_ft t2 bs).length) * 64 + i < 2 ^ 31 by omega), nI_1]
      have q1 : a_lens ((fl_lev bs * 4 + (fl_ft t2 bs).length) * 64 + i) = nI xs.length := by rw [l8]; exact m1
      have q2 : ∀ j (hj : j < xs.length), ce (((fl_lev bs * 4 + (fl_ft t2 bs).length) * 64 + i) * 4 + j) = xs[j] := by rw [l8]; exact m4
      have hx := fun x hsp => fl_w1 (x := x) hpT hsk b3 hil hf H (by omega) m3 l7 hc' l5 hsp
      rw [← l8] at hx
      rcases hk with rfl | rfl
      · exact br_f (by decide) (fl_xsum (by omega) q1 m2 q2 ⟨vp_in_nI (by omega) (by decide), nm_e (nm_e (ih (i + 1) _ (by omega) (hx _ (by rw [hkp]; rfl))))⟩)
      · rw [q1]
        exact br_t rfl ⟨vp_in_nI (by omega) (by decide), vp_in_nI (by omega) (by decide), nm_e (nm_e (ih (i + 1) _ (by omega) (hx _ (by rw [hkp]; rfl))))⟩
    · exact nm_r (nI_1 i) (ih (i + 1) ce (by omega) (fl_xj_skip hn H))
end XSI
end
section
/-! X: tokens that load rows or fault -/
section XSF
variable {f_rowCap f_cellCap f_tokenCap f_rowCount f_tokenCount f_status f_resultIsSeq f_height f_blocks f_level : Int32} {a_rowLen a_data a_kinds a_args a_recKind a_recLen a_rec a_typeSeq a_blockKind a_blockBase a_blockSeq a_laneCount a_owner a_parent a_elem a_place a_off a_cut a_lens a_cells : Nat → Int32} {R T n0 fs p : Nat} {N : Nat → Nat} {O P K F C D : Nat → Nat → Nat} {rk0 rl0 rc0 : Nat → Int32} {post : SX → Prop}
theorem fl_w2 {i : Nat} {ln ce ce' : Nat → Int32} {s s2 : List fl_V} {xs : List Int32} {bs : List fl_Bl} {t2 : List Bool} (hpT : p < T) (hk : fl_sK (a_kinds p)) (hV : fl_lev bs ≤ 2) (hi : i < N (fl_lev bs)) (hf : F (fl_lev bs) i = 0) (H : fl_XJ a_kinds a_args T R (fl_rw a_rowLen a_data) N O P K F C D a_laneCount a_owner a_parent a_elem a_place a_off a_cut ln ce a_recKind a_recLen a_rec n0 fs rk0 rl0 rc0 bs (fun l => if l < i then p + 1 else p)) (hb : fl_bas bs + s2.length < 4) (hM : fl_XM ln ce (fl_lev bs) i (fl_bas bs) s2) (ht : s2.map fl_tg = fl_fr t2 bs) (hc : fl_csf a_kinds a_args (p + 1) = (true :: t2, bs))
    (hE : fl_EV a_kinds a_args T R (fl_rw a_rowLen a_data) (O (fl_lev bs) i) (fl_sP bs) [] (fl_xe P K a_elem (fl_lev bs) i) = fl_EV a_kinds a_args T R (fl_rw a_rowLen a_data) (O (fl_lev bs) i) p s (fl_xe P K a_elem (fl_lev bs) i))
    (hsp : fl_sp (a_kinds p) (a_args p) R (fl_rw a_rowLen a_data) (O (fl_lev bs) i) p s (fl_xe P K a_elem (fl_lev bs) i) = .inr (.inr xs :: s2))
    (h4 : xs.length ≤ 4) (h1 : ∀ j (hj : j < xs.length), ce' (((fl_lev bs * 4 + (fl_bas bs + s2.length)) * 64 + i) * 4 + j) = xs[j]) (h2 : ∀ j, (j < ((fl_lev bs * 4 + (fl_bas bs + s2.length)) * 64 + i) * 4 ∨ ((fl_lev bs * 4 + (fl_bas bs + s2.length)) * 64 + i) * 4 + 4 ≤ j) → ce' j = ce j) :
    fl_XJ a_kinds a_args T R (fl_rw a_rowLen a_data) N O P K F C D a_laneCount a_owner a_parent a_elem a_place a_off a_cut (upd ln ((fl_lev bs * 4 + (fl_bas bs + s2.length)) * 64 + i) (nI xs.length)) ce' a_recKind a_recLen a_rec n0 fs rk0 rl0 rc0 bs (fun l => if l < i + 1 then p + 1 else p) := by
  have hN := fl_XR_N H.1 (Nat.le_refl _) hV
  refine fl_xj_ok (s := s) hV hi hf H (hE.trans (fl_EV_sr hpT hk hsp)) (fun v l hl hne => fl_AG_s hl (by omega) hne hb h2) (by rw [List.length_cons]; omega) (fl_XM_seq h4 h1 h2 hM) ?_
  rw [hc, fl_fr_cons, List.map_cons, ht]; rfl
/-- a lane faults -/
theorem fl_w3 {i : Nat} {ct rk rl rc ln ce ct' : Nat → Int32} {s : List fl_V} {idx : Int32} {bs : List fl_Bl} (hpT : p < T) (hk : fl_sK (a_kinds p)) (hV : fl_lev bs ≤ 2) (hR : R ≤ 4) (hi : i < N (fl_lev bs)) (ha : i < C (fl_lev bs) (O (fl_lev bs) i)) (H : fl_XJ a_kinds a_args T R (fl_rw a_rowLen a_data) N O P K F C D a_laneCount a_owner a_parent a_elem a_place a_off ct ln ce rk rl rc n0 fs rk0 rl0 rc0 bs (fun l => if l < i then p + 1 else p))
    (hE : fl_EV a_kinds a_args T R (fl_rw a_rowLen a_data) (O (fl_lev bs) i) (fl_sP bs) [] (fl_xe P K a_elem (fl_lev bs) i) = fl_EV a_kinds a_args T R (fl_rw a_rowLen a_data) (O (fl_lev bs) i) p s (fl_xe P K a_elem (fl_lev bs) i))
    (hsp : fl_sp (a_kinds p) (a_args p) R (fl_rw a_rowLen a_data) (O (fl_lev bs) i) p s (fl_xe P K a_elem (fl_lev bs) i) = .inl (p, idx))
    (hc1 : ∀ v, v ≤ fl_lev bs → ct' (v * 4 + O (fl_lev bs) i) = nI (fl_an P (fl_lev bs) i v)) (hc2 : ∀ v r, v ≤ fl_lev bs → r < 4 → r ≠ O (fl_lev bs) i → ct' (v * 4 + r) = ct (v * 4 + r)) :
    fl_XJ a_kinds a_args T R (fl_rw a_rowLen a_data) N O P K F (fun v r => if r = O (fl_lev bs) i then fl_an P (fl_lev bs) i v else C v r) D a_laneCount a_owner a_parent a_elem a_place a_off ct' ln ce (upd rk (O (fl_lev bs) i) 3) (upd rl (O (fl_lev bs) i) 2) (upd (upd rc (O (fl_lev bs) i * 4) (nI p)) (O (fl_lev bs) i * 4 + 1) idx) n0 fs rk0 rl0 rc0 bs (fun l => if l < i + 1 then p + 1 else p) := by
  refine fl_xj_flt (f := (p, idx)) hV hR hi ha H (hE.trans (fl_EV_sl hpT hk hsp)) (fun r hr hr4 => ⟨?_, ?_, fun j hj => ?_⟩) ⟨fl_ups, fl_ups, ?_, fl_ups⟩ hc1 hc2
  · rw [upd, if_neg hr]
  · rw [upd, if_neg hr]
  · rw [upd, if_neg (by omega), upd, if_neg (by omega)]
  · show upd _ _ _ _ = _
    rw [upd, if_neg (by omega)]; exact fl_ups
/-- pushOwnRows -/
theorem fl_xpr (G : fl_Gd a_kinds a_args T) (hR : R ≤ 4) (hRL : fl_RL R a_rowLen) (hpT : p < T) (hkp : a_kinds p = 1) {bs : List fl_Bl} {ts : List Bool} (hcs : fl_csf a_kinds a_args p = (ts, bs))
    (Kp : ∀ ln ce, fl_XJ a_kinds a_args T R (fl_rw a_rowLen a_data) N O P K F C D a_laneCount a_owner a_parent a_elem a_place a_off a_cut ln ce a_recKind a_recLen a_rec n0 fs rk0 rl0 rc0 bs (fun _ => p + 1) → post (f_rowCap, f_cellCap, f_tokenCap, f_rowCount, f_tokenCount, f_status, f_resultIsSeq, nI ((fl_ft ts bs).length + 1), f_blocks, nI (fl_lev bs), a_rowLen, a_data, a_kinds, a_args, a_recKind, a_recLen, a_rec, a_typeSeq, a_blockKind, a_blockBase, a_blockSeq, a_laneCount, a_owner, a_parent, a_elem, a_place, a_off, a_cut, ln, ce)) :
    ∀ d i ln ce, i + d = N (fl_lev bs) → fl_XJ a_kinds a_args T R (fl_rw a_rowLen a_data) N O P K F C D a_laneCount a_owner a_parent a_elem a_place a_off a_cut ln ce a_recKind a_recLen a_rec n0 fs rk0 rl0 rc0 bs (fun l => if l < i then p + 1 else p) → wX_pushOwnRows_2 post (d + 1) (nI i) f_rowCap f_cellCap f_tokenCap f_rowCount f_tokenCount f_status f_resultIsSeq (nI (fl_ft ts bs).length) f_blocks (nI (fl_lev bs)) a_rowLen a_data a_kinds a_args a_recKind a_recLen a_rec a_typeSeq a_blockKind a_blockBase a_blockSeq a_laneCount a_owner a_parent a_elem a_place a_off a_cut ln ce := by
  have hbd := fl_bnd G p (by omega)
  rw [hcs] at hbd
  obtain ⟨b1, b2, b3⟩ := hbd
  dsimp only at b1 b2 b3
  have hsk : fl_sK (a_kinds p) := by rw [hkp]; decide
  have hck := G.2.1 p hpT
  rw [hcs, hkp, fl_ck_1] at hck
  obtain ⟨i1, i2⟩ := fl_psh_inv hck
  dsimp only at i1 i2
  intro d
  induction d with
  | zero =>
    intro i ln ce hi H
    have ei : i = N (fl_lev bs) := by omega
    subst ei
    have hN := fl_XR_N H.1 (Nat.le_refl _) b3
    unfold wX_pushOwnRows_2
    rw [nI_clamp (show fl_lev bs < 2 ^ 31 by omega), (H.1 _ (Nat.le_refl _)).1, nI_1]
    exact ⟨vp_in_nI (by omega) (by decide), br_t (nI_le (Nat.le_refl _) (by omega)) (nm_e (Kp ln ce (fl_xj_end H)))⟩
  | succ d ih =>
    intro i ln ce hi H
    have hN := fl_XR_N H.1 (Nat.le_refl _) b3
    have hil : i < N (fl_lev bs) := by omega
    unfold wX_pushOwnRows_2
    rw [nI_clamp (show fl_lev bs < 2 ^ 31 by omega), (H.1 _ (Nat.le_refl _)).1]
    refine ⟨vp_in_nI (by omega) (by decide), br_f (nI_ge hil (by omega)) (fl_xact H.1 (Nat.le_refl _) b3 hR hil (fun hf ha => br_f (by decide) ?_) (fun hn => br_t rfl ?_))⟩
    · have hL := fl_lane (p := p) (i := i) (ln := ln) (ce := ce) G hpT (by rw [hcs]; exact hil) (by rw [hcs]; exact hf) (by rw [hcs]; exact ha) (by rw [hcs]; exact H)
      rw [hcs] at hL
      obtain ⟨s, l1, l2, l3, l4, l5⟩ := hL
      dsimp only at l1 l2 l3 l4 l5
      obtain ⟨o1, o2, -⟩ := (H.1 _ (Nat.le_refl _)).2.2.1 i hil
      have e1 : nI (fl_lev bs) * 64 + nI i = nI (fl_lev bs * 64 + i) := by rw [show (64 : Int32) = nI 64 from rfl, pk_mul, nI_add]
      unfold wpX_slot
      dsimp only
      rw [fl_slot, e1, nI_clamp (show fl_lev bs * 64 + i < 2 ^ 31 by omega), o1, nI_1]
      refine ⟨vp_in_nI (by omega) (by decide), fl_xload (by omega) o2 hR hRL fun ce' u1 u2 => nm_e (ih (i + 1) _ ce' (by omega) ?_)⟩
      rw [l1] at u1 u2 ⊢
      exact fl_w2 hpT hsk b3 hil hf H (by omega) l3 l4 i2 l5 (by rw [hkp]; rfl) (fl_RL_l hRL o2).2 u1 u2
    · exact nm_r (nI_1 i) (ih (i + 1) ln ce (by omega) (fl_xj_skip hn H))
/-- pick -/
theorem fl_xpk (G : fl_Gd a_kinds a_args T) (hR : R ≤ 4) (hpT : p < T) (hkp : a_kinds p = 12) {bs : List fl_Bl} {t2 : List Bool} (hcs : fl_csf a_kinds a_args p = (false :: true :: t2, bs)) (hc' : fl_csf a_kinds a_args (p + 1) = (false :: t2, bs))
    (Kp : ∀ C ct ce rk rl rc, fl_XJ a_kinds a_args T R (fl_rw a_rowLen a_data) N O P K F C D a_laneCount a_owner a_parent a_elem a_place a_off ct a_lens ce rk rl rc n0 fs rk0 rl0 rc0 bs (fun _ => p + 1) → post (f_rowCap, f_cellCap, f_tokenCap, f_rowCount, f_tokenCount, f_status, f_resultIsSeq, nI ((fl_ft t2 bs).length + 1), f_blocks, nI (fl_lev bs), a_rowLen, a_data, a_kinds, a_args, rk, rl, rc, a_typeSeq, a_blockKind, a_blockBase, a_blockSeq, a_laneCount, a_owner, a_parent, a_elem, a_place, a_off, ct, a_lens, ce)) :
    ∀ d i C ct ce rk rl rc, i + d = N (fl_lev bs) → fl_XJ a_kinds a_args T R (fl_rw a_rowLen a_data) N O P K F C D a_laneCount a_owner a_parent a_elem a_place a_off ct a_lens ce rk rl rc n0 fs rk0 rl0 rc0 bs (fun l => if l < i then p + 1 else p) → wX_pick_2 post (nI p) (d + 1) (nI i) f_rowCap f_cellCap f_tokenCap f_rowCount f_tokenCount f_status f_resultIsSeq (nI ((fl_ft t2 bs).length + 2)) f_blocks (nI (fl_lev bs)) a_rowLen a_data a_kinds a_args rk rl rc a_typeSeq a_blockKind a_blockBase a_blockSeq a_laneCount a_owner a_parent a_elem a_place a_off ct a_lens ce := by
  have hbd := fl_bnd G p (by omega)
  rw [hcs] at hbd
  obtain ⟨b1, b2, b3⟩ := hbd
  dsimp only at b1 b2 b3
  rw [fl_ft_cons, fl_ft_cons] at b1
  simp only [List.length_cons] at b1
  have hsk : fl_sK (a_kinds p) := by rw [hkp]; decide
  have eh1 : nI ((fl_ft t2 bs).length + 2) - 1 = nI ((fl_ft t2 bs).length + 1) := nI_pred _
  have eh2 : nI ((fl_ft t2 bs).length + 2) - 2 = nI (fl_ft t2 bs).length := pk_sub (a := (fl_ft t2 bs).length + 2) (b := 2) (by omega)
  intro d
  induction d with
  | zero =>
    intro i C ct ce rk rl rc hi H
    have ei : i = N (fl_lev bs) := by omega
    subst ei
    have hN := fl_XR_N H.1 (Nat.le_refl _) b3
    unfold wX_pick_2
    rw [nI_clamp (show fl_lev bs < 2 ^ 31 by omega), (H.1 _ (Nat.le_refl _)).1, eh1]
    exact ⟨vp_in_nI (by omega) (by decide), br_t (nI_le (Nat.le_refl _) (by omega)) (nm_e (Kp C ct ce rk rl rc (fl_xj_end H)))⟩
  | succ d ih =>
    intro i C ct ce rk rl rc hi H
    have hN := fl_XR_N H.1 (Nat.le_refl _) b3
    have hil : i < N (fl_lev bs) := by omega
    unfold wX_pick_2
    rw [nI_clamp (show fl_lev bs < 2 ^ 31 by omega), (H.1 _ (Nat.le_refl _)).1]
    refine ⟨vp_in_nI (by omega) (by decide), br_f (nI_ge hil (by omega)) (fl_xact H.1 (Nat.le_refl _) b3 hR hil (fun hf ha => br_f (by decide) ?_) (fun hn => br_t rfl ?_))⟩
    · have hL := fl_lane (p := p) (i := i) (ln := a_lens) (ce := ce) G hpT (by rw [hcs]; exact hil) (by rw [hcs]; exact hf) (by rw [hcs]; exact ha) (by rw [hcs]; exact H)
      rw [hcs] at hL
      obtain ⟨s, l1, l2, l3, l4, l5⟩ := hL
      dsimp only at l1 l2 l3 l4 l5
      rw [fl_fr_cons, fl_fr_cons] at l4
      obtain ⟨idx, s1, rfl, l6⟩ := fl_sh_i l4
      obtain ⟨xs, s2, rfl, l7⟩ := fl_sh_s l6
      obtain ⟨⟨m1, -⟩, ⟨m2, m5, m6⟩, m3⟩ := l3
      simp only [fl_ft_cons, List.length_cons] at l1 l2 m1
      have l8 : (fl_ft t2 bs).length = fl_bas bs + s2.length := by omega
      unfold wpX_slot
      dsimp only
      rw [eh1, eh2, fl_slot, fl_slot]
      have e4 : nI ((fl_lev bs * 4 + (fl_ft t2 bs).length) * 64 + i) * 4 = nI (((fl_lev bs * 4 + (fl_ft t2 bs).length) * 64 + i) * 4) := pk_mul _ 4
      have e5 : nI ((fl_lev bs * 4 + ((fl_ft t2 bs).length + 1)) * 64 + i) * 4 = nI (((fl_lev bs * 4 + ((fl_ft t2 bs).length + 1)) * 64 + i) * 4) := pk_mul _ 4
      rw [e4, e5, nI_clamp (show ((fl_lev bs * 4 + (fl_ft t2 bs).length) * 64 + i) * 4 < 2 ^ 31 by omega), nI_clamp (show ((fl_lev bs * 4 + ((fl_ft t2 bs).length + 1)) * 64 + i) * 4 < 2 ^ 31 by omega), nI_clamp (show (fl_lev bs * 4 + (fl_ft t2 bs).length) * 64 + i < 2 ^ 31 by omega), nI_1]
      have q1 : ce (((fl_lev bs * 4 + ((fl_ft t2 bs).length + 1)) * 64 + i) * 4) = idx := by rw [l8]; exact m1
      have q2 : a_lens ((fl_lev bs * 4 + (fl_ft t2 bs).length) * 64 + i) = nI xs.length := by rw [l8]; exact m2
      have q3 : ∀ j (hj : j < xs.length), ce (((fl_lev bs * 4 + (fl_ft t2 bs).length) * 64 + i) * 4 + j) = xs[j] := by rw [l8]; exact m6
      rw [q1, q2]
      refine ⟨vp_in_nI (by omega) (by decide), fun x ex => ?_⟩
      subst ex
      have flt : (x < 0 ∨ ¬ x < nI xs.length) → wX_pick_79 post (wX_pick_2 post (nI p) (d + 1)) (nI p) (nI i) x f_rowCap f_cellCap f_tokenCap f_rowCount f_tokenCount f_status f_resultIsSeq (nI ((fl_ft t2 bs).length + 2)) f_blocks (nI (fl_lev bs)) a_rowLen a_data a_kinds a_args rk rl rc a_typeSeq a_blockKind a_blockBase a_blockSeq a_laneCount a_owner a_parent a_elem a_place a_off ct a_lens ce := by
        intro hx
        unfold wX_pick_79
        refine fl_xflt H.1 b3 hR hil fun ct' k1 k2 => nm_r (nI_1 i) (ih (i + 1) (fun v r => if r = O (fl_lev bs) i then fl_an P (fl_lev bs) i v else C v r) ct' ce _ _ _ (by omega) ?_)
        refine fl_w3 hpT hsk b3 hR hil ha H l5 ?_ k1 k2
        rw [hkp]
        show (if x < 0 ∨ ¬ x < nI xs.length then _ else _) = _
        rw [if_pos hx]
      by_cases hx0 : x < 0
      · exact br_t hx0 (flt (Or.inl hx0))
      refine br_f hx0 ⟨vp_in_nI (by omega) (by decide), ?_⟩
      by_cases hx1 : x < nI xs.length
      · obtain ⟨j, hj, rfl⟩ := nI_of hx0
        have hj2 := hx1
        rw [nI_ltI hj (by omega)] at hj2
        have e6 : nI (((fl_lev bs * 4 + (fl_ft t2 bs).length) * 64 + i) * 4) + nI j = nI (((fl_lev bs * 4 + (fl_ft t2 bs).length) * 64 + i) * 4 + j) := nI_add _ _
        refine br_t hx1 ?_
        rw [e6, nI_clamp (show ((fl_lev bs * 4 + (fl_ft t2 bs).length) * 64 + i) * 4 + j < 2 ^ 31 by omega), q3 j hj2]
        have ho : fl_sp (a_kinds p) (a_args p) R (fl_rw a_rowLen a_data) (O (fl_lev bs) i) p (.inl (nI j) :: .inr xs :: s2) (fl_xe P K a_elem (fl_lev bs) i) = .inr (.inl (xs[j]) :: s2) := by
          rw [hkp]
          show (if nI j < 0 ∨ ¬ nI j < nI xs.length then _ else _) = _
          rw [if_neg (by simp [hx0, hx1]), nI_clamp hj, List.getD_eq_getElem?_getD, List.getElem?_eq_getElem hj2]; rfl
        have hx := fl_w1 (a_cut := ct) (a_recKind := rk) (a_recLen := rl) (a_rec := rc) hpT hsk b3 hil hf H (by omega) m3 l7 hc' l5 ho
        rw [← l8] at hx
        exact ⟨vp_in_nI (by omega) (by decide), vp_in_nI (by omega) (by decide), nm_e (nm_e (ih (i + 1) C ct _ rk rl rc (by omega) hx))⟩
      · exact br_f hx1 (flt (Or.inr hx1))
    · exact nm_r (nI_1 i) (ih (i + 1) C ct ce rk rl rc (by omega) (fl_xj_skip hn H))
/-- fetchRows -/
theorem fl_xfr (G : fl_Gd a_kinds a_args T) (hR : R ≤ 4) (hRL : fl_RL R a_rowLen) (hpT : p < T) (hkp : a_kinds p = 13) {bs : List fl_Bl} {t2 : List Bool} (hcs : fl_csf a_kinds a_args p = (false :: t2, bs)) (hc' : fl_csf a_kinds a_args (p + 1) = (true :: t2, bs))
    (Kp : ∀ C ct ln ce rk rl rc, fl_XJ a_kinds a_args T R (fl_rw a_rowLen a_data) N O P K F C D a_laneCount a_owner a_parent a_elem a_place a_off ct ln ce rk rl rc n0 fs rk0 rl0 rc0 bs (fun _ => p + 1) → post (f_rowCap, f_cellCap, f_tokenCap, nI R, f_tokenCount, f_status, f_resultIsSeq, nI ((fl_ft t2 bs).length + 1), f_blocks, nI (fl_lev bs), a_rowLen, a_data, a_kinds, a_args, rk, rl, rc, a_typeSeq, a_blockKind, a_blockBase, a_blockSeq, a_laneCount, a_owner, a_parent, a_elem, a_place, a_off, ct, ln, ce)) :
    ∀ d i C ct ln ce rk rl rc, i + d = N (fl_lev bs) → fl_XJ a_kinds a_args T R (fl_rw a_rowLen a_data) N O P K F C D a_laneCount a_owner a_parent a_elem a_place a_off ct ln ce rk rl rc n0 fs rk0 rl0 rc0 bs (fun l => if l < i then p + 1 else p) → wX_fetchRows_2 post (nI p) (d + 1) (nI i) f_rowCap f_cellCap f_tokenCap (nI R) f_tokenCount f_status f_resultIsSeq (nI ((fl_ft t2 bs).length + 1)) f_blocks (nI (fl_lev bs)) a_rowLen a_data a_kinds a_args rk rl rc a_typeSeq a_blockKind a_blockBase a_blockSeq a_laneCount a_owner a_parent a_elem a_place a_off ct ln ce := by
  have hbd := fl_bnd G p (by omega)
  rw [hcs] at hbd
  obtain ⟨b1, b2, b3⟩ := hbd
  dsimp only at b1 b2 b3
  rw [fl_ft_cons] at b1
  simp only [List.length_cons] at b1
  have hsk : fl_sK (a_kinds p) := by rw [hkp]; decide
  have eh1 : nI ((fl_ft t2 bs).length + 1) - 1 = nI (fl_ft t2 bs).length := nI_pred _
  intro d
  induction d with
  | zero =>
    intro i C ct ln ce rk rl rc hi H
    have ei : i = N (fl_lev bs) := by omega
    subst ei
    have hN := fl_XR_N H.1 (Nat.le_refl _) b3
    unfold wX_fetchRows_2
    rw [nI_clamp (show fl_lev bs < 2 ^ 31 by omega), (H.1 _ (Nat.le_refl _)).1]
    exact ⟨vp_in_nI (by omega) (by decide), br_t (nI_le (Nat.le_refl _) (by omega)) (Kp C ct ln ce rk rl rc (fl_xj_end H))⟩
  | succ d ih =>
    intro i C ct ln ce rk rl rc hi H
    have hN := fl_XR_N H.1 (Nat.le_refl _) b3
    have hil : i < N (fl_lev bs) := by omega
    unfold wX_fetchRows_2
    rw [nI_clamp (show fl_lev bs < 2 ^ 31 by omega), (H.1 _ (Nat.le_refl _)).1]
    refine ⟨vp_in_nI (by omega) (by decide), br_f (nI_ge hil (by omega)) (fl_xact H.1 (Nat.le_refl _) b3 hR hil (fun hf ha => br_f (by decide) ?_) (fun hn => br_t rfl ?_))⟩
    · have hL := fl_lane (p := p) (i := i) (ln := ln) (ce := ce) G hpT (by rw [hcs]; exact hil) (by rw [hcs]; exact hf) (by rw [hcs]; exact ha) (by rw [hcs]; exact H)
      rw [hcs] at hL
      obtain ⟨s, l1, l2, l3, l4, l5⟩ := hL
      dsimp only at l1 l2 l3 l4 l5
      rw [fl_fr_cons] at l4
      obtain ⟨idx, s2, rfl, l7⟩ := fl_sh_i l4
      obtain ⟨⟨m1, -⟩, m3⟩ := l3
      simp only [fl_ft_cons, List.length_cons] at l1 l2
      have l8 : (fl_ft t2 bs).length = fl_bas bs + s2.length := by omega
      unfold wpX_slot
      dsimp only
      rw [eh1, fl_slot]
      have e4 : nI ((fl_lev bs * 4 + (fl_ft t2 bs).length) * 64 + i) * 4 = nI (((fl_lev bs * 4 + (fl_ft t2 bs).length) * 64 + i) * 4) := pk_mul _ 4
      rw [e4, nI_clamp (show ((fl_lev bs * 4 + (fl_ft t2 bs).length) * 64 + i) * 4 < 2 ^ 31 by omega), nI_1]
      have q1 : ce (((fl_lev bs * 4 + (fl_ft t2 bs).length) * 64 + i) * 4) = idx := by rw [l8]; exact m1
      rw [q1]
      refine ⟨vp_in_nI (by omega) (by decide), fun x ex => ?_⟩
      subst ex
      have flt : (x < 0 ∨ ¬ x < nI R) → wpX_fault (fun u => match u with | (f_rowCap, f_cellCap, f_tokenCap, f_rowCount, f_tokenCount, f_status, f_resultIsSeq, f_height, f_blocks, f_level, a_rowLen, a_data, a_kinds, a_args, a_recKind, a_recLen, a_rec, a_typeSeq, a_blockKind, a_blockBase, a_blockSeq, a_laneCount, a_owner, a_parent, a_elem, a_place, a_off, a_cut, a_lens, a_cells) => (∀ x2_132 : Int32, x2_132 = nI (i + 1) → (wX_fetchRows_2 post (nI p) (d + 1) x2_132 f_rowCap f_cellCap f_tokenCap f_rowCount f_tokenCount f_status f_resultIsSeq f_height f_blocks f_level a_rowLen a_data a_kinds a_args a_recKind a_recLen a_rec a_typeSeq a_blockKind a_blockBase a_blockSeq a_laneCount a_owner a_parent a_elem a_place a_off a_cut a_lens a_cells))) (f_rowCap, f_cellCap, f_tokenCap, nI R, f_tokenCount, f_status, f_resultIsSeq, nI ((fl_ft t2 bs).length + 1), f_blocks, nI (fl_lev bs), a_rowLen, a_data, a_kinds, a_args, rk, rl, rc, a_typeSeq, a_blockKind, a_blockBase, a_blockSeq, a_laneCount, a_owner, a_parent, a_elem, a_place, a_off, ct, ln, ce) (nI p) x (nI i) := by
        intro hx
        refine fl_xflt H.1 b3 hR hil fun ct' k1 k2 => nm_e (ih (i + 1) (fun v r => if r = O (fl_lev bs) i then fl_an P (fl_lev bs) i v else C v r) ct' ln ce _ _ _ (by omega) ?_)
        refine fl_w3 hpT hsk b3 hR hil ha H l5 ?_ k1 k2
        rw [hkp]
        show (if x < 0 ∨ ¬ x < nI R then _ else _) = _
        rw [if_pos hx]
      unfold wpX_hasRow
      dsimp only
      by_cases hx0 : x < 0
      · exact br_t hx0 (br_t rfl (flt (Or.inl hx0)))
      refine br_f hx0 ?_
      by_cases hx1 : x < nI R
      · obtain ⟨j, hj, rfl⟩ := nI_of hx0
        have hj2 := hx1
        rw [nI_ltI hj (by omega)] at hj2
        refine br_f (Int32.not_le.mpr hx1) (br_f (by decide) (fl_xload (by omega) hj2 hR hRL fun ce' u1 u2 => nm_e (ih (i + 1) C ct _ ce' rk rl rc (by omega) ?_)))
        rw [l8] at u1 u2 ⊢
        refine fl_w2 (a_cut := ct) (a_recKind := rk) (a_recLen := rl) (a_rec := rc) hpT hsk b3 hil hf H (by omega) m3 l7 hc' l5 ?_ (fl_RL_l hRL hj2).2 u1 u2
        rw [hkp]
        show (if nI j < 0 ∨ ¬ nI j < nI R then _ else _) = _
        rw [if_neg (by simp [hx0, hx1]), nI_clamp hj]
      · exact br_t (Int32.not_lt.mp hx1) (br_t rfl (flt (Or.inr hx1)))
    · exact nm_r (nI_1 i) (ih (i + 1) C ct ln ce rk rl rc (by omega) (fl_xj_skip hn H))
end XSF
end
section
/-! X: masks -/
def fl_IV (V n : Nat) (F1 : Nat → Nat) (of : Nat → Int32) (i : Nat) (of1 : Nat → Int32) : Prop :=
  (∀ l, l < i → of1 (V * 64 + l) = nI (F1 l)) ∧ (∀ l, i ≤ l → l < n → of1 (V * 64 + l) = of (V * 64 + l)) ∧ (∀ j, (∀ l, l < n → j ≠ V * 64 + l) → of1 j = of j)
theorem fl_IV_s {V n : Nat} {F1 : Nat → Nat} {of of1 : Nat → Int32} {i : Nat} (hi : i < n) (h : fl_IV V n F1 of i of1) : fl_IV V n F1 of (i + 1) (upd of1 (V * 64 + i) (nI (F1 i))) := by
  refine ⟨fun l hl => ?_, fun l hl hn => ?_, fun j hj => ?_⟩
  · by_cases e : l = i
    · subst e; exact fl_ups
    · rw [upd, if_neg (by omega)]; exact h.1 l (by omega)
  · rw [upd, if_neg (by omega)]; exact h.2.1 l (by omega) hn
  · rw [upd, if_neg (hj i hi)]; exact h.2.2 j hj
theorem fl_IV_k {V n : Nat} {F1 : Nat → Nat} {of of1 : Nat → Int32} {i : Nat} (hi : i < n) (e : of (V * 64 + i) = nI (F1 i)) (h : fl_IV V n F1 of i of1) : fl_IV V n F1 of (i + 1) of1 := by
  refine ⟨fun l hl => ?_, fun l hl hn => h.2.1 l (by omega) hn, h.2.2⟩
  by_cases q : l = i
  · subst q; rw [h.2.1 l (Nat.le_refl _) hi]; exact e
  · exact h.1 l (by omega)
theorem fl_IV_0 {V n : Nat} {F1 : Nat → Nat} {of : Nat → Int32} : fl_IV V n F1 of 0 of := ⟨fun l h => absurd h (Nat.not_lt_zero _), fun _ _ _ => rfl, fun _ _ => rfl⟩
theorem fl_fl_le : ∀ bs : List fl_Bl, fl_fl bs ≤ bs.length
  | [] => Nat.le_refl _
  | B :: bs => by
    have := fl_fl_le bs
    rw [fl_fl, List.length_cons]; split <;> omega
section XMP
variable {kd : Nat → Int32} {ag : Nat → Int32} {T : Nat} {R : Nat} {rw : Nat → List Int32} {N : Nat → Nat} {O : Nat → Nat → Nat} {P : Nat → Nat → Nat} {K : Nat → Nat → Nat} {F : Nat → Nat → Nat} {C : Nat → Nat → Nat} {D : Nat → Nat → Nat} {lc : Nat → Int32} {ow : Nat → Int32} {pa : Nat → Int32} {el : Nat → Int32} {pl : Nat → Int32} {of : Nat → Int32} {ct : Nat → Int32} {ln : Nat → Int32} {ce : Nat → Int32} {rk : Nat → Int32} {rl : Nat → Int32} {rc : Nat → Int32} {n0 : Nat} {fs : Nat} {rk0 : Nat → Int32} {rl0 : Nat → Int32} {rc0 : Nat → Int32}
theorem fl_P1_F {F' : Nat → Nat → Nat} {B : fl_Bl} {rest : List fl_Bl} {v : Nat} (hF : ∀ l, F' v l = F v l) (H : fl_P1 kd ag T R rw N O P K F C D el ln ce rk rl rc B rest v) : fl_P1 kd ag T R rw N O P K F' C D el ln ce rk rl rc B rest v := by
  obtain ⟨⟨st, s1, s2, s3⟩, h2, h3⟩ := H
  refine ⟨⟨st, s1, s2, fun l hl => ?_⟩, fun l hl => ?_, fun l hl => ?_⟩
  · rw [hF l]; exact s3 l hl
  · rw [hF l]; exact h2 l hl
  · rw [hF l]; exact h3 l hl
theorem fl_xj_mask {bs bs' : List fl_Bl} {F1 : Nat → Nat} {of' : Nat → Int32} {p : Nat} (hV : fl_lev bs ≤ 2) (hlev : fl_lev bs' = fl_lev bs) (hbas : fl_bas bs' = fl_bas bs) (hsP : fl_sP bs' = fl_sP bs)
    (hdec : ∀ X B rest, bs' = X ++ B :: rest → B.1 = 14 → ∃ X', bs = X' ++ B :: rest) (H : fl_XJ kd ag T R rw N O P K F C D lc ow pa el pl of ct ln ce rk rl rc n0 fs rk0 rl0 rc0 bs (fun _ => p))
    (hof : fl_IV (fl_lev bs) (N (fl_lev bs)) F1 of (N (fl_lev bs)) of') (hF6 : bs'.length ≤ 6)
    (hL : ∀ l, l < N (fl_lev bs) → fl_LC kd ag T R rw O P K el ln ce bs (fl_lev bs) l (fl_cp kd T bs (F (fl_lev bs) l) p) → l < C (fl_lev bs) (O (fl_lev bs) l) → fl_LC kd ag T R rw O P K el ln ce bs (fl_lev bs) l (fl_cp kd T bs' (F1 l) (p + 1)))
    (hFr : ∀ l, l < N (fl_lev bs) → F1 l = 0 ∨ (fl_fl bs' < F1 l ∧ F1 l ≤ bs'.length)) :
    fl_XJ kd ag T R rw N O P K (fun v l => if v = fl_lev bs then F1 l else F v l) C D lc ow pa el pl of' ct ln ce rk rl rc n0 fs rk0 rl0 rc0 bs' (fun _ => p + 1) := by
  obtain ⟨h1, ⟨c1, c2, c3⟩, h3, h4, h5⟩ := H
  refine ⟨?_, ⟨?_, ?_, ?_⟩, ?_, h4, h5⟩
  · rw [hlev]
    intro v hv
    obtain ⟨a1, a2, a3, a4⟩ := h1 v hv
    have hNv := fl_XR_N h1 hv hV
    have hNV := fl_XR_N h1 (Nat.le_refl _) hV
    refine ⟨a1, a2, fun l hl => ?_, a4⟩
    obtain ⟨o1, o2, o3, o4, o5⟩ := a3 l hl
    dsimp only
    by_cases e : v = fl_lev bs
    · rw [if_pos e]
      subst e
      refine ⟨o1, o2, hof.1 l hl, ?_, o5⟩
      rcases hFr l hl with w | w <;> omega
    · rw [if_neg e]
      refine ⟨o1, o2, ?_, o4, o5⟩
      rw [hof.2.2 _ (fun l' hl' => by omega)]
      exact o3
  · rw [hlev]
    intro l hl ha
    dsimp only
    rw [if_pos rfl]
    exact fl_LC_b hbas hsP (hL l hl (c1 l hl ha) ha)
  · rw [hlev]
    intro l hl
    dsimp only
    rw [if_pos rfl]
    exact hFr l hl
  · rw [hlev]
    intro r hr hC
    obtain ⟨d1, d2, d3⟩ := c3 r hr hC
    refine ⟨d1, d2, ?_⟩
    unfold fl_FC at d3 ⊢
    rw [hsP]
    exact d3
  · intro X B rest e hB
    obtain ⟨X', e'⟩ := hdec X B rest e hB
    have hlt := fl_sfx_lev X' B rest hB
    rw [← e'] at hlt
    exact ⟨fl_P1_F (fun l => by rw [if_neg (by omega)]) (h3 X' B rest e' hB).1, (h3 X' B rest e' hB).2⟩
end XMP
section XMK
variable {f_rowCap f_cellCap f_tokenCap f_rowCount f_tokenCount f_status f_resultIsSeq f_height f_blocks f_level : Int32} {a_rowLen a_data a_kinds a_args a_recKind a_recLen a_rec a_typeSeq a_blockKind a_blockBase a_blockSeq a_laneCount a_owner a_parent a_elem a_place a_off a_cut a_lens a_cells : Nat → Int32} {R T n0 fs p : Nat} {N : Nat → Nat} {O P K F C D : Nat → Nat → Nat} {rk0 rl0 rc0 : Nat → Int32} {post : SX → Prop}
theorem fl_xact0 {post : Int32 → Prop} {V l o f c : Nat} (hV : V ≤ 2) (hl : l < 64) (ho : o < 4) (hf6 : f ≤ 6) (hc : c ≤ 64) (e1 : a_owner (V * 64 + l) = nI o) (e2 : a_off (V * 64 + l) = nI f) (e3 : a_cut (V * 4 + o) = nI c) (K1 : f = 0 → l < c → post 1) (K0 : ¬ (f = 0 ∧ l < c) → post 0) : wpX_active post (f_rowCap, f_cellCap, f_tokenCap, f_rowCount, f_tokenCount, f_status, f_resultIsSeq, f_height, f_blocks, nI V, a_rowLen, a_data, a_kinds, a_args, a_recKind, a_recLen, a_rec, a_typeSeq, a_blockKind, a_blockBase, a_blockSeq, a_laneCount, a_owner, a_parent, a_elem, a_place, a_off, a_cut, a_lens, a_cells) (nI l) := by
  have q1 : nI V * 64 + nI l = nI (V * 64 + l) := by rw [show (64 : Int32) = nI 64 from rfl, pk_mul, nI_add]
  have q2 : nI V * 4 + nI o = nI (V * 4 + o) := by rw [show (4 : Int32) = nI 4 from rfl, pk_mul, nI_add]
  have v1 : vp_in (nI (V * 64 + l)) 192 := vp_in_nI (by omega) (by decide)
  intro x ex
  rw [q1] at ex
  subst ex
  rw [nI_clamp (show V * 64 + l < 2 ^ 31 by omega), e1, e2, q2, nI_clamp (show V * 4 + o < 2 ^ 31 by omega), e3]
  refine ⟨v1, ?_⟩
  by_cases hf : f = 0
  · refine br_t (by rw [hf]; rfl) ⟨v1, vp_in_nI (by omega) (by decide), ?_⟩
    by_cases hc' : l < c
    · exact br_f (nI_ge hc' (by omega)) (K1 hf hc')
    · exact br_t (nI_le (by omega) (by omega)) (K0 fun w => hc' w.2)
  · exact br_f (fun w => hf ((nI_eq (by omega) (by decide)).mp w)) (K0 fun w => hf w.1)
/-- turnElse -/
theorem fl_xte {V b : Nat} (H : fl_XR R N O P K F C a_laneCount a_owner a_parent a_place a_off a_cut V) (hV : V ≤ 2) (hb : b ≤ 6) (Kp : ∀ of', fl_IV V (N V) (fun l => if F V l = 0 then b else if F V l = b then 0 else F V l) a_off (N V) of' → post (f_rowCap, f_cellCap, f_tokenCap, f_rowCount, f_tokenCount, f_status, f_resultIsSeq, f_height, nI b, nI V, a_rowLen, a_data, a_kinds, a_args, a_recKind, a_recLen, a_rec, a_typeSeq, a_blockKind, a_blockBase, a_blockSeq, a_laneCount, a_owner, a_parent, a_elem, a_place, of', a_cut, a_lens, a_cells)) : ∀ d i of1, i + d = N V → fl_IV V (N V) (fun l => if F V l = 0 then b else if F V l = b then 0 else F V l) a_off i of1 → wX_turnElse_12 post f_rowCap f_cellCap f_tokenCap f_rowCount f_tokenCount f_status f_resultIsSeq f_height (nI b) (nI V) (d + 1) (nI i) a_rowLen a_data a_kinds a_args a_recKind a_recLen a_rec a_typeSeq a_blockKind a_blockBase a_blockSeq a_laneCount a_owner a_parent a_elem a_place of1 a_cut a_lens a_cells := by
  have hN := fl_XR_N H (Nat.le_refl _) hV
  obtain ⟨a1, a2, a3, a4⟩ := H V (Nat.le_refl _)
  intro d
  induction d with
  | zero =>
    intro i of1 hi hI
    have ei : i = N V := by omega
    subst ei
    unfold wX_turnElse_12
    rw [nI_clamp (show V < 2 ^ 31 by omega), a1]
    exact ⟨vp_in_nI (by omega) (by decide), br_t (nI_le (Nat.le_refl _) (by omega)) (Kp of1 hI)⟩
  | succ d ih =>
    intro i of1 hi hI
    have hil : i < N V := by omega
    obtain ⟨o1, o2, o3, o4, -⟩ := a3 i hil
    have e1 : nI V * 64 + nI i = nI (V * 64 + i) := by rw [show (64 : Int32) = nI 64 from rfl, pk_mul, nI_add]
    have v1 : vp_in (nI (V * 64 + i)) 192 := vp_in_nI (by omega) (by decide)
    unfold wX_turnElse_12
    rw [nI_clamp (show V < 2 ^ 31 by omega), a1, e1, nI_1]
    refine ⟨vp_in_nI (by omega) (by decide), br_f (nI_ge hil (by omega)) (nm_e ⟨v1, ?_⟩)⟩
    rw [nI_clamp (show V * 64 + i < 2 ^ 31 by omega), hI.2.1 i (Nat.le_refl _) hil, o3]
    have st := fl_IV_s hil hI
    by_cases hf : F V i = 0
    · rw [if_pos hf] at st
      exact br_t (by rw [hf]; rfl) ⟨v1, nm_e (nm_e (ih (i + 1) _ (by omega) st))⟩
    · refine br_f (fun w => hf ((nI_eq (by omega) (by decide)).mp w)) ⟨v1, ?_⟩
      by_cases hfb : F V i = b
      · rw [if_neg hf, if_pos hfb] at st
        exact br_t (by rw [hfb]) ⟨v1, nm_e (nm_e (ih (i + 1) _ (by omega) st))⟩
      · refine br_f (fun w => hfb ((nI_eq (by omega) (by omega)).mp w)) (nm_e (ih (i + 1) _ (by omega) (fl_IV_k hil ?_ hI)))
        rw [if_neg hf, if_neg hfb]
        exact o3
/-- closeIf -/
theorem fl_xci {V b : Nat} (H : fl_XR R N O P K F C a_laneCount a_owner a_parent a_place a_off a_cut V) (hV : V ≤ 2) (hb : b + 1 ≤ 6) (Kp : ∀ of', fl_IV V (N V) (fun l => if F V l = b + 1 then 0 else F V l) a_off (N V) of' → post (f_rowCap, f_cellCap, f_tokenCap, f_rowCount, f_tokenCount, f_status, f_resultIsSeq, f_height, nI b, nI V, a_rowLen, a_data, a_kinds, a_args, a_recKind, a_recLen, a_rec, a_typeSeq, a_blockKind, a_blockBase, a_blockSeq, a_laneCount, a_owner, a_parent, a_elem, a_place, of', a_cut, a_lens, a_cells)) : ∀ d i of1, i + d = N V → fl_IV V (N V) (fun l => if F V l = b + 1 then 0 else F V l) a_off i of1 → wX_closeIf_2 post f_rowCap f_cellCap f_tokenCap f_rowCount f_tokenCount f_status f_resultIsSeq f_height (nI (b + 1)) (nI V) (d + 1) (nI i) a_rowLen a_data a_kinds a_args a_recKind a_recLen a_rec a_typeSeq a_blockKind a_blockBase a_blockSeq a_laneCount a_owner a_parent a_elem a_place of1 a_cut a_lens a_cells := by
  have hN := fl_XR_N H (Nat.le_refl _) hV
  obtain ⟨a1, a2, a3, a4⟩ := H V (Nat.le_refl _)
  intro d
  induction d with
  | zero =>
    intro i of1 hi hI
    have ei : i = N V := by omega
    subst ei
    unfold wX_closeIf_2
    rw [nI_clamp (show V < 2 ^ 31 by omega), a1, nI_pred]
    exact ⟨vp_in_nI (by omega) (by decide), br_t (nI_le (Nat.le_refl _) (by omega)) (nm_e (Kp of1 hI))⟩
  | succ d ih =>
    intro i of1 hi hI
    have hil : i < N V := by omega
    obtain ⟨o1, o2, o3, o4, -⟩ := a3 i hil
    have e1 : nI V * 64 + nI i = nI (V * 64 + i) := by rw [show (64 : Int32) = nI 64 from rfl, pk_mul, nI_add]
    have v1 : vp_in (nI (V * 64 + i)) 192 := vp_in_nI (by omega) (by decide)
    unfold wX_closeIf_2
    rw [nI_clamp (show V < 2 ^ 31 by omega), a1, e1]
    refine ⟨vp_in_nI (by omega) (by decide), br_f (nI_ge hil (by omega)) (nm_e ⟨v1, ?_⟩)⟩
    rw [nI_clamp (show V * 64 + i < 2 ^ 31 by omega), hI.2.1 i (Nat.le_refl _) hil, o3]
    have st := fl_IV_s hil hI
    by_cases hfb : F V i = b + 1
    · rw [if_pos hfb] at st
      exact br_t (by rw [hfb]) ⟨v1, nm_e (nm_r (nI_1 i) (ih (i + 1) _ (by omega) st))⟩
    · refine br_f (fun w => hfb ((nI_eq (by omega) (by omega)).mp w)) (nm_r (nI_1 i) (ih (i + 1) _ (by omega) (fl_IV_k hil ?_ hI)))
      rw [if_neg hfb]
      exact o3
/-- openThen: cond is what the popped slot holds -/
theorem fl_xot {V b h : Nat} (H : fl_XR R N O P K F C a_laneCount a_owner a_parent a_place a_off a_cut V) (hV : V ≤ 2) (hR : R ≤ 4) (hb : b ≤ 6) (hh : h < 4) (Kp : ∀ of', fl_IV V (N V) (fun l => if F V l = 0 ∧ l < C V (O V l) ∧ a_cells (((V * 4 + h) * 64 + l) * 4) = 0 then b else F V l) a_off (N V) of' → post (f_rowCap, f_cellCap, f_tokenCap, f_rowCount, f_tokenCount, f_status, f_resultIsSeq, nI h, nI b, nI V, a_rowLen, a_data, a_kinds, a_args, a_recKind, a_recLen, a_rec, a_typeSeq, a_blockKind, a_blockBase, a_blockSeq, a_laneCount, a_owner, a_parent, a_elem, a_place, of', a_cut, a_lens, a_cells)) : ∀ d i of1, i + d = N V → fl_IV V (N V) (fun l => if F V l = 0 ∧ l < C V (O V l) ∧ a_cells (((V * 4 + h) * 64 + l) * 4) = 0 then b else F V l) a_off i of1 → wX_openThen_22 post f_rowCap f_cellCap f_tokenCap f_rowCount f_tokenCount f_status f_resultIsSeq (nI h) (nI b) (nI V) (d + 1) (nI i) a_rowLen a_data a_kinds a_args a_recKind a_recLen a_rec a_typeSeq a_blockKind a_blockBase a_blockSeq a_laneCount a_owner a_parent a_elem a_place of1 a_cut a_lens a_cells := by
  have hN := fl_XR_N H (Nat.le_refl _) hV
  obtain ⟨a1, a2, a3, a4⟩ := H V (Nat.le_refl _)
  intro d
  induction d with
  | zero =>
    intro i of1 hi hI
    have ei : i = N V := by omega
    subst ei
    unfold wX_openThen_22
    rw [nI_clamp (show V < 2 ^ 31 by omega), a1]
    exact ⟨vp_in_nI (by omega) (by decide), br_t (nI_le (Nat.le_refl _) (by omega)) (Kp of1 hI)⟩
  | succ d ih =>
    intro i of1 hi hI
    have hil : i < N V := by omega
    obtain ⟨o1, o2, o3, o4, -⟩ := a3 i hil
    obtain ⟨c1, c2⟩ := a4 (O V i) (by omega)
    have e1 : nI V * 64 + nI i = nI (V * 64 + i) := by rw [show (64 : Int32) = nI 64 from rfl, pk_mul, nI_add]
    have v1 : vp_in (nI (V * 64 + i)) 192 := vp_in_nI (by omega) (by decide)
    have e4 : nI ((V * 4 + h) * 64 + i) * 4 = nI (((V * 4 + h) * 64 + i) * 4) := pk_mul _ 4
    have st := fl_IV_s hil hI
    unfold wX_openThen_22
    rw [nI_clamp (show V < 2 ^ 31 by omega), a1]
    refine ⟨vp_in_nI (by omega) (by decide), br_f (nI_ge hil (by omega)) ?_⟩
    unfold wpX_slot
    dsimp only
    rw [fl_slot, e4, e1, nI_clamp (show V * 64 + i < 2 ^ 31 by omega), nI_clamp (show ((V * 4 + h) * 64 + i) * 4 < 2 ^ 31 by omega), nI_1]
    refine fl_xact0 hV (by omega) (by omega) o4 c2 o1 ((hI.2.1 i (Nat.le_refl _) hil).trans o3) c1 (fun hf hc => br_f (by decide) ⟨vp_in_nI (by omega) (by decide), ?_⟩) (fun hn => br_t rfl (nm_e (ih (i + 1) _ (by omega) (fl_IV_k hil ?_ hI))))
    · by_cases hz : a_cells (((V * 4 + h) * 64 + i) * 4) = 0
      · rw [if_pos ⟨hf, hc, hz⟩] at st
        exact br_t hz ⟨v1, nm_e (nm_e (ih (i + 1) _ (by omega) st))⟩
      · refine br_f hz (nm_e (ih (i + 1) _ (by omega) (fl_IV_k hil ?_ hI)))
        rw [if_neg (fun w => hz w.2.2)]
        exact o3
    · rw [if_neg (fun w => hn ⟨w.1, w.2.1⟩)]
      exact o3
end XMK
end
section
/-! X: THEN, ELSE, FI -/
theorem fl_dec1 {A : fl_Bl} {bs : List fl_Bl} (hA : ¬ A.1 = 14) {X : List fl_Bl} {B : fl_Bl} {rest : List fl_Bl} (h : A :: bs = X ++ B :: rest) (hB : B.1 = 14) : ∃ X', bs = X' ++ B :: rest := by
  cases X with
  | nil => injection h with h1 h2; rw [h1] at hA; exact absurd hB hA
  | cons x X => injection h with h1 h2; exact ⟨X, h2⟩
theorem fl_ne14' {B : fl_Bl} (h : ¬ B.1 = 14) (bs : List fl_Bl) : fl_sP (B :: bs) = fl_sP bs ∧ fl_fl (B :: bs) = fl_fl bs := by
  rw [fl_sP, fl_fl, if_neg h, if_neg h]; exact ⟨rfl, rfl⟩
section XM2
variable {f_rowCap f_cellCap f_tokenCap f_rowCount f_tokenCount f_status f_resultIsSeq f_height f_blocks f_level : Int32} {a_rowLen a_data a_kinds a_args a_recKind a_recLen a_rec a_typeSeq a_blockKind a_blockBase a_blockSeq a_laneCount a_owner a_parent a_elem a_place a_off a_cut a_lens a_cells : Nat → Int32} {R T n0 fs p : Nat} {N : Nat → Nat} {O P K F C D : Nat → Nat → Nat} {rk0 rl0 rc0 : Nat → Int32} {post : SX → Prop}
theorem fl_xthen (G : fl_Gd a_kinds a_args T) (hR : R ≤ 4) (hpT : p < T) (hkp : a_kinds p = 17) (H : fl_XJ a_kinds a_args T R (fl_rw a_rowLen a_data) N O P K F C D a_laneCount a_owner a_parent a_elem a_place a_off a_cut a_lens a_cells a_recKind a_recLen a_rec n0 fs rk0 rl0 rc0 (fl_csf a_kinds a_args p).2 (fun _ => p))
    (Kp : ∀ F' of', fl_XJ a_kinds a_args T R (fl_rw a_rowLen a_data) N O P K F' C D a_laneCount a_owner a_parent a_elem a_place of' a_cut a_lens a_cells a_recKind a_recLen a_rec n0 fs rk0 rl0 rc0 (fl_csf a_kinds a_args (p + 1)).2 (fun _ => p + 1) → post (f_rowCap, f_cellCap, f_tokenCap, f_rowCount, f_tokenCount, f_status, f_resultIsSeq, nI (fl_ft (fl_csf a_kinds a_args (p + 1)).1 (fl_csf a_kinds a_args (p + 1)).2).length, nI (fl_csf a_kinds a_args (p + 1)).2.length, nI (fl_lev (fl_csf a_kinds a_args (p + 1)).2), a_rowLen, a_data, a_kinds, a_args, a_recKind, a_recLen, a_rec, a_typeSeq, a_blockKind, a_blockBase, a_blockSeq, a_laneCount, a_owner, a_parent, a_elem, a_place, of', a_cut, a_lens, a_cells)) :
    wpX_openThen post (f_rowCap, f_cellCap, f_tokenCap, f_rowCount, f_tokenCount, f_status, f_resultIsSeq, nI (fl_ft (fl_csf a_kinds a_args p).1 (fl_csf a_kinds a_args p).2).length, nI (fl_csf a_kinds a_args p).2.length, nI (fl_lev (fl_csf a_kinds a_args p).2), a_rowLen, a_data, a_kinds, a_args, a_recKind, a_recLen, a_rec, a_typeSeq, a_blockKind, a_blockBase, a_blockSeq, a_laneCount, a_owner, a_parent, a_elem, a_place, a_off, a_cut, a_lens, a_cells) := by
  obtain ⟨r', bs, t, c1, c2, l1, l2, l3, c3, k3, c4⟩ := fl_at17 G hpT hkp
  have hbd := fl_bnd G p (by omega)
  rw [c1] at H hbd ⊢
  rw [c2] at Kp
  obtain ⟨b1, b2, b3⟩ := hbd
  dsimp only at H b1 b2 b3 Kp ⊢
  obtain ⟨n1, n2, n3, n4⟩ := fl_ne14 a_kinds T (B := (17, p, false, r')) (show ¬ (17 : Int32) = 14 by decide) [] bs
  obtain ⟨n5, n6⟩ := fl_ne14' (B := (17, p, false, r')) (show ¬ (17 : Int32) = 14 by decide) bs
  rw [fl_ft_cons, List.length_cons] at b1 ⊢
  have e1 : nI ((fl_ft r' bs).length + 1) - 1 = nI (fl_ft r' bs).length := nI_pred _
  have hfr : fl_ft [] ((17, p, false, r') :: bs) = fl_ft r' bs := by simp [fl_ft]
  rw [hfr, n2, List.length_cons] at Kp
  unfold wpX_openThen
  dsimp only
  rw [e1, nI_1]
  refine nm_e (nm_e ⟨_, fl_xot H.1 b3 hR (by omega) (by omega) (fun of' hI => Kp _ of' (fl_xj_mask b3 n2 n1 n5 (fun X B rest e hB => fl_dec1 (show ¬ (17 : Int32) = 14 by decide) e hB) H hI (by simp; omega) (fun l hl hC ha => ?_) (fun l hl => ?_))) (N (fl_lev bs)) 0 a_off (by omega) fl_IV_0⟩)
  · by_cases hf : F (fl_lev bs) l = 0
    · rw [fl_cp, if_pos hf] at hC
      obtain ⟨s, d1, d2, d3, d4⟩ := hC
      rw [c1] at d3
      dsimp only at d3
      rw [fl_fr_cons] at d3
      obtain ⟨x, s2, rfl, d5⟩ := fl_sh_i d3
      obtain ⟨⟨d6, -⟩, d7⟩ := d2
      have hfl := fl_ft_len bs r'
      have hsl : s2.length = (fl_fr r' bs).length := by rw [← d5, List.length_map]
      have d6' : a_cells (((fl_lev bs * 4 + (fl_ft r' bs).length) * 64 + l) * 4) = x := by
        rw [show (fl_ft r' bs).length = fl_bas bs + s2.length by omega]; exact d6
      rw [fl_EV_17 hpT hkp] at d4
      rw [List.length_cons] at d1
      by_cases hx : x = 0
      · rw [if_pos ⟨hf, ha, by rw [d6']; exact hx⟩, fl_cp, if_neg (by omega), fl_rp, if_pos rfl]
        rw [if_pos hx] at d4
        refine ⟨s2, by omega, d7, ?_, d4⟩
        rw [c4, d5]
        exact ((fl_ne14 a_kinds T (B := (18, fl_cl a_kinds T p, t, r')) (show ¬ (18 : Int32) = 14 by decide) [] bs).2.2.2).symm
      · rw [if_neg (fun w => hx (by rw [← d6']; exact w.2.2)), fl_cp, if_pos hf]
        rw [if_neg hx] at d4
        refine ⟨s2, by omega, d7, ?_, d4⟩
        rw [c2, d5]
        exact n4.symm
    · rw [if_neg (fun w => hf w.1)]
      rw [fl_cp, if_neg hf] at hC ⊢
      have hr := H.2.1.2.1 l hl
      rw [fl_rp, if_neg (by omega)]
      exact hC
  · rw [n6, List.length_cons]
    have h1 := fl_fl_le bs
    have hr := H.2.1.2.1 l hl
    split
    · exact Or.inr ⟨by omega, by omega⟩
    · rcases hr with w | w
      · exact Or.inl w
      · exact Or.inr ⟨w.1, by omega⟩
theorem fl_xelse (G : fl_Gd a_kinds a_args T) (hpT : p < T) (hkp : a_kinds p = 18) (H : fl_XJ a_kinds a_args T R (fl_rw a_rowLen a_data) N O P K F C D a_laneCount a_owner a_parent a_elem a_place a_off a_cut a_lens a_cells a_recKind a_recLen a_rec n0 fs rk0 rl0 rc0 (fl_csf a_kinds a_args p).2 (fun _ => p))
    (Kp : ∀ F' of', fl_XJ a_kinds a_args T R (fl_rw a_rowLen a_data) N O P K F' C D a_laneCount a_owner a_parent a_elem a_place of' a_cut a_lens a_cells a_recKind a_recLen a_rec n0 fs rk0 rl0 rc0 (fl_csf a_kinds a_args (p + 1)).2 (fun _ => p + 1) → post (f_rowCap, f_cellCap, f_tokenCap, f_rowCount, f_tokenCount, f_status, f_resultIsSeq, nI (fl_ft (fl_csf a_kinds a_args (p + 1)).1 (fl_csf a_kinds a_args (p + 1)).2).length, nI (fl_csf a_kinds a_args (p + 1)).2.length, nI (fl_lev (fl_csf a_kinds a_args (p + 1)).2), a_rowLen, a_data, a_kinds, a_args, a_recKind, a_recLen, a_rec, a_typeSeq, a_blockKind, a_blockBase, a_blockSeq, a_laneCount, a_owner, a_parent, a_elem, a_place, of', a_cut, a_lens, a_cells)) :
    wpX_turnElse post (f_rowCap, f_cellCap, f_tokenCap, f_rowCount, f_tokenCount, f_status, f_resultIsSeq, nI (fl_ft (fl_csf a_kinds a_args p).1 (fl_csf a_kinds a_args p).2).length, nI (fl_csf a_kinds a_args p).2.length, nI (fl_lev (fl_csf a_kinds a_args p).2), a_rowLen, a_data, a_kinds, a_args, a_recKind, a_recLen, a_rec, a_typeSeq, a_blockKind, a_blockBase, a_blockSeq, a_laneCount, a_owner, a_parent, a_elem, a_place, a_off, a_cut, a_lens, a_cells) := by
  obtain ⟨B, bs, t, c1, hB, hcl, c2, l2, l3, c3, k3, c4⟩ := fl_at18 G hpT hkp
  have hbd := fl_bnd G p (by omega)
  rw [c1] at H hbd ⊢
  rw [c2] at Kp
  obtain ⟨b1, b2, b3⟩ := hbd
  dsimp only at H b1 b2 b3 Kp ⊢
  have hB14 : ¬ B.1 = 14 := by rw [hB]; decide
  obtain ⟨n1, n2, n3, n4⟩ := fl_ne14 a_kinds T (B := B) hB14 [t] bs
  obtain ⟨n5, n6⟩ := fl_ne14' (B := B) hB14 bs
  obtain ⟨m1, m2, m3, m4⟩ := fl_ne14 a_kinds T (B := (18, p, t, B.2.2.2)) (show ¬ (18 : Int32) = 14 by decide) [] bs
  obtain ⟨m5, m6⟩ := fl_ne14' (B := (18, p, t, B.2.2.2)) (show ¬ (18 : Int32) = 14 by decide) bs
  have hf1 : fl_ft [t] (B :: bs) = t :: fl_ft B.2.2.2 bs := by simp [fl_ft]
  have hf2 : fl_ft [] ((18, p, t, B.2.2.2) :: bs) = fl_ft B.2.2.2 bs := by simp [fl_ft]
  rw [hf1, List.length_cons] at b1 ⊢
  rw [hf2, List.length_cons, m2] at Kp
  rw [List.length_cons] at b2
  have e1 : nI ((fl_ft B.2.2.2 bs).length + 1) - 1 = nI (fl_ft B.2.2.2 bs).length := nI_pred _
  unfold wpX_turnElse
  dsimp only
  rw [e1]
  refine nm_e ⟨_, fl_xte H.1 b3 (by simp; omega) (fun of' hI => ?_) (N (fl_lev (B :: bs))) 0 a_off (by omega) fl_IV_0⟩
  have key := Kp _ of' (fl_xj_mask b3 (by rw [m2, n2]) (by rw [m1, n1]) (by rw [m5, n5]) (fun X A rest e hA => ?_) H hI (by simp; omega) (fun l hl hC ha => ?_) (fun l hl => ?_))
  · rw [n2, List.length_cons]; exact key
  · obtain ⟨X', e'⟩ := fl_dec1 (show ¬ (18 : Int32) = 14 by decide) e hA
    exact ⟨B :: X', by rw [e']; rfl⟩
  · by_cases hf : F (fl_lev (B :: bs)) l = 0
    · rw [if_pos hf, fl_cp, if_neg (by simp), fl_rp, List.length_cons, if_pos rfl]
      rw [fl_cp, if_pos hf] at hC
      obtain ⟨s, d1, d2, d3, d4⟩ := hC
      rw [c1] at d3
      dsimp only at d3
      rw [fl_EV_18 hpT hkp] at d4
      refine ⟨s, d1, d2, ?_, d4⟩
      rw [c4, d3, n4]
      dsimp only
      rw [fl_fr_cons]; rfl
    · rw [if_neg hf]
      rw [fl_cp, if_neg hf] at hC
      by_cases hfb : F (fl_lev (B :: bs)) l = (B :: bs).length
      · rw [if_pos hfb, fl_cp, if_pos rfl]
        rw [hfb, fl_rp, List.length_cons, if_pos rfl, hcl] at hC
        exact hC
      · rw [if_neg hfb, fl_cp, if_neg hf]
        rw [List.length_cons] at hfb
        rw [fl_rp, if_neg hfb] at hC ⊢
        exact hC
  · have hr := H.2.1.2.1 l hl
    have h1 := fl_fl_le bs
    rw [m6, List.length_cons]
    rw [n6, List.length_cons] at hr
    rw [List.length_cons]
    split
    · exact Or.inr ⟨by omega, by omega⟩
    · split
      · exact Or.inl rfl
      · exact hr
theorem fl_xfi' (G : fl_Gd a_kinds a_args T) (hpT : p < T) (hkp : a_kinds p = 19) (H : fl_XJ a_kinds a_args T R (fl_rw a_rowLen a_data) N O P K F C D a_laneCount a_owner a_parent a_elem a_place a_off a_cut a_lens a_cells a_recKind a_recLen a_rec n0 fs rk0 rl0 rc0 (fl_csf a_kinds a_args p).2 (fun _ => p))
    (Kp : ∀ F' of', fl_XJ a_kinds a_args T R (fl_rw a_rowLen a_data) N O P K F' C D a_laneCount a_owner a_parent a_elem a_place of' a_cut a_lens a_cells a_recKind a_recLen a_rec n0 fs rk0 rl0 rc0 (fl_csf a_kinds a_args (p + 1)).2 (fun _ => p + 1) → post (f_rowCap, f_cellCap, f_tokenCap, f_rowCount, f_tokenCount, f_status, f_resultIsSeq, nI (fl_ft (fl_csf a_kinds a_args (p + 1)).1 (fl_csf a_kinds a_args (p + 1)).2).length, nI (fl_csf a_kinds a_args (p + 1)).2.length, nI (fl_lev (fl_csf a_kinds a_args (p + 1)).2), a_rowLen, a_data, a_kinds, a_args, a_recKind, a_recLen, a_rec, a_typeSeq, a_blockKind, a_blockBase, a_blockSeq, a_laneCount, a_owner, a_parent, a_elem, a_place, of', a_cut, a_lens, a_cells)) :
    wpX_closeIf post (f_rowCap, f_cellCap, f_tokenCap, f_rowCount, f_tokenCount, f_status, f_resultIsSeq, nI (fl_ft (fl_csf a_kinds a_args p).1 (fl_csf a_kinds a_args p).2).length, nI (fl_csf a_kinds a_args p).2.length, nI (fl_lev (fl_csf a_kinds a_args p).2), a_rowLen, a_data, a_kinds, a_args, a_recKind, a_recLen, a_rec, a_typeSeq, a_blockKind, a_blockBase, a_blockSeq, a_laneCount, a_owner, a_parent, a_elem, a_place, a_off, a_cut, a_lens, a_cells) := by
  obtain ⟨B, bs, t, c1, hB, hcl, c2⟩ := fl_at19 G hpT hkp
  have hbd := fl_bnd G p (by omega)
  rw [c1] at H hbd ⊢
  rw [c2] at Kp
  obtain ⟨b1, b2, b3⟩ := hbd
  dsimp only at H b1 b2 b3 Kp ⊢
  have hB14 : ¬ B.1 = 14 := by rw [hB]; decide
  obtain ⟨n1, n2, n3, n4⟩ := fl_ne14 a_kinds T (B := B) hB14 [t] bs
  obtain ⟨n5, n6⟩ := fl_ne14' (B := B) hB14 bs
  have hf1 : fl_ft [t] (B :: bs) = t :: fl_ft B.2.2.2 bs := by simp [fl_ft]
  have hf2 : fl_ft (t :: B.2.2.2) bs = t :: fl_ft B.2.2.2 bs := fl_ft_cons _ _ _
  rw [hf1] at b1 ⊢
  rw [hf2] at Kp
  rw [List.length_cons] at b2
  unfold wpX_closeIf
  dsimp only
  refine ⟨_, fl_xci (b := bs.length) H.1 b3 (by omega) (fun of' hI => ?_) (N (fl_lev (B :: bs))) 0 a_off (by omega) fl_IV_0⟩
  have key := Kp _ of' (fl_xj_mask b3 n2.symm n1.symm n5.symm (fun X A rest e hA => ⟨B :: X, by rw [e]; rfl⟩) H hI (by omega) (fun l hl hC ha => ?_) (fun l hl => ?_))
  · rw [n2]; exact key
  · by_cases hfb : F (fl_lev (B :: bs)) l = bs.length + 1
    · rw [if_pos hfb, fl_cp, if_pos rfl]
      rw [fl_cp, if_neg (by omega), hfb, fl_rp, if_pos rfl, hcl] at hC
      exact hC
    · rw [if_neg hfb]
      by_cases hf : F (fl_lev (B :: bs)) l = 0
      · rw [fl_cp, if_pos hf] at hC ⊢
        obtain ⟨s, d1, d2, d3, d4⟩ := hC
        rw [c1] at d3
        dsimp only at d3
        rw [fl_EV_19 hpT hkp] at d4
        refine ⟨s, d1, d2, ?_, d4⟩
        rw [c2, d3, n4]
        dsimp only
        rw [fl_fr_cons]; rfl
      · rw [fl_cp, if_neg hf] at hC ⊢
        rw [fl_rp, if_neg hfb] at hC
        exact hC
  · have hr := H.2.1.2.1 l hl
    rw [n6, List.length_cons] at hr
    split
    · exact Or.inl rfl
    · rcases hr with w | w
      · exact Or.inl w
      · exact Or.inr ⟨w.1, by omega⟩
end XM2
end
section
/-! X: the opening of an EACH, the mathematics -/
theorem fl_st_mono {st : Nat → Nat} {n : Nat} (h : ∀ l, l < n → st l ≤ st (l + 1)) : ∀ b a, a ≤ b → b ≤ n → st a ≤ st b
  | 0, a, hab, _ => by
    have : a = 0 := by omega
    subst this
    exact Nat.le_refl _
  | b + 1, a, hab, hb => by
    by_cases e : a = b + 1
    · subst e; exact Nat.le_refl _
    · exact Nat.le_trans (fl_st_mono h b a (by omega) (by omega)) (h b (by omega))
/-- lane l has taken xs -/
def fl_TK (kd : Nat → Int32) (ag : Nat → Int32) (T : Nat) (R : Nat) (rw : Nat → List Int32) (O : Nat → Nat → Nat) (P : Nat → Nat → Nat) (K : Nat → Nat → Nat) (el : Nat → Int32) (ln : Nat → Int32) (ce : Nat → Int32) (bs : List fl_Bl) (r' : List Bool) (V p l : Nat) (xs : List Int32) : Prop :=
  ∃ s, fl_bas bs + s.length + 1 ≤ 4 ∧ fl_XM ln ce V l (fl_bas bs) (.inr xs :: s) ∧ s.map fl_tg = fl_fr r' bs ∧ fl_EV kd ag T R rw (O V l) (fl_sP bs) [] (fl_xe P K el V l) = fl_EV kd ag T R rw (O V l) p (.inr xs :: s) (fl_xe P K el V l)
/-- what the opening loop has done for the lanes under l: n lanes made; ow' .. its arrays -/
def fl_OI (kd : Nat → Int32) (ag : Nat → Int32) (T : Nat) (R : Nat) (rw : Nat → List Int32) (N : Nat → Nat) (O : Nat → Nat → Nat) (P : Nat → Nat → Nat) (K : Nat → Nat → Nat) (F : Nat → Nat → Nat) (C : Nat → Nat → Nat) (D : Nat → Nat → Nat) (el : Nat → Int32) (ln : Nat → Int32) (ce : Nat → Int32) (rk : Nat → Int32) (rl : Nat → Int32) (rc : Nat → Int32) (bs : List fl_Bl) (r' : List Bool) (V p l n : Nat) (st P1 K1 : Nat → Nat) (ow pa pl of ow' pa' el' pl' of' : Nat → Int32) : Prop :=
  st 0 = 0 ∧ st l = n ∧ n ≤ 4 * l ∧
  (∀ m, m < l → (F V m = 0 → m < C V (O V m) → ∃ xs, fl_TK kd ag T R rw O P K el ln ce bs r' V p m xs ∧ st (m + 1) = st m + xs.length ∧ st (m + 1) ≤ n ∧ ∀ i (hi : i < xs.length), el' ((V + 1) * 64 + (st m + i)) = xs[i] ∧ P1 (st m + i) = m ∧ K1 (st m + i) = i) ∧ (¬ (F V m = 0 ∧ m < C V (O V m)) → st (m + 1) = st m)) ∧
  (∀ c, c < n → ow' ((V + 1) * 64 + c) = nI (O V (P1 c)) ∧ pa' ((V + 1) * 64 + c) = nI (P1 c) ∧ P1 c < l ∧ pl' ((V + 1) * 64 + c) = nI (K1 c) ∧ K1 c < 4 ∧ of' ((V + 1) * 64 + c) = 0) ∧
  (∀ j, j < (V + 1) * 64 → ow' j = ow j ∧ pa' j = pa j ∧ el' j = el j ∧ pl' j = pl j ∧ of' j = of j)
theorem fl_xe_c {V : Nat} {N : Nat → Nat} {P K P' K' : Nat → Nat → Nat} {el el' : Nat → Int32} (h : ∀ u, 1 ≤ u → u ≤ V → ∀ l, l < N u → P' u l = P u l ∧ K' u l = K u l ∧ el' (u * 64 + l) = el (u * 64 + l) ∧ P u l < N (u - 1)) : ∀ v l, v ≤ V → l < N v → fl_xe P' K' el' v l = fl_xe P K el v l
  | 0, _, _, _ => rfl
  | v + 1, l, hv, hl => by
    obtain ⟨h1, h2, h3, h4⟩ := h (v + 1) (by omega) hv l hl
    rw [fl_xe, fl_xe, h1, h2, h3, fl_xe_c h v (P (v + 1) l) (by omega) h4]
section XOP
variable {kd : Nat → Int32} {ag : Nat → Int32} {T : Nat} {R : Nat} {rw : Nat → List Int32} {N : Nat → Nat} {O : Nat → Nat → Nat} {P : Nat → Nat → Nat} {K : Nat → Nat → Nat} {F : Nat → Nat → Nat} {C : Nat → Nat → Nat} {D : Nat → Nat → Nat} {lc : Nat → Int32} {ow : Nat → Int32} {pa : Nat → Int32} {el : Nat → Int32} {pl : Nat → Int32} {of : Nat → Int32} {ct : Nat → Int32} {ln : Nat → Int32} {ce : Nat → Int32} {rk : Nat → Int32} {rl : Nat → Int32} {rc : Nat → Int32} {n0 : Nat} {fs : Nat} {rk0 : Nat → Int32} {rl0 : Nat → Int32} {rc0 : Nat → Int32}
theorem fl_P1_st {B : fl_Bl} {rest : List fl_Bl} {v : Nat} {st : Nat → Nat} (s3 : ∀ l, l < N v → (F v l = 0 → l < D v (O v l) → fl_CH kd ag T R rw O P K el ln ce B rest st v l) ∧ (¬ (F v l = 0 ∧ l < D v (O v l)) → st (l + 1) = st l)) : ∀ l, l < N v → st l ≤ st (l + 1) ∧ st (l + 1) ≤ st l + 4 := by
  intro l hl
  by_cases h : F v l = 0 ∧ l < D v (O v l)
  · obtain ⟨xs, s, h1, h2, h3, h4, h5, h6⟩ := (s3 l hl).1 h.1 h.2
    have := h2.1.2.1
    omega
  · have := (s3 l hl).2 h; omega
theorem fl_xj_open {bs : List fl_Bl} {r' : List Bool} {p n : Nat} {st P1 K1 : Nat → Nat} {ow' pa' el' pl' of' ct' : Nat → Int32} (hV : fl_lev bs < 2) (hR : R ≤ 4) (H : fl_XJ kd ag T R rw N O P K F C D lc ow pa el pl of ct ln ce rk rl rc n0 fs rk0 rl0 rc0 bs (fun _ => p)) (hft : (fl_ft r' bs).length ≤ 3) (hc' : fl_csf kd ag (p + 1) = ([], (14, p, false, r') :: bs))
    (hO : fl_OI kd ag T R rw N O P K F C D el ln ce rk rl rc bs r' (fl_lev bs) p (N (fl_lev bs)) n st P1 K1 ow pa pl of ow' pa' el' pl' of') (hct1 : ∀ r, r < 4 → ct' ((fl_lev bs + 1) * 4 + r) = nI 64) (hct2 : ∀ j, j < (fl_lev bs + 1) * 4 → ct' j = ct j) :
    fl_XJ kd ag T R rw (fun v => if v = fl_lev bs + 1 then n else N v) (fun v l => if v = fl_lev bs + 1 then O (fl_lev bs) (P1 l) else O v l) (fun v l => if v = fl_lev bs + 1 then P1 l else P v l) (fun v l => if v = fl_lev bs + 1 then K1 l else K v l) (fun v l => if v = fl_lev bs + 1 then 0 else F v l) (fun v r => if v = fl_lev bs + 1 then 64 else C v r) (fun v r => if v = fl_lev bs then C (fl_lev bs) r else D v r) (upd lc (fl_lev bs + 1) (nI n)) ow' pa' el' pl' of' ct' ln ce rk rl rc n0 fs rk0 rl0 rc0 ((14, p, false, r') :: bs) (fun _ => p + 1) := by
  obtain ⟨h1, ⟨c1, c2, c3⟩, h3, h4, h5⟩ := H
  obtain ⟨o1, o2, o3, o4, o5, o6⟩ := hO
  have hlev : fl_lev ((14, p, false, r') :: bs) = fl_lev bs + 1 := by rw [fl_lev, if_pos rfl]
  have hN : ∀ v, v ≤ fl_lev bs → N v ≤ 64 := fun v hv => fl_XR_N h1 hv (by omega)
  generalize hVe : fl_lev bs = V at *
  have hne : ∀ v, v ≤ V → ¬ v = V + 1 := fun v hv => by omega
  -- the environments of the lanes that stand already
  have hxe : ∀ v l, v ≤ V → l < N v → fl_xe (fun v l => if v = V + 1 then P1 l else P v l) (fun v l => if v = V + 1 then K1 l else K v l) el' v l = fl_xe P K el v l := by
    refine fl_xe_c (N := N) (V := V) fun u hu1 hu2 l hl => ?_
    have hNu := hN u hu2
    rw [if_neg (hne u hu2), if_neg (hne u hu2)]
    exact ⟨rfl, rfl, (o6 _ (by omega)).2.2.1, (((h1 u hu2).2.2.1 l hl).2.2.2.2 (by omega)).2.1⟩
  have hOe : ∀ v l, v ≤ V → (fun v l => if v = V + 1 then O V (P1 l) else O v l) v l = O v l := fun v l hv => by
    show (if v = V + 1 then _ else _) = _
    rw [if_neg (hne v hv)]
  have fce : ∀ b v l r, v ≤ V → l < N v → fl_FC kd ag T R rw P K el rk rl rc b v l r → fl_FC kd ag T R rw (fun v l => if v = V + 1 then P1 l else P v l) (fun v l => if v = V + 1 then K1 l else K v l) el' rk rl rc b v l r := by
    intro b v l r hv hl hfc
    unfold fl_FC at hfc ⊢
    rw [hxe v l hv hl]
    exact hfc
  refine ⟨?_, ⟨?_, ?_, ?_⟩, ?_, ?_, ?_⟩
  · rw [hlev]
    intro v hv
    dsimp only
    by_cases e : v = V + 1
    · subst e
      have hNV := hN V (Nat.le_refl _)
      obtain ⟨a1, a2, a3, a4⟩ := h1 V (Nat.le_refl _)
      rw [if_pos rfl, fl_ups]
      refine ⟨rfl, ?_, fun c hc => ?_, fun r hr => ?_⟩
      · have : 4 ^ (V + 1 + 1) = 4 * 4 ^ (V + 1) := by rw [Nat.pow_succ]; omega
        omega
      · obtain ⟨q1, q2, q3, q4, q5, q6⟩ := o5 c hc
        rw [if_pos rfl, if_pos rfl, if_pos rfl, if_pos rfl]
        refine ⟨q1, (a3 _ q3).2.1, by rw [q6]; rfl, by omega, fun _ => ⟨q2, ?_, q4, q5⟩⟩
        rw [if_neg (by omega)]
        exact q3
      · rw [if_pos rfl]
        exact ⟨hct1 r hr, by omega⟩
    · have hvV : v ≤ V := by omega
      obtain ⟨a1, a2, a3, a4⟩ := h1 v hvV
      have hNv := hN v hvV
      rw [if_neg e, upd, if_neg e]
      refine ⟨a1, a2, fun l hl => ?_, fun r hr => ?_⟩
      · obtain ⟨q1, q2, q3, q4, q5⟩ := a3 l hl
        obtain ⟨u1, u2, u3, u4, u5⟩ := o6 (v * 64 + l) (by omega)
        rw [if_neg e, if_neg e, if_neg e, if_neg e, u1, u2, u4, u5]
        refine ⟨q1, q2, q3, q4, fun hv0 => ?_⟩
        rw [if_neg (by omega)]
        exact q5 hv0
      · rw [if_neg e, hct2 _ (by omega)]
        exact a4 r hr
  · rw [hlev]
    intro l hl _
    dsimp only
    rw [if_pos rfl, fl_cp, if_pos rfl]
    refine ⟨[], ?_, trivial, ?_, ?_⟩
    · rw [fl_bas, if_pos rfl, List.length_nil]; simp only; omega
    · rw [hc']; dsimp only; rw [fl_fr, if_pos rfl]; rfl
    · rw [fl_sP, if_pos rfl]
  · rw [hlev]
    intro l hl
    dsimp only
    rw [if_pos rfl]
    exact Or.inl rfl
  · rw [hlev]
    intro r hr hC
    dsimp only at hC
    rw [if_pos rfl] at hC
    exact absurd hC (by decide)
  · intro X B rest e hB
    cases X with
    | nil =>
      injection e with e1 e2
      subst e1; subst e2
      rw [hVe]
      obtain ⟨a1, a2, a3, a4⟩ := h1 V (Nat.le_refl _)
      refine ⟨⟨⟨st, o1, ?_, fun l hl => ?_⟩, fun l hl => ?_, fun l hl => ?_⟩, fun r hr => ?_⟩
      · dsimp only
        rw [if_neg (hne V (Nat.le_refl _)), if_pos rfl]; exact o2
      · dsimp only at hl ⊢
        rw [if_neg (hne V (Nat.le_refl _))] at hl
        rw [if_neg (hne V (Nat.le_refl _)), if_neg (hne V (Nat.le_refl _)), if_pos rfl]
        refine ⟨fun hf ha => ?_, (o4 l hl).2⟩
        obtain ⟨xs, ⟨s, t1, t2, t3, t4⟩, x1, x2, x3⟩ := (o4 l hl).1 hf ha
        refine ⟨xs, s, t1, t2, t3, ?_, x1, fun i hi => ?_⟩
        · rw [hxe V l (Nat.le_refl _) hl, hOe V l (Nat.le_refl _)]
          exact t4
        · obtain ⟨y1, y2, y3⟩ := x3 i hi
          rw [hOe V l (Nat.le_refl _)]
          dsimp only
          rw [if_pos rfl, if_pos rfl, if_pos rfl, y2]
          exact ⟨y1, rfl, y3, rfl⟩
      · dsimp only at hl ⊢
        rw [if_neg (hne V (Nat.le_refl _))] at hl
        rw [if_neg (hne V (Nat.le_refl _)), if_neg (hne V (Nat.le_refl _)), if_pos rfl]
        intro hf ha
        have := c1 l hl ha
        rw [fl_cp, if_neg hf] at this
        exact fl_LC_g (hOe V l (Nat.le_refl _)) (hxe V l (Nat.le_refl _) hl) this
      · dsimp only at hl ⊢
        rw [if_neg (hne V (Nat.le_refl _))] at hl
        rw [if_neg (hne V (Nat.le_refl _))]
        exact c2 l hl
      · dsimp only
        rw [if_pos rfl, if_pos rfl, if_neg (hne V (Nat.le_refl _)), if_neg (hne V (Nat.le_refl _)), if_neg (hne V (Nat.le_refl _))]
        refine ⟨(a4 r hr).2, fun hC => ⟨(c3 r hr hC).1, (c3 r hr hC).2.1⟩, fun _ => ⟨rfl, fun hC => ?_⟩, fun w => absurd w (by decide)⟩
        exact fce _ _ _ _ (Nat.le_refl _) (c3 r hr hC).1 (c3 r hr hC).2.2
    | cons x X =>
      injection e with e1 e2
      have e2 : bs = X ++ B :: rest := e2
      obtain ⟨⟨⟨st', s1, s2, s3⟩, p2, p3⟩, q⟩ := h3 X B rest e2 hB
      have hlt := fl_sfx_lev X B rest hB
      rw [← e2, hVe] at hlt
      have n1 : ¬ fl_lev rest = V + 1 := by omega
      have n2 : ¬ fl_lev rest + 1 = V + 1 := by omega
      have n3 : ¬ fl_lev rest = V := by omega
      have hst := fl_P1_st s3
      have hm := fl_st_mono (fun l hl => (hst l hl).1)
      have hNr := hN (fl_lev rest + 1) hlt
      refine ⟨⟨⟨st', s1, ?_, fun l hl => ?_⟩, fun l hl => ?_, fun l hl => ?_⟩, fun r hr => ?_⟩
      · dsimp only
        rw [if_neg n1, if_neg n2]; exact s2
      · dsimp only at hl ⊢
        rw [if_neg n1] at hl
        rw [if_neg n1, if_neg n1, if_neg n3]
        refine ⟨fun hf ha => ?_, (s3 l hl).2⟩
        refine fl_CH_g hl (fun i hi => ?_) (hOe _ _ (by omega)) (hxe _ _ (by omega) hl) ((s3 l hl).1 hf ha)
        have := hm (N (fl_lev rest)) (l + 1) (by omega) (Nat.le_refl _)
        rw [if_neg n2, if_neg n2, if_neg n2, (o6 _ (by omega)).2.2.1]
        exact ⟨rfl, rfl, rfl, rfl⟩
      · dsimp only at hl ⊢
        rw [if_neg n1] at hl
        rw [if_neg n1, if_neg n1, if_neg n3]
        intro hf ha
        exact fl_LC_g (hOe _ l (by omega)) (hxe _ l (by omega) hl) (p2 l hl hf ha)
      · dsimp only at hl ⊢
        rw [if_neg n1] at hl
        rw [if_neg n1]
        exact p3 l hl
      · obtain ⟨d1, d2, d3, d4⟩ := q r hr
        dsimp only
        rw [if_neg n1, if_neg n1, if_neg n1, if_neg n2, if_neg n2, if_neg n3]
        exact ⟨d1, d2, fun w => ⟨(d3 w).1, fun w2 => fce _ _ _ _ (by omega) (d2 w2).1 ((d3 w).2 w2)⟩, d4⟩
  · dsimp only
    rw [if_neg (by omega)]
    refine ⟨h4.1, fun l hl => ?_⟩
    rw [if_neg (by omega)]
    exact h4.2 l hl
  · intro r hr hC
    dsimp only at hC
    rw [if_neg (by omega)] at hC
    exact h5 r hr hC
end XOP
end
section
/-! X: openEach -/
section XO2
variable {f_rowCap f_cellCap f_tokenCap f_rowCount f_tokenCount f_status f_resultIsSeq f_height f_blocks f_level : Int32} {a_rowLen a_data a_kinds a_args a_recKind a_recLen a_rec a_typeSeq a_blockKind a_blockBase a_blockSeq a_laneCount a_owner a_parent a_elem a_place a_off a_cut a_lens a_cells : Nat → Int32} {R T n0 fs p : Nat} {N : Nat → Nat} {O P K F C D : Nat → Nat → Nat} {rk0 rl0 rc0 : Nat → Int32} {post : SX → Prop}
theorem fl_xadd {V n l i o : Nat} {x : Int32} (hV : V < 2) (hn : n < 64) (hl : l < 64) (ho : a_owner (V * 64 + l) = nI o)
    (Kp : post (f_rowCap, f_cellCap, f_tokenCap, f_rowCount, f_tokenCount, f_status, f_resultIsSeq, f_height, f_blocks, nI V, a_rowLen, a_data, a_kinds, a_args, a_recKind, a_recLen, a_rec, a_typeSeq, a_blockKind, a_blockBase, a_blockSeq, a_laneCount, upd a_owner ((V + 1) * 64 + n) (nI o), upd a_parent ((V + 1) * 64 + n) (nI l), upd a_elem ((V + 1) * 64 + n) x, upd a_place ((V + 1) * 64 + n) (nI i), upd a_off ((V + 1) * 64 + n) 0, a_cut, a_lens, a_cells)) : wpX_addLane post (f_rowCap, f_cellCap, f_tokenCap, f_rowCount, f_tokenCount, f_status, f_resultIsSeq, f_height, f_blocks, nI V, a_rowLen, a_data, a_kinds, a_args, a_recKind, a_recLen, a_rec, a_typeSeq, a_blockKind, a_blockBase, a_blockSeq, a_laneCount, a_owner, a_parent, a_elem, a_place, a_off, a_cut, a_lens, a_cells) (nI n) (nI l) (nI i) x := by
  have e1 : (nI V + 1) * 64 + nI n = nI ((V + 1) * 64 + n) := by rw [nI_1, show (64 : Int32) = nI 64 from rfl, pk_mul, nI_add]
  have e2 : nI V * 64 + nI l = nI (V * 64 + l) := by rw [show (64 : Int32) = nI 64 from rfl, pk_mul, nI_add]
  have v1 : vp_in (nI ((V + 1) * 64 + n)) 192 := vp_in_nI (by omega) (by decide)
  unfold wpX_addLane
  dsimp only
  rw [e1, e2, nI_clamp (show V * 64 + l < 2 ^ 31 by omega), ho]
  refine nm_e ?_
  rw [nI_clamp (show (V + 1) * 64 + n < 2 ^ 31 by omega)]
  exact ⟨vp_in_nI (by omega) (by decide), v1, nm_e ⟨v1, nm_e ⟨v1, nm_e ⟨v1, nm_e ⟨v1, nm_e Kp⟩⟩⟩⟩⟩
/-- the elements of one lane -/
theorem fl_xo52 {V h l : Nat} {bs : List fl_Bl} {r' : List Bool} {xs : List Int32} {st P1 K1 : Nat → Nat} {n : Nat} {ow0 pa0 pl0 of0 : Nat → Int32} (hV : V < 2) (hh : h < 4) (hl16 : l < 16) (hx4 : xs.length ≤ 4) (hln : a_lens ((V * 4 + h) * 64 + l) = nI xs.length) (hce : ∀ i (hi : i < xs.length), a_cells (((V * 4 + h) * 64 + l) * 4 + i) = xs[i]) (how : ow0 (V * 64 + l) = nI (O V l)) (hf : F V l = 0) (ha : l < C V (O V l))
    (hTK : fl_TK a_kinds a_args T R (fl_rw a_rowLen a_data) O P K a_elem a_lens a_cells bs r' V p l xs)
    {J : Int32 → Int32 → Int32 → Int32 → Int32 → Int32 → Int32 → Int32 → Int32 → Int32 → Int32 → Int32 → (Nat → Int32) → (Nat → Int32) → (Nat → Int32) → (Nat → Int32) → (Nat → Int32) → (Nat → Int32) → (Nat → Int32) → (Nat → Int32) → (Nat → Int32) → (Nat → Int32) → (Nat → Int32) → (Nat → Int32) → (Nat → Int32) → (Nat → Int32) → (Nat → Int32) → (Nat → Int32) → (Nat → Int32) → (Nat → Int32) → (Nat → Int32) → (Nat → Int32) → Prop}
    {ow1 pa1 el1 pl1 of1 : Nat → Int32} (hOI : fl_OI a_kinds a_args T R (fl_rw a_rowLen a_data) N O P K F C D a_elem a_lens a_cells a_recKind a_recLen a_rec bs r' V p l n st P1 K1 ow0 pa0 pl0 of0 ow1 pa1 el1 pl1 of1)
    (Kp : ∀ ow2 pa2 el2 pl2 of2, fl_OI a_kinds a_args T R (fl_rw a_rowLen a_data) N O P K F C D a_elem a_lens a_cells a_recKind a_recLen a_rec bs r' V p (l + 1) (n + xs.length) (fun x => if x = l + 1 then n + xs.length else st x) (fun c => if c < n then P1 c else l) (fun c => if c < n then K1 c else c - n) ow0 pa0 pl0 of0 ow2 pa2 el2 pl2 of2 → J (nI (n + xs.length)) (nI (l + 1)) f_rowCap f_cellCap f_tokenCap f_rowCount f_tokenCount f_status f_resultIsSeq (nI h) f_blocks (nI V) a_rowLen a_data a_kinds a_args a_recKind a_recLen a_rec a_typeSeq a_blockKind a_blockBase a_blockSeq a_laneCount ow2 pa2 el2 pl2 of2 a_cut a_lens a_cells) :
    ∀ d i ow2 pa2 el2 pl2 of2, i + d = xs.length → (∀ j, j < (V + 1) * 64 + n → ow2 j = ow1 j ∧ pa2 j = pa1 j ∧ el2 j = el1 j ∧ pl2 j = pl1 j ∧ of2 j = of1 j) → (∀ k, k < i → ow2 ((V + 1) * 64 + (n + k)) = nI (O V l) ∧ pa2 ((V + 1) * 64 + (n + k)) = nI l ∧ pl2 ((V + 1) * 64 + (n + k)) = nI k ∧ of2 ((V + 1) * 64 + (n + k)) = 0) → (∀ k (hk : k < xs.length), k < i → el2 ((V + 1) * 64 + (n + k)) = xs[k]) →
    wX_openEach_52 post J (nI l) (nI ((V * 4 + h) * 64 + l)) (d + 1) (nI (n + i)) (nI i) f_rowCap f_cellCap f_tokenCap f_rowCount f_tokenCount f_status f_resultIsSeq (nI h) f_blocks (nI V) a_rowLen a_data a_kinds a_args a_recKind a_recLen a_rec a_typeSeq a_blockKind a_blockBase a_blockSeq a_laneCount ow2 pa2 el2 pl2 of2 a_cut a_lens a_cells := by
  obtain ⟨o1, o2, o3, o4, o5, o6⟩ := hOI
  have es : (nI ((V * 4 + h) * 64 + l)).toNatClampNeg = (V * 4 + h) * 64 + l := nI_clamp (by omega)
  intro d
  induction d with
  | zero =>
    intro i ow2 pa2 el2 pl2 of2 hi g1 g2 g3
    have ei : i = xs.length := by omega
    subst ei
    unfold wX_openEach_52
    rw [es, hln]
    refine ⟨vp_in_nI (by omega) (by decide), br_t (nI_le (Nat.le_refl _) (by omega)) (nm_r (nI_1 l) (Kp _ _ _ _ _ ⟨?_, ?_, by omega, fun m hm => ?_, fun c hc => ?_, fun j hj => ?_⟩))⟩
    · dsimp only; rw [if_neg (by omega)]; exact o1
    · dsimp only; rw [if_pos rfl]
    · by_cases e : m = l
      · subst e
        refine ⟨fun _ _ => ⟨xs, hTK, ?_, ?_, fun i hi => ?_⟩, fun w => absurd ⟨hf, ha⟩ w⟩
        · dsimp only; rw [if_pos rfl, if_neg (by omega), o2]
        · dsimp only; rw [if_pos rfl]; exact Nat.le_refl _
        · dsimp only; rw [if_neg (by omega), o2, if_neg (by omega), if_neg (by omega)]
          exact ⟨g3 i hi hi, rfl, by omega⟩
      · have q1 : ¬ m + 1 = l + 1 := by omega
        have q2 : ¬ m = l + 1 := by omega
        obtain ⟨p1, p2⟩ := o4 m (by omega)
        dsimp only
        rw [if_neg q1, if_neg q2]
        refine ⟨fun hf ha => ?_, p2⟩
        obtain ⟨ys, y1, y2, y3, y4⟩ := p1 hf ha
        refine ⟨ys, y1, y2, by omega, fun i hi => ?_⟩
        obtain ⟨z1, z2, z3⟩ := y4 i hi
        rw [if_pos (by omega), if_pos (by omega), (g1 _ (by omega)).2.2.1]
        exact ⟨z1, z2, z3⟩
    · dsimp only
      by_cases e : c < n
      · obtain ⟨q1, q2, q3, q4, q5, q6⟩ := o5 c e
        obtain ⟨u1, u2, u3, u4, u5⟩ := g1 ((V + 1) * 64 + c) (by omega)
        rw [if_pos e, if_pos e, u1, u2, u4, u5]
        exact ⟨q1, q2, by omega, q4, q5, q6⟩
      · obtain ⟨u1, u2, u3, u4⟩ := g2 (c - n) (by omega)
        rw [show n + (c - n) = c by omega] at u1 u2 u3 u4
        rw [if_neg e, if_neg e]
        exact ⟨u1, u2, by omega, u3, by omega, u4⟩
    · obtain ⟨u1, u2, u3, u4, u5⟩ := g1 j (by omega)
      obtain ⟨w1, w2, w3, w4, w5⟩ := o6 j hj
      exact ⟨u1.trans w1, u2.trans w2, u3.trans w3, u4.trans w4, u5.trans w5⟩
  | succ d ih =>
    intro i ow2 pa2 el2 pl2 of2 hi g1 g2 g3
    have hil : i < xs.length := by omega
    have e1 : nI ((V * 4 + h) * 64 + l) * 4 + nI i = nI (((V * 4 + h) * 64 + l) * 4 + i) := by rw [show (4 : Int32) = nI 4 from rfl, pk_mul, nI_add]
    unfold wX_openEach_52
    rw [es, hln, e1, nI_clamp (show ((V * 4 + h) * 64 + l) * 4 + i < 2 ^ 31 by omega), hce i hil]
    have how2 : ow2 (V * 64 + l) = nI (O V l) := by
      rw [(g1 _ (by omega)).1, (o6 _ (by omega)).1]; exact how
    refine ⟨vp_in_nI (by omega) (by decide), br_f (nI_ge hil (by omega)) ⟨vp_in_nI (by omega) (by decide), fl_xadd hV (by omega) (by omega) how2 (nm_r (nI_1 _) (nm_r (nI_1 _) ?_))⟩⟩
    refine ih (i + 1) _ _ _ _ _ (by omega) (fun j hj => ?_) (fun k hk => ?_) (fun k hk hki => ?_)
    · obtain ⟨u1, u2, u3, u4, u5⟩ := g1 j hj
      rw [fl_upn (by omega), fl_upn (by omega), fl_upn (by omega), fl_upn (by omega), fl_upn (by omega)]
      exact ⟨u1, u2, u3, u4, u5⟩
    · by_cases e : k = i
      · subst e
        exact ⟨fl_ups, fl_ups, fl_ups, fl_ups⟩
      · rw [fl_upn (by omega), fl_upn (by omega), fl_upn (by omega), fl_upn (by omega)]
        exact g2 k (by omega)
    · by_cases e : k = i
      · subst e
        exact fl_ups
      · rw [fl_upn (by omega)]
        exact g3 k hk (by omega)
/-- the lanes -/
theorem fl_xo14 {bs : List fl_Bl} {r' : List Bool} (G : fl_Gd a_kinds a_args T) (hR : R ≤ 4) (hpT : p < T) (hV : fl_lev bs < 2) (hcs : fl_csf a_kinds a_args p = (true :: r', bs)) (hh : (fl_ft r' bs).length < 4) (hb : bs.length < 6) {ow0 pa0 el0 pl0 of0 : Nat → Int32} (H : fl_XJ a_kinds a_args T R (fl_rw a_rowLen a_data) N O P K F C D a_laneCount ow0 pa0 el0 pl0 of0 a_cut a_lens a_cells a_recKind a_recLen a_rec n0 fs rk0 rl0 rc0 bs (fun _ => p))
    (Kp : ∀ n st P1 K1 ow pa el pl of ct, fl_OI a_kinds a_args T R (fl_rw a_rowLen a_data) N O P K F C D el0 a_lens a_cells a_recKind a_recLen a_rec bs r' (fl_lev bs) p (N (fl_lev bs)) n st P1 K1 ow0 pa0 pl0 of0 ow pa el pl of → (∀ r, r < 4 → ct ((fl_lev bs + 1) * 4 + r) = nI 64) → (∀ j, j < (fl_lev bs + 1) * 4 → ct j = a_cut j) → post (f_rowCap, f_cellCap, f_tokenCap, f_rowCount, f_tokenCount, f_status, f_resultIsSeq, nI (fl_ft r' bs).length, nI (bs.length + 1), nI (fl_lev bs + 1), a_rowLen, a_data, a_kinds, a_args, a_recKind, a_recLen, a_rec, a_typeSeq, a_blockKind, a_blockBase, a_blockSeq, upd a_laneCount (fl_lev bs + 1) (nI n), ow, pa, el, pl, of, ct, a_lens, a_cells)) :
    ∀ d l n st P1 K1 ow pa el pl of, l + d = N (fl_lev bs) → fl_OI a_kinds a_args T R (fl_rw a_rowLen a_data) N O P K F C D el0 a_lens a_cells a_recKind a_recLen a_rec bs r' (fl_lev bs) p l n st P1 K1 ow0 pa0 pl0 of0 ow pa el pl of → wX_openEach_14 post (d + 1) (nI n) (nI l) f_rowCap f_cellCap f_tokenCap f_rowCount f_tokenCount f_status f_resultIsSeq (nI (fl_ft r' bs).length) (nI bs.length) (nI (fl_lev bs)) a_rowLen a_data a_kinds a_args a_recKind a_recLen a_rec a_typeSeq a_blockKind a_blockBase a_blockSeq a_laneCount ow pa el pl of a_cut a_lens a_cells := by
  have hN := fl_XR_N H.1 (Nat.le_refl _) (by omega)
  obtain ⟨a1, a2, a3, a4⟩ := H.1 _ (Nat.le_refl _)
  have hN16 : N (fl_lev bs) ≤ 16 := by
    have : fl_lev bs = 0 ∨ fl_lev bs = 1 := by omega
    rcases this with e | e <;> rw [e] at a2 ⊢ <;> simp at a2 <;> omega
  intro d
  induction d with
  | zero =>
    intro l n st P1 K1 ow pa el pl of hl hOI
    have el' : l = N (fl_lev bs) := by omega
    subst el'
    unfold wX_openEach_14
    rw [nI_clamp (show fl_lev bs < 2 ^ 31 by omega), a1]
    refine ⟨vp_in_nI (by omega) (by decide), br_t (nI_le (Nat.le_refl _) (by omega)) (nm_r (nI_1 _) (nm_r (nI_1 _) ⟨vp_in_nI (by omega) (by decide), ?_⟩))⟩
    rw [nI_clamp (show fl_lev bs + 1 < 2 ^ 31 by omega)]
    exact nm_e (fl_xrst (by omega) fun ct k1 k2 => Kp n st P1 K1 ow pa el pl of ct hOI k1 (fun j hj => k2 j (Or.inl hj)))
  | succ d ih =>
    intro l n st P1 K1 ow pa el pl of hl hOI
    have hil : l < N (fl_lev bs) := by omega
    obtain ⟨o1, o2, o3, o4, o5, o6⟩ := hOI
    obtain ⟨w1, w2, w3, w4, -⟩ := a3 l hil
    obtain ⟨c1, c2⟩ := a4 (O (fl_lev bs) l) (by omega)
    unfold wX_openEach_14
    rw [nI_clamp (show fl_lev bs < 2 ^ 31 by omega), a1]
    refine ⟨vp_in_nI (by omega) (by decide), br_f (nI_ge hil (by omega)) (fl_xact0 (by omega) (by omega) (by omega) w4 c2 (by rw [(o6 _ (by omega)).1]; exact w1) (by rw [(o6 _ (by omega)).2.2.2.2]; exact w3) c1 (fun hf ha => br_f (by decide) ?_) (fun hn => br_t rfl (nm_r (nI_1 l) (ih (l + 1) n (fun x => if x = l + 1 then n else st x) P1 K1 ow pa el pl of (by omega) ?_))))⟩
    · have hL := H.2.1.1 l hil ha
      rw [fl_cp, if_pos hf] at hL
      obtain ⟨s, d1, d2, d3, d4⟩ := hL
      rw [hcs] at d3
      dsimp only at d3
      rw [fl_fr_cons] at d3
      obtain ⟨xs, s2, rfl, d5⟩ := fl_sh_s d3
      obtain ⟨⟨m1, m2, m3⟩, m4⟩ := d2
      have hfl := fl_ft_len bs r'
      have hsl : s2.length = (fl_fr r' bs).length := by rw [← d5, List.length_map]
      have eh : (fl_ft r' bs).length = fl_bas bs + s2.length := by omega
      rw [List.length_cons] at d1
      unfold wpX_slot
      dsimp only
      rw [fl_slot]
      have k := fl_xo52 (post := post) (ow0 := ow0) (pa0 := pa0) (pl0 := pl0) (of0 := of0) (bs := bs) (r' := r') (V := fl_lev bs) (h := (fl_ft r' bs).length) (l := l) (xs := xs) (n := n) (st := st) (P1 := P1) (K1 := K1) (D := D) (N := N) (R := R) (T := T) (p := p) (P := P) (K := K) (F := F) (C := C) (O := O) (a_elem := el0) (a_kinds := a_kinds) (a_args := a_args) (a_rowLen := a_rowLen) (a_data := a_data) (a_lens := a_lens) (a_cells := a_cells) (a_recKind := a_recKind) (a_recLen := a_recLen) (a_rec := a_rec) (J := wX_openEach_14 post (d + 1)) hV hh (by omega) m2 (by rw [eh]; exact m1) (by rw [eh]; exact m3) w1 hf ha ⟨s2, by omega, ⟨⟨m1, m2, m3⟩, m4⟩, d5, d4⟩ ⟨o1, o2, o3, o4, o5, o6⟩ (fun ow2 pa2 el2 pl2 of2 hO2 => ih (l + 1) (n + xs.length) _ _ _ ow2 pa2 el2 pl2 of2 (by omega) hO2) xs.length 0 ow pa el pl of (by omega) (fun j _ => ⟨rfl, rfl, rfl, rfl, rfl⟩) (fun k h => absurd h (Nat.not_lt_zero _)) (fun k _ h => absurd h (Nat.not_lt_zero _))
      exact ⟨_, k⟩
    · refine ⟨?_, ?_, by omega, fun m hm => ?_, fun c hc => ?_, o6⟩
      · dsimp only; rw [if_neg (by omega)]; exact o1
      · dsimp only; rw [if_pos rfl]
      · dsimp only
        by_cases e : m = l
        · subst e
          refine ⟨fun hf ha => absurd ⟨hf, ha⟩ hn, fun _ => ?_⟩
          rw [if_pos rfl, if_neg (by omega), o2]
        · rw [if_neg (by omega), if_neg (by omega)]
          exact o4 m (by omega)
      · obtain ⟨q1, q2, q3, q4⟩ := o5 c hc
        exact ⟨q1, q2, by omega, q4⟩
theorem fl_xeach (G : fl_Gd a_kinds a_args T) (hR : R ≤ 4) (hpT : p < T) (hkp : a_kinds p = 14) (H : fl_XJ a_kinds a_args T R (fl_rw a_rowLen a_data) N O P K F C D a_laneCount a_owner a_parent a_elem a_place a_off a_cut a_lens a_cells a_recKind a_recLen a_rec n0 fs rk0 rl0 rc0 (fl_csf a_kinds a_args p).2 (fun _ => p))
    (Kp : ∀ N O P K F C D lc ow pa el pl of ct, fl_XJ a_kinds a_args T R (fl_rw a_rowLen a_data) N O P K F C D lc ow pa el pl of ct a_lens a_cells a_recKind a_recLen a_rec n0 fs rk0 rl0 rc0 (fl_csf a_kinds a_args (p + 1)).2 (fun _ => p + 1) → post (f_rowCap, f_cellCap, f_tokenCap, f_rowCount, f_tokenCount, f_status, f_resultIsSeq, nI (fl_ft (fl_csf a_kinds a_args (p + 1)).1 (fl_csf a_kinds a_args (p + 1)).2).length, nI (fl_csf a_kinds a_args (p + 1)).2.length, nI (fl_lev (fl_csf a_kinds a_args (p + 1)).2), a_rowLen, a_data, a_kinds, a_args, a_recKind, a_recLen, a_rec, a_typeSeq, a_blockKind, a_blockBase, a_blockSeq, lc, ow, pa, el, pl, of, ct, a_lens, a_cells)) :
    wpX_openEach post (f_rowCap, f_cellCap, f_tokenCap, f_rowCount, f_tokenCount, f_status, f_resultIsSeq, nI (fl_ft (fl_csf a_kinds a_args p).1 (fl_csf a_kinds a_args p).2).length, nI (fl_csf a_kinds a_args p).2.length, nI (fl_lev (fl_csf a_kinds a_args p).2), a_rowLen, a_data, a_kinds, a_args, a_recKind, a_recLen, a_rec, a_typeSeq, a_blockKind, a_blockBase, a_blockSeq, a_laneCount, a_owner, a_parent, a_elem, a_place, a_off, a_cut, a_lens, a_cells) := by
  obtain ⟨r', bs, c1, c2, l1, l2, l3, l4, c3, k3, c4⟩ := fl_at14 G hpT hkp
  have hbd := fl_bnd G p (by omega)
  rw [c1] at H hbd ⊢
  rw [c2] at Kp
  obtain ⟨b1, b2, b3⟩ := hbd
  dsimp only at H b1 b2 b3 Kp ⊢
  have hlev : fl_lev ((14, p, false, r') :: bs) = fl_lev bs + 1 := by rw [fl_lev, if_pos rfl]
  have hfr : fl_ft [] ((14, p, false, r') :: bs) = fl_ft r' bs := by simp [fl_ft]
  rw [fl_ft_cons, List.length_cons] at b1 ⊢
  rw [hfr, hlev, List.length_cons] at Kp
  have e1 : nI ((fl_ft r' bs).length + 1) - 1 = nI (fl_ft r' bs).length := nI_pred _
  unfold wpX_openEach
  dsimp only
  rw [e1]
  have k := fl_xo14 (post := post) (ow0 := a_owner) (pa0 := a_parent) (el0 := a_elem) (pl0 := a_place) (of0 := a_off) (p := p) (f_rowCap := f_rowCap) (f_cellCap := f_cellCap) (f_tokenCap := f_tokenCap) (f_rowCount := f_rowCount) (f_tokenCount := f_tokenCount) (f_status := f_status) (f_resultIsSeq := f_resultIsSeq) (a_typeSeq := a_typeSeq) (a_blockKind := a_blockKind) (a_blockBase := a_blockBase) (a_blockSeq := a_blockSeq) G hR hpT l2 c1 (by omega) l1 H
    (fun n st P1 K1 ow pa el pl of ct hO k1 k2 => Kp _ _ _ _ _ _ _ _ _ _ _ _ _ _ (fl_xj_open l2 hR H (by omega) c2 hO k1 k2))
    (N (fl_lev bs)) 0 0 (fun _ => 0) (fun _ => 0) (fun _ => 0) a_owner a_parent a_elem a_place a_off (by omega) ⟨rfl, rfl, Nat.le_refl _, fun m h => absurd h (Nat.not_lt_zero _), fun c h => absurd h (Nat.not_lt_zero _), fun j _ => ⟨rfl, rfl, rfl, rfl, rfl⟩⟩
  exact nm_e ⟨_, k⟩
end XO2
end
section
/-! X: the end of an EACH, the mathematics -/
theorem fl_bkd {kd ag : Nat → Int32} {T : Nat} (G : fl_Gd kd ag T) : ∀ p, p ≤ T → ∀ X (B : fl_Bl) rest, (fl_csf kd ag p).2 = X ++ B :: rest → kd B.2.1 = B.1 := by
  intro p
  induction p with
  | zero => intro _ X B rest h; simp [fl_csf] at h
  | succ p ih =>
    intro hp X B rest h
    have hpT : p < T := by omega
    have ih := ih (by omega)
    by_cases hk : fl_sK (kd p)
    · rw [fl_atS G hpT hk] at h
      exact ih X B rest h
    by_cases k14 : kd p = 14
    · obtain ⟨r', bs, c1, c2, -⟩ := fl_at14 G hpT k14
      rw [c2] at h
      cases X with
      | nil => injection h with e1 e2; subst e1; exact k14
      | cons x X => injection h with e1 e2; exact ih X B rest (by rw [c1]; exact e2)
    by_cases k15 : kd p = 15 ∨ kd p = 16
    · obtain ⟨A, bs, c1, -, -, c2⟩ := fl_at15 G hpT k15
      rw [c2] at h
      exact ih (A :: X) B rest (by rw [c1]; dsimp only at h ⊢; rw [h]; rfl)
    by_cases k17 : kd p = 17
    · obtain ⟨r', bs, t, c1, c2, -⟩ := fl_at17 G hpT k17
      rw [c2] at h
      cases X with
      | nil => injection h with e1 e2; subst e1; exact k17
      | cons x X => injection h with e1 e2; exact ih X B rest (by rw [c1]; exact e2)
    by_cases k18 : kd p = 18
    · obtain ⟨A, bs, t, c1, -, -, c2, -⟩ := fl_at18 G hpT k18
      rw [c2] at h
      cases X with
      | nil => injection h with e1 e2; subst e1; exact k18
      | cons x X => injection h with e1 e2; exact ih (A :: X) B rest (by rw [c1]; dsimp only; rw [e2]; rfl)
    by_cases k19 : kd p = 19
    · obtain ⟨A, bs, t, c1, -, -, c2⟩ := fl_at19 G hpT k19
      rw [c2] at h
      exact ih (A :: X) B rest (by rw [c1]; dsimp only at h ⊢; rw [h]; rfl)
    exact absurd ⟨k14, fun w => k15 (Or.inl w), fun w => k15 (Or.inr w), k17, k18, k19⟩ hk
def fl_yl (kp : Bool) (Pf : Nat → Nat) (E w : Nat → Int32) (up : Nat) : Nat → List Int32
  | 0 => []
  | c + 1 => fl_yl kp Pf E w up c ++ (if Pf c = up then fl_pk kp (E c) (w c) else [])
theorem fl_pk_l (kp : Bool) (x v : Int32) : (fl_pk kp x v).length ≤ 1 := by
  unfold fl_pk; split
  · split <;> simp
  · simp
section YLS
variable {kp : Bool} {Pf : Nat → Nat} {E w : Nat → Int32} {up s0 : Nat}
theorem fl_yl_0 {n : Nat} (h : ∀ c, c < n → Pf c = up → s0 ≤ c) : ∀ c, c ≤ n → c ≤ s0 → fl_yl kp Pf E w up c = []
  | 0, _, _ => rfl
  | c + 1, hn, hc => by
    rw [fl_yl, fl_yl_0 h c (by omega) (by omega), if_neg (fun e => by have := h c (by omega) e; omega)]; rfl
theorem fl_yl_len {n : Nat} (h : ∀ c, c < n → Pf c = up → s0 ≤ c) : ∀ c, c ≤ n → (fl_yl kp Pf E w up c).length ≤ c - s0
  | 0, _ => by simp [fl_yl]
  | c + 1, hn => by
    have ih := fl_yl_len h c (by omega)
    rw [fl_yl, List.length_append]
    split
    · rename_i e
      have := h c (by omega) e
      have := fl_pk_l kp (E c) (w c)
      omega
    · simp; omega
theorem fl_yl_hi {n s1 : Nat} (h : ∀ c, c < n → Pf c = up → c < s1) : ∀ d, s1 + d ≤ n → fl_yl kp Pf E w up (s1 + d) = fl_yl kp Pf E w up s1
  | 0, _ => rfl
  | d + 1, hn => by
    rw [show s1 + (d + 1) = (s1 + d) + 1 by omega, fl_yl, fl_yl_hi h d (by omega), if_neg (fun e => by have := h (s1 + d) (by omega) e; omega), List.append_nil]
theorem fl_ea_ok {f : Int32 → Nat → fl_F ⊕ fl_V} {xs : List Int32} (hv : ∀ i (hi : i < xs.length), f xs[i] i = .inr (.inl (w (s0 + i)))) (hE : ∀ i (hi : i < xs.length), E (s0 + i) = xs[i]) (hP : ∀ i, i < xs.length → Pf (s0 + i) = up) : ∀ d j, j + d = xs.length → ∃ zs, fl_ea kp f (xs.drop j) j = .inr zs ∧ fl_yl kp Pf E w up (s0 + xs.length) = fl_yl kp Pf E w up (s0 + j) ++ zs := by
  intro d
  induction d with
  | zero =>
    intro j hj
    rw [List.drop_eq_nil_of_le (by omega)]
    exact ⟨[], rfl, by rw [show j = xs.length by omega, List.append_nil]⟩
  | succ d ih =>
    intro j hj
    have hjl : j < xs.length := by omega
    obtain ⟨zs, z1, z2⟩ := ih (j + 1) (by omega)
    rw [fl_drop hjl, fl_ea, hv j hjl]
    dsimp only
    rw [z1]
    refine ⟨_, rfl, ?_⟩
    rw [z2, show s0 + (j + 1) = (s0 + j) + 1 by omega, fl_yl, if_pos (hP j hjl), hE j hjl, List.append_assoc]
    rfl
theorem fl_ea_flt {f : Int32 → Nat → fl_F ⊕ fl_V} {xs : List Int32} {i0 : Nat} {g : fl_F} (hi0 : i0 < xs.length) (hv : ∀ i (hi : i < xs.length), i < i0 → ∃ v, f xs[i] i = .inr v) (hf : f xs[i0] i0 = .inl g) : ∀ d j, j + d = i0 → fl_ea kp f (xs.drop j) j = .inl g := by
  intro d
  induction d with
  | zero =>
    intro j hj
    have : j = i0 := by omega
    subst this
    rw [fl_drop hi0, fl_ea, hf]
  | succ d ih =>
    intro j hj
    have hjl : j < xs.length := by omega
    obtain ⟨v, hv⟩ := hv j hjl (by omega)
    rw [fl_drop hjl, fl_ea, hv]
    dsimp only
    rw [ih (j + 1) (by omega)]
end YLS
theorem fl_find {st : Nat → Nat} : ∀ (n m c : Nat), st 0 = 0 → st n = m → c < m → ∃ l, l < n ∧ st l ≤ c ∧ c < st (l + 1)
  | 0, m, c, h0, hn, hc => by omega
  | n + 1, m, c, h0, hn, hc => by
    by_cases e : st n ≤ c
    · exact ⟨n, by omega, e, by omega⟩
    · obtain ⟨l, l1, l2, l3⟩ := fl_find n (st n) c h0 rfl (by omega)
      exact ⟨l, by omega, l2, l3⟩
/-- the packing: the slots of the active lanes hold the lists, all else is as it was -/
def fl_PKI (v h n : Nat) (act : Nat → Prop) (Y : Nat → List Int32) (ln ce ln' ce' : Nat → Int32) : Prop :=
  (∀ l, l < n → act l → ln' ((v * 4 + h) * 64 + l) = nI (Y l).length ∧ ∀ i (hi : i < (Y l).length), ce' (((v * 4 + h) * 64 + l) * 4 + i) = (Y l)[i]) ∧
  (∀ j, (∀ l, l < n → act l → j ≠ (v * 4 + h) * 64 + l) → ln' j = ln j ∧ ∀ i, i < 4 → ce' (j * 4 + i) = ce (j * 4 + i))
theorem fl_PKI_ag {v h n v' l' : Nat} {act : Nat → Prop} {Y : Nat → List Int32} {ln ce ln' ce' : Nat → Int32} (hh : h < 4) (hn : n ≤ 64) (hl' : l' < 64) (hne : v' ≠ v ∨ ¬ act l') (H : fl_PKI v h n act Y ln ce ln' ce') : fl_AG ln ce ln' ce' v' l' := by
  intro k hk
  refine H.2 _ fun l hl ha => ?_
  rcases hne with w | w
  · omega
  · have : l' ≠ l := fun e => w (by rw [e]; exact ha)
    omega
section XCL
variable {kd : Nat → Int32} {ag : Nat → Int32} {T : Nat} {R : Nat} {rw : Nat → List Int32} {N : Nat → Nat} {O : Nat → Nat → Nat} {P : Nat → Nat → Nat} {K : Nat → Nat → Nat} {F : Nat → Nat → Nat} {C : Nat → Nat → Nat} {D : Nat → Nat → Nat} {lc : Nat → Int32} {ow : Nat → Int32} {pa : Nat → Int32} {el : Nat → Int32} {pl : Nat → Int32} {of : Nat → Int32} {ct : Nat → Int32} {ln : Nat → Int32} {ce : Nat → Int32} {rk : Nat → Int32} {rl : Nat → Int32} {rc : Nat → Int32} {n0 : Nat} {fs : Nat} {rk0 : Nat → Int32} {rl0 : Nat → Int32} {rc0 : Nat → Int32}
/-- every lane of an inner level has a parent that was spread -/
theorem fl_par {B : fl_Bl} {rest : List fl_Bl} {v : Nat} {st : Nat → Nat} (s1 : st 0 = 0) (s2 : st (N v) = N (v + 1)) (s3 : ∀ l, l < N v → (F v l = 0 → l < D v (O v l) → fl_CH kd ag T R rw O P K el ln ce B rest st v l) ∧ (¬ (F v l = 0 ∧ l < D v (O v l)) → st (l + 1) = st l)) {c : Nat} (hc : c < N (v + 1)) : ∃ l, l < N v ∧ F v l = 0 ∧ l < D v (O v l) ∧ P (v + 1) c = l ∧ O (v + 1) c = O v l ∧ st l ≤ c ∧ c < st (l + 1) ∧ K (v + 1) c = c - st l := by
  obtain ⟨l, l1, l2, l3⟩ := fl_find (N v) (N (v + 1)) c s1 s2 hc
  by_cases h : F v l = 0 ∧ l < D v (O v l)
  · obtain ⟨xs, s, h1, h2, h3, h4, h5, h6⟩ := (s3 l l1).1 h.1 h.2
    obtain ⟨a1, a2, a3, a4⟩ := h6 (c - st l) (by omega)
    rw [show st l + (c - st l) = c by omega] at a1 a2 a3 a4
    exact ⟨l, l1, h.1, h.2, a2, a4, l2, l3, a3⟩
  · have := (s3 l l1).2 h
    omega
theorem fl_xj_close {B : fl_Bl} {rest : List fl_Bl} {p : Nat} {ln' ce' : Nat → Int32} (G : fl_Gd kd ag T) (hpT : p < T) (hR : R ≤ 4) (hV : fl_lev rest < 2) (hB : B.1 = 14) (hcl : fl_cl kd T B.2.1 = p) (hk : kd B.2.1 = 14) (hBp : B.2.1 < p) (hcs : fl_csf kd ag p = ([false], B :: rest)) (hc' : fl_csf kd ag (p + 1) = (true :: B.2.2.2, rest)) (hkp : kd p = 15 ∨ kd p = 16) (hft : (fl_ft B.2.2.2 rest).length < 4)
    (H : fl_XJ kd ag T R rw N O P K F C D lc ow pa el pl of ct ln ce rk rl rc n0 fs rk0 rl0 rc0 (B :: rest) (fun _ => p))
    (hP : fl_PKI (fl_lev rest) (fl_ft B.2.2.2 rest).length (N (fl_lev rest)) (fun l => F (fl_lev rest) l = 0 ∧ l < C (fl_lev rest) (O (fl_lev rest) l)) (fun l => fl_yl (decide (kd p = 16)) (P (fl_lev rest + 1)) (fun c => el ((fl_lev rest + 1) * 64 + c)) (fun c => ce ((((fl_lev rest + 1) * 4 + (fl_ft B.2.2.2 rest).length) * 64 + c) * 4)) l (N (fl_lev rest + 1))) ln ce ln' ce') :
    fl_XJ kd ag T R rw N O P K F C D lc ow pa el pl of ct ln' ce' rk rl rc n0 fs rk0 rl0 rc0 rest (fun _ => p + 1) := by
  have hlev : fl_lev (B :: rest) = fl_lev rest + 1 := by rw [fl_lev, if_pos hB]
  have hsP : fl_sP (B :: rest) = B.2.1 + 1 := by rw [fl_sP, if_pos hB]
  have hbas : fl_bas (B :: rest) = (fl_ft B.2.2.2 rest).length := by rw [fl_bas, if_pos hB]
  have hfr1 : fl_fr [false] (B :: rest) = [false] := by rw [fl_fr, if_pos hB]
  have hfl := fl_ft_len rest B.2.2.2
  obtain ⟨h1, ⟨c1, c2, c3⟩, h3, h4, h5⟩ := H
  rw [hlev] at h1 c1 c2 c3
  obtain ⟨⟨⟨st, s1, s2, s3⟩, p2, p3⟩, q⟩ := h3 [] B rest rfl hB
  have hN1 := fl_XR_N h1 (Nat.le_refl _) (by omega)
  have hN0 := fl_XR_N h1 (show fl_lev rest ≤ fl_lev rest + 1 by omega) (by omega)
  have hst := fl_P1_st s3
  have hm := fl_st_mono (fun l hl => (hst l hl).1)
  have par := fun {c} (hc : c < N (fl_lev rest + 1)) => fl_par s1 s2 s3 hc
  generalize hVe : fl_lev rest = V at *
  -- no inner lane is masked
  have hF0 : ∀ c, c < N (V + 1) → F (V + 1) c = 0 := by
    intro c hc
    rcases c2 c hc with w | w
    · exact w
    · rw [fl_fl, if_pos hB, List.length_cons] at w; omega
  -- a living inner lane gives its value
  have hval : ∀ c, c < N (V + 1) → c < C (V + 1) (O (V + 1) c) → fl_EV kd ag T R rw (O (V + 1) c) (B.2.1 + 1) [] (fl_xe P K el (V + 1) c) = .inr (.inl (ce ((((V + 1) * 4 + (fl_ft B.2.2.2 rest).length) * 64 + c) * 4))) := by
    intro c hc ha
    have := c1 c hc ha
    rw [fl_cp, if_pos (hF0 c hc)] at this
    obtain ⟨s, d1, d2, d3, d4⟩ := this
    rw [hcs] at d3
    dsimp only at d3
    rw [hfr1] at d3
    obtain ⟨v, rfl, d5⟩ := fl_sh_1 d3
    rw [hsP, fl_EV_E hkp] at d4
    rw [d4]
    cases v with
    | inr _ => simp [fl_tg] at d5
    | inl x =>
      have d6 := d2.1.1
      rw [hbas] at d6
      have d6 : ce ((((V + 1) * 4 + (fl_ft B.2.2.2 rest).length) * 64 + c) * 4) = x := d6
      rw [d6]; rfl
  -- the cut of the outer level was reached from a spread lane
  have hCD : ∀ r, r < 4 → C V r ≤ D V r := by
    intro r hr
    obtain ⟨d1, d2, d3, d4⟩ := q r hr
    have := ((h1 (V + 1) (Nat.le_refl _)).2.2.2 r hr).2
    by_cases e : C (V + 1) r = 64
    · rw [(d3 e).1]; exact Nat.le_refl _
    · obtain ⟨f1, f2, f3⟩ := c3 r hr (by omega)
      obtain ⟨l, l1, l2, l3, l4, l5, l6, l7, l8⟩ := par f1
      rw [d4 (by omega), l4]
      rw [← l5, f2] at l3
      omega
  have hO4 : ∀ l, l < N V → O V l < 4 := fun l hl => by
    have := ((h1 V (by omega)).2.2.1 l hl).2.1; omega
  -- the children of a living lane live
  have hchild : ∀ l, l < N V → l < C V (O V l) → ∀ c, st l ≤ c → c < st (l + 1) → c < N (V + 1) → O (V + 1) c = O V l → c < C (V + 1) (O (V + 1) c) := by
    intro l hl ha c hc1 hc2 hcN hcO
    rw [hcO]
    obtain ⟨d1, d2, d3, d4⟩ := q (O V l) (hO4 l hl)
    have := ((h1 (V + 1) (Nat.le_refl _)).2.2.2 (O V l) (hO4 l hl)).2
    by_cases e : C (V + 1) (O V l) = 64
    · omega
    · obtain ⟨f1, f2, f3⟩ := c3 (O V l) (hO4 l hl) (by omega)
      obtain ⟨l', l1, l2, l3, l4, l5, l6, l7, l8⟩ := par f1
      rw [d4 (by omega), l4] at ha
      have := hm l' (l + 1) (by omega) (by omega)
      omega
  have hend : ∀ l, l < N V → st (l + 1) ≤ N (V + 1) := fun l hl => by
    have := hm (N V) (l + 1) (by omega) (Nat.le_refl _); omega
  refine ⟨fun v hv => h1 v (by omega), ⟨?_, ?_, ?_⟩, ?_, h4, h5⟩
  · rw [hVe]
    intro l hl ha
    have hD : l < D V (O V l) := Nat.lt_of_lt_of_le ha (hCD _ (hO4 l hl))
    by_cases hf : F V l = 0
    · rw [fl_cp, if_pos hf]
      obtain ⟨xs, s, x1, x2, x3, x4, x5, x6⟩ := (s3 l hl).1 hf hD
      have hx4 : xs.length ≤ 4 := x2.1.2.1
      have hsl : s.length = (fl_fr B.2.2.2 rest).length := by rw [← x3, List.length_map]
      have eh : (fl_ft B.2.2.2 rest).length = fl_bas rest + s.length := by omega
      have hel := hend l hl
      have hlo : ∀ c, c < N (V + 1) → P (V + 1) c = l → st l ≤ c ∧ c < st (l + 1) := by
        intro c hc e
        obtain ⟨l', l1, l2, l3, l4, l5, l6, l7, l8⟩ := par hc
        have : l' = l := by rw [← l4, e]
        subst this
        exact ⟨l6, l7⟩
      have hyl : fl_yl (decide (kd p = 16)) (P (V + 1)) (fun c => el ((V + 1) * 64 + c)) (fun c => ce ((((V + 1) * 4 + (fl_ft B.2.2.2 rest).length) * 64 + c) * 4)) l (N (V + 1)) = fl_yl (decide (kd p = 16)) (P (V + 1)) (fun c => el ((V + 1) * 64 + c)) (fun c => ce ((((V + 1) * 4 + (fl_ft B.2.2.2 rest).length) * 64 + c) * 4)) l (st l + xs.length) := by
        have := fl_yl_hi (kp := decide (kd p = 16)) (E := fun c => el ((V + 1) * 64 + c)) (w := fun c => ce ((((V + 1) * 4 + (fl_ft B.2.2.2 rest).length) * 64 + c) * 4)) (s1 := st l + xs.length) (n := N (V + 1)) (up := l) (Pf := P (V + 1)) (fun c hc e => by have := (hlo c hc e).2; omega) (N (V + 1) - (st l + xs.length)) (by omega)
        rw [show st l + xs.length + (N (V + 1) - (st l + xs.length)) = N (V + 1) by omega] at this
        exact this
      have hea := fl_ea_ok (kp := decide (kd p = 16)) (Pf := P (V + 1)) (E := fun c => el ((V + 1) * 64 + c)) (w := fun c => ce ((((V + 1) * 4 + (fl_ft B.2.2.2 rest).length) * 64 + c) * 4)) (up := l) (s0 := st l) (f := fun x i => fl_EV kd ag T R rw (O V l) (B.2.1 + 1) [] (fl_xe P K el V l ++ [(x, nI i)])) (xs := xs) (fun i hi => by
        obtain ⟨y1, y2, y3, y4⟩ := x6 i hi
        have hv := hval (st l + i) (by omega) (hchild l hl ha (st l + i) (by omega) (by omega) (by omega) y4)
        rw [fl_xe, y1, y2, y3, y4] at hv
        exact hv) (fun i hi => (x6 i hi).1) (fun i hi => (x6 i hi).2.1) xs.length 0 (by omega)
      obtain ⟨zs, z1, z2⟩ := hea
      rw [List.drop_zero] at z1
      have h00 : fl_yl (decide (kd p = 16)) (P (V + 1)) (fun c => el ((V + 1) * 64 + c)) (fun c => ce ((((V + 1) * 4 + (fl_ft B.2.2.2 rest).length) * 64 + c) * 4)) l (st l + 0) = [] := fl_yl_0 (n := N (V + 1)) (s0 := st l) (fun c hc e => (hlo c hc e).1) _ (by omega) (by omega)
      rw [h00, List.nil_append] at z2
      have hlen := fl_yl_len (kp := decide (kd p = 16)) (E := fun c => el ((V + 1) * 64 + c)) (w := fun c => ce ((((V + 1) * 4 + (fl_ft B.2.2.2 rest).length) * 64 + c) * 4)) (s0 := st l) (n := N (V + 1)) (up := l) (Pf := P (V + 1)) (fun c hc e => (hlo c hc e).1) (st l + xs.length) (by omega)
      obtain ⟨k1, k2⟩ := hP.1 l hl ⟨hf, ha⟩
      dsimp only at k1 k2
      rw [hyl, z2] at k1
      have k2' : ∀ i (hi : i < zs.length), ce' (((V * 4 + (fl_ft B.2.2.2 rest).length) * 64 + l) * 4 + i) = zs[i] := by
        intro i hi
        have e := hyl.trans z2
        have := k2 i (by rw [e]; exact hi)
        rw [this]
        simp only [e]
      rw [z2] at hlen
      refine ⟨.inr zs :: s, by rw [List.length_cons]; omega, ⟨⟨?_, by omega, ?_⟩, fl_MS_c (fun h ha hb => ?_) x2.2⟩, ?_, ?_⟩
      · rw [← eh]; exact k1
      · rw [← eh]; exact k2'
      · exact hP.2 _ fun l' _ _ => by omega
      · rw [hc', List.map_cons, x3]; dsimp only; rw [fl_fr_cons]; rfl
      · rw [x4, fl_EV_14 (by omega) hk, hcl, z1]
    · rw [fl_cp, if_neg hf]
      exact fl_LC_c (fl_PKI_ag hft hN0 (by omega) (Or.inr fun w => hf w.1) hP) (p2 l hl hf hD)
  · rw [hVe]
    exact p3
  · rw [hVe]
    intro r hr hC
    obtain ⟨d1, d2, d3, d4⟩ := q r hr
    have hc64 := ((h1 (V + 1) (Nat.le_refl _)).2.2.2 r hr).2
    by_cases e : C (V + 1) r = 64
    · obtain ⟨e1, e2⟩ := d3 e
      rw [e1] at hC ⊢
      exact ⟨(d2 hC).1, (d2 hC).2, e2 hC⟩
    · obtain ⟨f1, f2, g, g1, g2⟩ := c3 r hr (by omega)
      obtain ⟨l, l1, l2, l3, l4, l5, l6, l7, l8⟩ := par f1
      have hOl : O V l = r := by rw [← l5, f2]
      rw [d4 (by omega), l4]
      refine ⟨l1, hOl, g, ?_, g2⟩
      obtain ⟨xs, s, x1, x2, x3, x4, x5, x6⟩ := (s3 l l1).1 l2 l3
      rw [hOl] at x4
      have hel := hend l l1
      have hea := fl_ea_flt (kp := decide (kd p = 16)) (f := fun x i => fl_EV kd ag T R rw r (B.2.1 + 1) [] (fl_xe P K el V l ++ [(x, nI i)])) (xs := xs) (i0 := C (V + 1) r - st l) (g := g) (by omega) (fun i hi hi0 => by
        obtain ⟨y1, y2, y3, y4⟩ := x6 i hi
        have hv := hval (st l + i) (by omega) (by rw [y4, hOl]; omega)
        rw [fl_xe, y1, y2, y3, y4, hOl] at hv
        exact ⟨_, hv⟩) (by
        obtain ⟨y1, y2, y3, y4⟩ := x6 (C (V + 1) r - st l) (by omega)
        rw [show st l + (C (V + 1) r - st l) = C (V + 1) r by omega] at y1 y2 y3 y4
        rw [hsP, fl_xe, y1, y2, y3] at g1
        exact g1) (C (V + 1) r - st l) 0 (by omega)
      rw [List.drop_zero] at hea
      rw [x4, fl_EV_14 (by omega) hk, hcl, hea]
  · intro X A rest' e hA
    have hq := h3 (B :: X) A rest' (by rw [e]; rfl) hA
    have hlt := fl_sfx_lev X A rest' hA
    rw [← e, hVe] at hlt
    have hNr := fl_XR_N h1 (show fl_lev rest' ≤ V + 1 by omega) (by omega)
    exact ⟨fl_P1_c (fun l hl => fl_PKI_ag hft hN0 (by omega) (Or.inl (by omega)) hP) hq.1, hq.2⟩
end XCL
end
section
/-! X: closeEach -/
theorem fl_PKI_s {v h n c up : Nat} {act : Nat → Prop} {kp : Bool} {Pf : Nat → Nat} {E w : Nat → Int32} {ln ce ln1 ce1 : Nat → Int32} {x : Int32} (hh : h < 4) (hn : n ≤ 64) (hup : up < n) (hact : act up) (hPc : Pf c = up) (hpk : fl_pk kp (E c) (w c) = [x]) (hlen : (fl_yl kp Pf E w up c).length < 4) (hl4 : ∀ l, l < n → act l → (fl_yl kp Pf E w l c).length ≤ 4) (H : fl_PKI v h n act (fun l => fl_yl kp Pf E w l c) ln ce ln1 ce1) :
    fl_PKI v h n act (fun l => fl_yl kp Pf E w l (c + 1)) ln ce (upd ln1 ((v * 4 + h) * 64 + up) (nI ((fl_yl kp Pf E w up c).length + 1))) (upd ce1 (((v * 4 + h) * 64 + up) * 4 + (fl_yl kp Pf E w up c).length) x) := by
  refine ⟨fun l hl ha => ?_, fun j hj => ?_⟩
  · obtain ⟨k1, k2⟩ := H.1 l hl ha
    by_cases e : l = up
    · subst e
      have ey : fl_yl kp Pf E w l (c + 1) = fl_yl kp Pf E w l c ++ [x] := by rw [fl_yl, if_pos hPc, hpk]
      dsimp only at k1 k2 ⊢
      refine ⟨by rw [fl_ups, ey]; simp, fun i hi => ?_⟩
      simp only [ey, List.length_append, List.length_cons, List.length_nil] at hi
      rcases Nat.lt_or_ge i (fl_yl kp Pf E w l c).length with q | q
      · rw [upd, if_neg (by omega), k2 i q]
        simp only [ey, List.getElem_append_left q]
      · have : i = (fl_yl kp Pf E w l c).length := by omega
        subst this
        rw [fl_ups]
        simp [ey]
    · have ey : fl_yl kp Pf E w l (c + 1) = fl_yl kp Pf E w l c := by rw [fl_yl, if_neg (fun q => e (by rw [← q, hPc])), List.append_nil]
      dsimp only at k1 k2 ⊢
      refine ⟨by rw [upd, if_neg (by omega), k1, ey], fun i hi => ?_⟩
      rw [ey] at hi
      have hi4 := hl4 l hl ha
      rw [upd, if_neg (by omega), k2 i hi]
      simp only [ey]
  · obtain ⟨k1, k2⟩ := H.2 j hj
    have := hj up hup hact
    exact ⟨by rw [upd, if_neg this]; exact k1, fun i hi => by rw [upd, if_neg (by omega)]; exact k2 i hi⟩
theorem fl_PKI_k {v h n c : Nat} {act : Nat → Prop} {kp : Bool} {Pf : Nat → Nat} {E w : Nat → Int32} {ln ce ln1 ce1 : Nat → Int32} (hk : ∀ l, l < n → act l → Pf c = l → fl_pk kp (E c) (w c) = []) (H : fl_PKI v h n act (fun l => fl_yl kp Pf E w l c) ln ce ln1 ce1) : fl_PKI v h n act (fun l => fl_yl kp Pf E w l (c + 1)) ln ce ln1 ce1 := by
  refine ⟨fun l hl ha => ?_, H.2⟩
  have ey : fl_yl kp Pf E w l (c + 1) = fl_yl kp Pf E w l c := by
    rw [fl_yl]
    split
    · rename_i e; rw [hk l hl ha e, List.append_nil]
    · rw [List.append_nil]
  obtain ⟨k1, k2⟩ := H.1 l hl ha
  dsimp only at k1 k2 ⊢
  refine ⟨by rw [ey]; exact k1, fun i hi => ?_⟩
  rw [ey] at hi
  rw [k2 i hi]
  simp only [ey]
section XC2
variable {f_rowCap f_cellCap f_tokenCap f_rowCount f_tokenCount f_status f_resultIsSeq f_height f_blocks f_level : Int32} {a_rowLen a_data a_kinds a_args a_recKind a_recLen a_rec a_typeSeq a_blockKind a_blockBase a_blockSeq a_laneCount a_owner a_parent a_elem a_place a_off a_cut a_lens a_cells : Nat → Int32} {R T n0 fs p : Nat} {N : Nat → Nat} {O P K F C D : Nat → Nat → Nat} {rk0 rl0 rc0 : Nat → Int32} {post : SX → Prop}
theorem fl_xc77 {V h : Nat} {x1 : Int32} {kp : Bool} (hx1 : (x1 = 0 ∧ kp = false) ∨ (x1 = 1 ∧ kp = true)) (H : fl_XR R N O P K F C a_laneCount a_owner a_parent a_place a_off a_cut (V + 1)) (hV : V < 2) (hR : R ≤ 4) (hh : h < 4)
    (hY1 : ∀ c, c < N (V + 1) → (fl_yl kp (P (V + 1)) (fun c => a_elem ((V + 1) * 64 + c)) (fun c => a_cells ((((V + 1) * 4 + h) * 64 + c) * 4)) (P (V + 1) c) c).length < 4) (hY2 : ∀ c, c < N (V + 1) → ∀ l, l < N V → (fl_yl kp (P (V + 1)) (fun c => a_elem ((V + 1) * 64 + c)) (fun c => a_cells ((((V + 1) * 4 + h) * 64 + c) * 4)) l c).length ≤ 4)
    (Kp : ∀ ln ce, fl_PKI V h (N V) (fun l => F V l = 0 ∧ l < C V (O V l)) (fun l => fl_yl kp (P (V + 1)) (fun c => a_elem ((V + 1) * 64 + c)) (fun c => a_cells ((((V + 1) * 4 + h) * 64 + c) * 4)) l (N (V + 1))) a_lens a_cells ln ce → post (f_rowCap, f_cellCap, f_tokenCap, f_rowCount, f_tokenCount, f_status, f_resultIsSeq, nI (h + 1), f_blocks, nI V, a_rowLen, a_data, a_kinds, a_args, a_recKind, a_recLen, a_rec, a_typeSeq, a_blockKind, a_blockBase, a_blockSeq, a_laneCount, a_owner, a_parent, a_elem, a_place, a_off, a_cut, ln, ce)) :
    ∀ d c ln ce, c + d = N (V + 1) → fl_PKI V h (N V) (fun l => F V l = 0 ∧ l < C V (O V l)) (fun l => fl_yl kp (P (V + 1)) (fun c => a_elem ((V + 1) * 64 + c)) (fun c => a_cells ((((V + 1) * 4 + h) * 64 + c) * 4)) l c) a_lens a_cells ln ce → wX_closeEach_77 post x1 (nI (V + 1)) f_rowCap f_cellCap f_tokenCap f_rowCount f_tokenCount f_status f_resultIsSeq (nI (h + 1)) f_blocks (nI V) (d + 1) (nI c) a_rowLen a_data a_kinds a_args a_recKind a_recLen a_rec a_typeSeq a_blockKind a_blockBase a_blockSeq a_laneCount a_owner a_parent a_elem a_place a_off a_cut ln ce := by
  have hN1 := fl_XR_N H (Nat.le_refl _) (by omega)
  have hN0 := fl_XR_N H (show V ≤ V + 1 by omega) (by omega)
  obtain ⟨a1, a2, a3, a4⟩ := H (V + 1) (Nat.le_refl _)
  have eh : nI (h + 1) - 1 = nI h := nI_pred _
  intro d
  induction d with
  | zero =>
    intro c ln ce hc hI
    have ec : c = N (V + 1) := by omega
    subst ec
    unfold wX_closeEach_77
    rw [nI_clamp (show V + 1 < 2 ^ 31 by omega), a1]
    exact ⟨vp_in_nI (by omega) (by decide), br_t (nI_le (Nat.le_refl _) (by omega)) (Kp ln ce hI)⟩
  | succ d ih =>
    intro c ln ce hc hI
    have hcl : c < N (V + 1) := by omega
    obtain ⟨-, -, -, -, o5⟩ := a3 c hcl
    obtain ⟨p1, p2, p3, p4⟩ := o5 (by omega)
    rw [show V + 1 - 1 = V by omega] at p2
    have e1 : nI (V + 1) * 64 + nI c = nI ((V + 1) * 64 + c) := by rw [show (64 : Int32) = nI 64 from rfl, pk_mul, nI_add]
    have e4 : nI (((V + 1) * 4 + h) * 64 + c) * 4 = nI ((((V + 1) * 4 + h) * 64 + c) * 4) := pk_mul _ 4
    have v1 : vp_in (nI ((V + 1) * 64 + c)) 192 := vp_in_nI (by omega) (by decide)
    have hw : ce ((((V + 1) * 4 + h) * 64 + c) * 4) = a_cells ((((V + 1) * 4 + h) * 64 + c) * 4) := (hI.2 (((V + 1) * 4 + h) * 64 + c) (fun l hl _ => by omega)).2 0 (by decide)
    have h193 : ∀ z, (F V (P (V + 1) c) = 0 ∧ P (V + 1) c < C V (O V (P (V + 1) c))) → fl_pk kp (a_elem ((V + 1) * 64 + c)) (a_cells ((((V + 1) * 4 + h) * 64 + c) * 4)) = [z] → wX_closeEach_193 post (wX_closeEach_77 post x1 (nI (V + 1)) f_rowCap f_cellCap f_tokenCap f_rowCount f_tokenCount f_status f_resultIsSeq (nI (h + 1)) f_blocks (nI V) (d + 1)) x1 (nI (V + 1)) (nI c) (nI ((V * 4 + h) * 64 + P (V + 1) c)) z (nI (((V * 4 + h) * 64 + P (V + 1) c) * 4 + (fl_yl kp (P (V + 1)) (fun c => a_elem ((V + 1) * 64 + c)) (fun c => a_cells ((((V + 1) * 4 + h) * 64 + c) * 4)) (P (V + 1) c) c).length)) f_rowCap f_cellCap f_tokenCap f_rowCount f_tokenCount f_status f_resultIsSeq (nI (h + 1)) f_blocks (nI V) a_rowLen a_data a_kinds a_args a_recKind a_recLen a_rec a_typeSeq a_blockKind a_blockBase a_blockSeq a_laneCount a_owner a_parent a_elem a_place a_off a_cut ln ce := by
      intro z hact hz
      have hy1 := hY1 c hcl
      obtain ⟨k1, -⟩ := hI.1 _ p2 hact
      unfold wX_closeEach_193
      rw [nI_clamp (show (V * 4 + h) * 64 + P (V + 1) c < 2 ^ 31 by omega), nI_clamp (show ((V * 4 + h) * 64 + P (V + 1) c) * 4 + (fl_yl kp (P (V + 1)) (fun c => a_elem ((V + 1) * 64 + c)) (fun c => a_cells ((((V + 1) * 4 + h) * 64 + c) * 4)) (P (V + 1) c) c).length < 2 ^ 31 by omega), k1]
      exact ⟨vp_in_nI (by omega) (by decide), nm_e ⟨vp_in_nI (by omega) (by decide), vp_in_nI (by omega) (by decide), nm_r (congrArg (upd ln _) (nI_1 _)) (nm_r (nI_1 c) (ih (c + 1) _ _ (by omega) (fl_PKI_s hh hN0 p2 hact rfl hz hy1 (fun l hl _ => hY2 c hcl l hl) hI)))⟩⟩
    have h139 : (F V (P (V + 1) c) = 0 ∧ P (V + 1) c < C V (O V (P (V + 1) c))) → (kp = true → ¬ a_cells ((((V + 1) * 4 + h) * 64 + c) * 4) = 0) → wX_closeEach_139 post (wX_closeEach_77 post x1 (nI (V + 1)) f_rowCap f_cellCap f_tokenCap f_rowCount f_tokenCount f_status f_resultIsSeq (nI (h + 1)) f_blocks (nI V) (d + 1)) x1 (nI (V + 1)) (nI c) (nI (P (V + 1) c)) (a_cells ((((V + 1) * 4 + h) * 64 + c) * 4)) f_rowCap f_cellCap f_tokenCap f_rowCount f_tokenCount f_status f_resultIsSeq (nI (h + 1)) f_blocks (nI V) a_rowLen a_data a_kinds a_args a_recKind a_recLen a_rec a_typeSeq a_blockKind a_blockBase a_blockSeq a_laneCount a_owner a_parent a_elem a_place a_off a_cut ln ce := by
      intro hact hz
      obtain ⟨k1, -⟩ := hI.1 _ p2 hact
      have e5 : nI ((V * 4 + h) * 64 + P (V + 1) c) * 4 + nI (fl_yl kp (P (V + 1)) (fun c => a_elem ((V + 1) * 64 + c)) (fun c => a_cells ((((V + 1) * 4 + h) * 64 + c) * 4)) (P (V + 1) c) c).length = nI (((V * 4 + h) * 64 + P (V + 1) c) * 4 + (fl_yl kp (P (V + 1)) (fun c => a_elem ((V + 1) * 64 + c)) (fun c => a_cells ((((V + 1) * 4 + h) * 64 + c) * 4)) (P (V + 1) c) c).length) := by rw [show (4 : Int32) = nI 4 from rfl, pk_mul, nI_add]
      unfold wX_closeEach_139 wpX_slot
      dsimp only
      rw [eh, fl_slot, nI_clamp (show (V * 4 + h) * 64 + P (V + 1) c < 2 ^ 31 by omega), k1, e5, e1, nI_clamp (show (V + 1) * 64 + c < 2 ^ 31 by omega)]
      refine ⟨vp_in_nI (by omega) (by decide), ?_⟩
      rcases hx1 with ⟨rfl, rfl⟩ | ⟨rfl, rfl⟩
      · exact br_t rfl (h193 _ hact (by simp [fl_pk]))
      · exact br_f (by decide) ⟨v1, h193 _ hact (by simp [fl_pk, hz rfl])⟩
    unfold wX_closeEach_77 wpX_slot
    dsimp only
    rw [nI_clamp (show V + 1 < 2 ^ 31 by omega), a1, e1, nI_clamp (show (V + 1) * 64 + c < 2 ^ 31 by omega), p1, eh, fl_slot, e4, nI_clamp (show (((V + 1) * 4 + h) * 64 + c) * 4 < 2 ^ 31 by omega), hw]
    refine ⟨vp_in_nI (by omega) (by decide), br_f (nI_ge hcl (by omega)) ⟨v1, nm_e ⟨vp_in_nI (by omega) (by decide), nm_e (fl_xact H (by omega) (by omega) hR p2 (fun hf ha => br_f (by decide) ?_) (fun hn => br_t rfl (nm_r (nI_1 c) (ih (c + 1) ln ce (by omega) (fl_PKI_k (fun l hl hact e => absurd (by rw [e]; exact hact) hn) hI)))))⟩⟩⟩
    rcases hx1 with ⟨rfl, rfl⟩ | ⟨rfl, rfl⟩
    · exact br_t rfl (h139 ⟨hf, ha⟩ (fun w => by cases w))
    · refine br_f (by decide) (br_c (fun hz => nm_r (nI_1 c) (ih (c + 1) ln ce (by omega) (fl_PKI_k (fun l hl hact e => ?_) hI))) (fun hz => h139 ⟨hf, ha⟩ (fun _ => hz)))
      simp [fl_pk, hz]
theorem fl_xc27 {V h : Nat} {x1 : Int32} {kp : Bool} (hx1 : (x1 = 0 ∧ kp = false) ∨ (x1 = 1 ∧ kp = true)) (H : fl_XR R N O P K F C a_laneCount a_owner a_parent a_place a_off a_cut (V + 1)) (hV : V < 2) (hR : R ≤ 4) (hh : h < 4)
    (hY1 : ∀ c, c < N (V + 1) → (fl_yl kp (P (V + 1)) (fun c => a_elem ((V + 1) * 64 + c)) (fun c => a_cells ((((V + 1) * 4 + h) * 64 + c) * 4)) (P (V + 1) c) c).length < 4) (hY2 : ∀ c, c < N (V + 1) → ∀ l, l < N V → (fl_yl kp (P (V + 1)) (fun c => a_elem ((V + 1) * 64 + c)) (fun c => a_cells ((((V + 1) * 4 + h) * 64 + c) * 4)) l c).length ≤ 4) {ln0 : Nat → Int32}
    (Kp : ∀ ln ce, fl_PKI V h (N V) (fun l => F V l = 0 ∧ l < C V (O V l)) (fun l => fl_yl kp (P (V + 1)) (fun c => a_elem ((V + 1) * 64 + c)) (fun c => a_cells ((((V + 1) * 4 + h) * 64 + c) * 4)) l (N (V + 1))) ln0 a_cells ln ce → post (f_rowCap, f_cellCap, f_tokenCap, f_rowCount, f_tokenCount, f_status, f_resultIsSeq, nI (h + 1), f_blocks, nI V, a_rowLen, a_data, a_kinds, a_args, a_recKind, a_recLen, a_rec, a_typeSeq, a_blockKind, a_blockBase, a_blockSeq, a_laneCount, a_owner, a_parent, a_elem, a_place, a_off, a_cut, ln, ce)) :
    ∀ d l ln, l + d = N V → (∀ m, m < l → (F V m = 0 ∧ m < C V (O V m)) → ln ((V * 4 + h) * 64 + m) = 0) → (∀ j, (∀ m, m < N V → (F V m = 0 ∧ m < C V (O V m)) → j ≠ (V * 4 + h) * 64 + m) → ln j = ln0 j) → wX_closeEach_27 post x1 (nI (V + 1)) f_rowCap f_cellCap f_tokenCap f_rowCount f_tokenCount f_status f_resultIsSeq (nI (h + 1)) f_blocks (nI V) (d + 1) (nI l) a_rowLen a_data a_kinds a_args a_recKind a_recLen a_rec a_typeSeq a_blockKind a_blockBase a_blockSeq a_laneCount a_owner a_parent a_elem a_place a_off a_cut ln a_cells := by
  have hN1 := fl_XR_N H (Nat.le_refl _) (by omega)
  have hN0 := fl_XR_N H (show V ≤ V + 1 by omega) (by omega)
  obtain ⟨a1, a2, a3, a4⟩ := H V (by omega)
  have eh : nI (h + 1) - 1 = nI h := nI_pred _
  intro d
  induction d with
  | zero =>
    intro l ln hl h1 h2
    have el : l = N V := by omega
    subst el
    unfold wX_closeEach_27
    rw [nI_clamp (show V < 2 ^ 31 by omega), a1]
    refine ⟨vp_in_nI (by omega) (by decide), br_t (nI_le (Nat.le_refl _) (by omega)) ⟨_, fl_xc77 (a_lens := ln) hx1 H hV hR hh hY1 hY2 (fun ln' ce' hI => Kp ln' ce' ⟨hI.1, fun j hj => ?_⟩) (N (V + 1)) 0 ln a_cells (by omega) ⟨fun m hm ha => ?_, fun j _ => ⟨rfl, fun _ _ => rfl⟩⟩⟩⟩
    · exact ⟨(hI.2 j hj).1.trans (h2 j hj), (hI.2 j hj).2⟩
    · exact ⟨h1 m hm ha, fun i hi => absurd hi (Nat.not_lt_zero _)⟩
  | succ d ih =>
    intro l ln hl h1 h2
    have hil : l < N V := by omega
    unfold wX_closeEach_27
    rw [nI_clamp (show V < 2 ^ 31 by omega), a1]
    refine ⟨vp_in_nI (by omega) (by decide), br_f (nI_ge hil (by omega)) (fl_xact H (by omega) (by omega) hR hil (fun hf ha => br_f (by decide) ?_) (fun hn => br_t rfl (nm_r (nI_1 l) (ih (l + 1) ln (by omega) (fun m hm hact => ?_) h2))))⟩
    · unfold wpX_slot
      dsimp only
      rw [eh, fl_slot, nI_clamp (show (V * 4 + h) * 64 + l < 2 ^ 31 by omega)]
      refine ⟨vp_in_nI (by omega) (by decide), nm_e (nm_r (nI_1 l) (ih (l + 1) _ (by omega) (fun m hm hact => ?_) (fun j hj => ?_)))⟩
      · by_cases e : m = l
        · subst e; exact fl_ups
        · rw [upd, if_neg (by omega)]; exact h1 m (by omega) hact
      · rw [upd, if_neg (hj l hil ⟨hf, ha⟩)]; exact h2 j hj
    · by_cases e : m = l
      · subst e; exact absurd hact hn
      · exact h1 m (by omega) hact
theorem fl_xend' (G : fl_Gd a_kinds a_args T) (hR : R ≤ 4) (hpT : p < T) (hkp : a_kinds p = 15 ∨ a_kinds p = 16) {x1 : Int32} (hx1 : (x1 = 0 ∧ decide (a_kinds p = 16) = false) ∨ (x1 = 1 ∧ decide (a_kinds p = 16) = true)) (H : fl_XJ a_kinds a_args T R (fl_rw a_rowLen a_data) N O P K F C D a_laneCount a_owner a_parent a_elem a_place a_off a_cut a_lens a_cells a_recKind a_recLen a_rec n0 fs rk0 rl0 rc0 (fl_csf a_kinds a_args p).2 (fun _ => p))
    (Kp : ∀ ln ce, fl_XJ a_kinds a_args T R (fl_rw a_rowLen a_data) N O P K F C D a_laneCount a_owner a_parent a_elem a_place a_off a_cut ln ce a_recKind a_recLen a_rec n0 fs rk0 rl0 rc0 (fl_csf a_kinds a_args (p + 1)).2 (fun _ => p + 1) → post (f_rowCap, f_cellCap, f_tokenCap, f_rowCount, f_tokenCount, f_status, f_resultIsSeq, nI (fl_ft (fl_csf a_kinds a_args (p + 1)).1 (fl_csf a_kinds a_args (p + 1)).2).length, nI (fl_csf a_kinds a_args (p + 1)).2.length, nI (fl_lev (fl_csf a_kinds a_args (p + 1)).2), a_rowLen, a_data, a_kinds, a_args, a_recKind, a_recLen, a_rec, a_typeSeq, a_blockKind, a_blockBase, a_blockSeq, a_laneCount, a_owner, a_parent, a_elem, a_place, a_off, a_cut, ln, ce)) :
    wpX_closeEach post (f_rowCap, f_cellCap, f_tokenCap, f_rowCount, f_tokenCount, f_status, f_resultIsSeq, nI (fl_ft (fl_csf a_kinds a_args p).1 (fl_csf a_kinds a_args p).2).length, nI (fl_csf a_kinds a_args p).2.length, nI (fl_lev (fl_csf a_kinds a_args p).2), a_rowLen, a_data, a_kinds, a_args, a_recKind, a_recLen, a_rec, a_typeSeq, a_blockKind, a_blockBase, a_blockSeq, a_laneCount, a_owner, a_parent, a_elem, a_place, a_off, a_cut, a_lens, a_cells) x1 := by
  obtain ⟨B, rest, c1, hB, hcl, c2⟩ := fl_at15 G hpT hkp
  have hbd := fl_bnd G p (by omega)
  have hbk := fl_bkd G p (by omega) [] B rest (by rw [c1]; rfl)
  have hCL := fl_CL G (p := p) (by omega) (X := []) (B := B) (rest := rest) (by rw [c1]; rfl)
  rw [c1] at H hbd ⊢
  rw [c2] at Kp
  obtain ⟨b1, b2, b3⟩ := hbd
  dsimp only at H b1 b2 b3 Kp ⊢
  have hlev : fl_lev (B :: rest) = fl_lev rest + 1 := by rw [fl_lev, if_pos hB]
  have hf1 : fl_ft [false] (B :: rest) = false :: fl_ft B.2.2.2 rest := by simp [fl_ft]
  rw [hf1, List.length_cons] at b1 ⊢
  rw [fl_ft_cons, List.length_cons] at Kp
  rw [hlev] at b3 ⊢
  rw [List.length_cons]
  have hX := H.1
  rw [hlev] at hX
  obtain ⟨⟨⟨st, s1, s2, s3⟩, -, -⟩, -⟩ := H.2.2.1 [] B rest rfl hB
  have hst := fl_P1_st s3
  have hm := fl_st_mono (fun l hl => (hst l hl).1)
  have par := fun {c} (hc : c < N (fl_lev rest + 1)) => fl_par s1 s2 s3 hc
  have hlo : ∀ l c, c < N (fl_lev rest + 1) → P (fl_lev rest + 1) c = l → st l ≤ c ∧ c < st (l + 1) := by
    intro l c hc e
    obtain ⟨l', l1, l2, l3, l4, l5, l6, l7, l8⟩ := par hc
    have : l' = l := by rw [← l4, e]
    subst this
    exact ⟨l6, l7⟩
  have hY1 : ∀ c, c < N (fl_lev rest + 1) → (fl_yl (decide (a_kinds p = 16)) (P (fl_lev rest + 1)) (fun c => a_elem ((fl_lev rest + 1) * 64 + c)) (fun c => a_cells ((((fl_lev rest + 1) * 4 + (fl_ft B.2.2.2 rest).length) * 64 + c) * 4)) (P (fl_lev rest + 1) c) c).length < 4 := by
    intro c hc
    obtain ⟨l', l1, l2, l3, l4, l5, l6, l7, l8⟩ := par hc
    rw [l4]
    have := fl_yl_len (kp := decide (a_kinds p = 16)) (E := fun c => a_elem ((fl_lev rest + 1) * 64 + c)) (w := fun c => a_cells ((((fl_lev rest + 1) * 4 + (fl_ft B.2.2.2 rest).length) * 64 + c) * 4)) (s0 := st l') (n := N (fl_lev rest + 1)) (up := l') (Pf := P (fl_lev rest + 1)) (fun c hc e => (hlo l' c hc e).1) c (by omega)
    have := hst l' l1
    omega
  have hY2 : ∀ c, c < N (fl_lev rest + 1) → ∀ l, l < N (fl_lev rest) → (fl_yl (decide (a_kinds p = 16)) (P (fl_lev rest + 1)) (fun c => a_elem ((fl_lev rest + 1) * 64 + c)) (fun c => a_cells ((((fl_lev rest + 1) * 4 + (fl_ft B.2.2.2 rest).length) * 64 + c) * 4)) l c).length ≤ 4 := by
    intro c hc l hl
    have h4 := hst l hl
    have hlen := fun c hc => fl_yl_len (kp := decide (a_kinds p = 16)) (E := fun c => a_elem ((fl_lev rest + 1) * 64 + c)) (w := fun c => a_cells ((((fl_lev rest + 1) * 4 + (fl_ft B.2.2.2 rest).length) * 64 + c) * 4)) (s0 := st l) (n := N (fl_lev rest + 1)) (up := l) (Pf := P (fl_lev rest + 1)) (fun c hc e => (hlo l c hc e).1) c hc
    rcases Nat.lt_or_ge c (st (l + 1)) with w | w
    · have := hlen c (by omega); omega
    · have := fl_yl_hi (kp := decide (a_kinds p = 16)) (E := fun c => a_elem ((fl_lev rest + 1) * 64 + c)) (w := fun c => a_cells ((((fl_lev rest + 1) * 4 + (fl_ft B.2.2.2 rest).length) * 64 + c) * 4)) (s1 := st (l + 1)) (n := N (fl_lev rest + 1)) (up := l) (Pf := P (fl_lev rest + 1)) (fun c hc e => (hlo l c hc e).2) (c - st (l + 1)) (by omega)
      rw [show st (l + 1) + (c - st (l + 1)) = c by omega] at this
      rw [this]
      have := hlen (st (l + 1)) (by omega)
      omega
  unfold wpX_closeEach
  dsimp only
  rw [nI_pred, nI_pred]
  refine nm_e (nm_e ⟨_, fl_xc27 hx1 hX (by omega) hR (by omega) hY1 hY2 (fun ln ce hI => Kp ln ce (fl_xj_close G hpT hR (by omega) hB hcl (by rw [hbk]; exact hB) hCL.1 c1 c2 hkp (by omega) H hI)) (N (fl_lev rest)) 0 a_lens (by omega) (fun m h => absurd h (Nat.not_lt_zero _)) (fun j _ => rfl)⟩)
end XC2
end
section
/-! X: one token -/
section XST
variable {f_rowCap f_cellCap f_tokenCap f_rowCount f_tokenCount f_status f_resultIsSeq f_height f_blocks f_level : Int32} {a_rowLen a_data a_kinds a_args a_recKind a_recLen a_rec a_typeSeq a_blockKind a_blockBase a_blockSeq a_laneCount a_owner a_parent a_elem a_place a_off a_cut a_lens a_cells : Nat → Int32} {R T n0 fs p : Nat} {N : Nat → Nat} {O P K F C D : Nat → Nat → Nat} {rk0 rl0 rc0 : Nat → Int32} {post : SX → Prop}
theorem fl_xstep (G : fl_Gd a_kinds a_args T) (hT : T ≤ 40) (hR : R ≤ 4) (hRL : fl_RL R a_rowLen) (hpT : p < T) (H : fl_XJ a_kinds a_args T R (fl_rw a_rowLen a_data) N O P K F C D a_laneCount a_owner a_parent a_elem a_place a_off a_cut a_lens a_cells a_recKind a_recLen a_rec n0 fs rk0 rl0 rc0 (fl_csf a_kinds a_args p).2 (fun _ => p))
    (Kp : ∀ N O P K F C D lc ow pa el pl of ct ln ce rk rl rc, fl_XJ a_kinds a_args T R (fl_rw a_rowLen a_data) N O P K F C D lc ow pa el pl of ct ln ce rk rl rc n0 fs rk0 rl0 rc0 (fl_csf a_kinds a_args (p + 1)).2 (fun _ => p + 1) → post (f_rowCap, f_cellCap, f_tokenCap, nI R, f_tokenCount, f_status, f_resultIsSeq, nI (fl_ft (fl_csf a_kinds a_args (p + 1)).1 (fl_csf a_kinds a_args (p + 1)).2).length, nI (fl_csf a_kinds a_args (p + 1)).2.length, nI (fl_lev (fl_csf a_kinds a_args (p + 1)).2), a_rowLen, a_data, a_kinds, a_args, rk, rl, rc, a_typeSeq, a_blockKind, a_blockBase, a_blockSeq, lc, ow, pa, el, pl, of, ct, ln, ce)) :
    wpX_step post (f_rowCap, f_cellCap, f_tokenCap, nI R, f_tokenCount, f_status, f_resultIsSeq, nI (fl_ft (fl_csf a_kinds a_args p).1 (fl_csf a_kinds a_args p).2).length, nI (fl_csf a_kinds a_args p).2.length, nI (fl_lev (fl_csf a_kinds a_args p).2), a_rowLen, a_data, a_kinds, a_args, a_recKind, a_recLen, a_rec, a_typeSeq, a_blockKind, a_blockBase, a_blockSeq, a_laneCount, a_owner, a_parent, a_elem, a_place, a_off, a_cut, a_lens, a_cells) (nI p) := by
  have v40 : vp_in (nI p) 40 := vp_in_nI (by omega) (by decide)
  have ep : (nI p).toNatClampNeg = p := nI_clamp (by omega)
  refine ⟨v40, fun k ek => ?_⟩
  rw [ep] at ek
  have hkd := G.1 p hpT
  have hck := G.2.1 p hpT
  unfold fl_KD at hkd
  rcases hkd with hq | hq | hq | hq | hq | hq | hq | hq | hq | hq | hq | hq | hq | hq | hq | hq | hq | hq | hq | hq
  -- 0
  · rw [hq] at ek
    subst ek
    rcases hcs : fl_csf a_kinds a_args p with ⟨ts, bs⟩
    rw [hcs] at H hck
    rw [hq, fl_ck_0] at hck
    dsimp only at H ⊢
    obtain ⟨h1, h2⟩ := fl_psh_inv hck
    rw [h2] at Kp
    dsimp only at Kp
    rw [fl_ft_cons, List.length_cons] at Kp
    have key := fl_xpi (f_blocks := nI bs.length) (f_rowCount := nI R) (f_rowCap := f_rowCap) (f_cellCap := f_cellCap) (f_tokenCap := f_tokenCap) (f_tokenCount := f_tokenCount) (f_status := f_status) (f_resultIsSeq := f_resultIsSeq) (a_typeSeq := a_typeSeq) (a_blockKind := a_blockKind) (a_blockBase := a_blockBase) (a_blockSeq := a_blockSeq) (post := post) G hR hpT (Or.inl rfl) hq hcs (fun ce hJ => Kp _ _ _ _ _ _ _ _ _ _ _ _ _ _ _ _ _ _ _ hJ) (N (fl_lev bs)) 0 a_cells (by omega) (fl_xj_beg H)
    refine br_f (by decide) (br_f (by decide) (br_t rfl (?_)))
    unfold wX_step_104
    rw [ep]
    exact ⟨v40, ⟨_, key⟩⟩
  -- 1
  · rw [hq] at ek
    subst ek
    rcases hcs : fl_csf a_kinds a_args p with ⟨ts, bs⟩
    rw [hcs] at H hck
    rw [hq, fl_ck_1] at hck
    dsimp only at H ⊢
    obtain ⟨h1, h2⟩ := fl_psh_inv hck
    rw [h2] at Kp
    dsimp only at Kp
    rw [fl_ft_cons, List.length_cons] at Kp
    have key := fl_xpr (f_blocks := nI bs.length) (f_rowCount := nI R) (f_rowCap := f_rowCap) (f_cellCap := f_cellCap) (f_tokenCap := f_tokenCap) (f_tokenCount := f_tokenCount) (f_status := f_status) (f_resultIsSeq := f_resultIsSeq) (a_typeSeq := a_typeSeq) (a_blockKind := a_blockKind) (a_blockBase := a_blockBase) (a_blockSeq := a_blockSeq) (post := post) G hR hRL hpT hq hcs (fun ln ce hJ => Kp _ _ _ _ _ _ _ _ _ _ _ _ _ _ _ _ _ _ _ hJ) (N (fl_lev bs)) 0 a_lens a_cells (by omega) (fl_xj_beg H)
    exact br_f (by decide) (br_f (by decide) (br_f (by decide) (br_t rfl (⟨_, key⟩))))
  -- 2
  · rw [hq] at ek
    subst ek
    rcases hcs : fl_csf a_kinds a_args p with ⟨ts, bs⟩
    rw [hcs] at H hck
    rw [hq, fl_ck_2] at hck
    dsimp only at H ⊢
    obtain ⟨h1, h2⟩ := fl_psh_inv hck
    rw [h2] at Kp
    dsimp only at Kp
    rw [fl_ft_cons, List.length_cons] at Kp
    have key := fl_xpi (f_blocks := nI bs.length) (f_rowCount := nI R) (f_rowCap := f_rowCap) (f_cellCap := f_cellCap) (f_tokenCap := f_tokenCap) (f_tokenCount := f_tokenCount) (f_status := f_status) (f_resultIsSeq := f_resultIsSeq) (a_typeSeq := a_typeSeq) (a_blockKind := a_blockKind) (a_blockBase := a_blockBase) (a_blockSeq := a_blockSeq) (post := post) G hR hpT (Or.inr (Or.inl rfl)) hq hcs (fun ce hJ => Kp _ _ _ _ _ _ _ _ _ _ _ _ _ _ _ _ _ _ _ hJ) (N (fl_lev bs)) 0 a_cells (by omega) (fl_xj_beg H)
    refine br_f (by decide) (br_f (by decide) (br_f (by decide) (br_f (by decide) (br_t rfl (?_)))))
    unfold wX_step_104
    rw [ep]
    exact ⟨v40, ⟨_, key⟩⟩
  -- 3
  · rw [hq] at ek
    subst ek
    rcases hcs : fl_csf a_kinds a_args p with ⟨ts, bs⟩
    rw [hcs] at H hck
    rw [hq, fl_ck_3] at hck
    dsimp only at H ⊢
    split at hck
    · cases hck
    obtain ⟨h1, h2⟩ := fl_psh_inv hck
    rw [h2] at Kp
    dsimp only at Kp
    rw [fl_ft_cons, List.length_cons] at Kp
    have key := fl_xpi (f_blocks := nI bs.length) (f_rowCount := nI R) (f_rowCap := f_rowCap) (f_cellCap := f_cellCap) (f_tokenCap := f_tokenCap) (f_tokenCount := f_tokenCount) (f_status := f_status) (f_resultIsSeq := f_resultIsSeq) (a_typeSeq := a_typeSeq) (a_blockKind := a_blockKind) (a_blockBase := a_blockBase) (a_blockSeq := a_blockSeq) (post := post) G hR hpT (Or.inr (Or.inr (Or.inl rfl))) hq hcs (fun ce hJ => Kp _ _ _ _ _ _ _ _ _ _ _ _ _ _ _ _ _ _ _ hJ) (N (fl_lev bs)) 0 a_cells (by omega) (fl_xj_beg H)
    refine br_f (by decide) (br_f (by decide) (br_f (by decide) (br_f (by decide) (br_f (by decide) (br_t rfl (?_))))))
    unfold wX_step_104
    rw [ep]
    exact ⟨v40, ⟨_, key⟩⟩
  -- 4
  · rw [hq] at ek
    subst ek
    rcases hcs : fl_csf a_kinds a_args p with ⟨ts, bs⟩
    rw [hcs] at H hck
    rw [hq, fl_ck_4] at hck
    dsimp only at H ⊢
    split at hck
    · cases hck
    obtain ⟨h1, h2⟩ := fl_psh_inv hck
    rw [h2] at Kp
    dsimp only at Kp
    rw [fl_ft_cons, List.length_cons] at Kp
    have key := fl_xpi (f_blocks := nI bs.length) (f_rowCount := nI R) (f_rowCap := f_rowCap) (f_cellCap := f_cellCap) (f_tokenCap := f_tokenCap) (f_tokenCount := f_tokenCount) (f_status := f_status) (f_resultIsSeq := f_resultIsSeq) (a_typeSeq := a_typeSeq) (a_blockKind := a_blockKind) (a_blockBase := a_blockBase) (a_blockSeq := a_blockSeq) (post := post) G hR hpT (Or.inr (Or.inr (Or.inr rfl))) hq hcs (fun ce hJ => Kp _ _ _ _ _ _ _ _ _ _ _ _ _ _ _ _ _ _ _ hJ) (N (fl_lev bs)) 0 a_cells (by omega) (fl_xj_beg H)
    refine br_f (by decide) (br_f (by decide) (br_f (by decide) (br_f (by decide) (br_f (by decide) (br_f (by decide) (br_t rfl (?_)))))))
    unfold wX_step_104
    rw [ep]
    exact ⟨v40, ⟨_, key⟩⟩
  -- 5
  · rw [hq] at ek
    subst ek
    rcases hcs : fl_csf a_kinds a_args p with ⟨ts, bs⟩
    rw [hcs] at H hck
    rw [hq, fl_ck_5] at hck
    dsimp only at H ⊢
    obtain ⟨t2, h1, h2⟩ := fl_bin_inv hck
    dsimp only at h1 h2
    subst h1
    rw [h2] at Kp
    dsimp only at Kp
    simp only [fl_ft_cons, List.length_cons] at Kp ⊢
    have key := fl_xcb (f_blocks := nI bs.length) (f_rowCount := nI R) (f_rowCap := f_rowCap) (f_cellCap := f_cellCap) (f_tokenCap := f_tokenCap) (f_tokenCount := f_tokenCount) (f_status := f_status) (f_resultIsSeq := f_resultIsSeq) (a_typeSeq := a_typeSeq) (a_blockKind := a_blockKind) (a_blockBase := a_blockBase) (a_blockSeq := a_blockSeq) (post := post) G hR hpT (by decide) hq hcs h2 (fun ce hJ => Kp _ _ _ _ _ _ _ _ _ _ _ _ _ _ _ _ _ _ _ hJ) (N (fl_lev bs)) 0 a_cells (by omega) (fl_xj_beg H)
    exact br_f (by decide) (br_f (by decide) (br_f (by decide) (br_f (by decide) (br_f (by decide) (br_f (by decide) (br_f (by decide) (br_t trivial (⟨_, key⟩))))))))
  -- 6
  · rw [hq] at ek
    subst ek
    rcases hcs : fl_csf a_kinds a_args p with ⟨ts, bs⟩
    rw [hcs] at H hck
    rw [hq, fl_ck_6] at hck
    dsimp only at H ⊢
    obtain ⟨t2, h1, h2⟩ := fl_bin_inv hck
    dsimp only at h1 h2
    subst h1
    rw [h2] at Kp
    dsimp only at Kp
    simp only [fl_ft_cons, List.length_cons] at Kp ⊢
    have key := fl_xcb (f_blocks := nI bs.length) (f_rowCount := nI R) (f_rowCap := f_rowCap) (f_cellCap := f_cellCap) (f_tokenCap := f_tokenCap) (f_tokenCount := f_tokenCount) (f_status := f_status) (f_resultIsSeq := f_resultIsSeq) (a_typeSeq := a_typeSeq) (a_blockKind := a_blockKind) (a_blockBase := a_blockBase) (a_blockSeq := a_blockSeq) (post := post) G hR hpT (by decide) hq hcs h2 (fun ce hJ => Kp _ _ _ _ _ _ _ _ _ _ _ _ _ _ _ _ _ _ _ hJ) (N (fl_lev bs)) 0 a_cells (by omega) (fl_xj_beg H)
    exact br_f (by decide) (br_f (by decide) (br_f (by decide) (br_f (by decide) (br_f (by decide) (br_f (by decide) (br_f (by decide) (br_f (by decide) (br_t trivial (⟨_, key⟩)))))))))
  -- 7
  · rw [hq] at ek
    subst ek
    rcases hcs : fl_csf a_kinds a_args p with ⟨ts, bs⟩
    rw [hcs] at H hck
    rw [hq, fl_ck_7] at hck
    dsimp only at H ⊢
    obtain ⟨t2, h1, h2⟩ := fl_bin_inv hck
    dsimp only at h1 h2
    subst h1
    rw [h2] at Kp
    dsimp only at Kp
    simp only [fl_ft_cons, List.length_cons] at Kp ⊢
    have key := fl_xcb (f_blocks := nI bs.length) (f_rowCount := nI R) (f_rowCap := f_rowCap) (f_cellCap := f_cellCap) (f_tokenCap := f_tokenCap) (f_tokenCount := f_tokenCount) (f_status := f_status) (f_resultIsSeq := f_resultIsSeq) (a_typeSeq := a_typeSeq) (a_blockKind := a_blockKind) (a_blockBase := a_blockBase) (a_blockSeq := a_blockSeq) (post := post) G hR hpT (by decide) hq hcs h2 (fun ce hJ => Kp _ _ _ _ _ _ _ _ _ _ _ _ _ _ _ _ _ _ _ hJ) (N (fl_lev bs)) 0 a_cells (by omega) (fl_xj_beg H)
    exact br_f (by decide) (br_f (by decide) (br_f (by decide) (br_f (by decide) (br_f (by decide) (br_f (by decide) (br_f (by decide) (br_f (by decide) (br_f (by decide) (br_t trivial (⟨_, key⟩))))))))))
  -- 8
  · rw [hq] at ek
    subst ek
    rcases hcs : fl_csf a_kinds a_args p with ⟨ts, bs⟩
    rw [hcs] at H hck
    rw [hq, fl_ck_8] at hck
    dsimp only at H ⊢
    obtain ⟨t2, h1, h2⟩ := fl_bin_inv hck
    dsimp only at h1 h2
    subst h1
    rw [h2] at Kp
    dsimp only at Kp
    simp only [fl_ft_cons, List.length_cons] at Kp ⊢
    have key := fl_xcb (f_blocks := nI bs.length) (f_rowCount := nI R) (f_rowCap := f_rowCap) (f_cellCap := f_cellCap) (f_tokenCap := f_tokenCap) (f_tokenCount := f_tokenCount) (f_status := f_status) (f_resultIsSeq := f_resultIsSeq) (a_typeSeq := a_typeSeq) (a_blockKind := a_blockKind) (a_blockBase := a_blockBase) (a_blockSeq := a_blockSeq) (post := post) G hR hpT (by decide) hq hcs h2 (fun ce hJ => Kp _ _ _ _ _ _ _ _ _ _ _ _ _ _ _ _ _ _ _ hJ) (N (fl_lev bs)) 0 a_cells (by omega) (fl_xj_beg H)
    exact br_f (by decide) (br_f (by decide) (br_f (by decide) (br_f (by decide) (br_f (by decide) (br_f (by decide) (br_f (by decide) (br_f (by decide) (br_f (by decide) (br_f (by decide) (br_t trivial (⟨_, key⟩)))))))))))
  -- 9
  · rw [hq] at ek
    subst ek
    rcases hcs : fl_csf a_kinds a_args p with ⟨ts, bs⟩
    rw [hcs] at H hck
    rw [hq, fl_ck_9] at hck
    dsimp only at H ⊢
    obtain ⟨t2, h1, h2⟩ := fl_bin_inv hck
    dsimp only at h1 h2
    subst h1
    rw [h2] at Kp
    dsimp only at Kp
    simp only [fl_ft_cons, List.length_cons] at Kp ⊢
    have key := fl_xcb (f_blocks := nI bs.length) (f_rowCount := nI R) (f_rowCap := f_rowCap) (f_cellCap := f_cellCap) (f_tokenCap := f_tokenCap) (f_tokenCount := f_tokenCount) (f_status := f_status) (f_resultIsSeq := f_resultIsSeq) (a_typeSeq := a_typeSeq) (a_blockKind := a_blockKind) (a_blockBase := a_blockBase) (a_blockSeq := a_blockSeq) (post := post) G hR hpT (by decide) hq hcs h2 (fun ce hJ => Kp _ _ _ _ _ _ _ _ _ _ _ _ _ _ _ _ _ _ _ hJ) (N (fl_lev bs)) 0 a_cells (by omega) (fl_xj_beg H)
    exact br_f (by decide) (br_f (by decide) (br_f (by decide) (br_f (by decide) (br_f (by decide) (br_f (by decide) (br_f (by decide) (br_f (by decide) (br_f (by decide) (br_f (by decide) (br_f (by decide) (br_t trivial (⟨_, key⟩))))))))))))
  -- 10
  · rw [hq] at ek
    subst ek
    rcases hcs : fl_csf a_kinds a_args p with ⟨ts, bs⟩
    rw [hcs] at H hck
    rw [hq, fl_ck_10] at hck
    dsimp only at H ⊢
    obtain ⟨t2, h1, h2⟩ := fl_un_inv hck
    dsimp only at h1 h2
    subst h1
    rw [h2] at Kp
    dsimp only at Kp
    simp only [fl_ft_cons, List.length_cons] at Kp ⊢
    have key := fl_xrd (f_blocks := nI bs.length) (f_rowCount := nI R) (f_rowCap := f_rowCap) (f_cellCap := f_cellCap) (f_tokenCap := f_tokenCap) (f_tokenCount := f_tokenCount) (f_status := f_status) (f_resultIsSeq := f_resultIsSeq) (a_typeSeq := a_typeSeq) (a_blockKind := a_blockKind) (a_blockBase := a_blockBase) (a_blockSeq := a_blockSeq) (post := post) G hR hpT (by decide) hq hcs h2 (fun ce hJ => Kp _ _ _ _ _ _ _ _ _ _ _ _ _ _ _ _ _ _ _ hJ) (N (fl_lev bs)) 0 a_cells (by omega) (fl_xj_beg H)
    exact br_f (by decide) (br_f (by decide) (br_f (by decide) (br_f (by decide) (br_f (by decide) (br_f (by decide) (br_f (by decide) (br_f (by decide) (br_f (by decide) (br_f (by decide) (br_f (by decide) (br_f (by decide) (br_t trivial (⟨_, key⟩)))))))))))))
  -- 11
  · rw [hq] at ek
    subst ek
    rcases hcs : fl_csf a_kinds a_args p with ⟨ts, bs⟩
    rw [hcs] at H hck
    rw [hq, fl_ck_11] at hck
    dsimp only at H ⊢
    obtain ⟨t2, h1, h2⟩ := fl_un_inv hck
    dsimp only at h1 h2
    subst h1
    rw [h2] at Kp
    dsimp only at Kp
    simp only [fl_ft_cons, List.length_cons] at Kp ⊢
    have key := fl_xrd (f_blocks := nI bs.length) (f_rowCount := nI R) (f_rowCap := f_rowCap) (f_cellCap := f_cellCap) (f_tokenCap := f_tokenCap) (f_tokenCount := f_tokenCount) (f_status := f_status) (f_resultIsSeq := f_resultIsSeq) (a_typeSeq := a_typeSeq) (a_blockKind := a_blockKind) (a_blockBase := a_blockBase) (a_blockSeq := a_blockSeq) (post := post) G hR hpT (by decide) hq hcs h2 (fun ce hJ => Kp _ _ _ _ _ _ _ _ _ _ _ _ _ _ _ _ _ _ _ hJ) (N (fl_lev bs)) 0 a_cells (by omega) (fl_xj_beg H)
    exact br_f (by decide) (br_f (by decide) (br_f (by decide) (br_f (by decide) (br_f (by decide) (br_f (by decide) (br_f (by decide) (br_f (by decide) (br_f (by decide) (br_f (by decide) (br_f (by decide) (br_f (by decide) (br_f (by decide) (br_t trivial (⟨_, key⟩))))))))))))))
  -- 12
  · rw [hq] at ek
    subst ek
    rcases hcs : fl_csf a_kinds a_args p with ⟨ts, bs⟩
    rw [hcs] at H hck
    rw [hq, fl_ck_12] at hck
    dsimp only at H ⊢
    obtain ⟨t2, h1, h2⟩ := fl_bin_inv hck
    dsimp only at h1 h2
    subst h1
    rw [h2] at Kp
    dsimp only at Kp
    simp only [fl_ft_cons, List.length_cons] at Kp ⊢
    have key := fl_xpk (f_blocks := nI bs.length) (f_rowCount := nI R) (f_rowCap := f_rowCap) (f_cellCap := f_cellCap) (f_tokenCap := f_tokenCap) (f_tokenCount := f_tokenCount) (f_status := f_status) (f_resultIsSeq := f_resultIsSeq) (a_typeSeq := a_typeSeq) (a_blockKind := a_blockKind) (a_blockBase := a_blockBase) (a_blockSeq := a_blockSeq) (post := post) G hR hpT hq hcs h2 (fun C ct ce rk rl rc hJ => Kp _ _ _ _ _ _ _ _ _ _ _ _ _ _ _ _ _ _ _ hJ) (N (fl_lev bs)) 0 C a_cut a_cells a_recKind a_recLen a_rec (by omega) (fl_xj_beg H)
    exact br_f (by decide) (br_f (by decide) (br_f (by decide) (br_f (by decide) (br_f (by decide) (br_f (by decide) (br_f (by decide) (br_f (by decide) (br_f (by decide) (br_f (by decide) (br_f (by decide) (br_f (by decide) (br_f (by decide) (br_f (by decide) (br_t trivial (⟨_, key⟩)))))))))))))))
  -- 13
  · rw [hq] at ek
    subst ek
    rcases hcs : fl_csf a_kinds a_args p with ⟨ts, bs⟩
    rw [hcs] at H hck
    rw [hq, fl_ck_13] at hck
    dsimp only at H ⊢
    obtain ⟨t2, h1, h2⟩ := fl_un_inv hck
    dsimp only at h1 h2
    subst h1
    rw [h2] at Kp
    dsimp only at Kp
    simp only [fl_ft_cons, List.length_cons] at Kp ⊢
    have key := fl_xfr (f_blocks := nI bs.length) (f_rowCap := f_rowCap) (f_cellCap := f_cellCap) (f_tokenCap := f_tokenCap) (f_tokenCount := f_tokenCount) (f_status := f_status) (f_resultIsSeq := f_resultIsSeq) (a_typeSeq := a_typeSeq) (a_blockKind := a_blockKind) (a_blockBase := a_blockBase) (a_blockSeq := a_blockSeq) (post := post) G hR hRL hpT hq hcs h2 (fun C ct ln ce rk rl rc hJ => Kp _ _ _ _ _ _ _ _ _ _ _ _ _ _ _ _ _ _ _ hJ) (N (fl_lev bs)) 0 C a_cut a_lens a_cells a_recKind a_recLen a_rec (by omega) (fl_xj_beg H)
    exact br_f (by decide) (br_f (by decide) (br_f (by decide) (br_f (by decide) (br_f (by decide) (br_f (by decide) (br_f (by decide) (br_f (by decide) (br_f (by decide) (br_f (by decide) (br_f (by decide) (br_f (by decide) (br_f (by decide) (br_f (by decide) (br_f (by decide) (br_t trivial (⟨_, key⟩))))))))))))))))
  -- 14
  · rw [hq] at ek
    subst ek
    exact br_f (by decide) (br_f (by decide) (br_f (by decide) (br_f (by decide) (br_f (by decide) (br_f (by decide) (br_f (by decide) (br_f (by decide) (br_f (by decide) (br_f (by decide) (br_f (by decide) (br_f (by decide) (br_f (by decide) (br_f (by decide) (br_f (by decide) (br_f (by decide) (br_t rfl (fl_xeach G hR hpT hq H (fun N O P K F C D lc ow pa el pl of ct hJ => Kp _ _ _ _ _ _ _ _ _ _ _ _ _ _ _ _ _ _ _ hJ))))))))))))))))))
  -- 15
  · rw [hq] at ek
    subst ek
    exact br_f (by decide) (br_f (by decide) (br_f (by decide) (br_f (by decide) (br_f (by decide) (br_f (by decide) (br_f (by decide) (br_f (by decide) (br_f (by decide) (br_f (by decide) (br_f (by decide) (br_f (by decide) (br_f (by decide) (br_f (by decide) (br_f (by decide) (br_f (by decide) (br_f (by decide) (br_t rfl (br_f (by decide) (fl_xend' G hR hpT (Or.inl hq) (Or.inl ⟨rfl, by rw [hq]; decide⟩) H (fun ln ce hJ => Kp _ _ _ _ _ _ _ _ _ _ _ _ _ _ _ _ _ _ _ hJ))))))))))))))))))))
  -- 16
  · rw [hq] at ek
    subst ek
    exact br_f (by decide) (br_f (by decide) (br_f (by decide) (br_f (by decide) (br_f (by decide) (br_f (by decide) (br_f (by decide) (br_f (by decide) (br_f (by decide) (br_f (by decide) (br_f (by decide) (br_f (by decide) (br_f (by decide) (br_f (by decide) (br_f (by decide) (br_f (by decide) (br_f (by decide) (br_f (by decide) (br_t rfl (br_t rfl (fl_xend' G hR hpT (Or.inr hq) (Or.inr ⟨rfl, by rw [hq]; decide⟩) H (fun ln ce hJ => Kp _ _ _ _ _ _ _ _ _ _ _ _ _ _ _ _ _ _ _ hJ)))))))))))))))))))))
  -- 17
  · rw [hq] at ek
    subst ek
    exact br_f (by decide) (br_f (by decide) (br_f (by decide) (br_f (by decide) (br_f (by decide) (br_f (by decide) (br_f (by decide) (br_f (by decide) (br_f (by decide) (br_f (by decide) (br_f (by decide) (br_f (by decide) (br_f (by decide) (br_f (by decide) (br_f (by decide) (br_f (by decide) (br_f (by decide) (br_f (by decide) (br_f (by decide) (br_t rfl (fl_xthen G hR hpT hq H (fun F' of' hJ => Kp _ _ _ _ _ _ _ _ _ _ _ _ _ _ _ _ _ _ _ hJ)))))))))))))))))))))
  -- 18
  · rw [hq] at ek
    subst ek
    exact br_f (by decide) (br_f (by decide) (br_f (by decide) (br_f (by decide) (br_f (by decide) (br_f (by decide) (br_f (by decide) (br_f (by decide) (br_f (by decide) (br_f (by decide) (br_f (by decide) (br_f (by decide) (br_f (by decide) (br_f (by decide) (br_f (by decide) (br_f (by decide) (br_f (by decide) (br_f (by decide) (br_f (by decide) (br_f (by decide) (br_t rfl (fl_xelse G hpT hq H (fun F' of' hJ => Kp _ _ _ _ _ _ _ _ _ _ _ _ _ _ _ _ _ _ _ hJ))))))))))))))))))))))
  -- 19
  · rw [hq] at ek
    subst ek
    exact br_f (by decide) (br_f (by decide) (br_f (by decide) (br_f (by decide) (br_f (by decide) (br_f (by decide) (br_f (by decide) (br_f (by decide) (br_f (by decide) (br_f (by decide) (br_f (by decide) (br_f (by decide) (br_f (by decide) (br_f (by decide) (br_f (by decide) (br_f (by decide) (br_f (by decide) (br_f (by decide) (br_f (by decide) (br_f (by decide) (br_f (by decide) (br_t rfl (fl_xfi' G hpT hq H (fun F' of' hJ => Kp _ _ _ _ _ _ _ _ _ _ _ _ _ _ _ _ _ _ _ hJ)))))))))))))))))))))))
end XST
end
section
/-! X: work as a whole -/
section XWK
variable {f_rowCap f_cellCap f_tokenCap f_rowCount f_tokenCount f_status f_resultIsSeq f_height f_blocks f_level : Int32} {a_rowLen a_data a_kinds a_args a_recKind a_recLen a_rec a_typeSeq a_blockKind a_blockBase a_blockSeq a_laneCount a_owner a_parent a_elem a_place a_off a_cut a_lens a_cells : Nat → Int32} {R T n0 fs : Nat} {rk0 rl0 rc0 : Nat → Int32} {post : SX → Prop}
theorem fl_xst46 {l r n : Nat} (hl : l < 64) (hr : r < 4) (hn : n ≤ 4) {rkx rlx : Nat → Int32} (Kp : ∀ rc, (∀ i, i < n → rc (r * 4 + i) = a_cells (l * 4 + i)) → (∀ j, (j < r * 4 ∨ r * 4 + 4 ≤ j) → rc j = a_rec j) → post (f_rowCap, f_cellCap, f_tokenCap, f_rowCount, f_tokenCount, f_status, f_resultIsSeq, f_height, f_blocks, f_level, a_rowLen, a_data, a_kinds, a_args, rkx, rlx, rc, a_typeSeq, a_blockKind, a_blockBase, a_blockSeq, a_laneCount, a_owner, a_parent, a_elem, a_place, a_off, a_cut, a_lens, a_cells)) : ∀ d i rc, i + d = n → (∀ k, k < i → rc (r * 4 + k) = a_cells (l * 4 + k)) → (∀ j, (j < r * 4 ∨ r * 4 + 4 ≤ j) → rc j = a_rec j) → wX_storeResult_46 post (nI l) (nI r) (nI n) f_rowCap f_cellCap f_tokenCap f_rowCount f_tokenCount f_status f_resultIsSeq f_height f_blocks f_level (d + 1) (nI i) a_rowLen a_data a_kinds a_args rkx rlx rc a_typeSeq a_blockKind a_blockBase a_blockSeq a_laneCount a_owner a_parent a_elem a_place a_off a_cut a_lens a_cells := by
  intro d
  induction d with
  | zero =>
    intro i rc hi h1 h2
    have ei : i = n := by omega
    subst ei
    exact br_t (nI_le (Nat.le_refl _) (by omega)) (Kp rc h1 h2)
  | succ d ih =>
    intro i rc hi h1 h2
    have e1 : nI l * 4 + nI i = nI (l * 4 + i) := by rw [show (4 : Int32) = nI 4 from rfl, pk_mul, nI_add]
    have e2 : nI r * 4 + nI i = nI (r * 4 + i) := by rw [show (4 : Int32) = nI 4 from rfl, pk_mul, nI_add]
    unfold wX_storeResult_46
    rw [e1, e2, nI_clamp (show l * 4 + i < 2 ^ 31 by omega), nI_clamp (show r * 4 + i < 2 ^ 31 by omega)]
    refine br_f (nI_ge (by omega) (by omega)) ⟨vp_in_nI (by omega) (by decide), vp_in_nI (by omega) (by decide), nm_e (nm_r (nI_1 i) (ih (i + 1) _ (by omega) (fun k hk => ?_) (fun j hj => ?_)))⟩
    · by_cases e : k = i
      · subst e; exact fl_ups
      · rw [fl_upn (by omega)]; exact h1 k (by omega)
    · rw [upd, if_neg (by omega)]; exact h2 j hj
theorem fl_xstore {l r : Nat} {v : fl_V} {t : Bool} (hl : l < 64) (hr : r < 4) (hv : fl_MV False (fun h => a_lens ((0 * 4 + h) * 64 + l)) (fun h i => a_cells (((0 * 4 + h) * 64 + l) * 4 + i)) 0 v) (ht : fl_tg v = t) (hrs : f_resultIsSeq = fl_bI t)
    (Kp : ∀ rk rl rc, (∀ j, j ≠ r → rk j = a_recKind j ∧ rl j = a_recLen j) → (∀ j, (j < r * 4 ∨ r * 4 + 4 ≤ j) → rc j = a_rec j) → fl_RC (.inr v) (rk r) (rl r) (fun i => rc (r * 4 + i)) → post (f_rowCap, f_cellCap, f_tokenCap, f_rowCount, f_tokenCount, f_status, f_resultIsSeq, f_height, f_blocks, f_level, a_rowLen, a_data, a_kinds, a_args, rk, rl, rc, a_typeSeq, a_blockKind, a_blockBase, a_blockSeq, a_laneCount, a_owner, a_parent, a_elem, a_place, a_off, a_cut, a_lens, a_cells)) : wpX_storeResult post (f_rowCap, f_cellCap, f_tokenCap, f_rowCount, f_tokenCount, f_status, f_resultIsSeq, f_height, f_blocks, f_level, a_rowLen, a_data, a_kinds, a_args, a_recKind, a_recLen, a_rec, a_typeSeq, a_blockKind, a_blockBase, a_blockSeq, a_laneCount, a_owner, a_parent, a_elem, a_place, a_off, a_cut, a_lens, a_cells) (nI l) (nI r) := by
  have v4 : vp_in (nI r) 4 := vp_in_nI hr (by decide)
  have er : (nI r).toNatClampNeg = r := nI_clamp (by omega)
  have el : (nI l).toNatClampNeg = l := nI_clamp (by omega)
  subst hrs
  cases v with
  | inl x =>
    have : t = false := ht.symm
    subst this
    have hx : a_cells (l * 4) = x := by
      have := hv.1
      rw [← this]
      exact congrArg a_cells (by omega)
    refine br_t rfl (br_t rfl ?_)
    unfold wX_storeResult_35
    rw [er]
    refine ⟨v4, nm_e ⟨v4, nm_e ⟨_, fl_xst46 (n := 1) hl hr (by decide) (fun rc k1 k2 => Kp _ _ rc (fun j hj => ⟨by rw [upd, if_neg hj], by rw [upd, if_neg hj]⟩) k2 ⟨fl_ups, fl_ups, ?_⟩) 1 0 a_rec rfl (fun k h => absurd h (Nat.not_lt_zero _)) (fun j _ => rfl)⟩⟩⟩
    exact (k1 0 (by decide)).trans hx
  | inr xs =>
    have : t = true := ht.symm
    subst this
    obtain ⟨w1, w2, w3⟩ := hv
    have w1' : a_lens l = nI xs.length := by
      rw [← w1]
      exact congrArg a_lens (by omega)
    refine br_f (by decide) ?_
    rw [el, w1']
    refine ⟨vp_in_nI (by omega) (by decide), br_f (by decide) ?_⟩
    unfold wX_storeResult_35
    rw [er]
    refine ⟨v4, nm_e ⟨v4, nm_e ⟨_, fl_xst46 (n := xs.length) hl hr w2 (fun rc k1 k2 => Kp _ _ rc (fun j hj => ⟨by rw [upd, if_neg hj], by rw [upd, if_neg hj]⟩) k2 ⟨fl_ups, fl_ups, w2, fun i hi => ?_⟩) xs.length 0 a_rec (by omega) (fun k h => absurd h (Nat.not_lt_zero _)) (fun j _ => rfl)⟩⟩⟩
    have q := k1 i hi
    have q2 := w3 i hi
    rw [← q2]
    show rc _ = a_cells _
    rw [q]
    exact congrArg a_cells (by omega)
theorem fl_x79 {t : Bool} {N : Nat → Nat} {O P K F C D : Nat → Nat → Nat} (G : fl_Gd a_kinds a_args T) (hR : R ≤ 4) (hcs : fl_csf a_kinds a_args T = ([t], [])) (hrs : f_resultIsSeq = fl_bI t) {rkT rlT rcT : Nat → Int32} (H : fl_XJ a_kinds a_args T R (fl_rw a_rowLen a_data) N O P K F C D a_laneCount a_owner a_parent a_elem a_place a_off a_cut a_lens a_cells rkT rlT rcT n0 fs rk0 rl0 rc0 [] (fun _ => T))
    (Kp : ∀ rk rl rc, (∀ l, l < n0 → fl_RC (fl_EV a_kinds a_args T R (fl_rw a_rowLen a_data) (fs + l) 0 [] []) (rk (fs + l)) (rl (fs + l)) (fun i => rc ((fs + l) * 4 + i))) → (∀ r, r < 4 → (∀ l, l < n0 → r ≠ fs + l) → rk r = rk0 r ∧ rl r = rl0 r ∧ ∀ i, i < 4 → rc (r * 4 + i) = rc0 (r * 4 + i)) → post (f_rowCap, f_cellCap, f_tokenCap, f_rowCount, f_tokenCount, f_status, f_resultIsSeq, f_height, f_blocks, f_level, a_rowLen, a_data, a_kinds, a_args, rk, rl, rc, a_typeSeq, a_blockKind, a_blockBase, a_blockSeq, a_laneCount, a_owner, a_parent, a_elem, a_place, a_off, a_cut, a_lens, a_cells)) :
    ∀ d l rk rl rc, l + d = n0 → (∀ m, m < l → fl_RC (fl_EV a_kinds a_args T R (fl_rw a_rowLen a_data) (fs + m) 0 [] []) (rk (fs + m)) (rl (fs + m)) (fun i => rc ((fs + m) * 4 + i))) → (∀ r, r < 4 → (∀ m, m < l → r ≠ fs + m) → rk r = rkT r ∧ rl r = rlT r ∧ ∀ i, i < 4 → rc (r * 4 + i) = rcT (r * 4 + i)) → wX_work_79 post (nI n0) (d + 1) (nI l) f_rowCap f_cellCap f_tokenCap f_rowCount f_tokenCount f_status f_resultIsSeq f_height f_blocks f_level a_rowLen a_data a_kinds a_args rk rl rc a_typeSeq a_blockKind a_blockBase a_blockSeq a_laneCount a_owner a_parent a_elem a_place a_off a_cut a_lens a_cells := by
  obtain ⟨h1, ⟨c1, c2, c3⟩, h3, ⟨h4, h4'⟩, h5⟩ := H
  have hN := fl_XR_N h1 (Nat.le_refl _) (by decide)
  have e0 : fl_lev [] = 0 := rfl
  rw [e0] at hN c1 c2 c3
  obtain ⟨a1, a2, a3, a4⟩ := h1 0 (Nat.le_refl _)
  have hF0 : ∀ l, l < N 0 → F 0 l = 0 := by
    intro l hl
    rcases c2 l hl with w | w
    · exact w
    · have := w.2; simp at this; omega
  have hown : ∀ l, l < n0 → fs + l < R := fun l hl => by
    have := (a3 l (by omega)).2.1
    rw [h4' l hl] at this
    exact this
  have hdead : ∀ r, r < 4 → C 0 r < 64 → C 0 r < n0 ∧ fs + C 0 r = r ∧ fl_RC (fl_EV a_kinds a_args T R (fl_rw a_rowLen a_data) r 0 [] []) (rkT r) (rlT r) (fun i => rcT (r * 4 + i)) := by
    intro r hr hC
    obtain ⟨g1, g2, f, g3, g4⟩ := c3 r hr hC
    rw [h4' _ (by omega)] at g2
    refine ⟨by omega, g2, ?_⟩
    have g3' : fl_EV a_kinds a_args T R (fl_rw a_rowLen a_data) r 0 [] [] = .inl f := g3
    rw [g3']
    exact g4
  intro d
  induction d with
  | zero =>
    intro l rk rl rc hl hA hB
    have el : l = n0 := by omega
    subst el
    refine br_t (nI_le (Nat.le_refl _) (by omega)) (Kp rk rl rc hA fun r hr hne => ?_)
    obtain ⟨b1, b2, b3⟩ := hB r hr hne
    have h64 := (a4 r hr).2
    have hC : C 0 r = 64 := by
      rcases Nat.lt_or_ge (C 0 r) 64 with w | w
      · obtain ⟨g1, g2, -⟩ := hdead r hr w
        exact absurd g2.symm (hne _ g1)
      · omega
    obtain ⟨u1, u2, u3⟩ := h5 r hr hC
    exact ⟨b1.trans u1, b2.trans u2, fun i hi => (b3 i hi).trans (u3 i hi)⟩
  | succ d ih =>
    intro l rk rl rc hl hA hB
    have hln : l < n0 := by omega
    have hlN : l < N 0 := by omega
    have hr := hown l hln
    obtain ⟨o1, o2, o3, o4, -⟩ := a3 l hlN
    have o1' : a_owner l = nI (fs + l) := by
      rw [← h4' l hln, ← o1]
      exact congrArg a_owner (by omega)
    obtain ⟨k1, k2⟩ := a4 (fs + l) (by omega)
    have k1' : a_cut (fs + l) = nI (C 0 (fs + l)) := by
      rw [← k1]
      exact congrArg a_cut (by omega)
    have v1 : vp_in (nI l) 192 := vp_in_nI (by omega) (by decide)
    unfold wX_work_79
    rw [nI_clamp (show l < 2 ^ 31 by omega), o1', nI_clamp (show fs + l < 2 ^ 31 by omega), k1']
    refine br_f (nI_ge hln (by omega)) ⟨v1, vp_in_nI (by omega) (by decide), ?_⟩
    rcases Nat.lt_or_ge (C 0 (fs + l)) 64 with w | w
    · obtain ⟨g1, g2, g3⟩ := hdead (fs + l) (by omega) w
      have hCl : C 0 (fs + l) = l := by omega
      refine br_t (nI_le (by omega) (by omega)) (nm_r (nI_1 l) (ih (l + 1) rk rl rc (by omega) (fun m hm => ?_) (fun r hr hne => hB r hr fun m hm => hne m (by omega))))
      by_cases e : m = l
      · subst e
        obtain ⟨b1, b2, b3⟩ := hB (fs + m) (by omega) (fun m' hm' => by omega)
        generalize fl_EV a_kinds a_args T R (fl_rw a_rowLen a_data) (fs + m) 0 [] [] = o at g3 ⊢
        rcases o with f | x | xs
        · obtain ⟨q1, q2, q3, q4⟩ := g3
          exact ⟨b1.trans q1, b2.trans q2, (b3 0 (by decide)).trans q3, (b3 1 (by decide)).trans q4⟩
        · obtain ⟨q1, q2, q3⟩ := g3
          exact ⟨b1.trans q1, b2.trans q2, (b3 0 (by decide)).trans q3⟩
        · obtain ⟨q1, q2, q3, q4⟩ := g3
          exact ⟨b1.trans q1, b2.trans q2, q3, fun i hi => (b3 i (by omega)).trans (q4 i hi)⟩
      · exact hA m (by omega)
    · have hC := c1 l hlN (by rw [h4' l hln]; omega)
      rw [fl_cp, if_pos (hF0 l hlN)] at hC
      obtain ⟨s, d1, d2, d3, d4⟩ := hC
      rw [hcs] at d3
      have d3 : s.map fl_tg = [t] := d3
      obtain ⟨v, rfl, d5⟩ := fl_sh_1 d3
      rw [fl_EV_T (Nat.le_refl _), h4' l hln] at d4
      have d4 : fl_EV a_kinds a_args T R (fl_rw a_rowLen a_data) (fs + l) 0 [] [] = .inr v := d4
      refine br_f (nI_ge (by omega) (by omega)) ⟨v1, fl_xstore (by omega) (by omega) d2.1 d5 hrs fun rk' rl' rc' u1 u2 u3 => nm_r (nI_1 l) (ih (l + 1) rk' rl' rc' (by omega) (fun m hm => ?_) (fun r hr hne => ?_))⟩
      · by_cases e : m = l
        · subst e
          rw [d4]; exact u3
        · have hm' := hown m (by omega)
          have hRC := hA m (by omega)
          obtain ⟨q1, q2⟩ := u1 (fs + m) (by omega)
          have q3 : (fun i => rc' ((fs + m) * 4 + i)) = fun i => if i < 4 then rc ((fs + m) * 4 + i) else rc' ((fs + m) * 4 + i) := by
            funext i
            split
            · exact u2 _ (by omega)
            · rfl
          rw [q1, q2]
          generalize fl_EV a_kinds a_args T R (fl_rw a_rowLen a_data) (fs + m) 0 [] [] = o at hRC ⊢
          rcases o with f | x | xs
          · obtain ⟨z1, z2, z3, z4⟩ := hRC
            exact ⟨z1, z2, (u2 _ (by omega)).trans z3, (u2 _ (by omega)).trans z4⟩
          · obtain ⟨z1, z2, z3⟩ := hRC
            exact ⟨z1, z2, (u2 _ (by omega)).trans z3⟩
          · obtain ⟨z1, z2, z3, z4⟩ := hRC
            exact ⟨z1, z2, z3, fun i hi => (u2 _ (by omega)).trans (z4 i hi)⟩
      · obtain ⟨b1, b2, b3⟩ := hB r hr fun m hm => hne m (by omega)
        obtain ⟨q1, q2⟩ := u1 r (hne l (by omega))
        have := hne l (by omega)
        exact ⟨q1.trans b1, q2.trans b2, fun i hi => (u2 _ (by omega)).trans (b3 i hi)⟩
end XWK
end
section
/-! X: work -/
section XW2
variable {f_rowCap f_cellCap f_tokenCap f_rowCount f_tokenCount f_status f_resultIsSeq f_height f_blocks f_level : Int32} {a_rowLen a_data a_kinds a_args a_recKind a_recLen a_rec a_typeSeq a_blockKind a_blockBase a_blockSeq a_laneCount a_owner a_parent a_elem a_place a_off a_cut a_lens a_cells : Nat → Int32} {R T n0 fs : Nat} {rk0 rl0 rc0 : Nat → Int32} {post : SX → Prop}
theorem fl_x58 {t : Bool} (G : fl_Gd a_kinds a_args T) (hT : T ≤ 40) (hR : R ≤ 4) (hRL : fl_RL R a_rowLen) (hcs : fl_csf a_kinds a_args T = ([t], [])) (hrs : f_resultIsSeq = fl_bI t)
    (Kp : ∀ h b v lc ow pa el pl of ct ln ce rk rl rc, (∀ l, l < n0 → fl_RC (fl_EV a_kinds a_args T R (fl_rw a_rowLen a_data) (fs + l) 0 [] []) (rk (fs + l)) (rl (fs + l)) (fun i => rc ((fs + l) * 4 + i))) → (∀ r, r < 4 → (∀ l, l < n0 → r ≠ fs + l) → rk r = rk0 r ∧ rl r = rl0 r ∧ ∀ i, i < 4 → rc (r * 4 + i) = rc0 (r * 4 + i)) → post (f_rowCap, f_cellCap, f_tokenCap, nI R, nI T, f_status, f_resultIsSeq, h, b, v, a_rowLen, a_data, a_kinds, a_args, rk, rl, rc, a_typeSeq, a_blockKind, a_blockBase, a_blockSeq, lc, ow, pa, el, pl, of, ct, ln, ce)) :
    ∀ d p N O P K F C D lc ow pa el pl of ct ln ce rk rl rc, p + d = T → fl_XJ a_kinds a_args T R (fl_rw a_rowLen a_data) N O P K F C D lc ow pa el pl of ct ln ce rk rl rc n0 fs rk0 rl0 rc0 (fl_csf a_kinds a_args p).2 (fun _ => p) → wX_work_58 post (nI n0) (d + 1) (nI p) f_rowCap f_cellCap f_tokenCap (nI R) (nI T) f_status f_resultIsSeq (nI (fl_ft (fl_csf a_kinds a_args p).1 (fl_csf a_kinds a_args p).2).length) (nI (fl_csf a_kinds a_args p).2.length) (nI (fl_lev (fl_csf a_kinds a_args p).2)) a_rowLen a_data a_kinds a_args rk rl rc a_typeSeq a_blockKind a_blockBase a_blockSeq lc ow pa el pl of ct ln ce := by
  intro d
  induction d with
  | zero =>
    intro p N O P K F C D lc ow pa el pl of ct ln ce rk rl rc hp H
    have ep : p = T := by omega
    subst ep
    rw [hcs] at H ⊢
    refine br_t (nI_le (Nat.le_refl _) (by omega)) ⟨_, fl_x79 (rk0 := rk0) (rl0 := rl0) (rc0 := rc0) (n0 := n0) (fs := fs) (R := R) (T := p) G hR hcs hrs H (fun rk rl rc k1 k2 => Kp _ _ _ _ _ _ _ _ _ _ _ _ rk rl rc k1 k2) n0 0 rk rl rc (by omega) (fun m h => absurd h (Nat.not_lt_zero _)) (fun r hr _ => ⟨rfl, rfl, fun _ _ => rfl⟩)⟩
  | succ d ih =>
    intro p N O P K F C D lc ow pa el pl of ct ln ce rk rl rc hp H
    refine br_f (nI_ge (by omega) (by omega)) (fl_xstep (rk0 := rk0) (rl0 := rl0) (rc0 := rc0) (n0 := n0) (fs := fs) (R := R) (T := T) G hT hR hRL (by omega) H fun N O P K F C D lc ow pa el pl of ct ln ce rk rl rc hJ => nm_r (nI_1 p) (ih (p + 1) N O P K F C D lc ow pa el pl of ct ln ce rk rl rc (by omega) hJ))
theorem fl_x29 {t : Bool} (G : fl_Gd a_kinds a_args T) (hT : T ≤ 40) (hR : R ≤ 4) (hRL : fl_RL R a_rowLen) (hcs : fl_csf a_kinds a_args T = ([t], [])) (hrs : f_resultIsSeq = fl_bI t) (hfs : fs + n0 ≤ R) (hlc : a_laneCount 0 = nI n0) (hct : ∀ r, r < 4 → a_cut r = nI 64)
    (Kp : ∀ h b v lc ow pa el pl of ct ln ce rk rl rc, (∀ l, l < n0 → fl_RC (fl_EV a_kinds a_args T R (fl_rw a_rowLen a_data) (fs + l) 0 [] []) (rk (fs + l)) (rl (fs + l)) (fun i => rc ((fs + l) * 4 + i))) → (∀ r, r < 4 → (∀ l, l < n0 → r ≠ fs + l) → rk r = a_recKind r ∧ rl r = a_recLen r ∧ ∀ i, i < 4 → rc (r * 4 + i) = a_rec (r * 4 + i)) → post (f_rowCap, f_cellCap, f_tokenCap, nI R, nI T, f_status, f_resultIsSeq, h, b, v, a_rowLen, a_data, a_kinds, a_args, rk, rl, rc, a_typeSeq, a_blockKind, a_blockBase, a_blockSeq, lc, ow, pa, el, pl, of, ct, ln, ce)) :
    ∀ d l ow of, l + d = n0 → (∀ m, m < l → ow m = nI (fs + m) ∧ of m = 0) → wX_work_29 post (nI fs) (nI n0) f_rowCap f_cellCap f_tokenCap (nI R) (nI T) f_status f_resultIsSeq 0 0 0 (d + 1) (nI l) a_rowLen a_data a_kinds a_args a_recKind a_recLen a_rec a_typeSeq a_blockKind a_blockBase a_blockSeq a_laneCount ow a_parent a_elem a_place of a_cut a_lens a_cells := by
  intro d
  induction d with
  | zero =>
    intro l ow of hl h
    have el : l = n0 := by omega
    subst el
    have k := fl_x58 (n0 := l) (fs := fs) (rk0 := a_recKind) (rl0 := a_recLen) (rc0 := a_rec) (post := post) (f_rowCap := f_rowCap) (f_cellCap := f_cellCap) (f_tokenCap := f_tokenCap) (f_status := f_status) (a_typeSeq := a_typeSeq) (a_blockKind := a_blockKind) (a_blockBase := a_blockBase) (a_blockSeq := a_blockSeq) G hT hR hRL hcs hrs Kp T 0 (fun _ => l) (fun _ m => fs + m) (fun _ _ => 0) (fun _ _ => 0) (fun _ _ => 0) (fun _ _ => 64) (fun _ _ => 0) a_laneCount ow a_parent a_elem a_place of a_cut a_lens a_cells a_recKind a_recLen a_rec (by omega) ?_
    · exact br_t (nI_le (Nat.le_refl _) (by omega)) ⟨_, k⟩
    · refine ⟨fun v hv => ?_, ⟨fun m hm ha => ⟨[], (show (0 : Nat) ≤ 4 by decide), trivial, rfl, rfl⟩, fun m hm => Or.inl rfl, fun r hr hC => absurd (show (64 : Nat) < 64 from hC) (by decide)⟩, fun X B rest e => ?_, ⟨rfl, fun m hm => rfl⟩, fun r hr hC => ⟨rfl, rfl, fun _ _ => rfl⟩⟩
      · have hv0 : v = 0 := by
          have : v ≤ 0 := hv
          omega
        subst hv0
        have hl4 : l ≤ 4 := by omega
        refine ⟨hlc, hl4, fun m hm => ?_, fun r hr => ⟨?_, Nat.le_refl _⟩⟩
        · have hm : m < l := hm
          obtain ⟨q1, q2⟩ := h m hm
          have e : 0 * 64 + m = m := by omega
          rw [e, q1, q2]
          exact ⟨rfl, (show fs + m < R by omega), rfl, Nat.zero_le _, fun w => absurd w (by decide)⟩
        · rw [show 0 * 4 + r = r by omega]; exact hct r hr
      · have : ([] : List fl_Bl) = X ++ B :: rest := e
        simp at this
  | succ d ih =>
    intro l ow of hl h
    have v1 : vp_in (nI l) 192 := vp_in_nI (by omega) (by decide)
    have e1 : nI fs + nI l = nI (fs + l) := nI_add _ _
    unfold wX_work_29
    rw [e1, nI_clamp (show l < 2 ^ 31 by omega)]
    refine br_f (nI_ge (by omega) (by omega)) ⟨v1, nm_e ⟨v1, nm_e (nm_r (nI_1 l) (ih (l + 1) _ _ (by omega) fun m hm => ?_))⟩⟩
    by_cases e : m = l
    · subst e; exact ⟨fl_ups, fl_ups⟩
    · rw [fl_upn (by omega), fl_upn (by omega)]; exact h m (by omega)
theorem fl_xwork {t : Bool} (G : fl_Gd a_kinds a_args T) (hT : T ≤ 40) (hR : R ≤ 4) (hRL : fl_RL R a_rowLen) (hcs : fl_csf a_kinds a_args T = ([t], [])) (hrs : f_resultIsSeq = fl_bI t) (hfs : fs + n0 ≤ R)
    (Kp : ∀ h b v lc ow pa el pl of ct ln ce rk rl rc, (∀ l, l < n0 → fl_RC (fl_EV a_kinds a_args T R (fl_rw a_rowLen a_data) (fs + l) 0 [] []) (rk (fs + l)) (rl (fs + l)) (fun i => rc ((fs + l) * 4 + i))) → (∀ r, r < 4 → (∀ l, l < n0 → r ≠ fs + l) → rk r = a_recKind r ∧ rl r = a_recLen r ∧ ∀ i, i < 4 → rc (r * 4 + i) = a_rec (r * 4 + i)) → post (f_rowCap, f_cellCap, f_tokenCap, nI R, nI T, f_status, f_resultIsSeq, h, b, v, a_rowLen, a_data, a_kinds, a_args, rk, rl, rc, a_typeSeq, a_blockKind, a_blockBase, a_blockSeq, lc, ow, pa, el, pl, of, ct, ln, ce)) :
    wpX_work post (f_rowCap, f_cellCap, f_tokenCap, nI R, nI T, f_status, f_resultIsSeq, f_height, f_blocks, f_level, a_rowLen, a_data, a_kinds, a_args, a_recKind, a_recLen, a_rec, a_typeSeq, a_blockKind, a_blockBase, a_blockSeq, a_laneCount, a_owner, a_parent, a_elem, a_place, a_off, a_cut, a_lens, a_cells) (nI fs) (nI n0) := by
  unfold wpX_work
  dsimp only
  refine nm_e (fl_xrst (v := 0) (by decide) fun ct k1 k2 => ⟨n0 + 1, ?_⟩)
  exact fl_x29 (a_laneCount := upd a_laneCount 0 (nI n0)) (a_cut := ct) G hT hR hRL hcs hrs hfs fl_ups (fun r hr => by have := k1 r hr; rw [show 0 * 4 + r = r by omega] at this; exact this) Kp n0 0 a_owner a_off (by omega) (fun m h => absurd h (Nat.not_lt_zero _))
end XW2
end
section
/-! the relation -/
def fl_RE (rC cC tC R T : Nat) (stat rs : Int32) (rl dt kd ag rk rn rc ts me ln yk ty : Nat → Int32) : Prop :=
  rC ≤ 4 ∧ cC ≤ 4 ∧ tC ≤ 40 ∧ R ≤ rC ∧ T ≤ tC ∧ (∀ p, p < T → fl_KD (kd p)) ∧ (∀ j, j < 4 → ln j = rl j) ∧ (∀ j, j < 16 → me j = dt j) ∧ fl_RL R rl ∧
  (∀ r, r < 4 → yk r = rk r ∧ ∃ n, n ≤ 4 ∧ rn r = nI n ∧ ln (12 + r) = nI n ∧ ∀ i, i < n → me ((12 + r) * 4 + i) = rc (r * 4 + i)) ∧ (∀ j, ts j = 0 ∨ ts j = 1) ∧
  (stat = 0 → fl_Gd kd ag T ∧ ∀ t, fl_csf kd ag T = ([t], []) → rs = fl_bI t ∧ ty 0 = fl_tI t)
/-- the relation at the head of a turn -/
def i_Rel (_ : Nat) (u : SX) (v : SY) : Prop := match u with
  | (f_rowCap, f_cellCap, f_tokenCap, f_rowCount, f_tokenCount, f_status, f_resultIsSeq, f_height, f_blocks, f_level, a_rowLen, a_data, a_kinds, a_args, a_recKind, a_recLen, a_rec, a_typeSeq, a_blockKind, a_blockBase, a_blockSeq, a_laneCount, a_owner, a_parent, a_elem, a_place, a_off, a_cut, a_lens, a_cells) => match v with
    | (g_rowCap, g_cellCap, g_tokenCap, g_rows, g_tokens, g_height, g_blocks, g_status, b_mem, b_lens, b_recKind, b_kinds, b_args, b_at, b_start, b_types, b_blockKind, b_blockBase, b_blockType) => ∃ rC cC tC R T : Nat, f_rowCap = nI rC ∧ g_rowCap = nI rC ∧ f_cellCap = nI cC ∧ g_cellCap = nI cC ∧ f_tokenCap = nI tC ∧ g_tokenCap = nI tC ∧ f_rowCount = nI R ∧ g_rows = nI R ∧ f_tokenCount = nI T ∧ g_tokens = nI T ∧ g_status = f_status ∧ b_kinds = a_kinds ∧ b_args = a_args ∧ fl_RE rC cC tC R T f_status f_resultIsSeq a_rowLen a_data a_kinds a_args a_recKind a_recLen a_rec a_typeSeq b_mem b_lens b_recKind b_types
theorem i_up {k : Nat} {u : SX} {v : SY} (h : i_Rel k u v) : i_Rel (k + 4) u v := h
section REL
variable {f_rowCap f_cellCap f_tokenCap f_rowCount f_tokenCount f_status f_resultIsSeq f_height f_blocks f_level : Int32} {a_rowLen a_data a_kinds a_args a_recKind a_recLen a_rec a_typeSeq a_blockKind a_blockBase a_blockSeq a_laneCount a_owner a_parent a_elem a_place a_off a_cut a_lens a_cells : Nat → Int32} {g_rowCap g_cellCap g_tokenCap g_rows g_tokens g_height g_blocks g_status : Int32} {b_mem b_lens b_recKind b_kinds b_args b_at b_start b_types b_blockKind b_blockBase b_blockType : Nat → Int32} {rC cC tC R T k : Nat}
theorem fl_mk (h : fl_RE rC cC tC R T f_status f_resultIsSeq a_rowLen a_data a_kinds a_args a_recKind a_recLen a_rec a_typeSeq b_mem b_lens b_recKind b_types) : i_Rel k (nI rC, nI cC, nI tC, nI R, nI T, f_status, f_resultIsSeq, f_height, f_blocks, f_level, a_rowLen, a_data, a_kinds, a_args, a_recKind, a_recLen, a_rec, a_typeSeq, a_blockKind, a_blockBase, a_blockSeq, a_laneCount, a_owner, a_parent, a_elem, a_place, a_off, a_cut, a_lens, a_cells) (nI rC, nI cC, nI tC, nI R, nI T, g_height, g_blocks, f_status, b_mem, b_lens, b_recKind, a_kinds, a_args, b_at, b_start, b_types, b_blockKind, b_blockBase, b_blockType) :=
  ⟨rC, cC, tC, R, T, rfl, rfl, rfl, rfl, rfl, rfl, rfl, rfl, rfl, rfl, rfl, rfl, rfl, h⟩
end REL
theorem fl_el {k : Nat} {u : SX} {v : SY} {Q : SX → SY → Prop} (I : i_Rel k u v) (h : ∀ (rC cC tC R T : Nat) (f_status f_resultIsSeq f_height f_blocks f_level g_height g_blocks : Int32) (a_rowLen a_data a_kinds a_args a_recKind a_recLen a_rec a_typeSeq a_blockKind a_blockBase a_blockSeq a_laneCount a_owner a_parent a_elem a_place a_off a_cut a_lens a_cells b_mem b_lens b_recKind b_at b_start b_types b_blockKind b_blockBase b_blockType : Nat → Int32), fl_RE rC cC tC R T f_status f_resultIsSeq a_rowLen a_data a_kinds a_args a_recKind a_recLen a_rec a_typeSeq b_mem b_lens b_recKind b_types → Q (nI rC, nI cC, nI tC, nI R, nI T, f_status, f_resultIsSeq, f_height, f_blocks, f_level, a_rowLen, a_data, a_kinds, a_args, a_recKind, a_recLen, a_rec, a_typeSeq, a_blockKind, a_blockBase, a_blockSeq, a_laneCount, a_owner, a_parent, a_elem, a_place, a_off, a_cut, a_lens, a_cells) (nI rC, nI cC, nI tC, nI R, nI T, g_height, g_blocks, f_status, b_mem, b_lens, b_recKind, a_kinds, a_args, b_at, b_start, b_types, b_blockKind, b_blockBase, b_blockType)) : Q u v := by
  obtain ⟨f_rowCap, f_cellCap, f_tokenCap, f_rowCount, f_tokenCount, f_status, f_resultIsSeq, f_height, f_blocks, f_level, a_rowLen, a_data, a_kinds, a_args, a_recKind, a_recLen, a_rec, a_typeSeq, a_blockKind, a_blockBase, a_blockSeq, a_laneCount, a_owner, a_parent, a_elem, a_place, a_off, a_cut, a_lens, a_cells⟩ := u
  obtain ⟨g_rowCap, g_cellCap, g_tokenCap, g_rows, g_tokens, g_height, g_blocks, g_status, b_mem, b_lens, b_recKind, b_kinds, b_args, b_at, b_start, b_types, b_blockKind, b_blockBase, b_blockType⟩ := v
  obtain ⟨rC, cC, tC, R, T, rfl, rfl, rfl, rfl, rfl, rfl, rfl, rfl, rfl, rfl, rfl, rfl, rfl, H⟩ := I
  exact h rC cC tC R T _ _ _ _ _ _ _ _ _ _ _ _ _ _ _ _ _ _ _ _ _ _ _ _ _ _ _ _ _ _ _ _ _ _ _ _ H
theorem fl_clp (x : Int32) {lo hi : Int32} (a b : Nat) (ha : lo = nI a) (hb : hi = nI b) (hab : a ≤ b) (hb31 : b < 2 ^ 31) : ∃ n, n ≤ b ∧ ∀ A : Int32 → Prop, A (nI n) → ((lo ≤ x → ((x ≤ hi → A x) ∧ (¬ x ≤ hi → A hi))) ∧ (¬ lo ≤ x → A lo)) := by
  by_cases h1 : lo ≤ x
  · by_cases h2 : x ≤ hi
    · have h0 : ¬ x < 0 := fun w => by
        have : (0 : Int32) ≤ lo := by rw [ha]; exact nI_pos' (by omega)
        exact Int32.lt_irrefl (Int32.lt_of_lt_of_le w (Int32.le_trans this h1))
      obtain ⟨j, hj, rfl⟩ := nI_of h0
      rw [hb, nI_leI hj hb31] at h2
      exact ⟨j, h2, fun A hA => br_t h1 (br_t (by rw [hb]; exact nI_le h2 hb31) hA)⟩
    · exact ⟨b, Nat.le_refl _, fun A hA => br_t h1 (br_f h2 (by rw [hb]; exact hA))⟩
  · exact ⟨a, hab, fun A hA => br_f h1 (by rw [ha]; exact hA)⟩
theorem i_vc0 (k0 : Int32) (k1 : Int32) (k2 : Int32) : wpX_init (fun u => wpY_init (fun v => i_Rel 3 u v) k0 k1 k2) k0 k1 k2 := by
  obtain ⟨n0, l0, H0⟩ := fl_clp k0 (lo := 1) (hi := 4) 1 4 rfl rfl (by decide) (by decide)
  obtain ⟨n1, l1, H1⟩ := fl_clp k1 (lo := 1) (hi := 4) 1 4 rfl rfl (by decide) (by decide)
  obtain ⟨n2, l2, H2⟩ := fl_clp k2 (lo := 8) (hi := 40) 8 40 rfl rfl (by decide) (by decide)
  have X0 : ∀ post u, post (nI n0) → wpX_clamp post u k0 1 4 := fun post u h => H0 post h
  have X1 : ∀ post u, post (nI n1) → wpX_clamp post u k1 1 4 := fun post u h => H1 post h
  have X2 : ∀ post u, post (nI n2) → wpX_clamp post u k2 8 40 := fun post u h => H2 post h
  have Y0 : ∀ post, wY_init_113 post k1 k2 (nI n0) 0 0 0 0 0 0 0 (-1) (fun _ => 0) (fun _ => 0) (fun _ => 0) (fun _ => 0) (fun _ => 0) (fun _ => 0) (fun _ => 0) (fun _ => 0) (fun _ => 0) (fun _ => 0) (fun _ => 0) → wpY_init post k0 k1 k2 := fun post h => H0 (fun z => wY_init_113 post k1 k2 z 0 0 0 0 0 0 0 (-1) (fun _ => 0) (fun _ => 0) (fun _ => 0) (fun _ => 0) (fun _ => 0) (fun _ => 0) (fun _ => 0) (fun _ => 0) (fun _ => 0) (fun _ => 0) (fun _ => 0)) h
  have Y1 : ∀ post, wY_init_136 post k2 (nI n1) (nI n0) 0 0 0 0 0 0 (-1) (fun _ => 0) (fun _ => 0) (fun _ => 0) (fun _ => 0) (fun _ => 0) (fun _ => 0) (fun _ => 0) (fun _ => 0) (fun _ => 0) (fun _ => 0) (fun _ => 0) → wY_init_113 post k1 k2 (nI n0) 0 0 0 0 0 0 0 (-1) (fun _ => 0) (fun _ => 0) (fun _ => 0) (fun _ => 0) (fun _ => 0) (fun _ => 0) (fun _ => 0) (fun _ => 0) (fun _ => 0) (fun _ => 0) (fun _ => 0) := fun post h => H1 (fun z => wY_init_136 post k2 z (nI n0) 0 0 0 0 0 0 (-1) (fun _ => 0) (fun _ => 0) (fun _ => 0) (fun _ => 0) (fun _ => 0) (fun _ => 0) (fun _ => 0) (fun _ => 0) (fun _ => 0) (fun _ => 0) (fun _ => 0)) h
  have Y2 : ∀ post : SY → Prop, post (nI n0, nI n1, nI n2, 0, 0, 0, 0, (-1), (fun _ => 0), (fun _ => 0), (fun _ => 0), (fun _ => 0), (fun _ => 0), (fun _ => 0), (fun _ => 0), (fun _ => 0), (fun _ => 0), (fun _ => 0), (fun _ => 0)) → wY_init_136 post k2 (nI n1) (nI n0) 0 0 0 0 0 0 (-1) (fun _ => 0) (fun _ => 0) (fun _ => 0) (fun _ => 0) (fun _ => 0) (fun _ => 0) (fun _ => 0) (fun _ => 0) (fun _ => 0) (fun _ => 0) (fun _ => 0) := fun post h => H2 (fun z => post (nI n0, nI n1, z, 0, 0, 0, 0, (-1), (fun _ => 0), (fun _ => 0), (fun _ => 0), (fun _ => 0), (fun _ => 0), (fun _ => 0), (fun _ => 0), (fun _ => 0), (fun _ => 0), (fun _ => 0), (fun _ => 0))) h
  refine X0 _ _ (X1 _ _ (X2 _ _ (Y0 _ (Y1 _ (Y2 _ ?_)))))
  refine fl_mk (rC := n0) (cC := n1) (tC := n2) (R := 0) (T := 0) ⟨l0, l1, l2, Nat.zero_le _, Nat.zero_le _, fun p h => absurd h (Nat.not_lt_zero _), fun _ _ => rfl, fun _ _ => rfl, fun i h => absurd h (Nat.not_lt_zero _), fun r _ => ⟨rfl, 0, by decide, rfl, rfl, fun i h => absurd h (Nat.not_lt_zero _)⟩, fun _ => Or.inl rfl, fun h => absurd h (by decide)⟩
theorem fl_kd20 : ∀ j : Fin 20, nI j.val = 0 ∨ nI j.val = 1 ∨ nI j.val = 2 ∨ nI j.val = 3 ∨ nI j.val = 4 ∨ nI j.val = 5 ∨ nI j.val = 6 ∨ nI j.val = 7 ∨ nI j.val = 8 ∨ nI j.val = 9 ∨ nI j.val = 10 ∨ nI j.val = 11 ∨ nI j.val = 12 ∨ nI j.val = 13 ∨ nI j.val = 14 ∨ nI j.val = 15 ∨ nI j.val = 16 ∨ nI j.val = 17 ∨ nI j.val = 18 ∨ nI j.val = 19 := by decide
theorem fl_kdOf {x : Int32} (h0 : ¬ x < 0) (h1 : ¬ 19 < x) : fl_KD x := by
  obtain ⟨j, hj, rfl⟩ := nI_of h0
  have h2 : nI j ≤ 19 := Int32.not_lt.mp h1
  rw [show (19 : Int32) = nI 19 from rfl, nI_leI hj (by decide)] at h2
  exact fl_kd20 ⟨j, by omega⟩
section SMX
variable {f_rowCap f_cellCap f_tokenCap f_rowCount f_tokenCount f_status f_resultIsSeq f_height f_blocks f_level : Int32} {a_rowLen a_data a_kinds a_args a_recKind a_recLen a_rec a_typeSeq a_blockKind a_blockBase a_blockSeq a_laneCount a_owner a_parent a_elem a_place a_off a_cut a_lens a_cells : Nat → Int32} {post : Int32 → SX → Prop} {T tC : Nat}
theorem fl_xput70 {z : Int32} (hT : T < 40) (Kp : ∀ rk rl, (∀ j, j < 4 → rk j = 0 ∧ rl j = 0) → post (nI T) (f_rowCap, f_cellCap, f_tokenCap, f_rowCount, nI (T + 1), -1, f_resultIsSeq, f_height, f_blocks, f_level, a_rowLen, a_data, a_kinds, upd a_args T z, rk, rl, a_rec, a_typeSeq, a_blockKind, a_blockBase, a_blockSeq, a_laneCount, a_owner, a_parent, a_elem, a_place, a_off, a_cut, a_lens, a_cells)) : wX_put_70 post z (nI T) f_rowCap f_cellCap f_tokenCap f_rowCount (nI T) f_status f_resultIsSeq f_height f_blocks f_level a_rowLen a_data a_kinds a_args a_recKind a_recLen a_rec a_typeSeq a_blockKind a_blockBase a_blockSeq a_laneCount a_owner a_parent a_elem a_place a_off a_cut a_lens a_cells := by
  unfold wX_put_70
  rw [nI_clamp (show T < 2 ^ 31 by omega), nI_1]
  refine ⟨vp_in_nI hT (by decide), nm_e (nm_e (fl_xfg fun rk rl h => ?_))⟩
  show post (nI (T + 1) - 1) _
  rw [nI_pred]
  exact Kp rk rl h
theorem fl_xput {k a : Int32} (hT : T < 40) (h0 : ¬ k < 0) (h1 : ¬ 19 < k) (hc : nI T < f_tokenCap) (Kp : ∀ rk rl, (∀ j, j < 4 → rk j = 0 ∧ rl j = 0) → post (nI T) (f_rowCap, f_cellCap, f_tokenCap, f_rowCount, nI (T + 1), -1, f_resultIsSeq, f_height, f_blocks, f_level, a_rowLen, a_data, upd a_kinds T k, upd a_args T (if k = 0 ∨ k = 3 ∨ k = 4 then a else 0), rk, rl, a_rec, a_typeSeq, a_blockKind, a_blockBase, a_blockSeq, a_laneCount, a_owner, a_parent, a_elem, a_place, a_off, a_cut, a_lens, a_cells)) : wpX_put post (f_rowCap, f_cellCap, f_tokenCap, f_rowCount, nI T, f_status, f_resultIsSeq, f_height, f_blocks, f_level, a_rowLen, a_data, a_kinds, a_args, a_recKind, a_recLen, a_rec, a_typeSeq, a_blockKind, a_blockBase, a_blockSeq, a_laneCount, a_owner, a_parent, a_elem, a_place, a_off, a_cut, a_lens, a_cells) k a := by
  have v := vp_in_nI hT (show 40 < 2 ^ 31 by decide)
  have e : (nI T).toNatClampNeg = T := nI_clamp (by omega)
  have h42 : ∀ z0 z, (z0 = 0 ∧ z = 0) ∨ (¬ z0 = 0 ∧ z = a) → (∀ rk rl, (∀ j, j < 4 → rk j = 0 ∧ rl j = 0) → post (nI T) (f_rowCap, f_cellCap, f_tokenCap, f_rowCount, nI (T + 1), -1, f_resultIsSeq, f_height, f_blocks, f_level, a_rowLen, a_data, upd a_kinds T k, upd a_args T z, rk, rl, a_rec, a_typeSeq, a_blockKind, a_blockBase, a_blockSeq, a_laneCount, a_owner, a_parent, a_elem, a_place, a_off, a_cut, a_lens, a_cells)) → wX_put_42 post k a z0 f_rowCap f_cellCap f_tokenCap f_rowCount (nI T) f_status f_resultIsSeq f_height f_blocks f_level a_rowLen a_data a_kinds a_args a_recKind a_recLen a_rec a_typeSeq a_blockKind a_blockBase a_blockSeq a_laneCount a_owner a_parent a_elem a_place a_off a_cut a_lens a_cells := by
    intro z0 z hz hK
    unfold wX_put_42
    rw [e]
    refine ⟨v, nm_e ?_⟩
    rcases hz with ⟨w, rfl⟩ | ⟨w, rfl⟩
    · exact br_t w (fl_xput70 hT hK)
    · exact br_f w (fl_xput70 hT hK)
  refine br_f h0 (br_f h1 (br_t hc (br_c (fun w => ?_) fun w0 => br_c (fun w => ?_) fun w3 => br_c (fun w => ?_) fun w4 => ?_)))
  · rw [if_pos (Or.inl w)] at Kp; exact h42 1 a (Or.inr ⟨by decide, rfl⟩) Kp
  · rw [if_pos (Or.inr (Or.inl w))] at Kp; exact h42 1 a (Or.inr ⟨by decide, rfl⟩) Kp
  · rw [if_pos (Or.inr (Or.inr w))] at Kp; exact h42 1 a (Or.inr ⟨by decide, rfl⟩) Kp
  · rw [if_neg (by simp [w0, w3, w4])] at Kp; exact h42 0 0 (Or.inl ⟨rfl, rfl⟩) Kp
end SMX
section SMY
variable {g_rowCap g_cellCap g_tokenCap g_rows g_tokens g_height g_blocks g_status : Int32} {b_mem b_lens b_recKind b_kinds b_args b_at b_start b_types b_blockKind b_blockBase b_blockType : Nat → Int32} {post : Int32 → SY → Prop} {T tC : Nat}
theorem fl_yput60 {z : Int32} (hT : T < 40) (Kp : ∀ rk ln, (∀ j, j < 4 → rk j = 0 ∧ ln (12 + j) = 0) → (∀ j, j < 12 → ln j = b_lens j) → post (nI T) (g_rowCap, g_cellCap, g_tokenCap, g_rows, nI (T + 1), g_height, g_blocks, -1, b_mem, ln, rk, b_kinds, upd b_args T z, b_at, b_start, b_types, b_blockKind, b_blockBase, b_blockType)) : wY_put_60 post z (nI T) g_rowCap g_cellCap g_tokenCap g_rows (nI T) g_height g_blocks g_status b_mem b_lens b_recKind b_kinds b_args b_at b_start b_types b_blockKind b_blockBase b_blockType := by
  unfold wY_put_60
  rw [nI_clamp (show T < 2 ^ 31 by omega)]
  refine ⟨vp_in_nI hT (by decide), nm_e (fl_yfg fun rk ln h h' => nm_r (nI_1 T) (Kp rk ln h h'))⟩
theorem fl_yput {k a : Int32} (hT : T < 40) (h0 : ¬ k < 0) (h1 : ¬ 19 < k) (hc : nI T < g_tokenCap) (Kp : ∀ rk ln, (∀ j, j < 4 → rk j = 0 ∧ ln (12 + j) = 0) → (∀ j, j < 12 → ln j = b_lens j) → post (nI T) (g_rowCap, g_cellCap, g_tokenCap, g_rows, nI (T + 1), g_height, g_blocks, -1, b_mem, ln, rk, upd b_kinds T k, upd b_args T (if k = 0 ∨ k = 3 ∨ k = 4 then a else 0), b_at, b_start, b_types, b_blockKind, b_blockBase, b_blockType)) : wpY_put post (g_rowCap, g_cellCap, g_tokenCap, g_rows, nI T, g_height, g_blocks, g_status, b_mem, b_lens, b_recKind, b_kinds, b_args, b_at, b_start, b_types, b_blockKind, b_blockBase, b_blockType) k a := by
  have v := vp_in_nI hT (show 40 < 2 ^ 31 by decide)
  have e : (nI T).toNatClampNeg = T := nI_clamp (by omega)
  unfold wpY_put
  dsimp only
  rw [e]
  refine br_f h0 (br_f h1 (br_t hc ⟨v, nm_e (br_c (fun w => ?_) fun w0 => br_c (fun w => ?_) fun w3 => br_c (fun w => ?_) fun w4 => ?_)⟩))
  · rw [if_pos (Or.inl w)] at Kp; exact fl_yput60 hT Kp
  · rw [if_pos (Or.inr (Or.inl w))] at Kp; exact fl_yput60 hT Kp
  · rw [if_pos (Or.inr (Or.inr w))] at Kp; exact fl_yput60 hT Kp
  · rw [if_neg (by simp [w0, w3, w4])] at Kp; exact fl_yput60 hT Kp
end SMY
theorem i_vc_put {k : Nat} {u : SX} {v : SY} (I : i_Rel k u v) (hk : k + 4 ≤ 2051) (v1 : Int32) (v2 : Int32) : wpX_put (fun r u' => wpY_put (fun r' v' => r' = r ∧ i_Rel (k + 4) u' v') v v1 v2) u v1 v2 := by
  refine fl_el (Q := fun u v => wpX_put (fun r u' => wpY_put (fun r' v' => r' = r ∧ i_Rel (k + 4) u' v') v v1 v2) u v1 v2) I ?_
  intro rC cC tC R T f_status f_resultIsSeq f_height f_blocks f_level g_height g_blocks a_rowLen a_data a_kinds a_args a_recKind a_recLen a_rec a_typeSeq a_blockKind a_blockBase a_blockSeq a_laneCount a_owner a_parent a_elem a_place a_off a_cut a_lens a_cells b_mem b_lens b_recKind b_at b_start b_types b_blockKind b_blockBase b_blockType H
  have H0 := H
  obtain ⟨h1, h2, h3, h4, h5, h6, h7, h8, h9, h10, h11, h12⟩ := H
  by_cases w0 : v1 < 0
  · exact br_t w0 (br_t w0 ⟨rfl, fl_mk H0⟩)
  by_cases w1 : 19 < v1
  · exact br_f w0 (br_t w1 (br_f w0 (br_t w1 ⟨rfl, fl_mk H0⟩)))
  by_cases w2 : T < tC
  · refine fl_xput (by omega) w0 w1 (nI_lt w2 (by omega)) fun rk rl q => fl_yput (by omega) w0 w1 (nI_lt w2 (by omega)) fun yk ln q1 q2 => ⟨rfl, fl_mk ⟨h1, h2, h3, h4, by omega, fun p hp => ?_, fun j hj => (q2 j (by omega)).trans (h7 j hj), h8, h9, fun r hr => ⟨((q1 r hr).1.trans (q r hr).1.symm), 0, by decide, (q r hr).2, (q1 r hr).2, fun i h => absurd h (Nat.not_lt_zero _)⟩, h11, fun w => absurd w (by decide)⟩⟩
    by_cases e : p = T
    · subst e; rw [fl_ups]; exact fl_kdOf w0 w1
    · rw [upd, if_neg e]; exact h6 p (by omega)
  · have w2' := nI_nlt (a := T) (b := tC) (by omega) (by omega)
    exact br_f w0 (br_f w1 (br_f w2' (br_f w0 (br_f w1 (br_f w2' ⟨rfl, fl_mk H0⟩)))))
end
section
/-! the small methods -/
section SM2
variable {f_rowCap f_cellCap f_tokenCap f_rowCount f_tokenCount f_status f_resultIsSeq f_height f_blocks f_level : Int32} {a_rowLen a_data a_kinds a_args a_recKind a_recLen a_rec a_typeSeq a_blockKind a_blockBase a_blockSeq a_laneCount a_owner a_parent a_elem a_place a_off a_cut a_lens a_cells : Nat → Int32} {R n : Nat} {post : Int32 → Prop} {x y : Int32}
theorem fl_xhr0 (h : x < 0 ∨ nI R ≤ x) (K : post 0) : wpX_hasRow post (f_rowCap, f_cellCap, f_tokenCap, nI R, f_tokenCount, f_status, f_resultIsSeq, f_height, f_blocks, f_level, a_rowLen, a_data, a_kinds, a_args, a_recKind, a_recLen, a_rec, a_typeSeq, a_blockKind, a_blockBase, a_blockSeq, a_laneCount, a_owner, a_parent, a_elem, a_place, a_off, a_cut, a_lens, a_cells) x := by
  by_cases w : x < 0
  · exact br_t w K
  · rcases h with h | h
    · exact absurd h w
    · exact br_f w (br_t h K)
theorem fl_xhr1 {r : Nat} (hr : r < R) (hR : R ≤ 4) (K : post 1) : wpX_hasRow post (f_rowCap, f_cellCap, f_tokenCap, nI R, f_tokenCount, f_status, f_resultIsSeq, f_height, f_blocks, f_level, a_rowLen, a_data, a_kinds, a_args, a_recKind, a_recLen, a_rec, a_typeSeq, a_blockKind, a_blockBase, a_blockSeq, a_laneCount, a_owner, a_parent, a_elem, a_place, a_off, a_cut, a_lens, a_cells) (nI r) :=
  br_f (nI_pos (by omega)) (br_f (nI_ge hr (by omega)) K)
theorem fl_xhc0 (h : x < 0 ∨ nI R ≤ x) (K : post 0) : wpX_hasCell post (f_rowCap, f_cellCap, f_tokenCap, nI R, f_tokenCount, f_status, f_resultIsSeq, f_height, f_blocks, f_level, a_rowLen, a_data, a_kinds, a_args, a_recKind, a_recLen, a_rec, a_typeSeq, a_blockKind, a_blockBase, a_blockSeq, a_laneCount, a_owner, a_parent, a_elem, a_place, a_off, a_cut, a_lens, a_cells) x y := by
  unfold wpX_hasCell
  dsimp only
  exact fl_xhr0 h (br_t rfl K)
theorem fl_xhc1 {r : Nat} (hr : r < R) (hR : R ≤ 4) (hn : a_rowLen r = nI n) (h : y < 0 ∨ nI n ≤ y) (K : post 0) : wpX_hasCell post (f_rowCap, f_cellCap, f_tokenCap, nI R, f_tokenCount, f_status, f_resultIsSeq, f_height, f_blocks, f_level, a_rowLen, a_data, a_kinds, a_args, a_recKind, a_recLen, a_rec, a_typeSeq, a_blockKind, a_blockBase, a_blockSeq, a_laneCount, a_owner, a_parent, a_elem, a_place, a_off, a_cut, a_lens, a_cells) (nI r) y := by
  unfold wpX_hasCell
  dsimp only
  refine fl_xhr1 hr hR (br_f (by decide) ?_)
  by_cases w : y < 0
  · exact br_t w K
  · rcases h with h | h
    · exact absurd h w
    · refine br_f w ?_
      rw [nI_clamp (by omega), hn]
      exact ⟨vp_in_nI (by omega) (by decide), br_t h K⟩
theorem fl_xhc2 {r i : Nat} (hr : r < R) (hR : R ≤ 4) (hn : a_rowLen r = nI n) (hn4 : n ≤ 4) (h : i < n) (K : post 1) : wpX_hasCell post (f_rowCap, f_cellCap, f_tokenCap, nI R, f_tokenCount, f_status, f_resultIsSeq, f_height, f_blocks, f_level, a_rowLen, a_data, a_kinds, a_args, a_recKind, a_recLen, a_rec, a_typeSeq, a_blockKind, a_blockBase, a_blockSeq, a_laneCount, a_owner, a_parent, a_elem, a_place, a_off, a_cut, a_lens, a_cells) (nI r) (nI i) := by
  unfold wpX_hasCell
  dsimp only
  refine fl_xhr1 hr hR (br_f (by decide) (br_f (nI_pos (by omega)) ?_))
  rw [nI_clamp (by omega), hn]
  exact ⟨vp_in_nI (by omega) (by decide), br_f (nI_ge h (by omega)) K⟩
end SM2
section SM3
variable {g_rowCap g_cellCap g_tokenCap g_rows g_tokens g_height g_blocks g_status : Int32} {b_mem b_lens b_recKind b_kinds b_args b_at b_start b_types b_blockKind b_blockBase b_blockType : Nat → Int32} {R n : Nat} {post : Int32 → Prop} {x y : Int32}
theorem fl_yrl0 (h : x < 0 ∨ nI R ≤ x) (K : post (-1)) : wpY_rowLength post (g_rowCap, g_cellCap, g_tokenCap, nI R, g_tokens, g_height, g_blocks, g_status, b_mem, b_lens, b_recKind, b_kinds, b_args, b_at, b_start, b_types, b_blockKind, b_blockBase, b_blockType) x := by
  by_cases w : x < 0
  · exact br_t w K
  · rcases h with h | h
    · exact absurd h w
    · exact br_f w (br_f (Int32.not_lt.mpr h) K)
theorem fl_yrl1 {r : Nat} (hr : r < R) (hR : R ≤ 4) (K : post (b_lens r)) : wpY_rowLength post (g_rowCap, g_cellCap, g_tokenCap, nI R, g_tokens, g_height, g_blocks, g_status, b_mem, b_lens, b_recKind, b_kinds, b_args, b_at, b_start, b_types, b_blockKind, b_blockBase, b_blockType) (nI r) := by
  refine br_f (nI_pos (by omega)) (br_t (nI_lt hr (by omega)) ⟨vp_in_nI (by omega) (by decide), ?_⟩)
  rw [nI_clamp (by omega)]; exact K
theorem fl_ysz0 (h : x < 0 ∨ nI R ≤ x) (K : post (-1)) : wpY_size post (g_rowCap, g_cellCap, g_tokenCap, nI R, g_tokens, g_height, g_blocks, g_status, b_mem, b_lens, b_recKind, b_kinds, b_args, b_at, b_start, b_types, b_blockKind, b_blockBase, b_blockType) x := by
  by_cases w : x < 0
  · exact br_t w K
  · rcases h with h | h
    · exact absurd h w
    · exact br_f w (br_f (Int32.not_lt.mpr h) K)
theorem fl_ysz1 {r : Nat} (hr : r < R) (hR : R ≤ 4) (K : post (b_lens (12 + r))) : wpY_size post (g_rowCap, g_cellCap, g_tokenCap, nI R, g_tokens, g_height, g_blocks, g_status, b_mem, b_lens, b_recKind, b_kinds, b_args, b_at, b_start, b_types, b_blockKind, b_blockBase, b_blockType) (nI r) := by
  have e : (12 : Int32) + nI r = nI (12 + r) := nI_add 12 r
  refine br_f (nI_pos (by omega)) (br_t (nI_lt hr (by omega)) ?_)
  rw [e, nI_clamp (by omega)]
  exact ⟨vp_in_nI (by omega) (by decide), K⟩
end SM3
theorem fl_ix (x : Int32) {n : Nat} (hn : n < 2 ^ 31) : (x < 0 ∨ nI n ≤ x) ∨ ∃ j, j < n ∧ x = nI j := by
  rcases pk_ix x hn with h | h | h
  · exact Or.inl (Or.inl h)
  · exact Or.inl (Or.inr h)
  · exact Or.inr h
theorem fl_i4 (a b : Nat) : nI a * 4 + nI b = nI (a * 4 + b) := by rw [show (4 : Int32) = nI 4 from rfl, pk_mul, nI_add]
theorem fl_m1 {x : Int32} (h : ¬ x < 0) : ¬ x < -1 := fun w => h (Int32.lt_trans w (by decide))
theorem i_vc_newRow {k : Nat} {u : SX} {v : SY} (I : i_Rel k u v) (hk : k + 4 ≤ 2051) : wpX_newRow (fun r u' => wpY_newRow (fun r' v' => r' = r ∧ i_Rel (k + 4) u' v') v) u := by
  refine fl_el (Q := fun u v => wpX_newRow (fun r u' => wpY_newRow (fun r' v' => r' = r ∧ i_Rel (k + 4) u' v') v) u) I ?_
  intro rC cC tC R T f_status f_resultIsSeq f_height f_blocks f_level g_height g_blocks a_rowLen a_data a_kinds a_args a_recKind a_recLen a_rec a_typeSeq a_blockKind a_blockBase a_blockSeq a_laneCount a_owner a_parent a_elem a_place a_off a_cut a_lens a_cells b_mem b_lens b_recKind b_at b_start b_types b_blockKind b_blockBase b_blockType H
  have H0 := H
  obtain ⟨h1, h2, h3, h4, h5, h6, h7, h8, h9, h10, h11, h12⟩ := H
  by_cases w : R < rC
  · have eR : (nI R).toNatClampNeg = R := nI_clamp (by omega)
    refine br_t (nI_lt w (by omega)) ?_
    rw [eR, nI_1]
    refine ⟨vp_in_nI (by omega) (by decide), nm_e (nm_e (fl_xfg fun rk rl q => ?_))⟩
    show wpY_newRow _ _
    refine br_t (nI_lt w (by omega)) ?_
    rw [eR]
    refine ⟨vp_in_nI (by omega) (by decide), nm_e (fl_yfg fun yk ln q1 q2 => nm_r (nI_1 R) ⟨(nI_pred R).symm, fl_mk ⟨h1, h2, h3, by omega, h5, h6, fun j hj => ?_, h8, fun i hi => ?_, fun r hr => ⟨((q1 r hr).1.trans (q r hr).1.symm), 0, by decide, (q r hr).2, (q1 r hr).2, fun i h => absurd h (Nat.not_lt_zero _)⟩, h11, h12⟩⟩)⟩
    · rw [q2 j (by omega)]
      by_cases e : j = R
      · subst e; rw [fl_ups, fl_ups]
      · rw [upd, if_neg e, upd, if_neg e]; exact h7 j hj
    · by_cases e : i = R
      · subst e; exact ⟨0, by decide, fl_ups⟩
      · rw [upd, if_neg e]; exact h9 i (by omega)
  · have w' := nI_nlt (a := R) (b := rC) (by omega) (by omega)
    exact br_f w' (br_f w' ⟨rfl, fl_mk H0⟩)
theorem i_vc_addCell {k : Nat} {u : SX} {v : SY} (I : i_Rel k u v) (hk : k + 4 ≤ 2051) (v1 : Int32) : wpX_addCell (fun r u' => wpY_addCell (fun r' v' => r' = r ∧ i_Rel (k + 4) u' v') v v1) u v1 := by
  refine fl_el (Q := fun u v => wpX_addCell (fun r u' => wpY_addCell (fun r' v' => r' = r ∧ i_Rel (k + 4) u' v') v v1) u v1) I ?_
  intro rC cC tC R T f_status f_resultIsSeq f_height f_blocks f_level g_height g_blocks a_rowLen a_data a_kinds a_args a_recKind a_recLen a_rec a_typeSeq a_blockKind a_blockBase a_blockSeq a_laneCount a_owner a_parent a_elem a_place a_off a_cut a_lens a_cells b_mem b_lens b_recKind b_at b_start b_types b_blockKind b_blockBase b_blockType H
  have H0 := H
  obtain ⟨h1, h2, h3, h4, h5, h6, h7, h8, h9, h10, h11, h12⟩ := H
  cases R with
  | zero => exact br_t rfl (br_t rfl ⟨rfl, fl_mk H0⟩)
  | succ r =>
    obtain ⟨n, n4, en⟩ := h9 r (by omega)
    have en' : b_lens r = nI n := by rw [h7 r (by omega)]; exact en
    have e1 : nI (r + 1) - 1 = nI r := nI_pred r
    have er : (nI r).toNatClampNeg = r := nI_clamp (by omega)
    have hne : ¬ nI (r + 1) = 0 := nI_ne0 (by omega) (by omega)
    unfold wpX_addCell
    dsimp only
    rw [e1]
    refine br_f hne (nm_e ?_)
    rw [er, en]
    refine ⟨vp_in_nI (by omega) (by decide), nm_e ?_⟩
    by_cases w : n < cC
    · refine br_t (nI_lt w (by omega)) ?_
      rw [fl_i4, nI_clamp (show r * 4 + n < 2 ^ 31 by omega), nI_1]
      refine ⟨vp_in_nI (by omega) (by decide), nm_e ⟨vp_in_nI (by omega) (by decide), nm_e (fl_xfg fun rk rl q => ?_)⟩⟩
      show wpY_addCell _ _ _
      unfold wpY_addCell
      dsimp only
      rw [e1, er, en', fl_i4, nI_clamp (show r * 4 + n < 2 ^ 31 by omega)]
      refine br_f hne ⟨vp_in_nI (by omega) (by decide), br_t (nI_lt w (by omega)) ⟨vp_in_nI (by omega) (by decide), vp_in_nI (by omega) (by decide), nm_e (fl_yfg fun yk ln q1 q2 => ?_)⟩⟩
      have en2 : ln r = nI n := by rw [q2 r (by omega)]; exact en'
      dsimp only
      rw [e1, er, en2, nI_1]
      refine ⟨vp_in_nI (by omega) (by decide), vp_in_nI (by omega) (by decide), nm_e ⟨rfl, fl_mk ⟨h1, h2, h3, h4, h5, h6, fun j hj => ?_, fun j hj => ?_, fun i hi => ?_, fun r' hr' => ⟨((q1 r' hr').1.trans (q r' hr').1.symm), 0, by decide, (q r' hr').2, ?_, fun i h => absurd h (Nat.not_lt_zero _)⟩, h11, h12⟩⟩⟩
      · by_cases e : j = r
        · subst e; rw [fl_ups, fl_ups]
        · rw [upd, if_neg e, upd, if_neg e, q2 j (by omega)]; exact h7 j hj
      · by_cases e : j = r * 4 + n
        · subst e; rw [fl_ups, fl_ups]
        · rw [upd, if_neg e, upd, if_neg e]; exact h8 j hj
      · by_cases e : i = r
        · subst e; exact ⟨n + 1, by omega, fl_ups⟩
        · rw [upd, if_neg e]; exact h9 i hi
      · rw [upd, if_neg (by omega)]; exact (q1 r' hr').2
    · have w' := nI_nlt (a := n) (b := cC) (by omega) (by omega)
      refine br_f w' ?_
      unfold wpY_addCell
      dsimp only
      rw [e1, er, en']
      exact br_f hne ⟨vp_in_nI (by omega) (by decide), br_f w' ⟨rfl, fl_mk H0⟩⟩
theorem i_vc_setCell {k : Nat} {u : SX} {v : SY} (I : i_Rel k u v) (hk : k + 4 ≤ 2051) (v1 : Int32) (v2 : Int32) (v3 : Int32) : wpX_setCell (fun r u' => wpY_setCell (fun r' v' => r' = r ∧ i_Rel (k + 4) u' v') v v1 v2 v3) u v1 v2 v3 := by
  refine fl_el (Q := fun u v => wpX_setCell (fun r u' => wpY_setCell (fun r' v' => r' = r ∧ i_Rel (k + 4) u' v') v v1 v2 v3) u v1 v2 v3) I ?_
  intro rC cC tC R T f_status f_resultIsSeq f_height f_blocks f_level g_height g_blocks a_rowLen a_data a_kinds a_args a_recKind a_recLen a_rec a_typeSeq a_blockKind a_blockBase a_blockSeq a_laneCount a_owner a_parent a_elem a_place a_off a_cut a_lens a_cells b_mem b_lens b_recKind b_at b_start b_types b_blockKind b_blockBase b_blockType H
  have H0 := H
  obtain ⟨h1, h2, h3, h4, h5, h6, h7, h8, h9, h10, h11, h12⟩ := H
  unfold wpX_setCell
  dsimp only
  rcases fl_ix v1 (show R < 2 ^ 31 by omega) with hb | ⟨r, hr, rfl⟩
  · refine fl_xhc0 hb (br_t rfl ?_)
    by_cases w : v2 < 0
    · exact br_t w ⟨rfl, fl_mk H0⟩
    · exact br_f w (fl_yrl0 hb (br_f (fl_m1 w) ⟨rfl, fl_mk H0⟩))
  · obtain ⟨n, n4, en⟩ := h9 r hr
    have en' : b_lens r = nI n := by rw [h7 r (by omega)]; exact en
    rcases fl_ix v2 (show n < 2 ^ 31 by omega) with hb | ⟨i, hi, rfl⟩
    · refine fl_xhc1 hr (by omega) en hb (br_t rfl ?_)
      by_cases w : v2 < 0
      · exact br_t w ⟨rfl, fl_mk H0⟩
      · refine br_f w (fl_yrl1 hr (by omega) ?_)
        rw [en']
        exact br_f (fun w2 => by
          rcases hb with hb | hb
          · exact w hb
          · exact Int32.lt_irrefl (Int32.lt_of_lt_of_le w2 hb)) ⟨rfl, fl_mk H0⟩
    · have ei : (nI (r * 4 + i)).toNatClampNeg = r * 4 + i := nI_clamp (by omega)
      refine fl_xhc2 hr (by omega) en n4 hi (br_f (by decide) ?_)
      rw [fl_i4, ei]
      refine ⟨vp_in_nI (by omega) (by decide), nm_e (fl_xfg fun rk rl q => ?_)⟩
      refine br_f (nI_pos (by omega)) (fl_yrl1 hr (by omega) ?_)
      rw [en', fl_i4, ei]
      refine br_t (nI_lt hi (by omega)) ⟨vp_in_nI (by omega) (by decide), nm_e (fl_yfg fun yk ln q1 q2 => ⟨rfl, fl_mk ⟨h1, h2, h3, h4, h5, h6, fun j hj => (q2 j (by omega)).trans (h7 j hj), fun j hj => ?_, h9, fun r' hr' => ⟨((q1 r' hr').1.trans (q r' hr').1.symm), 0, by decide, (q r' hr').2, (q1 r' hr').2, fun i h => absurd h (Nat.not_lt_zero _)⟩, h11, h12⟩⟩)⟩
      show upd b_mem (r * 4 + i) v3 j = upd a_data (r * 4 + i) v3 j
      by_cases e : j = r * 4 + i
      · subst e; rw [fl_ups, fl_ups]
      · rw [upd, if_neg e, upd, if_neg e]; exact h8 j hj
theorem i_vc_clear {k : Nat} {u : SX} {v : SY} (I : i_Rel k u v) (hk : k + 4 ≤ 2051) (v1 : Int32) : wpX_clear (fun r u' => wpY_clear (fun r' v' => r' = r ∧ i_Rel (k + 4) u' v') v v1) u v1 := by
  refine fl_el (Q := fun u v => wpX_clear (fun r u' => wpY_clear (fun r' v' => r' = r ∧ i_Rel (k + 4) u' v') v v1) u v1) I ?_
  intro rC cC tC R T f_status f_resultIsSeq f_height f_blocks f_level g_height g_blocks a_rowLen a_data a_kinds a_args a_recKind a_recLen a_rec a_typeSeq a_blockKind a_blockBase a_blockSeq a_laneCount a_owner a_parent a_elem a_place a_off a_cut a_lens a_cells b_mem b_lens b_recKind b_at b_start b_types b_blockKind b_blockBase b_blockType H
  have H0 := H
  obtain ⟨h1, h2, h3, h4, h5, h6, h7, h8, h9, h10, h11, h12⟩ := H
  have c0 : v1 = 0 → wX_clear_11 (fun r u' => wpY_clear (fun r' v' => r' = r ∧ i_Rel (k + 4) u' v') (nI rC, nI cC, nI tC, nI R, nI T, g_height, g_blocks, f_status, b_mem, b_lens, b_recKind, a_kinds, a_args, b_at, b_start, b_types, b_blockKind, b_blockBase, b_blockType) v1) v1 (nI rC) (nI cC) (nI tC) (nI R) (nI T) f_status f_resultIsSeq f_height f_blocks f_level a_rowLen a_data a_kinds a_args a_recKind a_recLen a_rec a_typeSeq a_blockKind a_blockBase a_blockSeq a_laneCount a_owner a_parent a_elem a_place a_off a_cut a_lens a_cells := fun w =>
    br_t w (fl_xfg fun rk rl q => br_t w (br_t w (fl_yfg fun yk ln q1 q2 => ⟨rfl, fl_mk (T := 0) ⟨h1, h2, h3, h4, Nat.zero_le _, fun p h => absurd h (Nat.not_lt_zero _), fun j hj => (q2 j (by omega)).trans (h7 j hj), h8, h9, fun r' hr' => ⟨((q1 r' hr').1.trans (q r' hr').1.symm), 0, by decide, (q r' hr').2, (q1 r' hr').2, fun i h => absurd h (Nat.not_lt_zero _)⟩, h11, fun w => absurd w (by decide)⟩⟩)))
  by_cases w0 : v1 = 0
  · exact br_t w0 (c0 w0)
  · by_cases w1 : v1 = 1
    · exact br_f w0 (br_t w1 (br_f w0 (fl_xfg fun rk rl q => br_f w0 (br_t w1 (br_f w0 (fl_yfg fun yk ln q1 q2 => ⟨rfl, fl_mk (R := 0) ⟨h1, h2, h3, Nat.zero_le _, h5, h6, fun j hj => (q2 j (by omega)).trans (h7 j hj), h8, fun i h => absurd h (Nat.not_lt_zero _), fun r' hr' => ⟨((q1 r' hr').1.trans (q r' hr').1.symm), 0, by decide, (q r' hr').2, (q1 r' hr').2, fun i h => absurd h (Nat.not_lt_zero _)⟩, h11, h12⟩⟩))))))
    · exact br_f w0 (br_f w1 (br_f w0 (br_f w1 ⟨rfl, fl_mk H0⟩)))
theorem i_vc_status {k : Nat} {u : SX} {v : SY} (I : i_Rel k u v) (hk : k + 4 ≤ 2051) : wpX_status (fun r => wpY_status (fun r' => r' = r ∧ i_Rel (k + 4) u v) v) u := by
  refine fl_el (Q := fun u v => wpX_status (fun r => wpY_status (fun r' => r' = r ∧ i_Rel (k + 4) u v) v) u) I ?_
  intro rC cC tC R T f_status f_resultIsSeq f_height f_blocks f_level g_height g_blocks a_rowLen a_data a_kinds a_args a_recKind a_recLen a_rec a_typeSeq a_blockKind a_blockBase a_blockSeq a_laneCount a_owner a_parent a_elem a_place a_off a_cut a_lens a_cells b_mem b_lens b_recKind b_at b_start b_types b_blockKind b_blockBase b_blockType H
  have H0 := H
  obtain ⟨h1, h2, h3, h4, h5, h6, h7, h8, h9, h10, h11, h12⟩ := H
  exact ⟨rfl, fl_mk H0⟩
theorem i_vc_tokenKind {k : Nat} {u : SX} {v : SY} (I : i_Rel k u v) (hk : k + 4 ≤ 2051) (v1 : Int32) : wpX_tokenKind (fun r => wpY_tokenKind (fun r' => r' = r ∧ i_Rel (k + 4) u v) v v1) u v1 := by
  refine fl_el (Q := fun u v => wpX_tokenKind (fun r => wpY_tokenKind (fun r' => r' = r ∧ i_Rel (k + 4) u v) v v1) u v1) I ?_
  intro rC cC tC R T f_status f_resultIsSeq f_height f_blocks f_level g_height g_blocks a_rowLen a_data a_kinds a_args a_recKind a_recLen a_rec a_typeSeq a_blockKind a_blockBase a_blockSeq a_laneCount a_owner a_parent a_elem a_place a_off a_cut a_lens a_cells b_mem b_lens b_recKind b_at b_start b_types b_blockKind b_blockBase b_blockType H
  have H0 := H
  obtain ⟨h1, h2, h3, h4, h5, h6, h7, h8, h9, h10, h11, h12⟩ := H
  rcases fl_ix v1 (show T < 2 ^ 31 by omega) with hb | ⟨p, hp, rfl⟩
  · by_cases w : v1 < 0
    · exact br_t w (br_t w ⟨rfl, fl_mk H0⟩)
    · rcases hb with hb | hb
      · exact absurd hb w
      · exact br_f w (br_t hb (br_f w (br_f (Int32.not_lt.mpr hb) ⟨rfl, fl_mk H0⟩)))
  · have v := vp_in_nI (show p < 40 by omega) (show 40 < 2 ^ 31 by decide)
    exact br_f (nI_pos (by omega)) (br_f (nI_ge hp (by omega)) ⟨v, br_f (nI_pos (by omega)) (br_t (nI_lt hp (by omega)) ⟨v, rfl, fl_mk H0⟩)⟩)
theorem i_vc_tokenArg {k : Nat} {u : SX} {v : SY} (I : i_Rel k u v) (hk : k + 4 ≤ 2051) (v1 : Int32) : wpX_tokenArg (fun r => wpY_tokenArg (fun r' => r' = r ∧ i_Rel (k + 4) u v) v v1) u v1 := by
  refine fl_el (Q := fun u v => wpX_tokenArg (fun r => wpY_tokenArg (fun r' => r' = r ∧ i_Rel (k + 4) u v) v v1) u v1) I ?_
  intro rC cC tC R T f_status f_resultIsSeq f_height f_blocks f_level g_height g_blocks a_rowLen a_data a_kinds a_args a_recKind a_recLen a_rec a_typeSeq a_blockKind a_blockBase a_blockSeq a_laneCount a_owner a_parent a_elem a_place a_off a_cut a_lens a_cells b_mem b_lens b_recKind b_at b_start b_types b_blockKind b_blockBase b_blockType H
  have H0 := H
  obtain ⟨h1, h2, h3, h4, h5, h6, h7, h8, h9, h10, h11, h12⟩ := H
  rcases fl_ix v1 (show T < 2 ^ 31 by omega) with hb | ⟨p, hp, rfl⟩
  · by_cases w : v1 < 0
    · exact br_t w (br_t w ⟨rfl, fl_mk H0⟩)
    · rcases hb with hb | hb
      · exact absurd hb w
      · exact br_f w (br_t hb (br_f w (br_f (Int32.not_lt.mpr hb) ⟨rfl, fl_mk H0⟩)))
  · have v := vp_in_nI (show p < 40 by omega) (show 40 < 2 ^ 31 by decide)
    exact br_f (nI_pos (by omega)) (br_f (nI_ge hp (by omega)) ⟨v, br_f (nI_pos (by omega)) (br_t (nI_lt hp (by omega)) ⟨v, rfl, fl_mk H0⟩)⟩)
theorem i_vc_rowLength {k : Nat} {u : SX} {v : SY} (I : i_Rel k u v) (hk : k + 4 ≤ 2051) (v1 : Int32) : wpX_rowLength (fun r => wpY_rowLength (fun r' => r' = r ∧ i_Rel (k + 4) u v) v v1) u v1 := by
  refine fl_el (Q := fun u v => wpX_rowLength (fun r => wpY_rowLength (fun r' => r' = r ∧ i_Rel (k + 4) u v) v v1) u v1) I ?_
  intro rC cC tC R T f_status f_resultIsSeq f_height f_blocks f_level g_height g_blocks a_rowLen a_data a_kinds a_args a_recKind a_recLen a_rec a_typeSeq a_blockKind a_blockBase a_blockSeq a_laneCount a_owner a_parent a_elem a_place a_off a_cut a_lens a_cells b_mem b_lens b_recKind b_at b_start b_types b_blockKind b_blockBase b_blockType H
  have H0 := H
  obtain ⟨h1, h2, h3, h4, h5, h6, h7, h8, h9, h10, h11, h12⟩ := H
  unfold wpX_rowLength
  dsimp only
  rcases fl_ix v1 (show R < 2 ^ 31 by omega) with hb | ⟨r, hr, rfl⟩
  · exact fl_xhr0 hb (br_t rfl (fl_yrl0 hb ⟨rfl, fl_mk H0⟩))
  · refine fl_xhr1 hr (by omega) (br_f (by decide) ?_)
    rw [nI_clamp (show r < 2 ^ 31 by omega)]
    exact ⟨vp_in_nI (by omega) (by decide), fl_yrl1 hr (by omega) ⟨h7 r (by omega), fl_mk H0⟩⟩
theorem i_vc_cell {k : Nat} {u : SX} {v : SY} (I : i_Rel k u v) (hk : k + 4 ≤ 2051) (v1 : Int32) (v2 : Int32) : wpX_cell (fun r => wpY_cell (fun r' => r' = r ∧ i_Rel (k + 4) u v) v v1 v2) u v1 v2 := by
  refine fl_el (Q := fun u v => wpX_cell (fun r => wpY_cell (fun r' => r' = r ∧ i_Rel (k + 4) u v) v v1 v2) u v1 v2) I ?_
  intro rC cC tC R T f_status f_resultIsSeq f_height f_blocks f_level g_height g_blocks a_rowLen a_data a_kinds a_args a_recKind a_recLen a_rec a_typeSeq a_blockKind a_blockBase a_blockSeq a_laneCount a_owner a_parent a_elem a_place a_off a_cut a_lens a_cells b_mem b_lens b_recKind b_at b_start b_types b_blockKind b_blockBase b_blockType H
  have H0 := H
  obtain ⟨h1, h2, h3, h4, h5, h6, h7, h8, h9, h10, h11, h12⟩ := H
  unfold wpX_cell
  dsimp only
  rcases fl_ix v1 (show R < 2 ^ 31 by omega) with hb | ⟨r, hr, rfl⟩
  · refine fl_xhc0 hb (br_t rfl ?_)
    by_cases w : v2 < 0
    · exact br_t w ⟨rfl, fl_mk H0⟩
    · exact br_f w (fl_yrl0 hb (br_f (fl_m1 w) ⟨rfl, fl_mk H0⟩))
  · obtain ⟨n, n4, en⟩ := h9 r hr
    have en' : b_lens r = nI n := by rw [h7 r (by omega)]; exact en
    rcases fl_ix v2 (show n < 2 ^ 31 by omega) with hb | ⟨i, hi, rfl⟩
    · refine fl_xhc1 hr (by omega) en hb (br_t rfl ?_)
      by_cases w : v2 < 0
      · exact br_t w ⟨rfl, fl_mk H0⟩
      · refine br_f w (fl_yrl1 hr (by omega) ?_)
        rw [en']
        exact br_f (fun w2 => by
          rcases hb with hb | hb
          · exact w hb
          · exact Int32.lt_irrefl (Int32.lt_of_lt_of_le w2 hb)) ⟨rfl, fl_mk H0⟩
    · have ei : (nI (r * 4 + i)).toNatClampNeg = r * 4 + i := nI_clamp (by omega)
      refine fl_xhc2 hr (by omega) en n4 hi (br_f (by decide) ?_)
      rw [fl_i4, ei]
      refine ⟨vp_in_nI (by omega) (by decide), br_f (nI_pos (by omega)) (fl_yrl1 hr (by omega) ?_)⟩
      rw [en', fl_i4, ei]
      exact br_t (nI_lt hi (by omega)) ⟨vp_in_nI (by omega) (by decide), h8 _ (by omega), fl_mk H0⟩
theorem i_vc_outcome {k : Nat} {u : SX} {v : SY} (I : i_Rel k u v) (hk : k + 4 ≤ 2051) (v1 : Int32) : wpX_outcome (fun r => wpY_outcome (fun r' => r' = r ∧ i_Rel (k + 4) u v) v v1) u v1 := by
  refine fl_el (Q := fun u v => wpX_outcome (fun r => wpY_outcome (fun r' => r' = r ∧ i_Rel (k + 4) u v) v v1) u v1) I ?_
  intro rC cC tC R T f_status f_resultIsSeq f_height f_blocks f_level g_height g_blocks a_rowLen a_data a_kinds a_args a_recKind a_recLen a_rec a_typeSeq a_blockKind a_blockBase a_blockSeq a_laneCount a_owner a_parent a_elem a_place a_off a_cut a_lens a_cells b_mem b_lens b_recKind b_at b_start b_types b_blockKind b_blockBase b_blockType H
  have H0 := H
  obtain ⟨h1, h2, h3, h4, h5, h6, h7, h8, h9, h10, h11, h12⟩ := H
  unfold wpX_outcome
  dsimp only
  rcases fl_ix v1 (show R < 2 ^ 31 by omega) with hb | ⟨r, hr, rfl⟩
  · refine fl_xhr0 hb (br_t rfl ?_)
    by_cases w : v1 < 0
    · exact br_t w ⟨rfl, fl_mk H0⟩
    · rcases hb with hb | hb
      · exact absurd hb w
      · exact br_f w (br_f (Int32.not_lt.mpr hb) ⟨rfl, fl_mk H0⟩)
  · refine fl_xhr1 hr (by omega) (br_f (by decide) ?_)
    rw [nI_clamp (show r < 2 ^ 31 by omega)]
    refine ⟨vp_in_nI (by omega) (by decide), br_f (nI_pos (by omega)) (br_t (nI_lt hr (by omega)) ⟨vp_in_nI (by omega) (by decide), ?_, fl_mk H0⟩)⟩
    rw [nI_clamp (show r < 2 ^ 31 by omega)]
    exact (h10 r (by omega)).1
theorem i_vc_size {k : Nat} {u : SX} {v : SY} (I : i_Rel k u v) (hk : k + 4 ≤ 2051) (v1 : Int32) : wpX_size (fun r => wpY_size (fun r' => r' = r ∧ i_Rel (k + 4) u v) v v1) u v1 := by
  refine fl_el (Q := fun u v => wpX_size (fun r => wpY_size (fun r' => r' = r ∧ i_Rel (k + 4) u v) v v1) u v1) I ?_
  intro rC cC tC R T f_status f_resultIsSeq f_height f_blocks f_level g_height g_blocks a_rowLen a_data a_kinds a_args a_recKind a_recLen a_rec a_typeSeq a_blockKind a_blockBase a_blockSeq a_laneCount a_owner a_parent a_elem a_place a_off a_cut a_lens a_cells b_mem b_lens b_recKind b_at b_start b_types b_blockKind b_blockBase b_blockType H
  have H0 := H
  obtain ⟨h1, h2, h3, h4, h5, h6, h7, h8, h9, h10, h11, h12⟩ := H
  unfold wpX_size
  dsimp only
  rcases fl_ix v1 (show R < 2 ^ 31 by omega) with hb | ⟨r, hr, rfl⟩
  · exact fl_xhr0 hb (br_t rfl (fl_ysz0 hb ⟨rfl, fl_mk H0⟩))
  · obtain ⟨q1, n, q2, q3, q4, q5⟩ := h10 r (by omega)
    refine fl_xhr1 hr (by omega) (br_f (by decide) ?_)
    rw [nI_clamp (show r < 2 ^ 31 by omega)]
    exact ⟨vp_in_nI (by omega) (by decide), fl_ysz1 hr (by omega) ⟨q4.trans q3.symm, fl_mk H0⟩⟩
theorem i_vc_value {k : Nat} {u : SX} {v : SY} (I : i_Rel k u v) (hk : k + 4 ≤ 2051) (v1 : Int32) (v2 : Int32) : wpX_value (fun r => wpY_value (fun r' => r' = r ∧ i_Rel (k + 4) u v) v v1 v2) u v1 v2 := by
  refine fl_el (Q := fun u v => wpX_value (fun r => wpY_value (fun r' => r' = r ∧ i_Rel (k + 4) u v) v v1 v2) u v1 v2) I ?_
  intro rC cC tC R T f_status f_resultIsSeq f_height f_blocks f_level g_height g_blocks a_rowLen a_data a_kinds a_args a_recKind a_recLen a_rec a_typeSeq a_blockKind a_blockBase a_blockSeq a_laneCount a_owner a_parent a_elem a_place a_off a_cut a_lens a_cells b_mem b_lens b_recKind b_at b_start b_types b_blockKind b_blockBase b_blockType H
  have H0 := H
  obtain ⟨h1, h2, h3, h4, h5, h6, h7, h8, h9, h10, h11, h12⟩ := H
  unfold wpX_value
  dsimp only
  rcases fl_ix v1 (show R < 2 ^ 31 by omega) with hb | ⟨r, hr, rfl⟩
  · refine fl_xhr0 hb (br_t rfl ?_)
    by_cases w : v2 < 0
    · exact br_t w ⟨rfl, fl_mk H0⟩
    · exact br_f w (fl_ysz0 hb (br_f (fl_m1 w) ⟨rfl, fl_mk H0⟩))
  · obtain ⟨q1, n, q2, q3, q4, q5⟩ := h10 r (by omega)
    have er : (nI r).toNatClampNeg = r := nI_clamp (by omega)
    refine fl_xhr1 hr (by omega) (br_f (by decide) ?_)
    by_cases w : v2 < 0
    · exact br_t w (br_t w ⟨rfl, fl_mk H0⟩)
    refine br_f w ?_
    rw [er, q3]
    refine ⟨vp_in_nI (by omega) (by decide), ?_⟩
    rcases fl_ix v2 (show n < 2 ^ 31 by omega) with hb | ⟨i, hi, rfl⟩
    · have w2 : ¬ v2 < nI n := fun w2 => by
        rcases hb with hb | hb
        · exact w hb
        · exact Int32.lt_irrefl (Int32.lt_of_lt_of_le w2 hb)
      refine br_f w2 (br_f w (fl_ysz1 hr (by omega) ?_))
      rw [q4]
      exact br_f w2 ⟨rfl, fl_mk H0⟩
    · have w2 := nI_lt hi (show n < 2 ^ 31 by omega)
      have e12 : (12 : Int32) + nI r = nI (12 + r) := nI_add 12 r
      refine br_t w2 ?_
      rw [fl_i4, nI_clamp (show r * 4 + i < 2 ^ 31 by omega)]
      refine ⟨vp_in_nI (by omega) (by decide), br_f w (fl_ysz1 hr (by omega) ?_)⟩
      rw [q4, e12, fl_i4, nI_clamp (show (12 + r) * 4 + i < 2 ^ 31 by omega)]
      exact br_t w2 ⟨vp_in_nI (by omega) (by decide), q5 i hi, fl_mk H0⟩
end
section
/-! compile and the runs -/
theorem fl_cR_lt {kd ag : Nat → Int32} : ∀ n p, fl_cR kd ag n p ≤ 448 + p + n
  | 0, p => by
    rw [fl_cR]
    split
    · omega
    · unfold fl_fin
      split
      · omega
      · split
        · omega
        · split <;> omega
  | n + 1, p => by
    rw [fl_cR]
    split
    · rename_i e he; have := fl_ck_e he; omega
    · have := fl_cR_lt (kd := kd) (ag := ag) n (p + 1); omega
theorem i_vc_compile {k : Nat} {u : SX} {v : SY} (I : i_Rel k u v) (hk : k + 4 ≤ 2051) : wpX_compile (fun r u' => wpY_compile (fun r' v' => r' = r ∧ i_Rel (k + 4) u' v') v) u := by
  refine fl_el (Q := fun u v => wpX_compile (fun r u' => wpY_compile (fun r' v' => r' = r ∧ i_Rel (k + 4) u' v') v) u) I ?_
  intro rC cC tC R T f_status f_resultIsSeq f_height f_blocks f_level g_height g_blocks a_rowLen a_data a_kinds a_args a_recKind a_recLen a_rec a_typeSeq a_blockKind a_blockBase a_blockSeq a_laneCount a_owner a_parent a_elem a_place a_off a_cut a_lens a_cells b_mem b_lens b_recKind b_at b_start b_types b_blockKind b_blockBase b_blockType H
  have H0 := H
  obtain ⟨h1, h2, h3, h4, h5, h6, h7, h8, h9, h10, h11, h12⟩ := H
  unfold wpX_compile
  dsimp only
  refine fl_xfg fun rk rl q => ⟨T + 1, ?_⟩
  refine fl_xcomp (T := T) (by omega) h6 T 0 (by omega) ⟨rfl, rfl, rfl, Nat.zero_le _, Nat.zero_le _, Nat.zero_le _, trivial, trivial, h11⟩ (fun rs h' b' l' ts' bk' bb' bq' h01 hrs _ => ?_)
  unfold wpY_compile
  dsimp only
  refine fl_yfg fun yk ln q1 q2 => ⟨T + 2, ?_⟩
  refine fl_ycomp (T := T) (by omega) h6 T 0 (by omega) ⟨rfl, rfl, Nat.zero_le _, Nat.zero_le _, Nat.zero_le _, trivial, trivial⟩ (fun h2' b2' ty2 bk2 bb2 bt2 hty => ⟨rfl, fl_mk ⟨h1, h2, h3, h4, h5, h6, fun j hj => (q2 j (by omega)).trans (h7 j hj), h8, h9, fun r' hr' => ⟨((q1 r' hr').1.trans (q r' hr').1.symm), 0, by decide, (q r' hr').2, (q1 r' hr').2, fun i h => absurd h (Nat.not_lt_zero _)⟩, h01, fun w => ?_⟩⟩)
  have hlt := fl_cR_lt (kd := a_kinds) (ag := a_args) T 0
  have w0 : fl_cR a_kinds a_args T 0 = 0 := (nI_eq (by omega) (by decide)).mp w
  exact ⟨fl_cR_G h6 w0, fun t et => ⟨hrs w0 t et, hty w0 t et⟩⟩
theorem fl_RE_w {rC cC tC R T : Nat} {stat rs : Int32} {rl dt kd ag rk rn rc ts me ln yk ty rk' rn' rc' me' ln' yk' : Nat → Int32} (S : Nat → Prop) (H : fl_RE rC cC tC R T stat rs rl dt kd ag rk rn rc ts me ln yk ty)
    (hS : ∀ r, r < 4 → S r → ∃ o, fl_RC o (rk' r) (rn' r) (fun i => rc' (r * 4 + i)) ∧ fl_RC o (yk' r) (ln' (12 + r)) (fun i => me' ((12 + r) * 4 + i)))
    (hN : ∀ r, r < 4 → ¬ S r → (rk' r = rk r ∧ rn' r = rn r ∧ ∀ i, i < 4 → rc' (r * 4 + i) = rc (r * 4 + i)) ∧ yk' r = yk r ∧ ln' (12 + r) = ln (12 + r) ∧ ∀ i, i < 4 → me' ((12 + r) * 4 + i) = me ((12 + r) * 4 + i))
    (hrow : ∀ t, t < 4 → ln' t = ln t ∧ ∀ i, i < 4 → me' (t * 4 + i) = me (t * 4 + i)) : fl_RE rC cC tC R T stat rs rl dt kd ag rk' rn' rc' ts me' ln' yk' ty := by
  obtain ⟨h1, h2, h3, h4, h5, h6, h7, h8, h9, h10, h11, h12⟩ := H
  refine ⟨h1, h2, h3, h4, h5, h6, fun j hj => (hrow j hj).1.trans (h7 j hj), fun j hj => ?_, h9, fun r hr => ?_, h11, h12⟩
  · have := (hrow (j / 4) (by omega)).2 (j % 4) (by omega)
    rw [show j / 4 * 4 + j % 4 = j by omega] at this
    exact this.trans (h8 j hj)
  · by_cases s : S r
    · obtain ⟨o, o1, o2⟩ := hS r hr s
      obtain ⟨e1, e2, n, e3, e4, e5⟩ := fl_RC_2 o2 o1
      exact ⟨e1, n, e3, by rw [← e2]; exact e4, e4, e5⟩
    · obtain ⟨⟨u1, u2, u3⟩, u4, u5, u6⟩ := hN r hr s
      obtain ⟨e1, n, e2, e3, e4, e5⟩ := h10 r hr
      exact ⟨by rw [u1, u4]; exact e1, n, e2, by rw [u2]; exact e3, by rw [u5]; exact e4, fun i hi => by rw [u6 i (by omega), u3 i (by omega)]; exact e5 i hi⟩
theorem fl_YR_of {R : Nat} {rl dt me ln : Nat → Int32} (hR : R ≤ 4) (h7 : ∀ j, j < 4 → ln j = rl j) (h8 : ∀ j, j < 16 → me j = dt j) (h9 : fl_RL R rl) : fl_YR R (fl_rw rl dt) me ln := by
  intro i hi
  obtain ⟨l1, l2⟩ := fl_RL_l (dt := dt) h9 hi
  refine ⟨(h7 i (by omega)).trans l1, l2, fun j hj => ?_⟩
  rw [fl_rw_get, h8 _ (by omega)]
def fl_ko : fl_F ⊕ fl_V → Int32
  | .inl _ => 3
  | .inr (.inl _) => 1
  | .inr (.inr _) => 2
theorem fl_RC_k {o : fl_F ⊕ fl_V} {k l : Int32} {c : Nat → Int32} (h : fl_RC o k l c) : k = fl_ko o := by
  rcases o with f | x | xs
  · exact h.1
  · exact h.1
  · exact h.1
def fl_cn (f : Nat → Int32) : Nat → Int32
  | 0 => 0
  | n + 1 => if f n = 3 then fl_cn f n + 1 else fl_cn f n
section RNX
variable {f_rowCap f_cellCap f_tokenCap f_rowCount f_tokenCount f_status f_resultIsSeq f_height f_blocks f_level : Int32} {a_rowLen a_data a_kinds a_args a_recKind a_recLen a_rec a_typeSeq a_blockKind a_blockBase a_blockSeq a_laneCount a_owner a_parent a_elem a_place a_off a_cut a_lens a_cells : Nat → Int32} {post : Int32 → SX → Prop} {R : Nat}
theorem fl_xra {f : Nat → Int32} (hR : R ≤ 4) (hf : ∀ r, r < R → a_recKind r = f r) (Kp : post (fl_cn f R) (f_rowCap, f_cellCap, f_tokenCap, nI R, f_tokenCount, f_status, f_resultIsSeq, f_height, f_blocks, f_level, a_rowLen, a_data, a_kinds, a_args, a_recKind, a_recLen, a_rec, a_typeSeq, a_blockKind, a_blockBase, a_blockSeq, a_laneCount, a_owner, a_parent, a_elem, a_place, a_off, a_cut, a_lens, a_cells)) : ∀ d i, i + d = R → wX_runAll_23 post f_rowCap f_cellCap f_tokenCap (nI R) f_tokenCount f_status f_resultIsSeq f_height f_blocks f_level a_rowLen a_data a_kinds a_args a_recKind a_recLen a_rec a_typeSeq a_blockKind a_blockBase a_blockSeq a_laneCount a_owner a_parent a_elem a_place a_off a_cut a_lens a_cells (d + 1) (fl_cn f i) (nI i) := by
  intro d
  induction d with
  | zero =>
    intro i hi
    have : i = R := by omega
    subst this
    exact br_t (nI_le (Nat.le_refl _) (by omega)) Kp
  | succ d ih =>
    intro i hi
    have k := ih (i + 1) (by omega)
    rw [fl_cn] at k
    unfold wX_runAll_23
    rw [nI_clamp (show i < 2 ^ 31 by omega), hf i (by omega)]
    refine br_f (nI_ge (by omega) (by omega)) ⟨vp_in_nI (by omega) (by decide), br_c (fun w => ?_) fun w => ?_⟩
    · rw [if_pos w] at k
      exact nm_e (nm_r (nI_1 i) k)
    · rw [if_neg w] at k
      exact nm_r (nI_1 i) k
end RNX
section RNY
variable {g_rowCap g_cellCap g_tokenCap g_rows g_tokens g_height g_blocks g_status : Int32} {b_mem b_lens b_recKind b_kinds b_args b_at b_start b_types b_blockKind b_blockBase b_blockType : Nat → Int32} {post : Int32 → SY → Prop} {R T : Nat}
theorem fl_yra {rw : Nat → List Int32} (G : fl_Gd b_kinds b_args T) (hT : T ≤ 40) (hR : R ≤ 4) (hW : fl_YR R rw b_mem b_lens) (hty : ∀ t, fl_csf b_kinds b_args T = ([t], []) → b_types 0 = fl_tI t)
    (Kp : ∀ yk me ln aa sa, (∀ r, r < R → fl_RC (fl_EV b_kinds b_args T R rw r 0 [] []) (yk r) (ln (12 + r)) (fun i => me ((12 + r) * 4 + i))) → (∀ r, r < 4 → ¬ r < R → yk r = b_recKind r ∧ ln (12 + r) = b_lens (12 + r) ∧ ∀ i, i < 4 → me ((12 + r) * 4 + i) = b_mem ((12 + r) * 4 + i)) → (∀ t, t < 4 → ln t = b_lens t ∧ ∀ i, i < 4 → me (t * 4 + i) = b_mem (t * 4 + i)) → post (fl_cn (fun r => fl_ko (fl_EV b_kinds b_args T R rw r 0 [] [])) R) (g_rowCap, g_cellCap, g_tokenCap, nI R, nI T, g_height, g_blocks, g_status, me, ln, yk, b_kinds, b_args, aa, sa, b_types, b_blockKind, b_blockBase, b_blockType)) :
    ∀ d i yk me ln aa sa, i + d = R → (∀ r, r < i → fl_RC (fl_EV b_kinds b_args T R rw r 0 [] []) (yk r) (ln (12 + r)) (fun i => me ((12 + r) * 4 + i))) → (∀ r, i ≤ r → r < 4 → yk r = b_recKind r ∧ ln (12 + r) = b_lens (12 + r) ∧ ∀ i, i < 4 → me ((12 + r) * 4 + i) = b_mem ((12 + r) * 4 + i)) → (∀ t, t < 4 → ln t = b_lens t ∧ ∀ i, i < 4 → me (t * 4 + i) = b_mem (t * 4 + i)) →
    wY_runAll_14 post (d + 1) (fl_cn (fun r => fl_ko (fl_EV b_kinds b_args T R rw r 0 [] [])) i) (nI i) g_rowCap g_cellCap g_tokenCap (nI R) (nI T) g_height g_blocks g_status me ln yk b_kinds b_args aa sa b_types b_blockKind b_blockBase b_blockType := by
  intro d
  induction d with
  | zero =>
    intro i yk me ln aa sa hi g1 g2 g3
    have : i = R := by omega
    subst this
    exact br_t (nI_le (Nat.le_refl _) (by omega)) (Kp yk me ln aa sa g1 (fun r hr hn => g2 r (by omega) hr) g3)
  | succ d ih =>
    intro i yk me ln aa sa hi g1 g2 g3
    have hW' : fl_YR R rw me ln := by
      intro r hr
      obtain ⟨w1, w2, w3⟩ := hW r hr
      obtain ⟨z1, z2⟩ := g3 r (by omega)
      exact ⟨z1.trans w1, w2, fun j hj => (z2 j (by omega)).trans (w3 j hj)⟩
    refine br_f (nI_ge (by omega) (by omega)) (fl_ywork (rw := rw) G hT (by omega) hR hW' hty fun yk' me' ln' aa' sa' k1 k2 k3 => ?_)
    have kk := fl_RC_k k3
    have k := ih (i + 1) yk' me' ln' aa' sa' (by omega) (fun r hr => ?_) (fun r hr hr4 => ?_) (fun t ht => ?_)
    · rw [fl_cn] at k
      show vp_in (nI i) 4 ∧ _
      rw [nI_clamp (show i < 2 ^ 31 by omega), kk]
      refine ⟨vp_in_nI (by omega) (by decide), br_c (fun w => ?_) fun w => ?_⟩
      · rw [if_pos w] at k
        exact nm_e (nm_r (nI_1 i) k)
      · rw [if_neg w] at k
        exact nm_r (nI_1 i) k
    · by_cases e : r = i
      · subst e; exact k3
      · have hRC := g1 r (by omega)
        obtain ⟨z1, z2⟩ := k2 (12 + r) (by omega)
        rw [k1 r e, z1]
        generalize fl_EV b_kinds b_args T R rw r 0 [] [] = o at hRC ⊢
        rcases o with f | x | xs
        · obtain ⟨y1, y2, y3, y4⟩ := hRC
          exact ⟨y1, y2, (z2 0 (by decide)).trans y3, (z2 1 (by decide)).trans y4⟩
        · obtain ⟨y1, y2, y3⟩ := hRC
          exact ⟨y1, y2, (z2 0 (by decide)).trans y3⟩
        · obtain ⟨y1, y2, y3, y4⟩ := hRC
          exact ⟨y1, y2, y3, fun j hj => (z2 j (by omega)).trans (y4 j hj)⟩
    · obtain ⟨u1, u2, u3⟩ := g2 r (by omega) hr4
      obtain ⟨z1, z2⟩ := k2 (12 + r) (by omega)
      exact ⟨(k1 r (by omega)).trans u1, z1.trans u2, fun j hj => (z2 j hj).trans (u3 j hj)⟩
    · obtain ⟨u1, u2⟩ := g3 t ht
      obtain ⟨z1, z2⟩ := k2 t (by omega)
      exact ⟨z1.trans u1, fun j hj => (z2 j hj).trans (u2 j hj)⟩
end RNY
theorem i_vc_runOne {k : Nat} {u : SX} {v : SY} (I : i_Rel k u v) (hk : k + 4 ≤ 2051) (v1 : Int32) : wpX_runOne (fun r u' => wpY_runOne (fun r' v' => r' = r ∧ i_Rel (k + 4) u' v') v v1) u v1 := by
  refine fl_el (Q := fun u v => wpX_runOne (fun r u' => wpY_runOne (fun r' v' => r' = r ∧ i_Rel (k + 4) u' v') v v1) u v1) I ?_
  intro rC cC tC R T f_status f_resultIsSeq f_height f_blocks f_level g_height g_blocks a_rowLen a_data a_kinds a_args a_recKind a_recLen a_rec a_typeSeq a_blockKind a_blockBase a_blockSeq a_laneCount a_owner a_parent a_elem a_place a_off a_cut a_lens a_cells b_mem b_lens b_recKind b_at b_start b_types b_blockKind b_blockBase b_blockType H
  have H0 := H
  obtain ⟨h1, h2, h3, h4, h5, h6, h7, h8, h9, h10, h11, h12⟩ := H
  unfold wpX_runOne
  dsimp only
  by_cases hs : f_status = 0
  · refine br_t hs ?_
    obtain ⟨G, hg⟩ := h12 hs
    obtain ⟨t, et⟩ := G.2.2
    obtain ⟨hrs, hty⟩ := hg t et
    rcases fl_ix v1 (show R < 2 ^ 31 by omega) with hb | ⟨r, hr, rfl⟩
    · refine fl_xhr0 hb (br_t rfl ?_)
      refine br_t hs ?_
      by_cases w : v1 < 0
      · exact br_t w ⟨rfl, fl_mk H0⟩
      · rcases hb with hb | hb
        · exact absurd hb w
        · exact br_f w (br_f (Int32.not_lt.mpr hb) ⟨rfl, fl_mk H0⟩)
    · have er : (nI r).toNatClampNeg = r := nI_clamp (by omega)
      have vr : vp_in (nI r) 4 := vp_in_nI (by omega) (by decide)
      refine fl_xhr1 hr (by omega) (br_f (by decide) (fl_xwork (fs := r) (n0 := 1) (R := R) (T := T) G (by omega) (by omega) h9 et hrs (by omega) fun h b v lc ow pa el pl of ct ln ce rk rl rc k1 k2 => ?_))
      show vp_in (nI r) 4 ∧ _
      dsimp only
      rw [er]
      refine ⟨vr, br_t hs (br_f (nI_pos (by omega)) (br_t (nI_lt hr (by omega)) (fl_ywork (rw := fl_rw a_rowLen a_data) G (by omega) hr (by omega) (fl_YR_of (by omega) h7 h8 h9) (fun t' et' => (hg t' et').2) fun yk me yl aa sa q1 q2 q3 => ?_)))⟩
      have k1 := k1 0 (by decide)
      rw [Nat.add_zero] at k1
      show vp_in (nI r) 4 ∧ _
      dsimp only
      rw [er]
      refine ⟨vr, (fl_RC_2 q3 k1).1, fl_mk (fl_RE_w (fun x => x = r) H0 (fun x hx e => ?_) (fun x hx e => ⟨k2 x hx (fun l hl w => e (by omega)), ?_⟩) (fun t ht => q2 t (Or.inl ht)))⟩
      · subst e
        exact ⟨_, k1, q3⟩
      · obtain ⟨z1, z2⟩ := q2 (12 + x) (Or.inr ⟨by omega, by omega⟩)
        exact ⟨q1 x e, z1, z2⟩
  · exact br_f hs (br_f hs ⟨rfl, fl_mk H0⟩)
theorem i_vc_runAll {k : Nat} {u : SX} {v : SY} (I : i_Rel k u v) (hk : k + 4 ≤ 2051) : wpX_runAll (fun r u' => wpY_runAll (fun r' v' => r' = r ∧ i_Rel (k + 4) u' v') v) u := by
  refine fl_el (Q := fun u v => wpX_runAll (fun r u' => wpY_runAll (fun r' v' => r' = r ∧ i_Rel (k + 4) u' v') v) u) I ?_
  intro rC cC tC R T f_status f_resultIsSeq f_height f_blocks f_level g_height g_blocks a_rowLen a_data a_kinds a_args a_recKind a_recLen a_rec a_typeSeq a_blockKind a_blockBase a_blockSeq a_laneCount a_owner a_parent a_elem a_place a_off a_cut a_lens a_cells b_mem b_lens b_recKind b_at b_start b_types b_blockKind b_blockBase b_blockType H
  have H0 := H
  obtain ⟨h1, h2, h3, h4, h5, h6, h7, h8, h9, h10, h11, h12⟩ := H
  unfold wpX_runAll
  dsimp only
  by_cases hs : f_status = 0
  · refine br_t hs ?_
    obtain ⟨G, hg⟩ := h12 hs
    obtain ⟨t, et⟩ := G.2.2
    obtain ⟨hrs, hty⟩ := hg t et
    refine fl_xwork (fs := 0) (n0 := R) (R := R) (T := T) G (by omega) (by omega) h9 et hrs (by omega) fun h b v lc ow pa el pl of ct ln ce rk rl rc k1 k2 => ?_
    have k1' : ∀ r, r < R → fl_RC (fl_EV a_kinds a_args T R (fl_rw a_rowLen a_data) r 0 [] []) (rk r) (rl r) (fun i => rc (r * 4 + i)) := fun r hr => by
      have := k1 r hr
      rw [Nat.zero_add] at this
      exact this
    refine ⟨R + 1, fl_xra (f := fun r => fl_ko (fl_EV a_kinds a_args T R (fl_rw a_rowLen a_data) r 0 [] [])) (by omega) (fun r hr => fl_RC_k (k1' r hr)) ?_ R 0 (by omega)⟩
    refine br_t hs ⟨R + 1, fl_yra (rw := fl_rw a_rowLen a_data) G (by omega) (by omega) (fl_YR_of (by omega) h7 h8 h9) (fun t' et' => (hg t' et').2) (fun yk me yl aa sa q1 q2 q3 => ⟨rfl, fl_mk (fl_RE_w (fun x => x < R) H0 (fun x hx e => ⟨_, k1' x e, q1 x e⟩) (fun x hx e => ⟨k2 x hx (fun l hl w => e (by omega)), q2 x hx e⟩) q3)⟩) R 0 b_recKind b_mem b_lens b_at b_start (by omega) (fun r h => absurd h (Nat.not_lt_zero _)) (fun r _ _ => ⟨rfl, rfl, fun _ _ => rfl⟩) (fun t _ => ⟨rfl, fun _ _ => rfl⟩)⟩
  · exact br_f hs (br_f hs ⟨rfl, fl_mk H0⟩)
end
