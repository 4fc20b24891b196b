section
/-! pure rows to paste: stores, nI and lN arithmetic, masks, shifts, narrowing, branches by naturals (pk_le, pk_lt, pk_eq), loops (lp1 .. lp16: the measure of the state; rp1 ..: recursion), negatives. Take what you need -/
theorem pk_us {f : Nat → Int32} {k : Nat} {x : Int32} : upd f k x k = x := if_pos rfl
theorem pk_un {f : Nat → Int32} {k j : Nat} {x : Int32} (h : j ≠ k) : upd f k x j = f j := if_neg h
theorem pk_uLs {f : Nat → Int64} {k : Nat} {x : Int64} : vp_updL f k x k = x := if_pos rfl
theorem pk_uLn {f : Nat → Int64} {k j : Nat} {x : Int64} (h : j ≠ k) : vp_updL f k x j = f j := if_neg h
theorem pk_sub {a b : Nat} (h : b ≤ a) : nI a - nI b = nI (a - b) := by
  obtain ⟨c, rfl⟩ : ∃ c, a = c + b := ⟨a - b, by omega⟩
  rw [← nI_add, Int32.add_sub_cancel, Nat.add_sub_cancel]
theorem pk_m1 (n : Nat) : nI (n + 1) + (-1) = nI n := by
  rw [← nI_1, Int32.add_assoc, show (1 : Int32) + (-1) = 0 from rfl, Int32.add_zero]
theorem pk_mul (a b : Nat) : nI a * nI b = nI (a * b) := (Int32.ofNat_mul a b).symm
theorem pk_div {a d : Nat} (ha : a < 2 ^ 31) (h0 : 0 < d) (hd : d < 2 ^ 31) : nI a / nI d = nI (a / d) := by
  apply Int32.toInt_inj.mp
  rw [lg_idiv_nonneg (by rw [nI_toInt ha]; omega) (by rw [nI_toInt hd]; omega), nI_toInt ha, nI_toInt hd, nI_toInt (Nat.lt_of_le_of_lt (Nat.div_le_self a d) ha)]
  first | rfl | exact (Int.natCast_ediv _ _).symm
theorem pk_rem {a d : Nat} (ha : a < 2 ^ 31) (h0 : 0 < d) (hd : d < 2 ^ 31) : nI a - nI a / nI d * nI d = nI (a % d) := by
  rw [pk_div ha h0 hd, pk_mul, pk_sub (Nat.div_mul_le_self a d)]
  exact congrArg nI (by have := Nat.div_add_mod' a d; omega)
theorem pk_sub_toInt {a b : Nat} (ha : a < 2 ^ 30) (hb : b < 2 ^ 30) : (nI a - nI b).toInt = (a : Int) - b := by
  rw [Int32.toInt_sub, nI_toInt (by omega), nI_toInt (by omega)]
  exact Int.bmod_eq_of_le (by omega) (by omega)
theorem pk_sneg {a b : Nat} (hb : b < 2 ^ 30) (h : a < b) : nI a - nI b < 0 := by
  rw [Int32.lt_iff_toInt_lt, pk_sub_toInt (by omega) hb, show (0 : Int32).toInt = 0 from by decide]
  omega
theorem pk_ix (x : Int32) {n : Nat} (hn : n < 2 ^ 31) : x < 0 ∨ nI n ≤ x ∨ ∃ j : Nat, j < n ∧ x = nI j := by
  by_cases h : x < 0
  · exact Or.inl h
  · obtain ⟨j, hj, rfl⟩ := nI_of h
    by_cases h2 : j < n
    · exact Or.inr (Or.inr ⟨j, h2, rfl⟩)
    · exact Or.inr (Or.inl (nI_le (by omega) hj))
theorem pk_le {x y : Int32} {A B : Prop} (a b : Nat) (f : a ≤ b → A) (g : b < a → B) (hx : x = nI a := by rfl) (hy : y = nI b := by rfl) (ha : a < 2 ^ 31 := by omega) (hb : b < 2 ^ 31 := by omega) : (x ≤ y → A) ∧ (¬ x ≤ y → B) := by
  subst hx hy
  rw [nI_leI ha hb]
  exact ⟨f, fun z => g (by omega)⟩
theorem pk_lt {x y : Int32} {A B : Prop} (a b : Nat) (f : a < b → A) (g : b ≤ a → B) (hx : x = nI a := by rfl) (hy : y = nI b := by rfl) (ha : a < 2 ^ 31 := by omega) (hb : b < 2 ^ 31 := by omega) : (x < y → A) ∧ (¬ x < y → B) := by
  subst hx hy
  rw [nI_ltI ha hb]
  exact ⟨f, fun z => g (by omega)⟩
theorem pk_eq {x y : Int32} {A B : Prop} (a b : Nat) (f : a = b → A) (g : a ≠ b → B) (hx : x = nI a := by rfl) (hy : y = nI b := by rfl) (ha : a < 2 ^ 31 := by omega) (hb : b < 2 ^ 31 := by omega) : (x = y → A) ∧ (¬ x = y → B) := by
  subst hx hy
  rw [nI_eq ha hb]
  exact ⟨f, g⟩
theorem pk_in {x : Int32} (n N : Nat) (h : n < N) (hx : x = nI n := by rfl) (hN : N < 2 ^ 31 := by omega) : vp_in x N := by
  subst hx
  exact vp_in_nI h hN
theorem pk_cl {x : Int32} (n : Nat) (hx : x = nI n := by rfl) (h : n < 2 ^ 31 := by omega) : x.toNatClampNeg = n := by
  subst hx
  exact nI_clamp h
theorem pk_tn {n : Nat} (h : n < 2 ^ 32) : (nI n).toBitVec.toNat = n := Nat.mod_eq_of_lt h
theorem pk_and (x : Int32) {m : Int32} (k : Nat) (hm : m.toBitVec.toNat = 2 ^ k - 1) : x &&& m = nI (x.toBitVec.toNat % 2 ^ k) := by
  apply Int32.toBitVec_inj.mp
  apply BitVec.eq_of_toNat_eq
  rw [Int32.toBitVec_and, BitVec.toNat_and, hm, Nat.and_two_pow_sub_one_eq_mod]
  show _ = (BitVec.ofNat 32 _).toNat
  rw [BitVec.toNat_ofNat]
  exact (Nat.mod_eq_of_lt (Nat.lt_of_le_of_lt (Nat.mod_le _ _) x.toBitVec.isLt)).symm
theorem pk_andN {n : Nat} (h : n < 2 ^ 32) {m : Int32} (k : Nat) (hm : m.toBitVec.toNat = 2 ^ k - 1) : nI n &&& m = nI (n % 2 ^ k) := by
  rw [pk_and _ k hm, pk_tn h]
theorem pk_andE (x : Int32) {m : Int32} (k : Nat) (hm : m.toBitVec.toNat = 2 ^ k - 1) : ∃ j : Nat, j < 2 ^ k ∧ x &&& m = nI j := ⟨_, Nat.mod_lt _ (Nat.two_pow_pos k), pk_and x k hm⟩
theorem pk_andIn (x : Int32) {m : Int32} (k : Nat) (hm : m.toBitVec.toNat = 2 ^ k - 1) (hk : k ≤ 30) : vp_in (x &&& m) (2 ^ k) := by
  obtain ⟨j, hj, e⟩ := pk_andE x k hm
  rw [e]
  exact vp_in_nI hj (Nat.lt_of_le_of_lt (Nat.pow_le_pow_right (by decide) hk) (by decide))
theorem pk_shl (a s : Int32) (k : Nat) (hs : (s.toBitVec.smod 32).toNat = k) : (a <<< s).toBitVec.toNat = a.toBitVec.toNat * 2 ^ k % 2 ^ 32 := by
  show (a.toBitVec <<< (s.toBitVec.smod 32).toNat).toNat = _
  rw [hs, BitVec.toNat_shiftLeft, Nat.shiftLeft_eq]
theorem pk_shlN {n : Nat} (s : Int32) (k : Nat) (hs : (s.toBitVec.smod 32).toNat = k) (h : n * 2 ^ k < 2 ^ 32) : nI n <<< s = nI (n * 2 ^ k) := by
  apply Int32.toBitVec_inj.mp
  apply BitVec.eq_of_toNat_eq
  have hn : n < 2 ^ 32 := Nat.lt_of_le_of_lt (Nat.le_mul_of_pos_right n (Nat.two_pow_pos k)) h
  rw [pk_shl _ _ k hs, pk_tn hn, pk_tn h, Nat.mod_eq_of_lt h]
theorem pk_shr (a s : Int32) (k : Nat) (hs : (s.toBitVec.smod 32).toNat = k) : (a >>> s).toInt = a.toInt >>> k := by
  show (a.toBitVec.sshiftRight (s.toBitVec.smod 32).toNat).toInt = _
  rw [hs, BitVec.toInt_sshiftRight]
  rfl
theorem pk_shrN {n : Nat} (h : n < 2 ^ 31) (s : Int32) (k : Nat) (hs : (s.toBitVec.smod 32).toNat = k) : nI n >>> s = nI (n / 2 ^ k) := by
  apply Int32.toInt_inj.mp
  have h2 : n / 2 ^ k ≤ n := Nat.div_le_self _ _
  rw [pk_shr _ _ k hs, nI_toInt h, nI_toInt (by omega), Int.shiftRight_eq_div_pow]
  rfl
theorem pk_ushr (x s : Int32) (k : Nat) (hs : ((s.toUInt32 &&& Int32.toUInt32 31).toBitVec % 32).toNat = k) : (x.toUInt32 >>> (s.toUInt32 &&& Int32.toUInt32 31)).toInt32.toBitVec.toNat = x.toBitVec.toNat / 2 ^ k := by
  have e : (x.toUInt32 >>> (s.toUInt32 &&& Int32.toUInt32 31)).toInt32.toBitVec = x.toBitVec >>> k := by
    rw [← hs]
    exact UInt32.toBitVec_shiftRight _ _
  rw [e, BitVec.toNat_ushiftRight, Nat.shiftRight_eq_div_pow]
theorem pk_ushrN {n : Nat} (hn : n < 2 ^ 32) (s : Int32) (k : Nat) (hs : ((s.toUInt32 &&& Int32.toUInt32 31).toBitVec % 32).toNat = k) : ((nI n).toUInt32 >>> (s.toUInt32 &&& Int32.toUInt32 31)).toInt32 = nI (n / 2 ^ k) := by
  apply Int32.toBitVec_inj.mp
  apply BitVec.eq_of_toNat_eq
  rw [pk_ushr _ s k hs, pk_tn hn, pk_tn (Nat.lt_of_le_of_lt (Nat.div_le_self _ _) hn)]
theorem pk_nb (z : Int32) : narrow .byte (.int z.toInt8.toInt32) = .int z.toInt8.toInt32 := congrArg Value.int (by simp)
theorem pk_ns (z : Int32) : narrow .short (.int z.toInt16.toInt32) = .int z.toInt16.toInt32 := congrArg Value.int (by simp)
theorem pk_fb (r : Int32) : fits .byte (.int r.toInt8.toInt32) = true := by
  have ⟨a, b⟩ := lg_i2b_range r
  have h1 : (-128 : Int32).toInt = -128 := by decide
  have h2 : (127 : Int32).toInt = 127 := by decide
  simp only [fits, Bool.and_eq_true, decide_eq_true_eq, Int32.le_iff_toInt_le, h1, h2]
  omega
theorem pk_fs (r : Int32) : fits .short (.int r.toInt16.toInt32) = true := by
  have ⟨a, b⟩ := lg_i2s_range r
  have h1 : (-32768 : Int32).toInt = -32768 := by decide
  have h2 : (32767 : Int32).toInt = 32767 := by decide
  simp only [fits, Bool.and_eq_true, decide_eq_true_eq, Int32.le_iff_toInt_le, h1, h2]
  omega
theorem pk_charN {q : Nat} (hq : q < 65536) : narrow .char (.int (nI q)) = .int (nI q) ∧ fits .char (.int (nI q)) = true := by
  constructor
  · have e : (nI q).toUInt32.toUInt16.toUInt32.toInt32 = nI q := by
      apply Int32.toBitVec_inj.mp
      apply BitVec.eq_of_toNat_eq
      show (nI q).toUInt32.toUInt16.toUInt32.toNat = q % 2 ^ 32
      rw [UInt16.toNat_toUInt32, UInt32.toNat_toUInt16, show (nI q).toUInt32.toNat = q % 2 ^ 32 from rfl]
      omega
    exact congrArg Value.int e
  · have a : (0 : Int32) ≤ nI q := nI_pos' (by omega)
    have b : nI q ≤ 65535 := nI_le (b := 65535) (by omega) (by decide)
    show (decide ((0 : Int32) ≤ nI q) && decide (nI q ≤ 65535)) = true
    rw [decide_eq_true a, decide_eq_true b]
    rfl
theorem pk_char (x : Int32) : (x.toUInt32 % 65536).toInt32 = nI (x.toBitVec.toNat % 65536) := by
  apply Int32.toBitVec_inj.mp
  apply BitVec.eq_of_toNat_eq
  rw [pk_tn (by omega)]
  show (x.toUInt32 % 65536).toNat = _
  rw [UInt32.toNat_mod]
  rfl
theorem pk_nc (x : Int32) : narrow .char (.int (x.toUInt32 % 65536).toInt32) = .int (x.toUInt32 % 65536).toInt32 := by
  rw [pk_char]
  exact (pk_charN (Nat.mod_lt _ (by decide))).1
theorem pk_fc (x : Int32) : fits .char (.int (x.toUInt32 % 65536).toInt32) = true := by
  rw [pk_char]
  exact (pk_charN (Nat.mod_lt _ (by decide))).2
theorem pk_vb (z : Int32) : vp_nar .byte z.toInt8.toInt32 = z.toInt8.toInt32 := by rw [vp_nar_byte]; simp
theorem pk_vs (z : Int32) : vp_nar .short z.toInt16.toInt32 = z.toInt16.toInt32 := by rw [vp_nar_short]; simp
theorem pk_vc (z : Int32) : vp_nar .char (z.toUInt32 % 65536).toInt32 = (z.toUInt32 % 65536).toInt32 := Value.int.inj (pk_nc z)
theorem pk_lT {n : Nat} (h : n < 2 ^ 63) : (lN n).toInt = (n : Int) := lg_ofNat_toInt h
theorem pk_lLT {a b : Nat} (ha : a < 2 ^ 63) (hb : b < 2 ^ 63) : lN a < lN b ↔ a < b := by
  rw [Int64.lt_iff_toInt_lt, pk_lT ha, pk_lT hb]; omega
theorem pk_lLE {a b : Nat} (ha : a < 2 ^ 63) (hb : b < 2 ^ 63) : lN a ≤ lN b ↔ a ≤ b := by
  rw [Int64.le_iff_toInt_le, pk_lT ha, pk_lT hb]; omega
theorem pk_lEQ {a b : Nat} (ha : a < 2 ^ 63) (hb : b < 2 ^ 63) : lN a = lN b ↔ a = b := by
  rw [← Int64.toInt_inj, pk_lT ha, pk_lT hb]; omega
theorem pk_lOf {x : Int64} (h : ¬ x < 0) : ∃ k : Nat, k < 2 ^ 63 ∧ x = lN k := by
  rw [Int64.lt_iff_toInt_lt] at h
  have h0 : (0 : Int64).toInt = 0 := by decide
  have hx := Int64.toInt_lt x
  refine ⟨x.toInt.toNat, by omega, Int64.toInt_inj.mp ?_⟩
  rw [pk_lT (by omega)]
  omega
theorem pk_lDiv {a b : Nat} (ha : a < 2 ^ 63) (h0 : 0 < b) (hb : b < 2 ^ 63) : lN a / lN b = lN (a / b) := by
  apply Int64.toInt_inj.mp
  rw [lg_ldiv_nonneg (by rw [pk_lT ha]; omega) (by rw [pk_lT hb]; omega), pk_lT ha, pk_lT hb, pk_lT (Nat.lt_of_le_of_lt (Nat.div_le_self a b) ha)]
  rfl
theorem pk_lRem {a b : Nat} (ha : a < 2 ^ 63) (h0 : 0 < b) (hb : b < 2 ^ 63) : lN a - lN a / lN b * lN b = lN (a % b) := by
  rw [pk_lDiv ha h0 hb, lN_mul, lN_sub (Nat.div_mul_le_self a b)]
  exact congrArg lN (by have := Nat.div_add_mod' a b; omega)
theorem pk_loop {σ : Type} (W : Nat → Nat → σ → Prop) (I : Nat → σ → Prop) (e i0 : Nat) (s : σ) (hi : i0 ≤ e) (h0 : I i0 s) (hx : ∀ n s, I e s → W (n + 1) e s)
    (hs : ∀ n i s, i < e → I i s → (∀ s', I (i + 1) s' → W n (i + 1) s') → W (n + 1) i s) : ∃ n, W n i0 s :=
  ⟨e + 1, loop_i W I e hx hs (e + 1) i0 s hi (by omega) h0⟩
theorem pk_loopD {σ : Type} (W : Nat → Nat → σ → Prop) (I : Nat → σ → Prop) (hx : ∀ n s, I 0 s → W (n + 1) 0 s)
    (hs : ∀ n i s, I (i + 1) s → (∀ s', I i s' → W n i s') → W (n + 1) (i + 1) s) : ∀ (e : Nat) (s : σ), I e s → W (e + 1) e s := by
  intro e
  induction e with
  | zero => exact fun s h => hx 0 s h
  | succ e ih => exact fun s h => hs (e + 1) e s h (fun s' h' => ih s' h')
theorem lp1 {A1 : Type} (W : Nat → A1 → Prop) (I : A1 → Prop) (μ : A1 → Nat) (hs : ∀ (n : Nat) (a1 : A1), I a1 → (∀ (b1 : A1), I b1 → μ b1 < μ a1 → W n b1) → W (n + 1) a1) (a1 : A1) (h : I a1) : ∃ n, W n a1 :=
  loop_m (σ := A1) (fun n s => W n s) (fun s => I s) (fun s => μ s) (fun n s hI hk => hs n s hI (fun b1 h9 hm => hk b1 h9 hm)) a1 h
theorem lp2 {A1 A2 : Type} (W : Nat → A1 → A2 → Prop) (I : A1 → A2 → Prop) (μ : A1 → A2 → Nat) (hs : ∀ (n : Nat) (a1 : A1) (a2 : A2), I a1 a2 → (∀ (b1 : A1) (b2 : A2), I b1 b2 → μ b1 b2 < μ a1 a2 → W n b1 b2) → W (n + 1) a1 a2) (a1 : A1) (a2 : A2) (h : I a1 a2) : ∃ n, W n a1 a2 :=
  loop_m (σ := A1 × A2) (fun n s => W n s.1 s.2) (fun s => I s.1 s.2) (fun s => μ s.1 s.2) (fun n s hI hk => hs n s.1 s.2 hI (fun b1 b2 h9 hm => hk (b1, b2) h9 hm)) (a1, a2) h
theorem lp3 {A1 A2 A3 : Type} (W : Nat → A1 → A2 → A3 → Prop) (I : A1 → A2 → A3 → Prop) (μ : A1 → A2 → A3 → Nat) (hs : ∀ (n : Nat) (a1 : A1) (a2 : A2) (a3 : A3), I a1 a2 a3 → (∀ (b1 : A1) (b2 : A2) (b3 : A3), I b1 b2 b3 → μ b1 b2 b3 < μ a1 a2 a3 → W n b1 b2 b3) → W (n + 1) a1 a2 a3) (a1 : A1) (a2 : A2) (a3 : A3) (h : I a1 a2 a3) : ∃ n, W n a1 a2 a3 :=
  loop_m (σ := A1 × A2 × A3) (fun n s => W n s.1 s.2.1 s.2.2) (fun s => I s.1 s.2.1 s.2.2) (fun s => μ s.1 s.2.1 s.2.2) (fun n s hI hk => hs n s.1 s.2.1 s.2.2 hI (fun b1 b2 b3 h9 hm => hk (b1, b2, b3) h9 hm)) (a1, a2, a3) h
theorem lp4 {A1 A2 A3 A4 : Type} (W : Nat → A1 → A2 → A3 → A4 → Prop) (I : A1 → A2 → A3 → A4 → Prop) (μ : A1 → A2 → A3 → A4 → Nat) (hs : ∀ (n : Nat) (a1 : A1) (a2 : A2) (a3 : A3) (a4 : A4), I a1 a2 a3 a4 → (∀ (b1 : A1) (b2 : A2) (b3 : A3) (b4 : A4), I b1 b2 b3 b4 → μ b1 b2 b3 b4 < μ a1 a2 a3 a4 → W n b1 b2 b3 b4) → W (n + 1) a1 a2 a3 a4) (a1 : A1) (a2 : A2) (a3 : A3) (a4 : A4) (h : I a1 a2 a3 a4) : ∃ n, W n a1 a2 a3 a4 :=
  loop_m (σ := A1 × A2 × A3 × A4) (fun n s => W n s.1 s.2.1 s.2.2.1 s.2.2.2) (fun s => I s.1 s.2.1 s.2.2.1 s.2.2.2) (fun s => μ s.1 s.2.1 s.2.2.1 s.2.2.2) (fun n s hI hk => hs n s.1 s.2.1 s.2.2.1 s.2.2.2 hI (fun b1 b2 b3 b4 h9 hm => hk (b1, b2, b3, b4) h9 hm)) (a1, a2, a3, a4) h
theorem lp5 {A1 A2 A3 A4 A5 : Type} (W : Nat → A1 → A2 → A3 → A4 → A5 → Prop) (I : A1 → A2 → A3 → A4 → A5 → Prop) (μ : A1 → A2 → A3 → A4 → A5 → Nat) (hs : ∀ (n : Nat) (a1 : A1) (a2 : A2) (a3 : A3) (a4 : A4) (a5 : A5), I a1 a2 a3 a4 a5 → (∀ (b1 : A1) (b2 : A2) (b3 : A3) (b4 : A4) (b5 : A5), I b1 b2 b3 b4 b5 → μ b1 b2 b3 b4 b5 < μ a1 a2 a3 a4 a5 → W n b1 b2 b3 b4 b5) → W (n + 1) a1 a2 a3 a4 a5) (a1 : A1) (a2 : A2) (a3 : A3) (a4 : A4) (a5 : A5) (h : I a1 a2 a3 a4 a5) : ∃ n, W n a1 a2 a3 a4 a5 :=
  loop_m (σ := A1 × A2 × A3 × A4 × A5) (fun n s => W n s.1 s.2.1 s.2.2.1 s.2.2.2.1 s.2.2.2.2) (fun s => I s.1 s.2.1 s.2.2.1 s.2.2.2.1 s.2.2.2.2) (fun s => μ s.1 s.2.1 s.2.2.1 s.2.2.2.1 s.2.2.2.2) (fun n s hI hk => hs n s.1 s.2.1 s.2.2.1 s.2.2.2.1 s.2.2.2.2 hI (fun b1 b2 b3 b4 b5 h9 hm => hk (b1, b2, b3, b4, b5) h9 hm)) (a1, a2, a3, a4, a5) h
theorem lp6 {A1 A2 A3 A4 A5 A6 : Type} (W : Nat → A1 → A2 → A3 → A4 → A5 → A6 → Prop) (I : A1 → A2 → A3 → A4 → A5 → A6 → Prop) (μ : A1 → A2 → A3 → A4 → A5 → A6 → Nat) (hs : ∀ (n : Nat) (a1 : A1) (a2 : A2) (a3 : A3) (a4 : A4) (a5 : A5) (a6 : A6), I a1 a2 a3 a4 a5 a6 → (∀ (b1 : A1) (b2 : A2) (b3 : A3) (b4 : A4) (b5 : A5) (b6 : A6), I b1 b2 b3 b4 b5 b6 → μ b1 b2 b3 b4 b5 b6 < μ a1 a2 a3 a4 a5 a6 → W n b1 b2 b3 b4 b5 b6) → W (n + 1) a1 a2 a3 a4 a5 a6) (a1 : A1) (a2 : A2) (a3 : A3) (a4 : A4) (a5 : A5) (a6 : A6) (h : I a1 a2 a3 a4 a5 a6) : ∃ n, W n a1 a2 a3 a4 a5 a6 :=
  loop_m (σ := A1 × A2 × A3 × A4 × A5 × A6) (fun n s => W n s.1 s.2.1 s.2.2.1 s.2.2.2.1 s.2.2.2.2.1 s.2.2.2.2.2) (fun s => I s.1 s.2.1 s.2.2.1 s.2.2.2.1 s.2.2.2.2.1 s.2.2.2.2.2) (fun s => μ s.1 s.2.1 s.2.2.1 s.2.2.2.1 s.2.2.2.2.1 s.2.2.2.2.2) (fun n s hI hk => hs n s.1 s.2.1 s.2.2.1 s.2.2.2.1 s.2.2.2.2.1 s.2.2.2.2.2 hI (fun b1 b2 b3 b4 b5 b6 h9 hm => hk (b1, b2, b3, b4, b5, b6) h9 hm)) (a1, a2, a3, a4, a5, a6) h
theorem lp7 {A1 A2 A3 A4 A5 A6 A7 : Type} (W : Nat → A1 → A2 → A3 → A4 → A5 → A6 → A7 → Prop) (I : A1 → A2 → A3 → A4 → A5 → A6 → A7 → Prop) (μ : A1 → A2 → A3 → A4 → A5 → A6 → A7 → Nat) (hs : ∀ (n : Nat) (a1 : A1) (a2 : A2) (a3 : A3) (a4 : A4) (a5 : A5) (a6 : A6) (a7 : A7), I a1 a2 a3 a4 a5 a6 a7 → (∀ (b1 : A1) (b2 : A2) (b3 : A3) (b4 : A4) (b5 : A5) (b6 : A6) (b7 : A7), I b1 b2 b3 b4 b5 b6 b7 → μ b1 b2 b3 b4 b5 b6 b7 < μ a1 a2 a3 a4 a5 a6 a7 → W n b1 b2 b3 b4 b5 b6 b7) → W (n + 1) a1 a2 a3 a4 a5 a6 a7) (a1 : A1) (a2 : A2) (a3 : A3) (a4 : A4) (a5 : A5) (a6 : A6) (a7 : A7) (h : I a1 a2 a3 a4 a5 a6 a7) : ∃ n, W n a1 a2 a3 a4 a5 a6 a7 :=
  loop_m (σ := A1 × A2 × A3 × A4 × A5 × A6 × A7) (fun n s => W n s.1 s.2.1 s.2.2.1 s.2.2.2.1 s.2.2.2.2.1 s.2.2.2.2.2.1 s.2.2.2.2.2.2) (fun s => I s.1 s.2.1 s.2.2.1 s.2.2.2.1 s.2.2.2.2.1 s.2.2.2.2.2.1 s.2.2.2.2.2.2) (fun s => μ s.1 s.2.1 s.2.2.1 s.2.2.2.1 s.2.2.2.2.1 s.2.2.2.2.2.1 s.2.2.2.2.2.2) (fun n s hI hk => hs n s.1 s.2.1 s.2.2.1 s.2.2.2.1 s.2.2.2.2.1 s.2.2.2.2.2.1 s.2.2.2.2.2.2 hI (fun b1 b2 b3 b4 b5 b6 b7 h9 hm => hk (b1, b2, b3, b4, b5, b6, b7) h9 hm)) (a1, a2, a3, a4, a5, a6, a7) h
theorem lp8 {A1 A2 A3 A4 A5 A6 A7 A8 : Type} (W : Nat → A1 → A2 → A3 → A4 → A5 → A6 → A7 → A8 → Prop) (I : A1 → A2 → A3 → A4 → A5 → A6 → A7 → A8 → Prop) (μ : A1 → A2 → A3 → A4 → A5 → A6 → A7 → A8 → Nat) (hs : ∀ (n : Nat) (a1 : A1) (a2 : A2) (a3 : A3) (a4 : A4) (a5 : A5) (a6 : A6) (a7 : A7) (a8 : A8), I a1 a2 a3 a4 a5 a6 a7 a8 → (∀ (b1 : A1) (b2 : A2) (b3 : A3) (b4 : A4) (b5 : A5) (b6 : A6) (b7 : A7) (b8 : A8), I b1 b2 b3 b4 b5 b6 b7 b8 → μ b1 b2 b3 b4 b5 b6 b7 b8 < μ a1 a2 a3 a4 a5 a6 a7 a8 → W n b1 b2 b3 b4 b5 b6 b7 b8) → W (n + 1) a1 a2 a3 a4 a5 a6 a7 a8) (a1 : A1) (a2 : A2) (a3 : A3) (a4 : A4) (a5 : A5) (a6 : A6) (a7 : A7) (a8 : A8) (h : I a1 a2 a3 a4 a5 a6 a7 a8) : ∃ n, W n a1 a2 a3 a4 a5 a6 a7 a8 :=
  loop_m (σ := A1 × A2 × A3 × A4 × A5 × A6 × A7 × A8) (fun n s => W n s.1 s.2.1 s.2.2.1 s.2.2.2.1 s.2.2.2.2.1 s.2.2.2.2.2.1 s.2.2.2.2.2.2.1 s.2.2.2.2.2.2.2) (fun s => I s.1 s.2.1 s.2.2.1 s.2.2.2.1 s.2.2.2.2.1 s.2.2.2.2.2.1 s.2.2.2.2.2.2.1 s.2.2.2.2.2.2.2) (fun s => μ s.1 s.2.1 s.2.2.1 s.2.2.2.1 s.2.2.2.2.1 s.2.2.2.2.2.1 s.2.2.2.2.2.2.1 s.2.2.2.2.2.2.2) (fun n s hI hk => hs n s.1 s.2.1 s.2.2.1 s.2.2.2.1 s.2.2.2.2.1 s.2.2.2.2.2.1 s.2.2.2.2.2.2.1 s.2.2.2.2.2.2.2 hI (fun b1 b2 b3 b4 b5 b6 b7 b8 h9 hm => hk (b1, b2, b3, b4, b5, b6, b7, b8) h9 hm)) (a1, a2, a3, a4, a5, a6, a7, a8) h
theorem lp9 {A1 A2 A3 A4 A5 A6 A7 A8 A9 : Type} (W : Nat → A1 → A2 → A3 → A4 → A5 → A6 → A7 → A8 → A9 → Prop) (I : A1 → A2 → A3 → A4 → A5 → A6 → A7 → A8 → A9 → Prop) (μ : A1 → A2 → A3 → A4 → A5 → A6 → A7 → A8 → A9 → Nat) (hs : ∀ (n : Nat) (a1 : A1) (a2 : A2) (a3 : A3) (a4 : A4) (a5 : A5) (a6 : A6) (a7 : A7) (a8 : A8) (a9 : A9), I a1 a2 a3 a4 a5 a6 a7 a8 a9 → (∀ (b1 : A1) (b2 : A2) (b3 : A3) (b4 : A4) (b5 : A5) (b6 : A6) (b7 : A7) (b8 : A8) (b9 : A9), I b1 b2 b3 b4 b5 b6 b7 b8 b9 → μ b1 b2 b3 b4 b5 b6 b7 b8 b9 < μ a1 a2 a3 a4 a5 a6 a7 a8 a9 → W n b1 b2 b3 b4 b5 b6 b7 b8 b9) → W (n + 1) a1 a2 a3 a4 a5 a6 a7 a8 a9) (a1 : A1) (a2 : A2) (a3 : A3) (a4 : A4) (a5 : A5) (a6 : A6) (a7 : A7) (a8 : A8) (a9 : A9) (h : I a1 a2 a3 a4 a5 a6 a7 a8 a9) : ∃ n, W n a1 a2 a3 a4 a5 a6 a7 a8 a9 :=
  loop_m (σ := A1 × A2 × A3 × A4 × A5 × A6 × A7 × A8 × A9) (fun n s => W n s.1 s.2.1 s.2.2.1 s.2.2.2.1 s.2.2.2.2.1 s.2.2.2.2.2.1 s.2.2.2.2.2.2.1 s.2.2.2.2.2.2.2.1 s.2.2.2.2.2.2.2.2) (fun s => I s.1 s.2.1 s.2.2.1 s.2.2.2.1 s.2.2.2.2.1 s.2.2.2.2.2.1 s.2.2.2.2.2.2.1 s.2.2.2.2.2.2.2.1 s.2.2.2.2.2.2.2.2) (fun s => μ s.1 s.2.1 s.2.2.1 s.2.2.2.1 s.2.2.2.2.1 s.2.2.2.2.2.1 s.2.2.2.2.2.2.1 s.2.2.2.2.2.2.2.1 s.2.2.2.2.2.2.2.2) (fun n s hI hk => hs n s.1 s.2.1 s.2.2.1 s.2.2.2.1 s.2.2.2.2.1 s.2.2.2.2.2.1 s.2.2.2.2.2.2.1 s.2.2.2.2.2.2.2.1 s.2.2.2.2.2.2.2.2 hI (fun b1 b2 b3 b4 b5 b6 b7 b8 b9 h9 hm => hk (b1, b2, b3, b4, b5, b6, b7, b8, b9) h9 hm)) (a1, a2, a3, a4, a5, a6, a7, a8, a9) h
theorem lp10 {A1 A2 A3 A4 A5 A6 A7 A8 A9 A10 : Type} (W : Nat → A1 → A2 → A3 → A4 → A5 → A6 → A7 → A8 → A9 → A10 → Prop) (I : A1 → A2 → A3 → A4 → A5 → A6 → A7 → A8 → A9 → A10 → Prop) (μ : A1 → A2 → A3 → A4 → A5 → A6 → A7 → A8 → A9 → A10 → Nat) (hs : ∀ (n : Nat) (a1 : A1) (a2 : A2) (a3 : A3) (a4 : A4) (a5 : A5) (a6 : A6) (a7 : A7) (a8 : A8) (a9 : A9) (a10 : A10), I a1 a2 a3 a4 a5 a6 a7 a8 a9 a10 → (∀ (b1 : A1) (b2 : A2) (b3 : A3) (b4 : A4) (b5 : A5) (b6 : A6) (b7 : A7) (b8 : A8) (b9 : A9) (b10 : A10), I b1 b2 b3 b4 b5 b6 b7 b8 b9 b10 → μ b1 b2 b3 b4 b5 b6 b7 b8 b9 b10 < μ a1 a2 a3 a4 a5 a6 a7 a8 a9 a10 → W n b1 b2 b3 b4 b5 b6 b7 b8 b9 b10) → W (n + 1) a1 a2 a3 a4 a5 a6 a7 a8 a9 a10) (a1 : A1) (a2 : A2) (a3 : A3) (a4 : A4) (a5 : A5) (a6 : A6) (a7 : A7) (a8 : A8) (a9 : A9) (a10 : A10) (h : I a1 a2 a3 a4 a5 a6 a7 a8 a9 a10) : ∃ n, W n a1 a2 a3 a4 a5 a6 a7 a8 a9 a10 :=
  loop_m (σ := A1 × A2 × A3 × A4 × A5 × A6 × A7 × A8 × A9 × A10) (fun n s => W n s.1 s.2.1 s.2.2.1 s.2.2.2.1 s.2.2.2.2.1 s.2.2.2.2.2.1 s.2.2.2.2.2.2.1 s.2.2.2.2.2.2.2.1 s.2.2.2.2.2.2.2.2.1 s.2.2.2.2.2.2.2.2.2) (fun s => I s.1 s.2.1 s.2.2.1 s.2.2.2.1 s.2.2.2.2.1 s.2.2.2.2.2.1 s.2.2.2.2.2.2.1 s.2.2.2.2.2.2.2.1 s.2.2.2.2.2.2.2.2.1 s.2.2.2.2.2.2.2.2.2) (fun s => μ s.1 s.2.1 s.2.2.1 s.2.2.2.1 s.2.2.2.2.1 s.2.2.2.2.2.1 s.2.2.2.2.2.2.1 s.2.2.2.2.2.2.2.1 s.2.2.2.2.2.2.2.2.1 s.2.2.2.2.2.2.2.2.2) (fun n s hI hk => hs n s.1 s.2.1 s.2.2.1 s.2.2.2.1 s.2.2.2.2.1 s.2.2.2.2.2.1 s.2.2.2.2.2.2.1 s.2.2.2.2.2.2.2.1 s.2.2.2.2.2.2.2.2.1 s.2.2.2.2.2.2.2.2.2 hI (fun b1 b2 b3 b4 b5 b6 b7 b8 b9 b10 h9 hm => hk (b1, b2, b3, b4, b5, b6, b7, b8, b9, b10) h9 hm)) (a1, a2, a3, a4, a5, a6, a7, a8, a9, a10) h
theorem lp11 {A1 A2 A3 A4 A5 A6 A7 A8 A9 A10 A11 : Type} (W : Nat → A1 → A2 → A3 → A4 → A5 → A6 → A7 → A8 → A9 → A10 → A11 → Prop) (I : A1 → A2 → A3 → A4 → A5 → A6 → A7 → A8 → A9 → A10 → A11 → Prop) (μ : A1 → A2 → A3 → A4 → A5 → A6 → A7 → A8 → A9 → A10 → A11 → Nat) (hs : ∀ (n : Nat) (a1 : A1) (a2 : A2) (a3 : A3) (a4 : A4) (a5 : A5) (a6 : A6) (a7 : A7) (a8 : A8) (a9 : A9) (a10 : A10) (a11 : A11), I a1 a2 a3 a4 a5 a6 a7 a8 a9 a10 a11 → (∀ (b1 : A1) (b2 : A2) (b3 : A3) (b4 : A4) (b5 : A5) (b6 : A6) (b7 : A7) (b8 : A8) (b9 : A9) (b10 : A10) (b11 : A11), I b1 b2 b3 b4 b5 b6 b7 b8 b9 b10 b11 → μ b1 b2 b3 b4 b5 b6 b7 b8 b9 b10 b11 < μ a1 a2 a3 a4 a5 a6 a7 a8 a9 a10 a11 → W n b1 b2 b3 b4 b5 b6 b7 b8 b9 b10 b11) → W (n + 1) a1 a2 a3 a4 a5 a6 a7 a8 a9 a10 a11) (a1 : A1) (a2 : A2) (a3 : A3) (a4 : A4) (a5 : A5) (a6 : A6) (a7 : A7) (a8 : A8) (a9 : A9) (a10 : A10) (a11 : A11) (h : I a1 a2 a3 a4 a5 a6 a7 a8 a9 a10 a11) : ∃ n, W n a1 a2 a3 a4 a5 a6 a7 a8 a9 a10 a11 :=
  loop_m (σ := A1 × A2 × A3 × A4 × A5 × A6 × A7 × A8 × A9 × A10 × A11) (fun n s => W n s.1 s.2.1 s.2.2.1 s.2.2.2.1 s.2.2.2.2.1 s.2.2.2.2.2.1 s.2.2.2.2.2.2.1 s.2.2.2.2.2.2.2.1 s.2.2.2.2.2.2.2.2.1 s.2.2.2.2.2.2.2.2.2.1 s.2.2.2.2.2.2.2.2.2.2) (fun s => I s.1 s.2.1 s.2.2.1 s.2.2.2.1 s.2.2.2.2.1 s.2.2.2.2.2.1 s.2.2.2.2.2.2.1 s.2.2.2.2.2.2.2.1 s.2.2.2.2.2.2.2.2.1 s.2.2.2.2.2.2.2.2.2.1 s.2.2.2.2.2.2.2.2.2.2) (fun s => μ s.1 s.2.1 s.2.2.1 s.2.2.2.1 s.2.2.2.2.1 s.2.2.2.2.2.1 s.2.2.2.2.2.2.1 s.2.2.2.2.2.2.2.1 s.2.2.2.2.2.2.2.2.1 s.2.2.2.2.2.2.2.2.2.1 s.2.2.2.2.2.2.2.2.2.2) (fun n s hI hk => hs n s.1 s.2.1 s.2.2.1 s.2.2.2.1 s.2.2.2.2.1 s.2.2.2.2.2.1 s.2.2.2.2.2.2.1 s.2.2.2.2.2.2.2.1 s.2.2.2.2.2.2.2.2.1 s.2.2.2.2.2.2.2.2.2.1 s.2.2.2.2.2.2.2.2.2.2 hI (fun b1 b2 b3 b4 b5 b6 b7 b8 b9 b10 b11 h9 hm => hk (b1, b2, b3, b4, b5, b6, b7, b8, b9, b10, b11) h9 hm)) (a1, a2, a3, a4, a5, a6, a7, a8, a9, a10, a11) h
theorem lp12 {A1 A2 A3 A4 A5 A6 A7 A8 A9 A10 A11 A12 : Type} (W : Nat → A1 → A2 → A3 → A4 → A5 → A6 → A7 → A8 → A9 → A10 → A11 → A12 → Prop) (I : A1 → A2 → A3 → A4 → A5 → A6 → A7 → A8 → A9 → A10 → A11 → A12 → Prop) (μ : A1 → A2 → A3 → A4 → A5 → A6 → A7 → A8 → A9 → A10 → A11 → A12 → Nat) (hs : ∀ (n : Nat) (a1 : A1) (a2 : A2) (a3 : A3) (a4 : A4) (a5 : A5) (a6 : A6) (a7 : A7) (a8 : A8) (a9 : A9) (a10 : A10) (a11 : A11) (a12 : A12), I a1 a2 a3 a4 a5 a6 a7 a8 a9 a10 a11 a12 → (∀ (b1 : A1) (b2 : A2) (b3 : A3) (b4 : A4) (b5 : A5) (b6 : A6) (b7 : A7) (b8 : A8) (b9 : A9) (b10 : A10) (b11 : A11) (b12 : A12), I b1 b2 b3 b4 b5 b6 b7 b8 b9 b10 b11 b12 → μ b1 b2 b3 b4 b5 b6 b7 b8 b9 b10 b11 b12 < μ a1 a2 a3 a4 a5 a6 a7 a8 a9 a10 a11 a12 → W n b1 b2 b3 b4 b5 b6 b7 b8 b9 b10 b11 b12) → W (n + 1) a1 a2 a3 a4 a5 a6 a7 a8 a9 a10 a11 a12) (a1 : A1) (a2 : A2) (a3 : A3) (a4 : A4) (a5 : A5) (a6 : A6) (a7 : A7) (a8 : A8) (a9 : A9) (a10 : A10) (a11 : A11) (a12 : A12) (h : I a1 a2 a3 a4 a5 a6 a7 a8 a9 a10 a11 a12) : ∃ n, W n a1 a2 a3 a4 a5 a6 a7 a8 a9 a10 a11 a12 :=
  loop_m (σ := A1 × A2 × A3 × A4 × A5 × A6 × A7 × A8 × A9 × A10 × A11 × A12) (fun n s => W n s.1 s.2.1 s.2.2.1 s.2.2.2.1 s.2.2.2.2.1 s.2.2.2.2.2.1 s.2.2.2.2.2.2.1 s.2.2.2.2.2.2.2.1 s.2.2.2.2.2.2.2.2.1 s.2.2.2.2.2.2.2.2.2.1 s.2.2.2.2.2.2.2.2.2.2.1 s.2.2.2.2.2.2.2.2.2.2.2) (fun s => I s.1 s.2.1 s.2.2.1 s.2.2.2.1 s.2.2.2.2.1 s.2.2.2.2.2.1 s.2.2.2.2.2.2.1 s.2.2.2.2.2.2.2.1 s.2.2.2.2.2.2.2.2.1 s.2.2.2.2.2.2.2.2.2.1 s.2.2.2.2.2.2.2.2.2.2.1 s.2.2.2.2.2.2.2.2.2.2.2) (fun s => μ s.1 s.2.1 s.2.2.1 s.2.2.2.1 s.2.2.2.2.1 s.2.2.2.2.2.1 s.2.2.2.2.2.2.1 s.2.2.2.2.2.2.2.1 s.2.2.2.2.2.2.2.2.1 s.2.2.2.2.2.2.2.2.2.1 s.2.2.2.2.2.2.2.2.2.2.1 s.2.2.2.2.2.2.2.2.2.2.2) (fun n s hI hk => hs n s.1 s.2.1 s.2.2.1 s.2.2.2.1 s.2.2.2.2.1 s.2.2.2.2.2.1 s.2.2.2.2.2.2.1 s.2.2.2.2.2.2.2.1 s.2.2.2.2.2.2.2.2.1 s.2.2.2.2.2.2.2.2.2.1 s.2.2.2.2.2.2.2.2.2.2.1 s.2.2.2.2.2.2.2.2.2.2.2 hI (fun b1 b2 b3 b4 b5 b6 b7 b8 b9 b10 b11 b12 h9 hm => hk (b1, b2, b3, b4, b5, b6, b7, b8, b9, b10, b11, b12) h9 hm)) (a1, a2, a3, a4, a5, a6, a7, a8, a9, a10, a11, a12) h
theorem lp13 {A1 A2 A3 A4 A5 A6 A7 A8 A9 A10 A11 A12 A13 : Type} (W : Nat → A1 → A2 → A3 → A4 → A5 → A6 → A7 → A8 → A9 → A10 → A11 → A12 → A13 → Prop) (I : A1 → A2 → A3 → A4 → A5 → A6 → A7 → A8 → A9 → A10 → A11 → A12 → A13 → Prop) (μ : A1 → A2 → A3 → A4 → A5 → A6 → A7 → A8 → A9 → A10 → A11 → A12 → A13 → Nat) (hs : ∀ (n : Nat) (a1 : A1) (a2 : A2) (a3 : A3) (a4 : A4) (a5 : A5) (a6 : A6) (a7 : A7) (a8 : A8) (a9 : A9) (a10 : A10) (a11 : A11) (a12 : A12) (a13 : A13), I a1 a2 a3 a4 a5 a6 a7 a8 a9 a10 a11 a12 a13 → (∀ (b1 : A1) (b2 : A2) (b3 : A3) (b4 : A4) (b5 : A5) (b6 : A6) (b7 : A7) (b8 : A8) (b9 : A9) (b10 : A10) (b11 : A11) (b12 : A12) (b13 : A13), I b1 b2 b3 b4 b5 b6 b7 b8 b9 b10 b11 b12 b13 → μ b1 b2 b3 b4 b5 b6 b7 b8 b9 b10 b11 b12 b13 < μ a1 a2 a3 a4 a5 a6 a7 a8 a9 a10 a11 a12 a13 → W n b1 b2 b3 b4 b5 b6 b7 b8 b9 b10 b11 b12 b13) → W (n + 1) a1 a2 a3 a4 a5 a6 a7 a8 a9 a10 a11 a12 a13) (a1 : A1) (a2 : A2) (a3 : A3) (a4 : A4) (a5 : A5) (a6 : A6) (a7 : A7) (a8 : A8) (a9 : A9) (a10 : A10) (a11 : A11) (a12 : A12) (a13 : A13) (h : I a1 a2 a3 a4 a5 a6 a7 a8 a9 a10 a11 a12 a13) : ∃ n, W n a1 a2 a3 a4 a5 a6 a7 a8 a9 a10 a11 a12 a13 :=
  loop_m (σ := A1 × A2 × A3 × A4 × A5 × A6 × A7 × A8 × A9 × A10 × A11 × A12 × A13) (fun n s => W n s.1 s.2.1 s.2.2.1 s.2.2.2.1 s.2.2.2.2.1 s.2.2.2.2.2.1 s.2.2.2.2.2.2.1 s.2.2.2.2.2.2.2.1 s.2.2.2.2.2.2.2.2.1 s.2.2.2.2.2.2.2.2.2.1 s.2.2.2.2.2.2.2.2.2.2.1 s.2.2.2.2.2.2.2.2.2.2.2.1 s.2.2.2.2.2.2.2.2.2.2.2.2) (fun s => I s.1 s.2.1 s.2.2.1 s.2.2.2.1 s.2.2.2.2.1 s.2.2.2.2.2.1 s.2.2.2.2.2.2.1 s.2.2.2.2.2.2.2.1 s.2.2.2.2.2.2.2.2.1 s.2.2.2.2.2.2.2.2.2.1 s.2.2.2.2.2.2.2.2.2.2.1 s.2.2.2.2.2.2.2.2.2.2.2.1 s.2.2.2.2.2.2.2.2.2.2.2.2) (fun s => μ s.1 s.2.1 s.2.2.1 s.2.2.2.1 s.2.2.2.2.1 s.2.2.2.2.2.1 s.2.2.2.2.2.2.1 s.2.2.2.2.2.2.2.1 s.2.2.2.2.2.2.2.2.1 s.2.2.2.2.2.2.2.2.2.1 s.2.2.2.2.2.2.2.2.2.2.1 s.2.2.2.2.2.2.2.2.2.2.2.1 s.2.2.2.2.2.2.2.2.2.2.2.2) (fun n s hI hk => hs n s.1 s.2.1 s.2.2.1 s.2.2.2.1 s.2.2.2.2.1 s.2.2.2.2.2.1 s.2.2.2.2.2.2.1 s.2.2.2.2.2.2.2.1 s.2.2.2.2.2.2.2.2.1 s.2.2.2.2.2.2.2.2.2.1 s.2.2.2.2.2.2.2.2.2.2.1 s.2.2.2.2.2.2.2.2.2.2.2.1 s.2.2.2.2.2.2.2.2.2.2.2.2 hI (fun b1 b2 b3 b4 b5 b6 b7 b8 b9 b10 b11 b12 b13 h9 hm => hk (b1, b2, b3, b4, b5, b6, b7, b8, b9, b10, b11, b12, b13) h9 hm)) (a1, a2, a3, a4, a5, a6, a7, a8, a9, a10, a11, a12, a13) h
theorem lp14 {A1 A2 A3 A4 A5 A6 A7 A8 A9 A10 A11 A12 A13 A14 : Type} (W : Nat → A1 → A2 → A3 → A4 → A5 → A6 → A7 → A8 → A9 → A10 → A11 → A12 → A13 → A14 → Prop) (I : A1 → A2 → A3 → A4 → A5 → A6 → A7 → A8 → A9 → A10 → A11 → A12 → A13 → A14 → Prop) (μ : A1 → A2 → A3 → A4 → A5 → A6 → A7 → A8 → A9 → A10 → A11 → A12 → A13 → A14 → Nat) (hs : ∀ (n : Nat) (a1 : A1) (a2 : A2) (a3 : A3) (a4 : A4) (a5 : A5) (a6 : A6) (a7 : A7) (a8 : A8) (a9 : A9) (a10 : A10) (a11 : A11) (a12 : A12) (a13 : A13) (a14 : A14), I a1 a2 a3 a4 a5 a6 a7 a8 a9 a10 a11 a12 a13 a14 → (∀ (b1 : A1) (b2 : A2) (b3 : A3) (b4 : A4) (b5 : A5) (b6 : A6) (b7 : A7) (b8 : A8) (b9 : A9) (b10 : A10) (b11 : A11) (b12 : A12) (b13 : A13) (b14 : A14), I b1 b2 b3 b4 b5 b6 b7 b8 b9 b10 b11 b12 b13 b14 → μ b1 b2 b3 b4 b5 b6 b7 b8 b9 b10 b11 b12 b13 b14 < μ a1 a2 a3 a4 a5 a6 a7 a8 a9 a10 a11 a12 a13 a14 → W n b1 b2 b3 b4 b5 b6 b7 b8 b9 b10 b11 b12 b13 b14) → W (n + 1) a1 a2 a3 a4 a5 a6 a7 a8 a9 a10 a11 a12 a13 a14) (a1 : A1) (a2 : A2) (a3 : A3) (a4 : A4) (a5 : A5) (a6 : A6) (a7 : A7) (a8 : A8) (a9 : A9) (a10 : A10) (a11 : A11) (a12 : A12) (a13 : A13) (a14 : A14) (h : I a1 a2 a3 a4 a5 a6 a7 a8 a9 a10 a11 a12 a13 a14) : ∃ n, W n a1 a2 a3 a4 a5 a6 a7 a8 a9 a10 a11 a12 a13 a14 :=
  loop_m (σ := A1 × A2 × A3 × A4 × A5 × A6 × A7 × A8 × A9 × A10 × A11 × A12 × A13 × A14) (fun n s => W n s.1 s.2.1 s.2.2.1 s.2.2.2.1 s.2.2.2.2.1 s.2.2.2.2.2.1 s.2.2.2.2.2.2.1 s.2.2.2.2.2.2.2.1 s.2.2.2.2.2.2.2.2.1 s.2.2.2.2.2.2.2.2.2.1 s.2.2.2.2.2.2.2.2.2.2.1 s.2.2.2.2.2.2.2.2.2.2.2.1 s.2.2.2.2.2.2.2.2.2.2.2.2.1 s.2.2.2.2.2.2.2.2.2.2.2.2.2) (fun s => I s.1 s.2.1 s.2.2.1 s.2.2.2.1 s.2.2.2.2.1 s.2.2.2.2.2.1 s.2.2.2.2.2.2.1 s.2.2.2.2.2.2.2.1 s.2.2.2.2.2.2.2.2.1 s.2.2.2.2.2.2.2.2.2.1 s.2.2.2.2.2.2.2.2.2.2.1 s.2.2.2.2.2.2.2.2.2.2.2.1 s.2.2.2.2.2.2.2.2.2.2.2.2.1 s.2.2.2.2.2.2.2.2.2.2.2.2.2) (fun s => μ s.1 s.2.1 s.2.2.1 s.2.2.2.1 s.2.2.2.2.1 s.2.2.2.2.2.1 s.2.2.2.2.2.2.1 s.2.2.2.2.2.2.2.1 s.2.2.2.2.2.2.2.2.1 s.2.2.2.2.2.2.2.2.2.1 s.2.2.2.2.2.2.2.2.2.2.1 s.2.2.2.2.2.2.2.2.2.2.2.1 s.2.2.2.2.2.2.2.2.2.2.2.2.1 s.2.2.2.2.2.2.2.2.2.2.2.2.2) (fun n s hI hk => hs n s.1 s.2.1 s.2.2.1 s.2.2.2.1 s.2.2.2.2.1 s.2.2.2.2.2.1 s.2.2.2.2.2.2.1 s.2.2.2.2.2.2.2.1 s.2.2.2.2.2.2.2.2.1 s.2.2.2.2.2.2.2.2.2.1 s.2.2.2.2.2.2.2.2.2.2.1 s.2.2.2.2.2.2.2.2.2.2.2.1 s.2.2.2.2.2.2.2.2.2.2.2.2.1 s.2.2.2.2.2.2.2.2.2.2.2.2.2 hI (fun b1 b2 b3 b4 b5 b6 b7 b8 b9 b10 b11 b12 b13 b14 h9 hm => hk (b1, b2, b3, b4, b5, b6, b7, b8, b9, b10, b11, b12, b13, b14) h9 hm)) (a1, a2, a3, a4, a5, a6, a7, a8, a9, a10, a11, a12, a13, a14) h
theorem lp15 {A1 A2 A3 A4 A5 A6 A7 A8 A9 A10 A11 A12 A13 A14 A15 : Type} (W : Nat → A1 → A2 → A3 → A4 → A5 → A6 → A7 → A8 → A9 → A10 → A11 → A12 → A13 → A14 → A15 → Prop) (I : A1 → A2 → A3 → A4 → A5 → A6 → A7 → A8 → A9 → A10 → A11 → A12 → A13 → A14 → A15 → Prop) (μ : A1 → A2 → A3 → A4 → A5 → A6 → A7 → A8 → A9 → A10 → A11 → A12 → A13 → A14 → A15 → Nat) (hs : ∀ (n : Nat) (a1 : A1) (a2 : A2) (a3 : A3) (a4 : A4) (a5 : A5) (a6 : A6) (a7 : A7) (a8 : A8) (a9 : A9) (a10 : A10) (a11 : A11) (a12 : A12) (a13 : A13) (a14 : A14) (a15 : A15), I a1 a2 a3 a4 a5 a6 a7 a8 a9 a10 a11 a12 a13 a14 a15 → (∀ (b1 : A1) (b2 : A2) (b3 : A3) (b4 : A4) (b5 : A5) (b6 : A6) (b7 : A7) (b8 : A8) (b9 : A9) (b10 : A10) (b11 : A11) (b12 : A12) (b13 : A13) (b14 : A14) (b15 : A15), I b1 b2 b3 b4 b5 b6 b7 b8 b9 b10 b11 b12 b13 b14 b15 → μ b1 b2 b3 b4 b5 b6 b7 b8 b9 b10 b11 b12 b13 b14 b15 < μ a1 a2 a3 a4 a5 a6 a7 a8 a9 a10 a11 a12 a13 a14 a15 → W n b1 b2 b3 b4 b5 b6 b7 b8 b9 b10 b11 b12 b13 b14 b15) → W (n + 1) a1 a2 a3 a4 a5 a6 a7 a8 a9 a10 a11 a12 a13 a14 a15) (a1 : A1) (a2 : A2) (a3 : A3) (a4 : A4) (a5 : A5) (a6 : A6) (a7 : A7) (a8 : A8) (a9 : A9) (a10 : A10) (a11 : A11) (a12 : A12) (a13 : A13) (a14 : A14) (a15 : A15) (h : I a1 a2 a3 a4 a5 a6 a7 a8 a9 a10 a11 a12 a13 a14 a15) : ∃ n, W n a1 a2 a3 a4 a5 a6 a7 a8 a9 a10 a11 a12 a13 a14 a15 :=
  loop_m (σ := A1 × A2 × A3 × A4 × A5 × A6 × A7 × A8 × A9 × A10 × A11 × A12 × A13 × A14 × A15) (fun n s => W n s.1 s.2.1 s.2.2.1 s.2.2.2.1 s.2.2.2.2.1 s.2.2.2.2.2.1 s.2.2.2.2.2.2.1 s.2.2.2.2.2.2.2.1 s.2.2.2.2.2.2.2.2.1 s.2.2.2.2.2.2.2.2.2.1 s.2.2.2.2.2.2.2.2.2.2.1 s.2.2.2.2.2.2.2.2.2.2.2.1 s.2.2.2.2.2.2.2.2.2.2.2.2.1 s.2.2.2.2.2.2.2.2.2.2.2.2.2.1 s.2.2.2.2.2.2.2.2.2.2.2.2.2.2) (fun s => I s.1 s.2.1 s.2.2.1 s.2.2.2.1 s.2.2.2.2.1 s.2.2.2.2.2.1 s.2.2.2.2.2.2.1 s.2.2.2.2.2.2.2.1 s.2.2.2.2.2.2.2.2.1 s.2.2.2.2.2.2.2.2.2.1 s.2.2.2.2.2.2.2.2.2.2.1 s.2.2.2.2.2.2.2.2.2.2.2.1 s.2.2.2.2.2.2.2.2.2.2.2.2.1 s.2.2.2.2.2.2.2.2.2.2.2.2.2.1 s.2.2.2.2.2.2.2.2.2.2.2.2.2.2) (fun s => μ s.1 s.2.1 s.2.2.1 s.2.2.2.1 s.2.2.2.2.1 s.2.2.2.2.2.1 s.2.2.2.2.2.2.1 s.2.2.2.2.2.2.2.1 s.2.2.2.2.2.2.2.2.1 s.2.2.2.2.2.2.2.2.2.1 s.2.2.2.2.2.2.2.2.2.2.1 s.2.2.2.2.2.2.2.2.2.2.2.1 s.2.2.2.2.2.2.2.2.2.2.2.2.1 s.2.2.2.2.2.2.2.2.2.2.2.2.2.1 s.2.2.2.2.2.2.2.2.2.2.2.2.2.2) (fun n s hI hk => hs n s.1 s.2.1 s.2.2.1 s.2.2.2.1 s.2.2.2.2.1 s.2.2.2.2.2.1 s.2.2.2.2.2.2.1 s.2.2.2.2.2.2.2.1 s.2.2.2.2.2.2.2.2.1 s.2.2.2.2.2.2.2.2.2.1 s.2.2.2.2.2.2.2.2.2.2.1 s.2.2.2.2.2.2.2.2.2.2.2.1 s.2.2.2.2.2.2.2.2.2.2.2.2.1 s.2.2.2.2.2.2.2.2.2.2.2.2.2.1 s.2.2.2.2.2.2.2.2.2.2.2.2.2.2 hI (fun b1 b2 b3 b4 b5 b6 b7 b8 b9 b10 b11 b12 b13 b14 b15 h9 hm => hk (b1, b2, b3, b4, b5, b6, b7, b8, b9, b10, b11, b12, b13, b14, b15) h9 hm)) (a1, a2, a3, a4, a5, a6, a7, a8, a9, a10, a11, a12, a13, a14, a15) h
theorem lp16 {A1 A2 A3 A4 A5 A6 A7 A8 A9 A10 A11 A12 A13 A14 A15 A16 : Type} (W : Nat → A1 → A2 → A3 → A4 → A5 → A6 → A7 → A8 → A9 → A10 → A11 → A12 → A13 → A14 → A15 → A16 → Prop) (I : A1 → A2 → A3 → A4 → A5 → A6 → A7 → A8 → A9 → A10 → A11 → A12 → A13 → A14 → A15 → A16 → Prop) (μ : A1 → A2 → A3 → A4 → A5 → A6 → A7 → A8 → A9 → A10 → A11 → A12 → A13 → A14 → A15 → A16 → Nat) (hs : ∀ (n : Nat) (a1 : A1) (a2 : A2) (a3 : A3) (a4 : A4) (a5 : A5) (a6 : A6) (a7 : A7) (a8 : A8) (a9 : A9) (a10 : A10) (a11 : A11) (a12 : A12) (a13 : A13) (a14 : A14) (a15 : A15) (a16 : A16), I a1 a2 a3 a4 a5 a6 a7 a8 a9 a10 a11 a12 a13 a14 a15 a16 → (∀ (b1 : A1) (b2 : A2) (b3 : A3) (b4 : A4) (b5 : A5) (b6 : A6) (b7 : A7) (b8 : A8) (b9 : A9) (b10 : A10) (b11 : A11) (b12 : A12) (b13 : A13) (b14 : A14) (b15 : A15) (b16 : A16), I b1 b2 b3 b4 b5 b6 b7 b8 b9 b10 b11 b12 b13 b14 b15 b16 → μ b1 b2 b3 b4 b5 b6 b7 b8 b9 b10 b11 b12 b13 b14 b15 b16 < μ a1 a2 a3 a4 a5 a6 a7 a8 a9 a10 a11 a12 a13 a14 a15 a16 → W n b1 b2 b3 b4 b5 b6 b7 b8 b9 b10 b11 b12 b13 b14 b15 b16) → W (n + 1) a1 a2 a3 a4 a5 a6 a7 a8 a9 a10 a11 a12 a13 a14 a15 a16) (a1 : A1) (a2 : A2) (a3 : A3) (a4 : A4) (a5 : A5) (a6 : A6) (a7 : A7) (a8 : A8) (a9 : A9) (a10 : A10) (a11 : A11) (a12 : A12) (a13 : A13) (a14 : A14) (a15 : A15) (a16 : A16) (h : I a1 a2 a3 a4 a5 a6 a7 a8 a9 a10 a11 a12 a13 a14 a15 a16) : ∃ n, W n a1 a2 a3 a4 a5 a6 a7 a8 a9 a10 a11 a12 a13 a14 a15 a16 :=
  loop_m (σ := A1 × A2 × A3 × A4 × A5 × A6 × A7 × A8 × A9 × A10 × A11 × A12 × A13 × A14 × A15 × A16) (fun n s => W n s.1 s.2.1 s.2.2.1 s.2.2.2.1 s.2.2.2.2.1 s.2.2.2.2.2.1 s.2.2.2.2.2.2.1 s.2.2.2.2.2.2.2.1 s.2.2.2.2.2.2.2.2.1 s.2.2.2.2.2.2.2.2.2.1 s.2.2.2.2.2.2.2.2.2.2.1 s.2.2.2.2.2.2.2.2.2.2.2.1 s.2.2.2.2.2.2.2.2.2.2.2.2.1 s.2.2.2.2.2.2.2.2.2.2.2.2.2.1 s.2.2.2.2.2.2.2.2.2.2.2.2.2.2.1 s.2.2.2.2.2.2.2.2.2.2.2.2.2.2.2) (fun s => I s.1 s.2.1 s.2.2.1 s.2.2.2.1 s.2.2.2.2.1 s.2.2.2.2.2.1 s.2.2.2.2.2.2.1 s.2.2.2.2.2.2.2.1 s.2.2.2.2.2.2.2.2.1 s.2.2.2.2.2.2.2.2.2.1 s.2.2.2.2.2.2.2.2.2.2.1 s.2.2.2.2.2.2.2.2.2.2.2.1 s.2.2.2.2.2.2.2.2.2.2.2.2.1 s.2.2.2.2.2.2.2.2.2.2.2.2.2.1 s.2.2.2.2.2.2.2.2.2.2.2.2.2.2.1 s.2.2.2.2.2.2.2.2.2.2.2.2.2.2.2) (fun s => μ s.1 s.2.1 s.2.2.1 s.2.2.2.1 s.2.2.2.2.1 s.2.2.2.2.2.1 s.2.2.2.2.2.2.1 s.2.2.2.2.2.2.2.1 s.2.2.2.2.2.2.2.2.1 s.2.2.2.2.2.2.2.2.2.1 s.2.2.2.2.2.2.2.2.2.2.1 s.2.2.2.2.2.2.2.2.2.2.2.1 s.2.2.2.2.2.2.2.2.2.2.2.2.1 s.2.2.2.2.2.2.2.2.2.2.2.2.2.1 s.2.2.2.2.2.2.2.2.2.2.2.2.2.2.1 s.2.2.2.2.2.2.2.2.2.2.2.2.2.2.2) (fun n s hI hk => hs n s.1 s.2.1 s.2.2.1 s.2.2.2.1 s.2.2.2.2.1 s.2.2.2.2.2.1 s.2.2.2.2.2.2.1 s.2.2.2.2.2.2.2.1 s.2.2.2.2.2.2.2.2.1 s.2.2.2.2.2.2.2.2.2.1 s.2.2.2.2.2.2.2.2.2.2.1 s.2.2.2.2.2.2.2.2.2.2.2.1 s.2.2.2.2.2.2.2.2.2.2.2.2.1 s.2.2.2.2.2.2.2.2.2.2.2.2.2.1 s.2.2.2.2.2.2.2.2.2.2.2.2.2.2.1 s.2.2.2.2.2.2.2.2.2.2.2.2.2.2.2 hI (fun b1 b2 b3 b4 b5 b6 b7 b8 b9 b10 b11 b12 b13 b14 b15 b16 h9 hm => hk (b1, b2, b3, b4, b5, b6, b7, b8, b9, b10, b11, b12, b13, b14, b15, b16) h9 hm)) (a1, a2, a3, a4, a5, a6, a7, a8, a9, a10, a11, a12, a13, a14, a15, a16) h
theorem pk_least (P : Nat → Prop) (h : ∃ k, P k) : ∃ k, P k ∧ ∀ j, j < k → ¬ P j := by
  obtain ⟨k, hk⟩ := h
  induction k using Nat.strongRecOn with
  | ind k ih =>
    by_cases e : ∃ j, j < k ∧ P j
    · obtain ⟨j, hj, pj⟩ := e
      exact ih j hj pj
    · exact ⟨k, hk, fun j hj pj => e ⟨j, hj, pj⟩⟩
theorem rp1 {ρ A1 : Type} (W : Nat → (ρ → Prop) → A1 → Prop) (ok : A1 → Prop) (μ : A1 → Nat) (val : A1 → ρ)
    (hs : ∀ (d : Nat) (post : ρ → Prop) (a1 : A1), ok a1 → post (val a1) → (∀ (post' : ρ → Prop) (b1 : A1), ok b1 → μ b1 < μ a1 → post' (val b1) → W d post' b1) → W (d + 1) post a1) :
    ∀ (d : Nat) (post : ρ → Prop) (a1 : A1), ok a1 → μ a1 < d → post (val a1) → W d post a1 := by
  intro d
  induction d with
  | zero => intro post a1 _ h; omega
  | succ d ih =>
    intro post a1 ho hm hp
    exact hs d post a1 ho hp (fun post' b1 ho' hm' hp' => ih post' b1 ho' (by omega) hp')
theorem rp2 {ρ A1 A2 : Type} (W : Nat → (ρ → Prop) → A1 → A2 → Prop) (ok : A1 → A2 → Prop) (μ : A1 → A2 → Nat) (val : A1 → A2 → ρ)
    (hs : ∀ (d : Nat) (post : ρ → Prop) (a1 : A1) (a2 : A2), ok a1 a2 → post (val a1 a2) → (∀ (post' : ρ → Prop) (b1 : A1) (b2 : A2), ok b1 b2 → μ b1 b2 < μ a1 a2 → post' (val b1 b2) → W d post' b1 b2) → W (d + 1) post a1 a2) :
    ∀ (d : Nat) (post : ρ → Prop) (a1 : A1) (a2 : A2), ok a1 a2 → μ a1 a2 < d → post (val a1 a2) → W d post a1 a2 := by
  intro d
  induction d with
  | zero => intro post a1 a2 _ h; omega
  | succ d ih =>
    intro post a1 a2 ho hm hp
    exact hs d post a1 a2 ho hp (fun post' b1 b2 ho' hm' hp' => ih post' b1 b2 ho' (by omega) hp')
theorem rp3 {ρ A1 A2 A3 : Type} (W : Nat → (ρ → Prop) → A1 → A2 → A3 → Prop) (ok : A1 → A2 → A3 → Prop) (μ : A1 → A2 → A3 → Nat) (val : A1 → A2 → A3 → ρ)
    (hs : ∀ (d : Nat) (post : ρ → Prop) (a1 : A1) (a2 : A2) (a3 : A3), ok a1 a2 a3 → post (val a1 a2 a3) → (∀ (post' : ρ → Prop) (b1 : A1) (b2 : A2) (b3 : A3), ok b1 b2 b3 → μ b1 b2 b3 < μ a1 a2 a3 → post' (val b1 b2 b3) → W d post' b1 b2 b3) → W (d + 1) post a1 a2 a3) :
    ∀ (d : Nat) (post : ρ → Prop) (a1 : A1) (a2 : A2) (a3 : A3), ok a1 a2 a3 → μ a1 a2 a3 < d → post (val a1 a2 a3) → W d post a1 a2 a3 := by
  intro d
  induction d with
  | zero => intro post a1 a2 a3 _ h; omega
  | succ d ih =>
    intro post a1 a2 a3 ho hm hp
    exact hs d post a1 a2 a3 ho hp (fun post' b1 b2 b3 ho' hm' hp' => ih post' b1 b2 b3 ho' (by omega) hp')
theorem rp4 {ρ A1 A2 A3 A4 : Type} (W : Nat → (ρ → Prop) → A1 → A2 → A3 → A4 → Prop) (ok : A1 → A2 → A3 → A4 → Prop) (μ : A1 → A2 → A3 → A4 → Nat) (val : A1 → A2 → A3 → A4 → ρ)
    (hs : ∀ (d : Nat) (post : ρ → Prop) (a1 : A1) (a2 : A2) (a3 : A3) (a4 : A4), ok a1 a2 a3 a4 → post (val a1 a2 a3 a4) → (∀ (post' : ρ → Prop) (b1 : A1) (b2 : A2) (b3 : A3) (b4 : A4), ok b1 b2 b3 b4 → μ b1 b2 b3 b4 < μ a1 a2 a3 a4 → post' (val b1 b2 b3 b4) → W d post' b1 b2 b3 b4) → W (d + 1) post a1 a2 a3 a4) :
    ∀ (d : Nat) (post : ρ → Prop) (a1 : A1) (a2 : A2) (a3 : A3) (a4 : A4), ok a1 a2 a3 a4 → μ a1 a2 a3 a4 < d → post (val a1 a2 a3 a4) → W d post a1 a2 a3 a4 := by
  intro d
  induction d with
  | zero => intro post a1 a2 a3 a4 _ h; omega
  | succ d ih =>
    intro post a1 a2 a3 a4 ho hm hp
    exact hs d post a1 a2 a3 a4 ho hp (fun post' b1 b2 b3 b4 ho' hm' hp' => ih post' b1 b2 b3 b4 ho' (by omega) hp')
theorem rp5 {ρ A1 A2 A3 A4 A5 : Type} (W : Nat → (ρ → Prop) → A1 → A2 → A3 → A4 → A5 → Prop) (ok : A1 → A2 → A3 → A4 → A5 → Prop) (μ : A1 → A2 → A3 → A4 → A5 → Nat) (val : A1 → A2 → A3 → A4 → A5 → ρ)
    (hs : ∀ (d : Nat) (post : ρ → Prop) (a1 : A1) (a2 : A2) (a3 : A3) (a4 : A4) (a5 : A5), ok a1 a2 a3 a4 a5 → post (val a1 a2 a3 a4 a5) → (∀ (post' : ρ → Prop) (b1 : A1) (b2 : A2) (b3 : A3) (b4 : A4) (b5 : A5), ok b1 b2 b3 b4 b5 → μ b1 b2 b3 b4 b5 < μ a1 a2 a3 a4 a5 → post' (val b1 b2 b3 b4 b5) → W d post' b1 b2 b3 b4 b5) → W (d + 1) post a1 a2 a3 a4 a5) :
    ∀ (d : Nat) (post : ρ → Prop) (a1 : A1) (a2 : A2) (a3 : A3) (a4 : A4) (a5 : A5), ok a1 a2 a3 a4 a5 → μ a1 a2 a3 a4 a5 < d → post (val a1 a2 a3 a4 a5) → W d post a1 a2 a3 a4 a5 := by
  intro d
  induction d with
  | zero => intro post a1 a2 a3 a4 a5 _ h; omega
  | succ d ih =>
    intro post a1 a2 a3 a4 a5 ho hm hp
    exact hs d post a1 a2 a3 a4 a5 ho hp (fun post' b1 b2 b3 b4 b5 ho' hm' hp' => ih post' b1 b2 b3 b4 b5 ho' (by omega) hp')
theorem rp6 {ρ A1 A2 A3 A4 A5 A6 : Type} (W : Nat → (ρ → Prop) → A1 → A2 → A3 → A4 → A5 → A6 → Prop) (ok : A1 → A2 → A3 → A4 → A5 → A6 → Prop) (μ : A1 → A2 → A3 → A4 → A5 → A6 → Nat) (val : A1 → A2 → A3 → A4 → A5 → A6 → ρ)
    (hs : ∀ (d : Nat) (post : ρ → Prop) (a1 : A1) (a2 : A2) (a3 : A3) (a4 : A4) (a5 : A5) (a6 : A6), ok a1 a2 a3 a4 a5 a6 → post (val a1 a2 a3 a4 a5 a6) → (∀ (post' : ρ → Prop) (b1 : A1) (b2 : A2) (b3 : A3) (b4 : A4) (b5 : A5) (b6 : A6), ok b1 b2 b3 b4 b5 b6 → μ b1 b2 b3 b4 b5 b6 < μ a1 a2 a3 a4 a5 a6 → post' (val b1 b2 b3 b4 b5 b6) → W d post' b1 b2 b3 b4 b5 b6) → W (d + 1) post a1 a2 a3 a4 a5 a6) :
    ∀ (d : Nat) (post : ρ → Prop) (a1 : A1) (a2 : A2) (a3 : A3) (a4 : A4) (a5 : A5) (a6 : A6), ok a1 a2 a3 a4 a5 a6 → μ a1 a2 a3 a4 a5 a6 < d → post (val a1 a2 a3 a4 a5 a6) → W d post a1 a2 a3 a4 a5 a6 := by
  intro d
  induction d with
  | zero => intro post a1 a2 a3 a4 a5 a6 _ h; omega
  | succ d ih =>
    intro post a1 a2 a3 a4 a5 a6 ho hm hp
    exact hs d post a1 a2 a3 a4 a5 a6 ho hp (fun post' b1 b2 b3 b4 b5 b6 ho' hm' hp' => ih post' b1 b2 b3 b4 b5 b6 ho' (by omega) hp')
theorem rec_p {σ ρ : Type} (W : Nat → (ρ → Prop) → σ → Prop) (ok : σ → Prop) (μ : σ → Nat) (val : σ → ρ)
    (hs : ∀ d s post, ok s → post (val s) → (∀ s' post', ok s' → μ s' < μ s → post' (val s') → W d post' s') → W (d + 1) post s) :
    ∀ d s post, ok s → μ s < d → post (val s) → W d post s := by
  intro d
  induction d with
  | zero => intro s post _ h; omega
  | succ d ih =>
    intro s post ho hm hp
    exact hs d s post ho hp (fun s' post' ho' hm' hp' => ih s' post' ho' (by omega) hp')
theorem rec_q {σ ρ : Type} (W : Nat → (ρ → Prop) → σ → Prop) (ok : σ → Prop) (μ : σ → Nat) (Q : σ → ρ → Prop)
    (hs : ∀ d s post, ok s → (∀ r, Q s r → post r) → (∀ s' post', ok s' → μ s' < μ s → (∀ r, Q s' r → post' r) → W d post' s') → W (d + 1) post s) :
    ∀ d s post, ok s → μ s < d → (∀ r, Q s r → post r) → W d post s := by
  intro d
  induction d with
  | zero => intro s post _ h; omega
  | succ d ih =>
    intro s post ho hm hp
    exact hs d s post ho hp (fun s' post' ho' hm' hp' => ih s' post' ho' (by omega) hp')
def bx_sum (f : Nat → Int32) : Nat → Int32
  | 0 => 0
  | n + 1 => bx_sum f n + f n
theorem ek_u {A : Prop} {B : Nat → Prop} {k N : Nat} (hk : k < N) (h : B k) : (some k = none → A) ∧ (∀ y : Nat, some k = some y → (y < N ∧ B y)) :=
  ⟨fun z => absurd z (Option.some_ne_none k), fun _ e => (by cases e; exact ⟨hk, h⟩)⟩
theorem ek_nu {A : Prop} {B : Nat → Prop} (h : A) : ((none : Option Nat) = none → A) ∧ (∀ y : Nat, (none : Option Nat) = some y → B y) :=
  ⟨fun _ => h, fun _ e => (by cases e)⟩
theorem ek_if {c d A B : Prop} (e : c ↔ d) (f : d → A) (g : ¬ d → B) : (c → A) ∧ (¬ c → B) :=
  ⟨fun z => f (e.mp z), fun z => g (fun y => z (e.mpr y))⟩
theorem ek_v {α : Sort _} {P : α → Prop} {a b : α} (e : a = b) (h : P b) : P a := e ▸ h
theorem co_some {x : Option Nat} {A : Prop} {B : Nat → Prop} (i : Nat) (h : B i) (hx : x = some i := by rfl) : (x = none → A) ∧ (∀ y : Nat, x = some y → B y) := by
  subst hx
  exact ⟨fun e => (nomatch e), fun y e => Option.some.inj e ▸ h⟩
theorem co_none {x : Option Nat} {A : Prop} {B : Nat → Prop} (h : A) (hx : x = none := by rfl) : (x = none → A) ∧ (∀ y : Nat, x = some y → B y) := by
  subst hx
  exact ⟨fun _ => h, fun y e => (nomatch e)⟩
theorem co_any {x : Option Nat} {A : Prop} {B : Nat → Prop} (hn : x = none → A) (hs : ∀ i : Nat, x = some i → B i) : (x = none → A) ∧ (∀ y : Nat, x = some y → B y) := ⟨hn, hs⟩
theorem co_2 {P : Nat → Prop} (h0 : P 0) (h1 : P 1) {i : Nat} (hi : i < 2) : P i :=
  match i, hi with
  | 0, _ => h0
  | 1, _ => h1
theorem co_3 {P : Nat → Prop} (h0 : P 0) (h1 : P 1) (h2 : P 2) {i : Nat} (hi : i < 3) : P i :=
  match i, hi with
  | 0, _ => h0
  | 1, _ => h1
  | 2, _ => h2
theorem co_4 {P : Nat → Prop} (h0 : P 0) (h1 : P 1) (h2 : P 2) (h3 : P 3) {i : Nat} (hi : i < 4) : P i :=
  match i, hi with
  | 0, _ => h0
  | 1, _ => h1
  | 2, _ => h2
  | 3, _ => h3
theorem co_dec {N : Nat} {P : Nat → Prop} [DecidablePred P] (h : (List.range N).all (fun i => decide (P i)) = true) {i : Nat} (hi : i < N) : P i := by
  have := List.all_eq_true.mp h i (List.mem_range.mpr hi)
  exact of_decide_eq_true this
theorem co_tab {α : Type} {l : List α} {d : α} {P : α → Prop} (h : ∀ a, a ∈ l → P a) {i : Nat} (hi : i < l.length) : P (l.getD i d) := by
  rw [List.getD_eq_getElem?_getD, List.getElem?_eq_getElem hi]
  exact h _ (List.getElem_mem hi)
theorem pk_mu {x : Int32} {L : Nat} (h0 : ¬ x < 0) (h : ¬ nI L ≤ x) (hL : L < 2 ^ 31) : ∃ j : Nat, j < L ∧ x = nI j ∧ x + 1 = nI (j + 1) ∧ x.toNatClampNeg = j ∧ L - (x + 1).toNatClampNeg < L - x.toNatClampNeg := by
  obtain ⟨j, hj, rfl⟩ := nI_of h0
  have hl : j < L := Nat.not_le.mp fun q => h (nI_le q hj)
  refine ⟨j, hl, rfl, nI_1 j, nI_clamp hj, ?_⟩
  rw [nI_1, nI_clamp (by omega), nI_clamp hj]
  omega
theorem op_s {α : Type} {r : Option α} {A : Prop} {B : α → Prop} {y : α} (h : r = some y) (b : B y) : (r = none → A) ∧ ∀ z, r = some z → B z :=
  ⟨fun e => (by rw [h] at e; cases e), fun z e => (by rw [h] at e; cases e; exact b)⟩
def l_holds {α : Type} (a : Nat → Option Nat) (LP : List Nat) (p : Nat → α) (c : Nat) (b : Nat → α) : Prop :=
  ∀ j, j < c → ∃ y, a j = some y ∧ y ∈ LP ∧ p y = b j
theorem l_holds_0 {α : Type} {a : Nat → Option Nat} {LP : List Nat} {p b : Nat → α} : l_holds a LP p 0 b := fun j h => absurd h (Nat.not_lt_zero j)
theorem l_in_new (LP : List Nat) (q : Nat) : q ∈ LP ++ [q] := List.mem_append.mpr (Or.inr (List.mem_singleton.mpr rfl))
def l_sum (b : Nat → Int32) : Nat → Int32
  | 0 => 0
  | k + 1 => l_sum b k + b k
theorem sb_shr0 (x : Int32) : x >>> ((0 : Int32) &&& 31) = x := by
  rw [show ((0 : Int32) &&& 31) = 0 by decide]
  simp
theorem sb_shl0 (x : Int32) : x <<< ((0 : Int32) &&& 31) = x := by
  rw [show ((0 : Int32) &&& 31) = 0 by decide]
  simp
theorem sb_cl0 : (0 : Int32).toNatClampNeg = 0 := by decide
theorem sb_m1 {p : Nat} (h : 0 < p) : nI p + (-1) = nI (p - 1) := by
  obtain ⟨q, rfl⟩ : ∃ q, p = q + 1 := ⟨p - 1, by omega⟩
  exact pk_m1 q
def sb_b (c : Nat) : Int32 := (nI c).toInt8.toInt32
theorem sb_byte : ∀ c, c < 256 → sb_b c &&& 255 = nI c ∧ ((nI c).toUInt32 % 65536).toInt32 = nI c ∧ nI c ≤ 255 := by decide +kernel
def sb_Fit (a : Nat → Int32) : Prop := ∀ j, fits .byte (.int (a j)) = true
def sb_Lat (t : Nat → Nat) (n : Nat) (a : Nat → Int32) : Prop := ∀ j, j < n → t j < 256 ∧ a j = sb_b (t j)
theorem sb_fitB (c : Nat) : fits .byte (.int (sb_b c)) = true := pk_fb _
theorem sb_fit0 : sb_Fit (fun _ => 0) := fun _ => by
  show fits .byte (.int 0) = true
  decide
theorem sb_fitU {a : Nat → Int32} {k : Nat} {x : Int32} (h : sb_Fit a) (hx : fits .byte (.int x) = true) : sb_Fit (upd a k x) := by
  intro j
  by_cases e : j = k
  · subst e
    rw [pk_us]
    exact hx
  · rw [pk_un e]
    exact h j
def sb_cat (t : Nat → Nat) (n : Nat) (s : Nat → Nat) : Nat → Nat := fun j => if j < n then t j else s (j - n)
theorem sb_cat_lo {t s : Nat → Nat} {n j : Nat} (h : j < n) : sb_cat t n s j = t j := if_pos h
theorem sb_cat_hi {t s : Nat → Nat} {n j : Nat} : sb_cat t n s (n + j) = s j := by
  show (if n + j < n then t (n + j) else s (n + j - n)) = s j
  rw [if_neg (by omega), Nat.add_sub_cancel_left]
theorem sb_latPut {t s : Nat → Nat} {n w : Nat} {a a' : Nat → Int32} (h : sb_Lat t n a) (hk : ∀ j, j < n → a' j = a j) (hs : ∀ i, i < w → s i < 256 ∧ a' (n + i) = sb_b (s i)) : sb_Lat (sb_cat t n s) (n + w) a' := by
  intro j hj
  by_cases e : j < n
  · rw [sb_cat_lo e, hk j e]
    exact h j e
  · obtain ⟨i, rfl⟩ : ∃ i, j = n + i := ⟨j - n, by omega⟩
    rw [sb_cat_hi]
    exact hs i (by omega)
theorem sb_latKeep {t : Nat → Nat} {n : Nat} {a a' : Nat → Int32} (h : sb_Lat t n a) (hk : ∀ j, j < n → a' j = a j) : sb_Lat t n a' := fun j hj => by
  rw [hk j hj]
  exact h j hj
def sb_cap (q m : Nat) : Nat := if q ≤ m then m else if 2 * m + 2 < q then q else 2 * m + 2
def sb_Room (q m mc ms : Nat) : Prop := q ≤ m ∨ (1 ≤ mc ∧ sb_cap q m ≤ ms ∧ sb_cap q m ≤ 65536)
theorem sb_cap_ge (q m : Nat) : q ≤ sb_cap q m := by
  unfold sb_cap
  split
  · omega
  · split <;> omega
theorem sb_cap_gem (q m : Nat) : m ≤ sb_cap q m := by
  unfold sb_cap
  split
  · omega
  · split <;> omega
theorem sb_cap_le {q m mc ms : Nat} (hm : m ≤ 65536) (hr : sb_Room q m mc ms) : sb_cap q m ≤ 65536 := by
  rcases hr with h | h
  · rw [sb_cap, if_pos h]
    exact hm
  · exact h.2.2
theorem sb_at {P : Int32 → Prop} {x y : Int32} (e : x = y) (h : P y) : P x := e ▸ h
def sb_dg (w : Nat) : Nat := if w < 10 then 1 else if w < 100 then 2 else if w < 1000 then 3 else if w < 10000 then 4 else if w < 100000 then 5 else if w < 1000000 then 6 else if w < 10000000 then 7 else if w < 100000000 then 8 else if w < 1000000000 then 9 else 10
def sb_dec (v : Nat) : Nat → Nat := fun i => 48 + v / 10 ^ (sb_dg v - 1 - i) % 10
theorem sb_dg_in (w : Nat) : 1 ≤ sb_dg w ∧ sb_dg w ≤ 10 := by
  unfold sb_dg
  constructor <;> (repeat' split) <;> omega
theorem sb_dg100 {w : Nat} (h : 100 ≤ w) (hw : w < 2 ^ 31) : sb_dg w = sb_dg (w / 100) + 2 := by
  rw [sb_dg, sb_dg, if_neg (show ¬ w < 10 by omega), if_neg (show ¬ w < 100 by omega)]
  by_cases h3 : w < 1000
  · rw [if_pos h3, if_pos (show w / 100 < 10 by omega)]
  rw [if_neg h3, if_neg (show ¬ w / 100 < 10 by omega)]
  by_cases h4 : w < 10000
  · rw [if_pos h4, if_pos (show w / 100 < 100 by omega)]
  rw [if_neg h4, if_neg (show ¬ w / 100 < 100 by omega)]
  by_cases h5 : w < 100000
  · rw [if_pos h5, if_pos (show w / 100 < 1000 by omega)]
  rw [if_neg h5, if_neg (show ¬ w / 100 < 1000 by omega)]
  by_cases h6 : w < 1000000
  · rw [if_pos h6, if_pos (show w / 100 < 10000 by omega)]
  rw [if_neg h6, if_neg (show ¬ w / 100 < 10000 by omega)]
  by_cases h7 : w < 10000000
  · rw [if_pos h7, if_pos (show w / 100 < 100000 by omega)]
  rw [if_neg h7, if_neg (show ¬ w / 100 < 100000 by omega)]
  by_cases h8 : w < 100000000
  · rw [if_pos h8, if_pos (show w / 100 < 1000000 by omega)]
  rw [if_neg h8, if_neg (show ¬ w / 100 < 1000000 by omega)]
  by_cases h9 : w < 1000000000
  · rw [if_pos h9, if_pos (show w / 100 < 10000000 by omega)]
  rw [if_neg h9, if_neg (show ¬ w / 100 < 10000000 by omega)]
  rw [if_pos (show w / 100 < 100000000 by omega)]
theorem sb_negT {w : Nat} (h : w < 2 ^ 31) : (-nI w).toInt = -(w : Int) := by
  rw [Int32.toInt_neg, nI_toInt h]
  exact Int.bmod_eq_of_le (by omega) (by omega)
theorem sb_nle {a b : Nat} (ha : a < 2 ^ 31) (hb : b < 2 ^ 31) : -nI a ≤ -nI b ↔ b ≤ a := by
  rw [Int32.le_iff_toInt_le, sb_negT ha, sb_negT hb]
  omega
theorem sb_nlt {a b : Nat} (ha : a < 2 ^ 31) (hb : b < 2 ^ 31) : -nI a < -nI b ↔ b < a := by
  rw [Int32.lt_iff_toInt_lt, sb_negT ha, sb_negT hb]
  omega
theorem sb_cmp {A B : Prop} {x : Int32} (v c : Nat) (f : c ≤ v → A) (g : v < c → B) (hv : v < 2 ^ 31) (hx : x = -nI c := by rfl) (hc : c < 2 ^ 31 := by omega) : (-nI v ≤ x → A) ∧ (¬ -nI v ≤ x → B) := by
  subst hx
  rw [sb_nle hv hc]
  exact ⟨f, fun z => g (by omega)⟩
theorem sb_ndiv {w : Nat} (hw : w < 2 ^ 31) : (-nI w) / 100 = -nI (w / 100) := by
  apply Int32.toInt_inj.mp
  have h100 : (100 : Int32).toInt = 100 := by decide
  rw [Int32.toInt_div, sb_negT hw, h100, sb_negT (by omega), Int.neg_tdiv, Int.tdiv_eq_ediv_of_nonneg (by omega), Int.bmod_eq_of_le (by omega) (by omega)]
  omega
theorem sb_nrem {w : Nat} (hw : w < 2 ^ 31) : (-nI (w / 100)) * 100 - (-nI w) = nI (w % 100) := by
  have h := pk_rem (a := w) (d := 100) hw (by decide) (by decide)
  rw [pk_div hw (by decide) (by decide)] at h
  rw [← h]
  show (-nI (w / 100)) * nI 100 - (-nI w) = nI w - nI (w / 100) * nI 100
  rw [Int32.neg_mul, Int32.sub_neg, Int32.add_comm, ← Int32.sub_eq_add_neg]
end
section
/-! rows on bits, shifts and unsigned numbers, to paste: each family out of a closed proof of our own, whole with what it rests on; each by itself clean at Lean in its own claim (generation 39, form 5). Take a family whole -/
/-! ===== Int32 by its bits: bt x i ===== -/
def bt (x : Int32) (i : Nat) : Bool := x.toBitVec.getLsbD i
theorem b_ext {x y : Int32} (h : ∀ i, i < 32 → bt x i = bt y i) : x = y := Int32.toBitVec_inj.mp (BitVec.eq_of_getLsbD_eq (fun i hi => h i hi))
theorem b_or (x y : Int32) (i : Nat) : bt (x ||| y) i = (bt x i || bt y i) := by unfold bt; rw [Int32.toBitVec_or, BitVec.getLsbD_or]
theorem b_and (x y : Int32) (i : Nat) : bt (x &&& y) i = (bt x i && bt y i) := by unfold bt; rw [Int32.toBitVec_and, BitVec.getLsbD_and]
theorem b_xor (x y : Int32) (i : Nat) : bt (x ^^^ y) i = (bt x i ^^ bt y i) := by unfold bt; rw [Int32.toBitVec_xor, BitVec.getLsbD_xor]
theorem b_big {x : Int32} {i : Nat} (h : 32 ≤ i) : bt x i = false := BitVec.getLsbD_of_ge _ _ h
theorem b_255 (i : Nat) : bt 255 i = decide (i < 8) := by
  rcases Nat.lt_or_ge i 32 with h | h
  · exact (by decide +kernel : ∀ i, i < 32 → bt 255 i = decide (i < 8)) i h
  · rw [b_big h, decide_eq_false (by omega)]
theorem b_65535 (i : Nat) : bt 65535 i = decide (i < 16) := by
  rcases Nat.lt_or_ge i 32 with h | h
  · exact (by decide +kernel : ∀ i, i < 32 → bt 65535 i = decide (i < 16)) i h
  · rw [b_big h, decide_eq_false (by omega)]
theorem b_m1 : ∀ i, i < 32 → bt (-1) i = true := by decide +kernel
theorem b_0 (i : Nat) : bt 0 i = false := BitVec.getLsbD_zero
theorem s_l : ∀ n, n < 32 → ((nI n &&& 31).toBitVec.smod 32).toNat = n := by decide +kernel
theorem s_u : ∀ n, n < 32 → (((nI n).toUInt32 &&& Int32.toUInt32 31).toBitVec % 32).toNat = n := by decide +kernel
theorem b_shl (n : Nat) (hn : n < 32) (x : Int32) {i : Nat} (hi : i < 32) : bt (x <<< (nI n &&& 31)) i = (decide (n ≤ i) && bt x (i - n)) := by
  unfold bt
  rw [Int32.toBitVec_shiftLeft]
  show (x.toBitVec <<< ((nI n &&& 31).toBitVec.smod 32).toNat).getLsbD i = _
  rw [s_l n hn, BitVec.getLsbD_shiftLeft]
  rcases Nat.lt_or_ge i n with h | h
  · simp [h, Nat.not_le.mpr h]
  · simp [hi, h, Nat.not_lt.mpr h]
theorem b_ushr (n : Nat) (hn : n < 32) (x : Int32) (i : Nat) : bt ((x.toUInt32 >>> ((nI n).toUInt32 &&& Int32.toUInt32 31)).toInt32) i = bt x (n + i) := by
  show (x.toUInt32 >>> ((nI n).toUInt32 &&& Int32.toUInt32 31)).toBitVec.getLsbD i = x.toUInt32.toBitVec.getLsbD (n + i)
  rw [UInt32.toBitVec_shiftRight]
  show (x.toUInt32.toBitVec >>> (((nI n).toUInt32 &&& Int32.toUInt32 31).toBitVec % 32).toNat).getLsbD i = _
  rw [s_u n hn, BitVec.getLsbD_ushiftRight]
theorem b_sshr (n : Nat) (hn : n < 32) (x : Int32) {i : Nat} (hi : i < 32) : bt (x >>> (nI n &&& 31)) i = if n + i < 32 then bt x (n + i) else bt x 31 := by
  unfold bt
  rw [Int32.toBitVec_shiftRight]
  show (x.toBitVec.sshiftRight ((nI n &&& 31).toBitVec.smod 32).toNat).getLsbD i = _
  rw [s_l n hn, BitVec.getLsbD_sshiftRight, BitVec.msb_eq_getLsbD_last]
  simp [hi]
theorem b_shl8 (x : Int32) {i : Nat} (hi : i < 32) : bt (x <<< ((8 : Int32) &&& 31)) i = (decide (8 ≤ i) && bt x (i - 8)) := b_shl 8 (by omega) x hi
theorem b_shl16 (x : Int32) {i : Nat} (hi : i < 32) : bt (x <<< ((16 : Int32) &&& 31)) i = (decide (16 ≤ i) && bt x (i - 16)) := b_shl 16 (by omega) x hi
theorem b_shl24 (x : Int32) {i : Nat} (hi : i < 32) : bt (x <<< ((24 : Int32) &&& 31)) i = (decide (24 ≤ i) && bt x (i - 24)) := b_shl 24 (by omega) x hi
theorem b_sshr8 (x : Int32) {i : Nat} (hi : i < 32) : bt (x >>> ((8 : Int32) &&& 31)) i = if 8 + i < 32 then bt x (8 + i) else bt x 31 := b_sshr 8 (by omega) x hi
/-! ===== nI under and, xor, >>>, one bit, 65535 ===== -/
theorem nx_and (a b : Nat) : nI a &&& nI b = nI (a &&& b) := by
  apply Int32.toBitVec_inj.1
  show BitVec.ofNat 32 a &&& BitVec.ofNat 32 b = BitVec.ofNat 32 (a &&& b)
  apply BitVec.eq_of_getLsbD_eq
  intro i hi
  simp [hi]
theorem nx_xor (a b : Nat) : nI a ^^^ nI b = nI (a ^^^ b) := by
  apply Int32.toBitVec_inj.1
  show BitVec.ofNat 32 a ^^^ BitVec.ofNat 32 b = BitVec.ofNat 32 (a ^^^ b)
  apply BitVec.eq_of_getLsbD_eq
  intro i hi
  simp [hi]
theorem nx_cnt : ∀ j : Fin 32, (UInt32.ofNat j.val &&& Int32.toUInt32 31).toNat % 32 = j.val := by decide +kernel
theorem nx_ush {k j : Nat} (hk : k < 65536) (hj : j < 32) : ((nI k).toUInt32 >>> ((nI j).toUInt32 &&& Int32.toUInt32 31)).toInt32 = nI (k >>> j) := by
  have hs : k >>> j ≤ k := by
    rw [Nat.shiftRight_eq_div_pow]
    exact Nat.div_le_self _ _
  have e2 : UInt32.ofNat k >>> (UInt32.ofNat j &&& Int32.toUInt32 31) = UInt32.ofNat (k >>> j) := by
    apply UInt32.toNat_inj.1
    have h1 : (UInt32.ofNat k).toNat = k := Nat.mod_eq_of_lt (by omega)
    have h2 : (UInt32.ofNat (k >>> j)).toNat = k >>> j := Nat.mod_eq_of_lt (by omega)
    rw [UInt32.toNat_shiftRight, nx_cnt ⟨j, hj⟩, h1, h2]
  show (UInt32.ofNat k >>> (UInt32.ofNat j &&& Int32.toUInt32 31)).toInt32 = _
  rw [e2]
  rfl
theorem nx_bit {k j : Nat} (hk : k < 65536) (hj : j < 16) : (((nI k).toUInt32 >>> ((nI j).toUInt32 &&& Int32.toUInt32 31)).toInt32 &&& 1) = 0 ↔ k.testBit j = false := by
  rw [nx_ush hk (by omega)]
  show nI (k >>> j) &&& nI 1 = 0 ↔ _
  rw [nx_and, Nat.and_one_is_mod, ← nI_0, nI_eq (by omega) (by omega), Nat.testBit_eq_decide_div_mod_eq, Nat.shiftRight_eq_div_pow, decide_eq_false_iff_not]
  generalize k / 2 ^ j = z
  omega
theorem nx_mod (k : Nat) : nI k &&& 65535 = nI (k % 65536) := by
  show nI k &&& nI 65535 = _
  rw [nx_and, show (65535 : Nat) = 2 ^ 16 - 1 from rfl, Nat.and_two_pow_sub_one_eq_mod]
theorem nx_m16 {k : Nat} (h : k < 65536) : nI k &&& 65535 = nI k := by rw [nx_mod, Nat.mod_eq_of_lt h]
theorem nx_mask (x : Int32) : ∃ k, k < 65536 ∧ x &&& 65535 = nI k := by
  have e : x = nI x.toBitVec.toNat := by
    apply Int32.toBitVec_inj.1
    show x.toBitVec = BitVec.ofNat 32 x.toBitVec.toNat
    simp
  refine ⟨x.toBitVec.toNat % 65536, Nat.mod_lt _ (by omega), ?_⟩
  rw [← nx_mod, ← e]
/-! ===== Int32 as a set of bits: test, set ===== -/
def nf_M (m : Int32) : Nat := 4294967296 - m.toBitVec.toNat
theorem nf_sh : ∀ l, l < 32 → ((1 : Int32) <<< (nI l &&& 31)).toBitVec = BitVec.twoPow 32 l := by decide +kernel
theorem nf_sl : ∀ l, l < 32 → (((nI l).toUInt32 &&& Int32.toUInt32 31).toBitVec % 32).toNat = l := by decide +kernel
theorem nf_tp : ∀ l, l < 32 → BitVec.twoPow 32 l ≠ 0#32 := by decide +kernel
theorem nf_bit (m : Int32) (l : Nat) (hl : l < 32) : ((m.toUInt32 >>> ((nI l).toUInt32 &&& Int32.toUInt32 31)).toInt32 &&& 1) = 0 ↔ (m &&& ((1 : Int32) <<< (nI l &&& 31))) = 0 := by
  have e : ((m.toUInt32 >>> ((nI l).toUInt32 &&& Int32.toUInt32 31)).toInt32).toBitVec = m.toBitVec >>> l := by
    show m.toBitVec >>> (((nI l).toUInt32 &&& Int32.toUInt32 31).toBitVec % 32) = m.toBitVec >>> l
    rw [BitVec.ushiftRight_eq', nf_sl l hl]
  rw [← Int32.toBitVec_inj, ← Int32.toBitVec_inj, Int32.toBitVec_and, Int32.toBitVec_and, nf_sh l hl, e, BitVec.and_twoPow]
  show (m.toBitVec >>> l &&& 1#32) = 0#32 ↔ _ = 0#32
  rw [BitVec.and_one_eq_setWidth_ofBool_getLsbD, BitVec.getLsbD_ushiftRight, Nat.add_zero]
  cases hb : m.toBitVec.getLsbD l
  · exact ⟨fun _ => by simp, fun _ => by decide⟩
  · exact ⟨fun z => absurd z (by decide), fun z => absurd ((if_pos rfl).symm.trans z) (nf_tp l hl)⟩
theorem nf_gr (m k : Int32) (h : m &&& k = 0) (hk : k ≠ 0) : nf_M (m ||| k) < nf_M m := by
  have hm := m.toBitVec.isLt
  have hm' := (m ||| k).toBitVec.isLt
  have h1 : m.toBitVec.toNat ≤ (m ||| k).toBitVec.toNat := by
    rw [Int32.toBitVec_or, BitVec.toNat_or]
    exact Nat.left_le_or
  have h2 : m.toBitVec.toNat ≠ (m ||| k).toBitVec.toNat := by
    intro e
    have e2 : m = m ||| k := Int32.toBitVec_inj.mp (BitVec.eq_of_toNat_eq e)
    apply hk
    apply Int32.toBitVec_inj.mp
    show k.toBitVec = 0#32
    apply BitVec.eq_of_getLsbD_eq
    intro i hi
    have a : m.toBitVec.getLsbD i = (m.toBitVec.getLsbD i || k.toBitVec.getLsbD i) := by rw [← BitVec.getLsbD_or, ← Int32.toBitVec_or, ← e2]
    have b : (m.toBitVec.getLsbD i && k.toBitVec.getLsbD i) = false := by
      rw [← BitVec.getLsbD_and, ← Int32.toBitVec_and, h]
      exact BitVec.getLsbD_zero
    rw [BitVec.getLsbD_zero]
    revert a b
    cases m.toBitVec.getLsbD i <;> cases k.toBitVec.getLsbD i <;> simp
  unfold nf_M
  omega
/-! ===== a byte read unsigned ===== -/
theorem bp_b (x : Int32) : x.toInt8.toInt32 &&& 255 = x &&& 255 := by
  apply Int32.toBitVec_inj.mp
  rw [Int32.toBitVec_and, Int32.toBitVec_and, Int8.toBitVec_toInt32, Int32.toBitVec_toInt8]
  apply BitVec.eq_of_getLsbD_eq
  intro i hi
  rw [BitVec.getLsbD_and, BitVec.getLsbD_and]
  have hm : ∀ i < 32, 8 ≤ i → (255 : Int32).toBitVec.getLsbD i = false := by decide
  rcases Nat.lt_or_ge i 8 with z | z
  · rw [BitVec.getLsbD_signExtend, BitVec.getLsbD_signExtend, if_pos z, if_pos hi]
    simp only [z, hi, decide_true, Bool.true_and]
  · rw [hm i hi z]; simp
/-! ===== the char cast and 65535 ===== -/
theorem em_w (v : Int32) : ∃ w : Nat, w < 65536 ∧ (v.toUInt32 % 65536).toInt32 = nI w ∧ v &&& 65535 = nI w := by
  have hr := lw_u16_r v
  have h0 : (0 : Int32).toInt = 0 := by decide
  obtain ⟨w, h1, h2⟩ := nI_of (x := lw_u16 v) (by rw [Int32.lt_iff_toInt_lt]; omega)
  have h3 : (v.toUInt32 % 65536).toInt32 = nI w := h2
  rw [h2, nI_toInt h1] at hr
  exact ⟨w, by omega, h3, by rw [← lg_i2c_mask, ← lg_i2c_nf, h3]⟩
/-! ===== Int64 as a set of bits: test, set, clear ===== -/
theorem ts_nf {x : Bool} (h : ¬ x = false) : x = true := by cases x <;> first | rfl | exact absurd rfl h
theorem ts_nt {x : Bool} (h : ¬ x = true) : x = false := by cases x <;> first | rfl | exact absurd rfl h
theorem ts_bit {w : Int64} {s : UInt64} {j : Nat} (hj : j < 64) (hs : s.toNat = j) : ((w.toUInt64 >>> s).toInt64 &&& 1) = 0 ↔ w.toBitVec.getLsbD j = false := by
  have e : (w.toUInt64 >>> s).toInt64.toBitVec = w.toBitVec >>> j := by
    apply BitVec.eq_of_toNat_eq
    show (w.toUInt64 >>> s).toNat = _
    rw [UInt64.toNat_shiftRight, hs, Nat.mod_eq_of_lt hj, BitVec.toNat_ushiftRight]
    rfl
  rw [← Int64.toBitVec_inj, Int64.toBitVec_and, e]
  show w.toBitVec >>> j &&& 1#64 = 0#64 ↔ _
  constructor
  · intro h
    have t := congrArg (fun x => x.getLsbD 0) h
    simpa using t
  · intro h
    apply BitVec.eq_of_getLsbD_eq
    intro i hi
    cases i with
    | zero => simp [h]
    | succ i => simp
theorem ts_or {w m : Int64} {j : Nat} (hj : j < 64) (hm : m.toBitVec = BitVec.twoPow 64 j) : (w ||| m) = w ↔ w.toBitVec.getLsbD j = true := by
  rw [← Int64.toBitVec_inj, Int64.toBitVec_or, hm]
  constructor
  · intro h
    have t := congrArg (fun x => x.getLsbD j) h
    simp only [BitVec.getLsbD_or, BitVec.getLsbD_twoPow] at t
    simpa [hj] using t.symm
  · intro h
    apply BitVec.eq_of_getLsbD_eq
    intro i hi
    rw [BitVec.getLsbD_or, BitVec.getLsbD_twoPow]
    by_cases e : j = i
    · subst e; rw [h, Bool.true_or]
    · simp [e]
theorem ts_and {w m : Int64} {j : Nat} (hj : j < 64) (hm : m.toBitVec = BitVec.twoPow 64 j) : (w &&& (m ^^^ (-1))) = w ↔ w.toBitVec.getLsbD j = false := by
  have ha : (-1 : Int64).toBitVec = BitVec.allOnes 64 := by decide
  rw [← Int64.toBitVec_inj, Int64.toBitVec_and, Int64.toBitVec_xor, hm, ha]
  constructor
  · intro h
    have t := congrArg (fun x => x.getLsbD j) h
    simp only [BitVec.getLsbD_and, BitVec.getLsbD_xor, BitVec.getLsbD_twoPow, BitVec.getLsbD_allOnes] at t
    simpa [hj] using t.symm
  · intro h
    apply BitVec.eq_of_getLsbD_eq
    intro i hi
    rw [BitVec.getLsbD_and, BitVec.getLsbD_xor, BitVec.getLsbD_twoPow, BitVec.getLsbD_allOnes]
    by_cases e : j = i
    · subst e; rw [h, Bool.false_and]
    · simp [e, hi]
/-! ===== lN n to 2^64: shifts, and, or, masks, one bit ===== -/
theorem wb_tb (n : Nat) : (lN n).toBitVec = BitVec.ofNat 64 n := rfl
theorem wb_inj {a b : Int64} (h : a.toBitVec = b.toBitVec) : a = b := Int64.toBitVec_inj.mp h
theorem wb_tn {n : Nat} (h : n < 2 ^ 64) : (lN n).toBitVec.toNat = n := by rw [wb_tb, BitVec.toNat_ofNat, Nat.mod_eq_of_lt h]
theorem wb_of (x : Int64) : ∃ n, n < 2 ^ 64 ∧ x = lN n := ⟨x.toBitVec.toNat, x.toBitVec.isLt, wb_inj (by rw [wb_tb]; simp)⟩
theorem wb_of32 (x : Int32) : ∃ n, n < 2 ^ 32 ∧ x = nI n := ⟨x.toBitVec.toNat, x.toBitVec.isLt, Int32.toBitVec_inj.mp (by show _ = BitVec.ofNat 32 _; simp)⟩
theorem wb_c : ∀ k, k < 64 → ((nI k).toInt64 &&& 63) = lN k := by decide +kernel
theorem wb_cu : ∀ k, k < 64 → ((nI k).toInt64.toUInt64 &&& Int64.toUInt64 63) = UInt64.ofNat k := by decide +kernel
theorem wb_sm : ∀ k, k < 64 → (BitVec.ofNat 64 k).smod 64 = BitVec.ofNat 64 k := by decide +kernel
theorem wb_pw {a b : Nat} (h : a ≤ b) : 2 ^ b = 2 ^ a * 2 ^ (b - a) := by rw [← Nat.pow_add]; congr 1; omega
theorem wb_lt2 {a b : Nat} (h : a < b) : 2 ^ a < 2 ^ b := Nat.pow_lt_pow_right (by decide) h
theorem wb_mod (n : Nat) : lN n = lN (n % 2 ^ 64) := wb_inj (by rw [wb_tb, wb_tb]; apply BitVec.eq_of_toNat_eq; rw [BitVec.toNat_ofNat, BitVec.toNat_ofNat, Nat.mod_mod])
theorem wb_shr {n k : Nat} (hn : n < 2 ^ 64) (hk : k < 64) : ((lN n).toUInt64 >>> ((nI k).toInt64.toUInt64 &&& Int64.toUInt64 63)).toInt64 = lN (n / 2 ^ k) := by
  rw [wb_cu k hk]
  apply wb_inj
  apply BitVec.eq_of_toNat_eq
  show ((lN n).toUInt64 >>> UInt64.ofNat k).toNat = (BitVec.ofNat 64 _).toNat
  have h1 : (UInt64.ofNat k).toNat = k := by
    show (BitVec.ofNat 64 k).toNat = k
    rw [BitVec.toNat_ofNat, Nat.mod_eq_of_lt (by omega)]
  have h2 : (lN n).toUInt64.toNat = n := wb_tn hn
  rw [UInt64.toNat_shiftRight, h1, h2, Nat.mod_eq_of_lt hk, Nat.shiftRight_eq_div_pow, BitVec.toNat_ofNat, Nat.mod_eq_of_lt (Nat.lt_of_le_of_lt (Nat.div_le_self _ _) hn)]
theorem wb_shl (n : Nat) {k : Nat} (hk : k < 64) : lN n <<< ((nI k).toInt64 &&& 63) = lN (n * 2 ^ k) := by
  rw [wb_c k hk]
  apply wb_inj
  rw [Int64.toBitVec_shiftLeft, wb_tb, wb_tb, wb_tb, wb_sm k hk]
  apply BitVec.eq_of_toNat_eq
  rw [BitVec.shiftLeft_eq', BitVec.toNat_shiftLeft, BitVec.toNat_ofNat, BitVec.toNat_ofNat, BitVec.toNat_ofNat, Nat.mod_eq_of_lt (show k < 2 ^ 64 by omega), Nat.shiftLeft_eq, Nat.mul_mod, Nat.mod_mod, ← Nat.mul_mod]
theorem wb_and {a b : Nat} (ha : a < 2 ^ 64) (hb : b < 2 ^ 64) : lN a &&& lN b = lN (a &&& b) := by
  apply wb_inj
  rw [Int64.toBitVec_and, wb_tb, wb_tb, wb_tb]
  apply BitVec.eq_of_toNat_eq
  rw [BitVec.toNat_and, BitVec.toNat_ofNat, BitVec.toNat_ofNat, BitVec.toNat_ofNat, Nat.mod_eq_of_lt ha, Nat.mod_eq_of_lt hb, Nat.mod_eq_of_lt (Nat.and_lt_two_pow _ hb)]
theorem wb_or {a b : Nat} (ha : a < 2 ^ 64) (hb : b < 2 ^ 64) : lN a ||| lN b = lN (a ||| b) := by
  apply wb_inj
  rw [Int64.toBitVec_or, wb_tb, wb_tb, wb_tb]
  apply BitVec.eq_of_toNat_eq
  rw [BitVec.toNat_or, BitVec.toNat_ofNat, BitVec.toNat_ofNat, BitVec.toNat_ofNat, Nat.mod_eq_of_lt ha, Nat.mod_eq_of_lt hb, Nat.mod_eq_of_lt (Nat.or_lt_two_pow ha hb)]
theorem wb_mask {n k : Nat} (hn : n < 2 ^ 64) (hk : k < 64) : lN n &&& lN (2 ^ k - 1) = lN (n % 2 ^ k) := by
  rw [wb_and hn (by have := wb_lt2 hk; omega), Nat.and_two_pow_sub_one_eq_mod]
theorem wb_a1 {n : Nat} (hn : n < 2 ^ 64) : lN n &&& 1 = lN (n % 2) := wb_mask (k := 1) hn (by decide)
theorem wb_bit {n k : Nat} (hn : n < 2 ^ 64) (hk : k < 64) : ((lN n).toUInt64 >>> ((nI k).toInt64.toUInt64 &&& Int64.toUInt64 63)).toInt64 &&& 1 = lN (n / 2 ^ k % 2) := by
  rw [wb_shr hn hk, wb_a1 (Nat.lt_of_le_of_lt (Nat.div_le_self _ _) hn)]
theorem wb_xor {q k : Nat} (hk : k < 63) (h : 2 ^ k ≤ q) (h2 : q < 2 ^ (k + 1)) : lN q ^^^ lN (2 ^ k) = lN (q - 2 ^ k) := by
  obtain ⟨r, rfl⟩ : ∃ r, q = 2 ^ k + r := ⟨q - 2 ^ k, by omega⟩
  have hr : r < 2 ^ k := by rw [Nat.pow_succ] at h2; omega
  have hx : (2 ^ k + r) ^^^ 2 ^ k = r := by
    apply Nat.eq_of_testBit_eq
    intro i
    rw [Nat.testBit_xor, Nat.testBit_two_pow]
    rcases Nat.lt_trichotomy i k with h | h | h
    · rw [Nat.testBit_two_pow_add_gt h]
      simp [show ¬ k = i by omega]
    · subst h
      rw [Nat.testBit_two_pow_add_eq]
      simp
    · have a1 : 2 ^ (k + 1) ≤ 2 ^ i := Nat.pow_le_pow_right (by decide) h
      rw [Nat.testBit_lt_two_pow (show 2 ^ k + r < 2 ^ i by omega), Nat.testBit_lt_two_pow (show r < 2 ^ i by omega)]
      simp [show ¬ k = i by omega]
  have b1 := wb_lt2 (show k + 1 < 64 by omega)
  have b2 := wb_lt2 (show k < 64 by omega)
  apply wb_inj
  rw [Int64.toBitVec_xor, wb_tb, wb_tb, wb_tb]
  apply BitVec.eq_of_toNat_eq
  rw [BitVec.toNat_xor, BitVec.toNat_ofNat, BitVec.toNat_ofNat, BitVec.toNat_ofNat, Nat.mod_eq_of_lt (by omega : 2 ^ k + r < 2 ^ 64), Nat.mod_eq_of_lt b2, hx, Nat.add_sub_cancel_left, Nat.mod_eq_of_lt (by omega)]
/-! ===== lN: masks, 'or' of parts that don't overlap is a sum ===== -/
theorem u_tn {n : Nat} (h : n < 2 ^ 64) : (UInt64.ofNat n).toNat = n := Nat.mod_eq_of_lt h
theorem g_and {a b c : Nat} (ha : a < 2 ^ 64) (hb : b < 2 ^ 64) (hc : a &&& b = c) : lN a &&& lN b = lN c := by
  subst hc
  have h : UInt64.ofNat a &&& UInt64.ofNat b = UInt64.ofNat (a &&& b) := UInt64.toNat_inj.mp (by rw [UInt64.toNat_and, u_tn ha, u_tn hb, u_tn (Nat.and_lt_two_pow a hb)])
  have h2 := congrArg UInt64.toInt64 h
  exact h2
theorem g_and1 {a : Nat} (ha : a < 2 ^ 64) : lN a &&& 1 = lN (a % 2) := g_and (b := 1) ha (by decide) (Nat.and_two_pow_sub_one_eq_mod a 1)
theorem g_mask {a s p : Nat} (hp : 2 ^ s = p) (hs : s < 64) (ha : a < 2 ^ 64) : lN a &&& lN (p - 1) = lN (a % p) := by
  subst hp
  have := Nat.pow_lt_pow_right (show 1 < 2 by decide) hs
  exact g_and ha (by omega) (Nat.and_two_pow_sub_one_eq_mod a s)
theorem g_or {k p a b : Nat} (hp : 2 ^ k = p) (ha : a < p) (h : b * p + a < 2 ^ 64) : lN (b * p) ||| lN a = lN (b * p + a) := by
  subst hp
  have h1 : b * 2 ^ k ||| a = b * 2 ^ k + a := by rw [← Nat.shiftLeft_eq, Nat.shiftLeft_add_eq_or_of_lt ha]
  have h3 : UInt64.ofNat (b * 2 ^ k) ||| UInt64.ofNat a = UInt64.ofNat (b * 2 ^ k + a) := UInt64.toNat_inj.mp (by rw [UInt64.toNat_or, u_tn (by omega), u_tn (by omega), u_tn h, h1])
  have h2 := congrArg UInt64.toInt64 h3
  exact h2
theorem g_or' {k p a b : Nat} (hp : 2 ^ k = p) (ha : a < p) (h : a + b * p < 2 ^ 64) : lN a ||| lN (b * p) = lN (a + b * p) := by
  rw [Int64.or_comm, g_or hp ha (by omega), Nat.add_comm]
theorem g_ushr {a k p : Nat} {y : UInt64} (hy : y = UInt64.ofNat k) (hk : k < 64) (hp : 2 ^ k = p) (ha : a < 2 ^ 64) : ((lN a).toUInt64 >>> y).toInt64 = lN (a / p) := by
  subst hy hp
  have h : UInt64.ofNat a >>> UInt64.ofNat k = UInt64.ofNat (a / 2 ^ k) := UInt64.toNat_inj.mp (by rw [UInt64.toNat_shiftRight, u_tn ha, u_tn (by omega), u_tn (Nat.lt_of_le_of_lt (Nat.div_le_self _ _) ha), Nat.mod_eq_of_lt hk, Nat.shiftRight_eq_div_pow])
  have h2 := congrArg UInt64.toInt64 h
  exact h2
theorem g_shl {a k p : Nat} {y : Int64} (hy : y.toBitVec.smod 64 = BitVec.ofNat 64 k) (hk : k < 64) (hp : 2 ^ k = p) (ha : a < 2 ^ 64) : lN a <<< y = lN (a * p) := by
  subst hp
  apply Int64.toBitVec_inj.mp
  rw [Int64.toBitVec_shiftLeft, hy]
  apply BitVec.eq_of_toNat_eq
  have hb : (lN a).toBitVec.toNat = a := Nat.mod_eq_of_lt ha
  have hk' : (BitVec.ofNat 64 k).toNat = k := Nat.mod_eq_of_lt (by omega)
  have h : ((lN a).toBitVec <<< BitVec.ofNat 64 k).toNat = (a * 2 ^ k) % 2 ^ 64 := by simp only [BitVec.shiftLeft_eq', BitVec.toNat_shiftLeft, hb, hk', Nat.shiftLeft_eq]
  exact h
/-! ===== lN to 2^62 under >> and >>> ===== -/
theorem pf_lI {a : Nat} (h : a < 2 ^ 63) : (lN a).toInt = (a : Int) := lg_ofNat_toInt h
theorem pf_shr {a d : Nat} {D : Int64} (hD : (D.toBitVec.smod 64).toNat = d) (h : a < 2 ^ 62) : lN a >>> D = lN (a / 2 ^ d) := by
  have hd : a / 2 ^ d ≤ a := Nat.div_le_self _ _
  apply Int64.toInt_inj.mp
  have e : (lN a >>> D).toInt = (lN a).toInt >>> d := by
    rw [← hD]
    exact BitVec.toInt_sshiftRight ..
  rw [e, Int.shiftRight_eq_div_pow, pf_lI (by omega), pf_lI (by omega)]
  rfl
theorem pf_ushr {a d : Nat} {D : UInt64} (hD : D.toNat % 64 = d) (h : a < 2 ^ 62) : ((lN a).toUInt64 >>> D).toInt64 = lN (a / 2 ^ d) := by
  have hd : a / 2 ^ d ≤ a := Nat.div_le_self _ _
  have e : (lN a).toUInt64 >>> D = UInt64.ofNat (a / 2 ^ d) := UInt64.toNat_inj.mp (by
    rw [UInt64.toNat_shiftRight, hD, Nat.shiftRight_eq_div_pow, UInt64.toNat_ofNat']
    show (UInt64.ofNat a).toNat / 2 ^ d = _
    rw [UInt64.toNat_ofNat', Nat.mod_eq_of_lt (by omega), Nat.mod_eq_of_lt (by omega)])
  rw [e]
  rfl
theorem pf_andw (x : Int64) : ∃ m, m < 2 ^ 32 ∧ x &&& 4294967295 = lN m := ⟨x.toBitVec.toNat % 2 ^ 32, Nat.mod_lt _ (by decide), Int64.toBitVec_inj.mp (BitVec.eq_of_toNat_eq (by
  show (x.toBitVec &&& 4294967295#64).toNat = (BitVec.ofNat 64 (x.toBitVec.toNat % 2 ^ 32)).toNat
  rw [BitVec.toNat_and, show (4294967295#64).toNat = 2 ^ 32 - 1 from by decide, Nat.and_two_pow_sub_one_eq_mod, BitVec.toNat_ofNat]
  omega))⟩
/-! ===== Int64 as an unsigned number: uN x ===== -/
def uN (x : Int64) : Nat := x.toUInt64.toNat
theorem uN_lt (x : Int64) : uN x < 18446744073709551616 := x.toUInt64.toNat_lt
theorem uN_inj {x y : Int64} (h : uN x = uN y) : x = y := congrArg UInt64.toInt64 (UInt64.toNat_inj.mp h)
theorem uN_add (x y : Int64) : uN (x + y) = (uN x + uN y) % 18446744073709551616 := by
  show (x.toUInt64 + y.toUInt64).toNat = _
  exact UInt64.toNat_add _ _
theorem uN_mul (x y : Int64) : uN (x * y) = (uN x * uN y) % 18446744073709551616 := by
  show (x.toUInt64 * y.toUInt64).toNat = _
  exact UInt64.toNat_mul _ _
theorem uN_shl (x : Int64) : uN (x <<< ((1 : Int32).toInt64 &&& 63)) = (2 * uN x) % 18446744073709551616 := by
  have h : (((1 : Int32).toInt64 &&& 63).toBitVec.smod 64).toNat = 1 := by decide
  show (x.toBitVec <<< (((1 : Int32).toInt64 &&& 63).toBitVec.smod 64).toNat).toNat = _
  rw [h, BitVec.toNat_shiftLeft, Nat.shiftLeft_eq, Nat.mul_comm]
  rfl
theorem uN_shr (x : Int64) (s : UInt64) : uN (x.toUInt64 >>> s).toInt64 = uN x / 2 ^ (s.toNat % 64) := by
  show (x.toUInt64 >>> s).toNat = _
  rw [UInt64.toNat_shiftRight, Nat.shiftRight_eq_div_pow]
  rfl
theorem uN_s32 (x : Int64) : uN (x.toUInt64 >>> ((32 : Int32).toInt64.toUInt64 &&& Int64.toUInt64 63)).toInt64 = uN x / 4294967296 := by
  have h : ((32 : Int32).toInt64.toUInt64 &&& Int64.toUInt64 63).toNat % 64 = 32 := by decide
  rw [uN_shr, h]
theorem uN_s63 (x : Int64) : uN (x.toUInt64 >>> ((63 : Int32).toInt64.toUInt64 &&& Int64.toUInt64 63)).toInt64 = uN x / 9223372036854775808 := by
  have h : ((63 : Int32).toInt64.toUInt64 &&& Int64.toUInt64 63).toNat % 64 = 63 := by decide
  rw [uN_shr, h]
theorem uN_lo (x : Int64) : uN (x &&& 4294967295) = uN x % 4294967296 := by
  show (x.toUInt64 &&& Int64.toUInt64 4294967295).toNat = _
  rw [UInt64.toNat_and]
  exact Nat.and_two_pow_sub_one_eq_mod _ 32
theorem uN_bit (x : Int64) : (x &&& 1) = 0 ↔ uN x % 2 = 0 := by
  have h : uN (x &&& 1) = uN x % 2 := by
    show (x.toUInt64 &&& Int64.toUInt64 1).toNat = _
    rw [UInt64.toNat_and]
    exact Nat.and_two_pow_sub_one_eq_mod _ 1
  rw [← h]
  exact ⟨fun z => by rw [z]; rfl, fun z => uN_inj (z.trans rfl)⟩
theorem uN_or {x y : Int64} (hy : uN y < 2) : uN ((x <<< ((1 : Int32).toInt64 &&& 63)) ||| y) = (2 * uN x) % 18446744073709551616 + uN y := by
  have h1 : uN ((x <<< ((1 : Int32).toInt64 &&& 63)) ||| y) = uN (x <<< ((1 : Int32).toInt64 &&& 63)) ||| uN y := UInt64.toNat_or _ _
  have h2 : (2 * uN x) % 18446744073709551616 = 2 ^ 1 * (uN x % 9223372036854775808) := by omega
  rw [h1, uN_shl, h2]
  exact (Nat.two_pow_add_eq_or_of_lt (i := 1) hy _).symm
theorem nat_xor {a : Nat} (h : a < 18446744073709551616) : a ^^^ 2 ^ 63 = (a + 9223372036854775808) % 18446744073709551616 := by
  have h1 : (a ^^^ 2 ^ 63) % 2 ^ 63 = a % 2 ^ 63 := by rw [Nat.xor_mod_two_pow, Nat.mod_self, Nat.xor_zero]
  have h2 : (a ^^^ 2 ^ 63) / 2 ^ 63 = (a / 2 ^ 63) ^^^ 1 := by rw [Nat.xor_div_two_pow, Nat.div_self (Nat.two_pow_pos 63)]
  have h3 : a / 2 ^ 63 = 0 ∨ a / 2 ^ 63 = 1 := by omega
  generalize a ^^^ 2 ^ 63 = t at h1 h2
  rcases h3 with h3 | h3
  · rw [h3] at h2
    have h2 : t / 2 ^ 63 = 1 := h2
    omega
  · rw [h3] at h2
    have h2 : t / 2 ^ 63 = 0 := h2
    omega
theorem uN_xor (x : Int64) : uN (x ^^^ (-9223372036854775808)) = (uN x + 9223372036854775808) % 18446744073709551616 := by
  rw [← nat_xor (uN_lt x)]
  exact UInt64.toNat_xor _ _
theorem uN_int (x : Int64) : x.toInt = if 2 * uN x < 18446744073709551616 then (uN x : Int) else (uN x : Int) - 18446744073709551616 := BitVec.toInt_eq_toNat_cond _
theorem uN_le (x y : Int64) : (x ^^^ (-9223372036854775808)) ≤ (y ^^^ (-9223372036854775808)) ↔ uN x ≤ uN y := by
  have hx := uN_lt x
  have hy := uN_lt y
  rw [Int64.le_iff_toInt_le, uN_int, uN_int, uN_xor, uN_xor]
  omega
theorem uN_sk (x : Int64) {k : Nat} (hk : k < 64) : uN (x.toUInt64 >>> ((nI k).toInt64.toUInt64 &&& Int64.toUInt64 63)).toInt64 = uN x / 2 ^ k := by
  have h : ((nI k).toInt64.toUInt64 &&& Int64.toUInt64 63).toNat % 64 = k := by
    rw [nI_l (by omega), UInt64.toNat_and]
    have e : (lN k).toUInt64.toNat = k % 2 ^ 64 := rfl
    have e2 : (Int64.toUInt64 63).toNat = 2 ^ 6 - 1 := by decide
    rw [e, e2, Nat.and_two_pow_sub_one_eq_mod]
    omega
  rw [uN_shr, h]
/-! ===== unsigned comparison by xor with the least ===== -/
theorem lN_bv (n : Nat) : (lN n).toBitVec = BitVec.ofNat 64 n := rfl
theorem lN_nat {n : Nat} (h : n < 2 ^ 64) : (lN n).toBitVec.toNat = n := by rw [lN_bv, BitVec.toNat_ofNat]; exact Nat.mod_eq_of_lt h
theorem lN_xor (a b : Nat) : lN a ^^^ lN b = lN (a ^^^ b) := by
  apply Int64.toBitVec_inj.mp; rw [Int64.toBitVec_xor, lN_bv, lN_bv, lN_bv]; apply BitVec.eq_of_getLsbD_eq; intro i hi; simp [BitVec.getLsbD_ofNat, Nat.testBit_xor, hi]
theorem lN_ti {m : Nat} (h : m < 2 ^ 64) : (lN m).toInt = if m < 2 ^ 63 then (m : Int) else (m : Int) - 2 ^ 64 := by
  have c := BitVec.toInt_eq_toNat_cond (lN m).toBitVec
  rw [lN_nat h] at c
  show (lN m).toBitVec.toInt = _
  rw [c]
  split <;> split <;> omega
theorem xor63 {x : Nat} (h : x < 2 ^ 63) : x ^^^ 2 ^ 63 = 2 ^ 63 + x := by
  apply Nat.eq_of_testBit_eq
  intro i
  rw [Nat.testBit_xor, Nat.testBit_two_pow]
  rcases Nat.lt_trichotomy i 63 with z | z | z
  · rw [Nat.testBit_two_pow_add_gt z, decide_eq_false (by omega)]; simp
  · subst z; rw [Nat.testBit_two_pow_add_eq]; simp
  · have hp : 2 ^ 64 ≤ 2 ^ i := Nat.pow_le_pow_right (by decide) z
    rw [Nat.testBit_lt_two_pow (show x < 2 ^ i by omega), Nat.testBit_lt_two_pow (show 2 ^ 63 + x < 2 ^ i by omega), decide_eq_false (by omega)]; rfl
theorem xorS {a : Nat} (h : a < 2 ^ 64) : (lN a ^^^ (-9223372036854775808)).toInt = (a : Int) - 2 ^ 63 := by
  rw [show (-9223372036854775808 : Int64) = lN (2 ^ 63) from by decide +kernel, lN_xor]
  rcases Nat.lt_or_ge a (2 ^ 63) with z | z
  · rw [xor63 z, lN_ti (by omega), if_neg (by omega)]; omega
  · obtain ⟨x, rfl⟩ : ∃ x, a = 2 ^ 63 + x := ⟨a - 2 ^ 63, by omega⟩
    rw [← xor63 (by omega), Nat.xor_assoc, Nat.xor_self, Nat.xor_zero, lN_ti (by omega), if_pos (by omega), xor63 (by omega)]; omega
theorem ultL {a b : Nat} (ha : a < 2 ^ 64) (hb : b < 2 ^ 64) : ((lN b ^^^ (-9223372036854775808)) ≤ (lN a ^^^ (-9223372036854775808))) ↔ b ≤ a := by
  rw [Int64.le_iff_toInt_le, xorS ha, xorS hb]; omega
/-! ===== Int64 masks of n low bits ===== -/
theorem cr_bits (W U M : BitVec 64) : ((W &&& U) &&& (U &&& (M ^^^ BitVec.allOnes 64))) = 0#64 ↔ (W &&& U) &&& M = W &&& U := by
  constructor
  · intro h
    apply BitVec.eq_of_getLsbD_eq
    intro i hi
    have e := congrArg (fun x => BitVec.getLsbD x i) h
    simp only [BitVec.getLsbD_and, BitVec.getLsbD_xor, BitVec.getLsbD_allOnes, BitVec.getLsbD_zero, hi, decide_true] at e ⊢
    revert e
    cases W.getLsbD i <;> cases U.getLsbD i <;> cases M.getLsbD i <;> decide
  · intro h
    apply BitVec.eq_of_getLsbD_eq
    intro i hi
    have e := congrArg (fun x => BitVec.getLsbD x i) h
    simp only [BitVec.getLsbD_and, BitVec.getLsbD_xor, BitVec.getLsbD_allOnes, BitVec.getLsbD_zero, hi, decide_true] at e ⊢
    revert e
    cases W.getLsbD i <;> cases U.getLsbD i <;> cases M.getLsbD i <;> decide
theorem cr_mask (w U m : Int64) (n : Nat) (hm : m.toBitVec.toNat = 2 ^ n - 1) : ((w &&& U) &&& (U &&& (m ^^^ (-1)))) = 0 ↔ (w &&& U).toBitVec.toNat < 2 ^ n := by
  have e0 : (-1 : Int64).toBitVec = BitVec.allOnes 64 := by decide
  have z0 : (0 : Int64).toBitVec = 0#64 := by decide
  rw [← Int64.toBitVec_inj, z0, Int64.toBitVec_and, Int64.toBitVec_and, Int64.toBitVec_and, Int64.toBitVec_xor, e0, cr_bits]
  generalize w.toBitVec &&& U.toBitVec = T
  rw [← BitVec.toNat_inj, BitVec.toNat_and, hm, Nat.and_two_pow_sub_one_eq_mod]
  constructor
  · intro h
    have t := Nat.mod_lt T.toNat (Nat.two_pow_pos n)
    rw [h] at t
    exact t
  · exact Nat.mod_eq_of_lt
theorem cr_shr (t : Int64) (x : UInt64) (n : Nat) (hx : x.toNat % 64 = n) : (t.toUInt64 >>> x).toInt64 = 0 ↔ t.toBitVec.toNat < 2 ^ n := by
  rw [← Int64.toBitVec_inj, ← BitVec.toNat_inj]
  show (t.toUInt64 >>> x).toNat = 0 ↔ t.toUInt64.toNat < 2 ^ n
  rw [UInt64.toNat_shiftRight, hx, Nat.shiftRight_eq_div_pow]
  constructor
  · intro h
    have d : t.toUInt64.toNat / 2 ^ n < 1 := by
      rw [h]
      decide
    have e := (Nat.div_lt_iff_lt_mul (Nat.two_pow_pos n)).mp d
    rw [Nat.one_mul] at e
    exact e
  · exact Nat.div_eq_of_lt
theorem cr_amt (s : Int64) : ∃ n, n < 64 ∧ s &&& 63 = lN n ∧ (s.toUInt64 &&& Int64.toUInt64 63).toNat % 64 = n := by
  have e : (s.toUInt64 &&& Int64.toUInt64 63).toNat = s.toUInt64.toNat % 2 ^ 6 := by
    rw [UInt64.toNat_and, show (Int64.toUInt64 63).toNat = 2 ^ 6 - 1 from by decide, Nat.and_two_pow_sub_one_eq_mod]
  refine ⟨s.toUInt64.toNat % 2 ^ 6, by omega, ?_, by omega⟩
  rw [← Int64.toBitVec_inj, ← BitVec.toNat_inj]
  show (s.toUInt64 &&& Int64.toUInt64 63).toNat = (BitVec.ofNat 64 (s.toUInt64.toNat % 2 ^ 6)).toNat
  rw [e, BitVec.toNat_ofNat]
  omega
end
section
/-! counting (the first rows began as rows of the example large-2) -/
noncomputable def ct_b (P : Prop) : Nat := @ite Nat P (Classical.propDecidable P) 1 0
theorem ct_bt {P : Prop} (h : P) : ct_b P = 1 := by unfold ct_b; rw [if_pos h]
theorem ct_bf {P : Prop} (h : ¬ P) : ct_b P = 0 := by unfold ct_b; rw [if_neg h]
theorem ct_ble (P : Prop) : ct_b P ≤ 1 := by
  rcases Classical.em P with h | h
  · rw [ct_bt h]; omega
  · rw [ct_bf h]; omega
theorem ct_bmono {P Q : Prop} (h : P → Q) : ct_b P ≤ ct_b Q := by
  rcases Classical.em P with hp | hp
  · rw [ct_bt hp, ct_bt (h hp)]; omega
  · rw [ct_bf hp]; omega
theorem ct_bcong {P Q : Prop} (h : P ↔ Q) : ct_b P = ct_b Q :=
  Nat.le_antisymm (ct_bmono h.mp) (ct_bmono h.mpr)
noncomputable def ct_n (P : Nat → Prop) : Nat → Nat
  | 0 => 0
  | k + 1 => ct_n P k + ct_b (P k)
theorem ct_mono {P Q : Nat → Prop} : ∀ {N : Nat}, (∀ k, k < N → P k → Q k) → ct_n P N ≤ ct_n Q N
  | 0, _ => Nat.le_refl _
  | N + 1, h => by
    have a := ct_mono (P := P) (Q := Q) (N := N) (fun k hk => h k (by omega))
    have b := ct_bmono (h N (by omega))
    simp only [ct_n]; omega
theorem ct_lt {P Q : Nat → Prop} {a : Nat} (hp : ¬ P a) (hq : Q a) : ∀ {N : Nat}, (∀ k, k < N → P k → Q k) → a < N → ct_n P N < ct_n Q N
  | 0, _, h => by omega
  | N + 1, h, ha => by
    simp only [ct_n]
    rcases Nat.lt_or_ge a N with z | z
    · have x := ct_lt hp hq (N := N) (fun k hk => h k (by omega)) z
      have b := ct_bmono (h N (by omega))
      omega
    · have e : a = N := by omega
      subst e
      have x := ct_mono (P := P) (Q := Q) (N := a) (fun k hk => h k (by omega))
      rw [ct_bt hq, ct_bf hp]; omega
theorem ct_le (P : Nat → Prop) : ∀ N, ct_n P N ≤ N
  | 0 => Nat.le_refl _
  | N + 1 => by have := ct_le P N; have := ct_ble (P N); simp only [ct_n]; omega
theorem ct_eq {P Q : Nat → Prop} {N : Nat} (h : ∀ k, k < N → (P k ↔ Q k)) : ct_n P N = ct_n Q N :=
  Nat.le_antisymm (ct_mono fun k hk => (h k hk).mp) (ct_mono fun k hk => (h k hk).mpr)
theorem ct_add (P : Nat → Prop) (m : Nat) : ∀ n, ct_n P (m + n) = ct_n P m + ct_n (fun i => P (m + i)) n
  | 0 => rfl
  | n + 1 => by
    have := ct_add P m n
    show ct_n P (m + n) + ct_b (P (m + n)) = _
    simp only [ct_n]; omega
theorem ct_pos {P : Nat → Prop} {N : Nat} (h : 0 < ct_n P N) : ∃ k, k < N ∧ P k := by
  induction N with
  | zero => exact absurd h (Nat.lt_irrefl 0)
  | succ N ih =>
    rcases Classical.em (P N) with hp | hp
    · exact ⟨N, by omega, hp⟩
    · have e : ct_n P (N + 1) = ct_n P N := by simp only [ct_n]; rw [ct_bf hp]; rfl
      rw [e] at h
      obtain ⟨k, hk, h2⟩ := ih h
      exact ⟨k, by omega, h2⟩
theorem ct_zero {P : Nat → Prop} {N : Nat} (h : ∀ k, k < N → ¬ P k) : ct_n P N = 0 := by
  rcases Nat.eq_zero_or_pos (ct_n P N) with z | z
  · exact z
  · obtain ⟨k, hk, hp⟩ := ct_pos z
    exact absurd hp (h k hk)
end
section
/-! octagons over the integers: matrices 6 by 6; form 2 x is number x, form 2 x + 1 its negative -/
def oc_fl (a : Nat) : Nat := a + 1 - 2 * (a % 2)
theorem oc_fl_lt {a : Nat} (h : a < 6) : oc_fl a < 6 := by unfold oc_fl; omega
theorem oc_fl_fl (a : Nat) : oc_fl (oc_fl a) = a := by unfold oc_fl; omega
theorem oc_fl_ne (a : Nat) : oc_fl a ≠ a := by unfold oc_fl; omega
theorem oc_fl_div (a : Nat) : oc_fl a / 2 = a / 2 := by unfold oc_fl; omega
theorem oc_fl_inj {a b : Nat} (h : oc_fl a = oc_fl b) : a = b := by
  have := congrArg oc_fl h
  rwa [oc_fl_fl, oc_fl_fl] at this
theorem oc_fl_ev (x : Nat) : oc_fl (2 * x) = 2 * x + 1 := by unfold oc_fl; omega
theorem oc_fl_od (x : Nat) : oc_fl (2 * x + 1) = 2 * x := by unfold oc_fl; omega
theorem oc_fl_or {i a : Nat} (h : i / 2 = a / 2) : i = a ∨ i = oc_fl a := by unfold oc_fl; omega
theorem oc_fl_xor : ∀ a, a < 6 → a ^^^ 1 = oc_fl a := by decide
def oc_ev (v : Nat → Int) (a : Nat) : Int := if a % 2 = 0 then v (a / 2) else - v (a / 2)
theorem oc_ev_fl (v : Nat → Int) (a : Nat) : oc_ev v (oc_fl a) = - oc_ev v a := by
  unfold oc_ev
  rw [oc_fl_div]
  by_cases h : a % 2 = 0
  · have h2 : ¬ oc_fl a % 2 = 0 := by unfold oc_fl; omega
    rw [if_pos h, if_neg h2]
  · have h2 : oc_fl a % 2 = 0 := by unfold oc_fl; omega
    rw [if_neg h, if_pos h2, Int.neg_neg]
theorem oc_ev_e (v : Nat → Int) (x : Nat) : oc_ev v (2 * x) = v x := by
  unfold oc_ev
  rw [if_pos (by omega), show 2 * x / 2 = x by omega]
theorem oc_ev_o (v : Nat → Int) (x : Nat) : oc_ev v (2 * x + 1) = - v x := by
  unfold oc_ev
  rw [if_neg (by omega), show (2 * x + 1) / 2 = x by omega]
theorem oc_ev_cong {v w : Nat → Int} {a : Nat} (h : v (a / 2) = w (a / 2)) : oc_ev v a = oc_ev w a := by
  unfold oc_ev; rw [h]
def oc_up (v : Nat → Int) (x : Nat) (t : Int) : Nat → Int := fun i => if i = x then t else v i
theorem oc_up_s (v : Nat → Int) (x : Nat) (t : Int) : oc_up v x t x = t := if_pos rfl
theorem oc_up_n {v : Nat → Int} {x i : Nat} {t : Int} (h : i ≠ x) : oc_up v x t i = v i := if_neg h
theorem oc_ev_up {v : Nat → Int} {x a : Nat} {t : Int} (h : a / 2 ≠ x) : oc_ev (oc_up v x t) a = oc_ev v a :=
  oc_ev_cong (oc_up_n h)
theorem oc_up_id (v : Nat → Int) (x : Nat) : oc_up v x (v x) = v := by
  funext i
  by_cases h : i = x
  · subst h; exact oc_up_s _ _ _
  · exact oc_up_n h
theorem oc_up_up (v : Nat → Int) (x : Nat) (t w : Int) : oc_up (oc_up v x t) x w = oc_up v x w := by
  funext i
  by_cases h : i = x
  · subst h; rw [oc_up_s, oc_up_s]
  · rw [oc_up_n h, oc_up_n h, oc_up_n h]
abbrev OcM : Type := Nat → Nat → Int
def oc_Sat (M : OcM) (v : Nat → Int) : Prop := ∀ a b, a < 6 → b < 6 → oc_ev v a - oc_ev v b ≤ M a b
def oc_Clo (M : OcM) : Prop := ∀ a b k, a < 6 → b < 6 → k < 6 → M a b ≤ M a k + M k b
def oc_Coh (M : OcM) : Prop := ∀ a b, a < 6 → b < 6 → M (oc_fl b) (oc_fl a) = M a b
def oc_Le (N M : OcM) : Prop := ∀ a b, a < 6 → b < 6 → N a b ≤ M a b
def oc_Tc (M : OcM) : Prop := oc_Clo M ∧ oc_Coh M ∧ (∀ a, a < 6 → M a a = 0) ∧ (∀ a, a < 6 → M a (oc_fl a) % 2 = 0) ∧
  (∀ a b, a < 6 → b < 6 → 2 * M a b ≤ M a (oc_fl a) + M (oc_fl b) b)
theorem oc_Sat_cong {M : OcM} {v w : Nat → Int} (h : ∀ i, i < 3 → v i = w i) (S : oc_Sat M v) : oc_Sat M w := by
  intro a b ha hb
  have := S a b ha hb
  rw [oc_ev_cong (h (a / 2) (by omega)), oc_ev_cong (h (b / 2) (by omega))] at this
  exact this
theorem oc_btw (L U : Nat → Int) : ∀ n, (∀ i j, i < n → j < n → L i ≤ U j) → ∃ v : Int, ∀ i, i < n → L i ≤ v ∧ v ≤ U i
  | 0, _ => ⟨0, fun i h => absurd h (Nat.not_lt_zero i)⟩
  | n + 1, h => by
    obtain ⟨v, hv⟩ := oc_btw L U n (fun i j hi hj => h i j (by omega) (by omega))
    refine ⟨max (L n) (min v (U n)), fun i hi => ?_⟩
    have h1 := h i n hi (by omega)
    have h2 := h n i (by omega) hi
    have h3 := h n n (by omega) (by omega)
    rcases Nat.lt_or_ge i n with z | z
    · have := hv i z
      omega
    · have e : i = n := by omega
      subst e
      omega
theorem oc_ext {M : OcM} (T : oc_Tc M) (D : Nat → Prop) {x : Nat} (hx : x < 3) (hD : ¬ D x) (v : Nat → Int)
    (h : ∀ a b, a < 6 → b < 6 → D (a / 2) → D (b / 2) → oc_ev v a - oc_ev v b ≤ M a b) :
    ∃ t : Int, ∀ a b, a < 6 → b < 6 → (D (a / 2) ∨ a / 2 = x) → (D (b / 2) ∨ b / 2 = x) → oc_ev (oc_up v x t) a - oc_ev (oc_up v x t) b ≤ M a b := by
  classical
  obtain ⟨clo, coh, dg, ev, st⟩ := T
  have fe : oc_fl (2 * x) = 2 * x + 1 := oc_fl_ev x
  have fo : oc_fl (2 * x + 1) = 2 * x := oc_fl_od x
  have u6 : 2 * x < 6 := by omega
  have w6 : 2 * x + 1 < 6 := by omega
  have eu : M (2 * x) (2 * x + 1) % 2 = 0 := by have := ev (2 * x) u6; rwa [fe] at this
  have ew : M (2 * x + 1) (2 * x) % 2 = 0 := by have := ev (2 * x + 1) w6; rwa [fo] at this
  have uw : 0 ≤ M (2 * x) (2 * x + 1) + M (2 * x + 1) (2 * x) := by
    have a1 := clo (2 * x) (2 * x) (2 * x + 1) u6 u6 w6
    have a2 := dg (2 * x) u6
    omega
  -- coherence at the new forms
  have cw : ∀ i, i < 6 → M (oc_fl i) (2 * x) = M (2 * x + 1) i := fun i hi => by
    have := coh (2 * x + 1) i w6 hi; rwa [fo] at this
  have cu : ∀ i, i < 6 → M (oc_fl i) (2 * x + 1) = M (2 * x) i := fun i hi => by
    have := coh (2 * x) i u6 hi; rwa [fe] at this
  have un : ∀ i, i < 6 → D (i / 2) → - oc_ev v i - oc_ev v i ≤ M (oc_fl i) i := fun i hi d => by
    have := h (oc_fl i) i (oc_fl_lt hi) hi (by rw [oc_fl_div]; exact d) d
    rwa [oc_ev_fl] at this
  obtain ⟨t, ht⟩ := oc_btw (fun i => if D (i / 2) then - M (2 * x + 1) i - oc_ev v i else - (M (2 * x + 1) (2 * x) / 2))
    (fun i => if D (i / 2) then M (2 * x) i + oc_ev v i else M (2 * x) (2 * x + 1) / 2) 6 (by
      intro i j hi hj
      by_cases di : D (i / 2)
      · by_cases dj : D (j / 2)
        · simp only [if_pos di, if_pos dj]
          have a1 := clo (oc_fl i) j (2 * x) (oc_fl_lt hi) hj u6
          have a2 := h (oc_fl i) j (oc_fl_lt hi) hj (by rw [oc_fl_div]; exact di) dj
          rw [oc_ev_fl] at a2
          rw [cw i hi] at a1
          omega
        · simp only [if_pos di, if_neg dj]
          have a1 := clo (oc_fl i) i (2 * x) (oc_fl_lt hi) hi u6
          have a2 := clo (2 * x) i (2 * x + 1) u6 hi w6
          have a3 := un i hi di
          rw [cw i hi] at a1
          omega
      · by_cases dj : D (j / 2)
        · simp only [if_neg di, if_pos dj]
          have a1 := clo (oc_fl j) j (2 * x + 1) (oc_fl_lt hj) hj w6
          have a2 := clo (2 * x + 1) j (2 * x) w6 hj u6
          have a3 := un j hj dj
          rw [cu j hj] at a1
          omega
        · simp only [if_neg di, if_neg dj]
          omega)
  have low : ∀ i, i < 6 → D (i / 2) → - M (2 * x + 1) i - oc_ev v i ≤ t := fun i hi d => by
    have := (ht i hi).1; simp only [if_pos d] at this; exact this
  have upp : ∀ i, i < 6 → D (i / 2) → t ≤ M (2 * x) i + oc_ev v i := fun i hi d => by
    have := (ht i hi).2; simp only [if_pos d] at this; exact this
  have hu2 : ¬ D (2 * x / 2) := by rw [show 2 * x / 2 = x by omega]; exact hD
  have low0 : - (M (2 * x + 1) (2 * x) / 2) ≤ t := by
    have := (ht (2 * x) u6).1; simp only [if_neg hu2] at this; exact this
  have upp0 : t ≤ M (2 * x) (2 * x + 1) / 2 := by
    have := (ht (2 * x) u6).2; simp only [if_neg hu2] at this; exact this
  have e0 : oc_ev (oc_up v x t) (2 * x) = t := by rw [oc_ev_e, oc_up_s]
  have e1 : oc_ev (oc_up v x t) (2 * x + 1) = - t := by rw [oc_ev_o, oc_up_s]
  refine ⟨t, fun a b ha hb da db => ?_⟩
  by_cases xa : a / 2 = x
  · by_cases xb : b / 2 = x
    · have ca : a = 2 * x ∨ a = 2 * x + 1 := by omega
      have cb : b = 2 * x ∨ b = 2 * x + 1 := by omega
      rcases ca with rfl | rfl <;> rcases cb with rfl | rfl
      · rw [dg _ u6]; omega
      · rw [e0, e1]; omega
      · rw [e0, e1]; omega
      · rw [dg _ w6]; omega
    · have db' : D (b / 2) := db.resolve_right xb
      rw [oc_ev_up xb]
      have ca : a = 2 * x ∨ a = 2 * x + 1 := by omega
      rcases ca with rfl | rfl
      · rw [e0]; have := upp b hb db'; omega
      · rw [e1]; have := low b hb db'; omega
  · have da' : D (a / 2) := da.resolve_right xa
    by_cases xb : b / 2 = x
    · rw [oc_ev_up xa]
      have cb : b = 2 * x ∨ b = 2 * x + 1 := by omega
      have da2 : D (oc_fl a / 2) := by rw [oc_fl_div]; exact da'
      rcases cb with rfl | rfl
      · rw [e0]
        have a1 := low (oc_fl a) (oc_fl_lt ha) da2
        have a2 := cw (oc_fl a) (oc_fl_lt ha)
        rw [oc_fl_fl] at a2
        rw [oc_ev_fl] at a1
        omega
      · rw [e1]
        have a1 := upp (oc_fl a) (oc_fl_lt ha) da2
        have a2 := cu (oc_fl a) (oc_fl_lt ha)
        rw [oc_fl_fl] at a2
        rw [oc_ev_fl] at a1
        omega
    · rw [oc_ev_up xa, oc_ev_up xb]
      exact h a b ha hb da' (db.resolve_right xb)
theorem oc_ext1 {M : OcM} (T : oc_Tc M) (D : Nat → Prop) {x : Nat} (hx : x < 3) (v : Nat → Int)
    (h : ∀ a b, a < 6 → b < 6 → D (a / 2) → D (b / 2) → oc_ev v a - oc_ev v b ≤ M a b) :
    ∃ w : Nat → Int, (∀ i, D i → w i = v i) ∧ ∀ a b, a < 6 → b < 6 → (D (a / 2) ∨ a / 2 = x) → (D (b / 2) ∨ b / 2 = x) → oc_ev w a - oc_ev w b ≤ M a b := by
  rcases Classical.em (D x) with d | d
  · refine ⟨v, fun _ _ => rfl, fun a b ha hb da db => h a b ha hb ?_ ?_⟩
    · rcases da with z | z
      · exact z
      · rw [z]; exact d
    · rcases db with z | z
      · exact z
      · rw [z]; exact d
  · obtain ⟨t, ht⟩ := oc_ext T D hx d v h
    exact ⟨oc_up v x t, fun i hi => oc_up_n (fun e => d (e ▸ hi)), ht⟩
theorem oc_extA {M : OcM} (T : oc_Tc M) (D : Nat → Prop) (v : Nat → Int)
    (h : ∀ a b, a < 6 → b < 6 → D (a / 2) → D (b / 2) → oc_ev v a - oc_ev v b ≤ M a b) :
    ∃ w : Nat → Int, (∀ i, D i → w i = v i) ∧ oc_Sat M w := by
  obtain ⟨w0, k0, h0⟩ := oc_ext1 T D (x := 0) (by omega) v h
  obtain ⟨w1, k1, h1⟩ := oc_ext1 T (fun i => D i ∨ i = 0) (x := 1) (by omega) w0 h0
  obtain ⟨w2, k2, h2⟩ := oc_ext1 T (fun i => (D i ∨ i = 0) ∨ i = 1) (x := 2) (by omega) w1 h1
  refine ⟨w2, fun i hi => ?_, fun a b ha hb => h2 a b ha hb ?_ ?_⟩
  · rw [k2 i (Or.inl (Or.inl hi)), k1 i (Or.inl hi), k0 i hi]
  · have : a / 2 = 0 ∨ a / 2 = 1 ∨ a / 2 = 2 := by omega
    rcases this with z | z | z
    · exact Or.inl (Or.inl (Or.inr z))
    · exact Or.inl (Or.inr z)
    · exact Or.inr z
  · have : b / 2 = 0 ∨ b / 2 = 1 ∨ b / 2 = 2 := by omega
    rcases this with z | z | z
    · exact Or.inl (Or.inl (Or.inr z))
    · exact Or.inl (Or.inr z)
    · exact Or.inr z
theorem oc_int (e1 e2 e3 e4 p q d : Int) (p1 : e1 % 2 = 0) (p2 : e2 % 2 = 0) (p3 : e3 % 2 = 0) (p4 : e4 % 2 = 0)
    (h1 : 0 ≤ e1 + e2) (h2 : e1 ≤ 2 * d + e3) (h3 : e1 ≤ q + d) (h4 : 2 * d ≤ e1 + e4) (h5 : 0 ≤ e3 + e4)
    (h6 : d ≤ q + e4) (h7 : d ≤ e1 + p) (h8 : e4 ≤ p + d) (h9 : 0 ≤ p + q) :
    ∃ t : Int, - e2 ≤ 2 * t ∧ 2 * t ≤ e1 ∧ 2 * d - e4 ≤ 2 * t ∧ 2 * t ≤ e3 + 2 * d ∧ d - p ≤ 2 * t ∧ 2 * t ≤ q + d :=
  ⟨max (max (- (e2 / 2)) (d - e4 / 2)) ((d - p + 1) / 2), by omega⟩
theorem oc_wit {M : OcM} (T : oc_Tc M) {a b : Nat} (ha : a < 6) (hb : b < 6) : ∃ v, oc_Sat M v ∧ oc_ev v a - oc_ev v b = M a b := by
  have T' := T
  obtain ⟨clo, coh, dg, ev, st⟩ := T
  by_cases hab : a / 2 = b / 2
  · rcases oc_fl_or hab.symm with e | e
    · subst e
      obtain ⟨w, _, hw⟩ := oc_extA T' (fun _ => False) (fun _ => 0) (fun _ _ _ _ d _ => d.elim)
      exact ⟨w, hw, by rw [dg _ hb]; omega⟩
    · subst e
      have h2 := ev a ha
      have h3 := clo a a (oc_fl a) ha ha (oc_fl_lt ha)
      have h4 := dg a ha
      have e1 : oc_ev (fun _ => if a % 2 = 0 then M a (oc_fl a) / 2 else - (M a (oc_fl a) / 2)) a = M a (oc_fl a) / 2 := by
        unfold oc_ev
        by_cases z : a % 2 = 0
        · rw [if_pos z, if_pos z]
        · rw [if_neg z, if_neg z, Int.neg_neg]
      obtain ⟨w, k, hw⟩ := oc_extA T' (fun i => i = a / 2) (fun _ => if a % 2 = 0 then M a (oc_fl a) / 2 else - (M a (oc_fl a) / 2)) (by
        intro i j hi hj di dj
        have e2 := oc_ev_fl (fun _ => if a % 2 = 0 then M a (oc_fl a) / 2 else - (M a (oc_fl a) / 2)) a
        rw [e1] at e2
        rcases oc_fl_or di with z | z <;> rcases oc_fl_or dj with y | y <;> subst z <;> subst y
        · rw [dg _ ha]; omega
        · rw [e1, e2]; omega
        · rw [e1, e2]; omega
        · rw [dg _ hb]; omega)
      refine ⟨w, hw, ?_⟩
      have e3 := oc_ev_cong (v := w) (w := fun _ => if a % 2 = 0 then M a (oc_fl a) / 2 else - (M a (oc_fl a) / 2)) (a := a) (k (a / 2) rfl)
      rw [oc_ev_fl, e3, e1]
      omega
  · have hfa := oc_fl_lt ha
    have hfb := oc_fl_lt hb
    have c1 : M (oc_fl b) (oc_fl a) = M a b := coh a b ha hb
    have c2 : M b (oc_fl a) = M a (oc_fl b) := by have := coh a (oc_fl b) ha hfb; rwa [oc_fl_fl] at this
    have c3 : M (oc_fl b) a = M (oc_fl a) b := by have := coh (oc_fl a) b hfa hb; rwa [oc_fl_fl] at this
    have c4 : M (oc_fl a) (oc_fl b) = M b a := coh b a hb ha
    have pb := ev b hb
    have pa := ev a ha
    have pa' : M (oc_fl a) a % 2 = 0 := by have := ev (oc_fl a) hfa; rwa [oc_fl_fl] at this
    have pb' : M (oc_fl b) b % 2 = 0 := by have := ev (oc_fl b) hfb; rwa [oc_fl_fl] at this
    obtain ⟨t, t1, t2, t3, t4, t5, t6⟩ := oc_int (M a (oc_fl a)) (M (oc_fl a) a) (M b (oc_fl b)) (M (oc_fl b) b) (M (oc_fl a) b) (M a (oc_fl b)) (M a b) pa pa' pb pb'
      (by have x := clo a a (oc_fl a) ha ha hfa; have y := dg a ha; omega)
      (by have x := clo a (oc_fl a) b ha hfa hb; have y := clo b (oc_fl a) (oc_fl b) hb hfa hfb; omega)
      (by have x := clo a (oc_fl a) b ha hfa hb; omega)
      (st a b ha hb)
      (by have x := clo b b (oc_fl b) hb hb hfb; have y := dg b hb; omega)
      (by have x := clo a b (oc_fl b) ha hb hfb; omega)
      (by have x := clo a b (oc_fl a) ha hb hfa; omega)
      (by have x := clo (oc_fl b) b a hfb hb ha; omega)
      (by have x := clo a a (oc_fl b) ha ha hfb; have y := dg a ha; omega)
    have ba : 0 ≤ M a b + M b a := by have x := clo a a b ha ha hb; have y := dg a ha; omega
    have hV : ∃ v : Nat → Int, oc_ev v a = t ∧ oc_ev v b = t - M a b := by
      refine ⟨fun i => if i = a / 2 then (if a % 2 = 0 then t else - t) else (if b % 2 = 0 then t - M a b else M a b - t), ?_, ?_⟩
      · unfold oc_ev
        simp only [if_pos rfl, ↓reduceIte]
        by_cases z : a % 2 = 0
        · simp only [if_pos z]
        · simp only [if_neg z, Int.neg_neg]
      · unfold oc_ev
        have hne : ¬ b / 2 = a / 2 := fun e => hab e.symm
        simp only [if_neg hne]
        by_cases z : b % 2 = 0
        · simp only [if_pos z]
        · simp only [if_neg z]; omega
    obtain ⟨v, va, vb⟩ := hV
    have va' : oc_ev v (oc_fl a) = - t := by rw [oc_ev_fl, va]
    have vb' : oc_ev v (oc_fl b) = - (t - M a b) := by rw [oc_ev_fl, vb]
    have cs : ∀ i, i / 2 = a / 2 ∨ i / 2 = b / 2 → i = a ∨ i = oc_fl a ∨ i = b ∨ i = oc_fl b := by
      intro i hi
      rcases hi with z | z
      · rcases oc_fl_or z with y | y
        · exact Or.inl y
        · exact Or.inr (Or.inl y)
      · rcases oc_fl_or z with y | y
        · exact Or.inr (Or.inr (Or.inl y))
        · exact Or.inr (Or.inr (Or.inr y))
    have da := dg a ha
    have db := dg b hb
    have da' := dg _ hfa
    have db' := dg _ hfb
    obtain ⟨w, k, hw⟩ := oc_extA T' (fun i => i = a / 2 ∨ i = b / 2) v (by
      intro i j hi hj di dj
      rcases cs i di with z | z | z | z <;> rcases cs j dj with y | y | y | y <;> subst z <;> subst y <;>
        simp only [va, vb, va', vb'] <;> omega)
    exact ⟨w, hw, by rw [oc_ev_cong (k (a / 2) (Or.inl rfl)), oc_ev_cong (k (b / 2) (Or.inr rfl)), va, vb]; omega⟩
end
section
/-! the closing of a matrix: as the component does it, row by row -/
def oc_th (a k : Nat) (M : OcM) : OcM := fun i j => if i = a then min (M i j) (M a k + M k j) else M i j
def oc_thA (k : Nat) : Nat → OcM → OcM
  | 0, M => M
  | n + 1, M => oc_th n k (oc_thA k n M)
def oc_fw : Nat → OcM → OcM
  | 0, M => M
  | n + 1, M => oc_thA n 6 (oc_fw n M)
theorem oc_th_le (a k : Nat) (M : OcM) (i j : Nat) : oc_th a k M i j ≤ M i j := by
  unfold oc_th
  by_cases h : i = a
  · rw [if_pos h]; omega
  · rw [if_neg h]; exact Int.le_refl _
theorem oc_thA_le (k : Nat) (M : OcM) (i j : Nat) : ∀ n, oc_thA k n M i j ≤ M i j
  | 0 => Int.le_refl _
  | n + 1 => Int.le_trans (oc_th_le n k _ i j) (oc_thA_le k M i j n)
theorem oc_fw_dn (M : OcM) (i j n : Nat) : ∀ d, oc_fw (n + d) M i j ≤ oc_fw n M i j
  | 0 => Int.le_refl _
  | d + 1 => Int.le_trans (oc_thA_le (n + d) (oc_fw (n + d) M) i j 6) (oc_fw_dn M i j n d)
theorem oc_fw_le (M : OcM) (i j n : Nat) : oc_fw n M i j ≤ M i j := by
  have := oc_fw_dn M i j 0 n
  rw [Nat.zero_add] at this
  exact this
theorem oc_th_gr {N M : OcM} (C : oc_Clo N) (h : oc_Le N M) {a k : Nat} (ha : a < 6) (hk : k < 6) : oc_Le N (oc_th a k M) := by
  intro i j hi hj
  unfold oc_th
  by_cases e : i = a
  · rw [if_pos e]
    have h1 := h i j hi hj
    have h2 := h a k ha hk
    have h3 := h k j hk hj
    have h4 := C i j k hi hj hk
    subst e
    omega
  · rw [if_neg e]; exact h i j hi hj
theorem oc_thA_gr {N M : OcM} (C : oc_Clo N) (h : oc_Le N M) {k : Nat} (hk : k < 6) : ∀ n, n ≤ 6 → oc_Le N (oc_thA k n M)
  | 0, _ => h
  | n + 1, hn => oc_th_gr C (oc_thA_gr C h hk n (by omega)) (by omega) hk
theorem oc_fw_gr {N M : OcM} (C : oc_Clo N) (h : oc_Le N M) : ∀ n, n ≤ 6 → oc_Le N (oc_fw n M)
  | 0, _ => h
  | n + 1, hn => oc_thA_gr C (oc_fw_gr C h n (by omega)) (by omega) 6 (Nat.le_refl _)
theorem oc_thA_f {M : OcM} {k : Nat} (h : 0 ≤ M k k) (i j : Nat) : ∀ n, oc_thA k n M i j = if i < n then min (M i j) (M i k + M k j) else M i j
  | 0 => by rw [if_neg (Nat.not_lt_zero i)]; rfl
  | n + 1 => by
    show oc_th n k (oc_thA k n M) i j = _
    unfold oc_th
    by_cases e : i = n
    · subst e
      rw [if_pos rfl, if_pos (Nat.lt_succ_self i)]
      have e1 : oc_thA k i M i j = M i j := by rw [oc_thA_f h i j i, if_neg (Nat.lt_irrefl i)]
      have e2 : oc_thA k i M i k = M i k := by rw [oc_thA_f h i k i, if_neg (Nat.lt_irrefl i)]
      have e3 : oc_thA k i M k j = M k j := by
        rw [oc_thA_f h k j i]
        by_cases z : k < i
        · rw [if_pos z]; omega
        · rw [if_neg z]
      rw [e1, e2, e3]
    · rw [if_neg e, oc_thA_f h i j n]
      by_cases z : i < n
      · rw [if_pos z, if_pos (by omega)]
      · rw [if_neg z, if_neg (by omega)]
def oc_CloK (m : Nat) (M : OcM) : Prop := ∀ k a b, k < m → a < 6 → b < 6 → M a b ≤ M a k + M k b
theorem oc_cloS {M : OcM} {m : Nat} (hm : m < 6) (h : oc_CloK m M) (d : 0 ≤ M m m) : oc_CloK (m + 1) (oc_thA m 6 M) := by
  intro k a b hk ha hb
  have k6 : k < 6 := by omega
  rw [oc_thA_f d a b 6, oc_thA_f d a k 6, oc_thA_f d k b 6, if_pos ha, if_pos ha, if_pos k6]
  rcases Nat.lt_or_ge k m with z | z
  · have h1 := h k a b z ha hb
    have h2 := h k a m z ha hm
    have h3 := h k m b z hm hb
    have h4 := h k m m z hm hm
    omega
  · have e : k = m := by omega
    subst e
    omega
theorem oc_fw_clo {M : OcM} (d : ∀ i, i < 6 → 0 ≤ oc_fw 6 M i i) : ∀ n, n ≤ 6 → oc_CloK n (oc_fw n M)
  | 0, _ => fun k _ _ hk => absurd hk (Nat.not_lt_zero k)
  | n + 1, hn => by
    refine oc_cloS (by omega) (oc_fw_clo d n (by omega)) ?_
    have h1 := d n (by omega)
    have h2 := oc_fw_dn M n n n (6 - n)
    rw [show n + (6 - n) = 6 by omega] at h2
    omega
theorem oc_fw_coh {M : OcM} (hc : oc_Coh M) (C : oc_Clo (oc_fw 6 M)) : oc_Coh (oc_fw 6 M) := by
  have key : ∀ a b, a < 6 → b < 6 → oc_fw 6 M (oc_fl b) (oc_fl a) ≤ oc_fw 6 M a b := by
    have := oc_fw_gr (N := fun a b => oc_fw 6 M (oc_fl b) (oc_fl a)) (M := M)
      (fun a b k ha hb hk => by
        have := C (oc_fl b) (oc_fl a) (oc_fl k) (oc_fl_lt hb) (oc_fl_lt ha) (oc_fl_lt hk)
        show oc_fw 6 M (oc_fl b) (oc_fl a) ≤ oc_fw 6 M (oc_fl k) (oc_fl a) + oc_fw 6 M (oc_fl b) (oc_fl k)
        omega)
      (fun a b ha hb => by
        have h1 := oc_fw_le M (oc_fl b) (oc_fl a) 6
        have h2 := hc a b ha hb
        show oc_fw 6 M (oc_fl b) (oc_fl a) ≤ M a b
        omega) 6 (Nat.le_refl _)
    exact this
  intro a b ha hb
  have h1 := key a b ha hb
  have h2 := key (oc_fl b) (oc_fl a) (oc_fl_lt hb) (oc_fl_lt ha)
  rw [oc_fl_fl, oc_fl_fl] at h2
  omega
def oc_tg (a : Nat) (M : OcM) : OcM := fun i j => if i = a ∧ j = oc_fl a then 2 * (M i j / 2) else M i j
def oc_tgA : Nat → OcM → OcM
  | 0, M => M
  | n + 1, M => oc_tg n (oc_tgA n M)
theorem oc_tgA_f (M : OcM) (i j : Nat) : ∀ n, oc_tgA n M i j = if i < n ∧ j = oc_fl i then 2 * (M i j / 2) else M i j
  | 0 => by rw [if_neg (fun h => Nat.not_lt_zero i h.1)]; rfl
  | n + 1 => by
    show oc_tg n (oc_tgA n M) i j = _
    unfold oc_tg
    rw [oc_tgA_f M i j n]
    by_cases e : i = n
    · subst e
      have n1 : ¬ (i < i ∧ j = oc_fl i) := fun h => Nat.lt_irrefl i h.1
      rw [if_neg n1]
      by_cases z : j = oc_fl i
      · rw [if_pos ⟨rfl, z⟩, if_pos ⟨Nat.lt_succ_self i, z⟩]
      · rw [if_neg (fun h => z h.2), if_neg (fun h => z h.2)]
    · rw [if_neg (fun h => e h.1)]
      by_cases z : i < n ∧ j = oc_fl i
      · rw [if_pos z, if_pos ⟨by omega, z.2⟩]
      · rw [if_neg z, if_neg (fun h => z ⟨by omega, h.2⟩)]
def oc_sg (a : Nat) (M : OcM) : OcM := fun i j => if i = a ∧ i ≠ j then min (M i j) ((M a (oc_fl a) + M (oc_fl j) j) / 2) else M i j
def oc_sgA : Nat → OcM → OcM
  | 0, M => M
  | n + 1, M => oc_sg n (oc_sgA n M)
theorem oc_sgA_f (M : OcM) : ∀ n i j, oc_sgA n M i j = if i < n ∧ i ≠ j then min (M i j) ((M i (oc_fl i) + M (oc_fl j) j) / 2) else M i j
  | 0, i, j => by rw [if_neg (fun h => Nat.not_lt_zero i h.1)]; rfl
  | n + 1, i, j => by
    have un : ∀ a, oc_sgA n M a (oc_fl a) = M a (oc_fl a) := fun a => by
      rw [oc_sgA_f M n a (oc_fl a), oc_fl_fl]
      by_cases z : a < n ∧ a ≠ oc_fl a
      · rw [if_pos z]; omega
      · rw [if_neg z]
    have un' : ∀ b, oc_sgA n M (oc_fl b) b = M (oc_fl b) b := fun b => by
      have := un (oc_fl b); rwa [oc_fl_fl] at this
    show oc_sg n (oc_sgA n M) i j = _
    unfold oc_sg
    rw [un, un', oc_sgA_f M n i j]
    by_cases e : i = n
    · subst e
      rw [if_neg (fun h : i < i ∧ i ≠ j => Nat.lt_irrefl i h.1)]
      by_cases z : i = j
      · rw [if_neg (fun h => h.2 z), if_neg (fun h => h.2 z)]
      · rw [if_pos ⟨rfl, z⟩, if_pos ⟨Nat.lt_succ_self i, z⟩]
    · rw [if_neg (fun h => e h.1)]
      by_cases z : i < n ∧ i ≠ j
      · rw [if_pos z, if_pos ⟨by omega, z.2⟩]
      · rw [if_neg z, if_neg (fun h => z ⟨by omega, h.2⟩)]
def oc_T (M : OcM) : OcM := oc_tgA 6 (oc_fw 6 M)
def oc_C (M : OcM) : OcM := oc_sgA 6 (oc_T M)
def oc_ok (T : OcM) : Prop := ∀ a, a < 6 → 0 ≤ T a a ∧ 0 ≤ T a (oc_fl a) + T (oc_fl a) a
theorem oc_T_d (M : OcM) (a : Nat) : oc_T M a a = oc_fw 6 M a a := by
  unfold oc_T
  rw [oc_tgA_f, if_neg (fun h => oc_fl_ne a h.2.symm)]
theorem oc_T_u (M : OcM) {a : Nat} (ha : a < 6) : oc_T M a (oc_fl a) = 2 * (oc_fw 6 M a (oc_fl a) / 2) := by
  unfold oc_T
  rw [oc_tgA_f, if_pos ⟨ha, rfl⟩]
theorem oc_T_u' (M : OcM) {b : Nat} (hb : b < 6) : oc_T M (oc_fl b) b = 2 * (oc_fw 6 M (oc_fl b) b / 2) := by
  have := oc_T_u M (oc_fl_lt hb); rwa [oc_fl_fl] at this
theorem oc_satN (v : Nat → Int) : oc_Clo (fun a b => oc_ev v a - oc_ev v b) := by
  intro a b k _ _ _
  show oc_ev v a - oc_ev v b ≤ (oc_ev v a - oc_ev v k) + (oc_ev v k - oc_ev v b)
  omega
theorem oc_satF {M : OcM} {v : Nat → Int} (S : oc_Sat M v) : oc_Sat (oc_fw 6 M) v :=
  oc_fw_gr (oc_satN v) S 6 (Nat.le_refl _)
theorem oc_satT {M : OcM} {v : Nat → Int} (S : oc_Sat M v) : oc_Sat (oc_T M) v := by
  intro a b ha hb
  have h := oc_satF S a b ha hb
  unfold oc_T
  rw [oc_tgA_f]
  by_cases z : a < 6 ∧ b = oc_fl a
  · rw [if_pos z]
    obtain ⟨_, e⟩ := z
    subst e
    rw [oc_ev_fl] at h ⊢
    omega
  · rw [if_neg z]; exact h
theorem oc_sat_ok {T : OcM} {v : Nat → Int} (S : oc_Sat T v) : oc_ok T := by
  intro a ha
  have h1 := S a a ha ha
  have h2 := S a (oc_fl a) ha (oc_fl_lt ha)
  have h3 := S (oc_fl a) a (oc_fl_lt ha) ha
  constructor <;> omega
theorem oc_satC {M : OcM} {v : Nat → Int} (S : oc_Sat M v) : oc_Sat (oc_C M) v := by
  have ST := oc_satT S
  intro a b ha hb
  unfold oc_C
  rw [oc_sgA_f]
  have h := ST a b ha hb
  by_cases z : a < 6 ∧ a ≠ b
  · rw [if_pos z]
    have h1 := ST a (oc_fl a) ha (oc_fl_lt ha)
    have h2 := ST (oc_fl b) b (oc_fl_lt hb) hb
    rw [oc_ev_fl] at h1 h2
    omega
  · rw [if_neg z]; exact h
theorem oc_T_le {M : OcM} (i j : Nat) : oc_T M i j ≤ M i j := by
  have h := oc_fw_le M i j 6
  unfold oc_T
  rw [oc_tgA_f]
  by_cases z : i < 6 ∧ j = oc_fl i
  · rw [if_pos z]; omega
  · rw [if_neg z]; exact h
theorem oc_C_le {M : OcM} (i j : Nat) : oc_C M i j ≤ M i j := by
  have h := oc_T_le (M := M) i j
  unfold oc_C
  rw [oc_sgA_f]
  by_cases z : i < 6 ∧ i ≠ j
  · rw [if_pos z]; omega
  · rw [if_neg z]; exact h
theorem oc_C_f {M : OcM} (dg : ∀ a, a < 6 → M a a ≤ 0) (ok : oc_ok (oc_T M)) {i j : Nat} (hi : i < 6) (hj : j < 6) :
    oc_C M i j = min (oc_fw 6 M i j) (oc_fw 6 M i (oc_fl i) / 2 + oc_fw 6 M (oc_fl j) j / 2) := by
  unfold oc_C
  rw [oc_sgA_f, oc_T_u M hi, oc_T_u' M hj]
  by_cases e : i = j
  · subst e
    rw [if_neg (fun h => h.2 rfl), oc_T_d]
    have h1 := ok i hi
    rw [oc_T_d, oc_T_u M hi, oc_T_u' M hi] at h1
    have h2 := oc_fw_le M i i 6
    have h3 := dg i hi
    omega
  · rw [if_pos ⟨hi, e⟩]
    unfold oc_T
    rw [oc_tgA_f]
    by_cases z : i < 6 ∧ j = oc_fl i
    · rw [if_pos z]
      obtain ⟨_, z⟩ := z
      subst z
      rw [oc_fl_fl]
      omega
    · rw [if_neg z]; omega
theorem oc_close {M : OcM} (hc : oc_Coh M) (dg : ∀ a, a < 6 → M a a ≤ 0) (ok : oc_ok (oc_T M)) : oc_Tc (oc_C M) := by
  have d0 : ∀ i, i < 6 → 0 ≤ oc_fw 6 M i i := fun i hi => by have := (ok i hi).1; rwa [oc_T_d] at this
  have clo : oc_Clo (oc_fw 6 M) := fun a b k ha hb hk => oc_fw_clo d0 6 (Nat.le_refl _) k a b hk ha hb
  have coh := oc_fw_coh hc clo
  have hh : ∀ a, a < 6 → 0 ≤ oc_fw 6 M a (oc_fl a) / 2 + oc_fw 6 M (oc_fl a) a / 2 := fun a ha => by
    have := (ok a ha).2; rw [oc_T_u M ha, oc_T_u' M ha] at this; omega
  -- the halves: h a ≤ F a k + h k
  have hT : ∀ a k, a < 6 → k < 6 → oc_fw 6 M a (oc_fl a) / 2 ≤ oc_fw 6 M a k + oc_fw 6 M k (oc_fl k) / 2 := fun a k ha hk => by
    have h1 := clo a (oc_fl a) k ha (oc_fl_lt ha) hk
    have h2 := clo k (oc_fl a) (oc_fl k) hk (oc_fl_lt ha) (oc_fl_lt hk)
    have h3 := coh a k ha hk
    omega
  have hT' : ∀ b k, b < 6 → k < 6 → oc_fw 6 M (oc_fl b) b / 2 ≤ oc_fw 6 M (oc_fl k) k / 2 + oc_fw 6 M k b := fun b k hb hk => by
    have h1 := hT (oc_fl b) (oc_fl k) (oc_fl_lt hb) (oc_fl_lt hk)
    rw [oc_fl_fl, oc_fl_fl, coh k b hk hb] at h1
    omega
  have f := fun (i j : Nat) (hi : i < 6) (hj : j < 6) => oc_C_f dg ok hi hj
  refine ⟨?_, ?_, ?_, ?_, ?_⟩
  · intro a b k ha hb hk
    rw [f a b ha hb, f a k ha hk, f k b hk hb]
    have h1 := clo a b k ha hb hk
    have h2 := hT a k ha hk
    have h3 := hT' b k hb hk
    have h4 := hh k hk
    omega
  · intro a b ha hb
    rw [f a b ha hb, f (oc_fl b) (oc_fl a) (oc_fl_lt hb) (oc_fl_lt ha), coh a b ha hb, oc_fl_fl, oc_fl_fl]
    omega
  · intro a ha
    rw [f a a ha ha]
    have h1 := d0 a ha
    have h2 := oc_fw_le M a a 6
    have h3 := dg a ha
    have h4 := hh a ha
    omega
  · intro a ha
    rw [f a (oc_fl a) ha (oc_fl_lt ha), oc_fl_fl]
    omega
  · intro a b ha hb
    rw [f a b ha hb, f a (oc_fl a) ha (oc_fl_lt ha), f (oc_fl b) b (oc_fl_lt hb) hb, oc_fl_fl, oc_fl_fl]
    omega
theorem oc_closeS {M : OcM} {v : Nat → Int} : oc_Sat (oc_C M) v ↔ oc_Sat M v :=
  ⟨fun S a b ha hb => Int.le_trans (S a b ha hb) (oc_C_le a b), oc_satC⟩
theorem oc_closeN {M : OcM} (h : ¬ oc_ok (oc_T M)) (v : Nat → Int) : ¬ oc_Sat M v := fun S => h (oc_sat_ok (oc_satT S))
/-! bounds: nothing overflows -/
def oc_Bd (L : Int) (M : OcM) : Prop := ∀ i j, i < 6 → j < 6 → - L ≤ M i j ∧ M i j ≤ 100
theorem oc_thA_n (k : Nat) (M : OcM) {i : Nat} (j : Nat) : ∀ n, n ≤ i → oc_thA k n M i j = M i j
  | 0, _ => rfl
  | n + 1, h => by
    show oc_th n k (oc_thA k n M) i j = _
    unfold oc_th
    rw [if_neg (by omega), oc_thA_n k M j n (by omega)]
theorem oc_thA_bd {L : Int} {M : OcM} (hL : 100 ≤ L) (h : oc_Bd L M) {k : Nat} (hk : k < 6) : ∀ n, n ≤ 6 → oc_Bd (3 * L) (oc_thA k n M) ∧ ∀ j, j < 6 → - (2 * L) ≤ oc_thA k n M k j
  | 0, _ => ⟨fun i j hi hj => by have := h i j hi hj; show - (3 * L) ≤ M i j ∧ M i j ≤ 100; omega, fun j hj => by have := h k j hk hj; show - (2 * L) ≤ M k j; omega⟩
  | n + 1, hn => by
    obtain ⟨h1, h2⟩ := oc_thA_bd hL h hk n (by omega)
    constructor
    · intro i j hi hj
      show - (3 * L) ≤ oc_th n k (oc_thA k n M) i j ∧ oc_th n k (oc_thA k n M) i j ≤ 100
      unfold oc_th
      by_cases e : i = n
      · rw [if_pos e]
        subst e
        rw [oc_thA_n k M j i (Nat.le_refl _), oc_thA_n k M k i (Nat.le_refl _)]
        have a1 := h i j hi hj
        have a2 := h i k hi hk
        have a3 := h2 j hj
        omega
      · rw [if_neg e]; exact h1 i j hi hj
    · intro j hj
      show - (2 * L) ≤ oc_th n k (oc_thA k n M) k j
      unfold oc_th
      by_cases e : k = n
      · rw [if_pos e]
        subst e
        rw [oc_thA_n k M j k (Nat.le_refl _), oc_thA_n k M k k (Nat.le_refl _)]
        have a1 := h k j hk hj
        have a2 := h k k hk hk
        omega
      · rw [if_neg e]; exact h2 j hj
def oc_pw : Nat → Int
  | 0 => 100
  | n + 1 => 3 * oc_pw n
theorem oc_pw_le : ∀ n, 100 ≤ oc_pw n
  | 0 => Int.le_refl _
  | n + 1 => by have := oc_pw_le n; show 100 ≤ 3 * oc_pw n; omega
theorem oc_pw_mono (n : Nat) : ∀ d, oc_pw n ≤ oc_pw (n + d)
  | 0 => Int.le_refl _
  | d + 1 => by have h1 := oc_pw_mono n d; have h2 := oc_pw_le (n + d); show oc_pw n ≤ 3 * oc_pw (n + d); omega
theorem oc_fw_bd {M : OcM} (h : oc_Bd 100 M) : ∀ n, n ≤ 6 → oc_Bd (oc_pw n) (oc_fw n M)
  | 0, _ => h
  | n + 1, hn => (oc_thA_bd (oc_pw_le n) (oc_fw_bd h n (by omega)) (by omega) 6 (Nat.le_refl _)).1
theorem oc_Bd_mono {L L' : Int} {M : OcM} (hL : L ≤ L') (h : oc_Bd L M) : oc_Bd L' M := fun i j hi hj => by
  have := h i j hi hj; omega
theorem oc_bdThA {M : OcM} (h : oc_Bd 100 M) {k n : Nat} (hk : k < 6) (hn : n ≤ 6) : oc_Bd 100000 (oc_thA k n (oc_fw k M)) := by
  have h1 := (oc_thA_bd (oc_pw_le k) (oc_fw_bd h k (by omega)) hk n hn).1
  refine oc_Bd_mono ?_ h1
  have h2 := oc_pw_mono (k + 1) (5 - k)
  rw [show k + 1 + (5 - k) = 6 by omega] at h2
  have h3 : oc_pw 6 = 72900 := by decide
  have h4 : oc_pw (k + 1) = 3 * oc_pw k := rfl
  omega
theorem oc_bdFw {M : OcM} (h : oc_Bd 100 M) : oc_Bd 100000 (oc_fw 6 M) := by
  have h1 := oc_fw_bd h 6 (Nat.le_refl _)
  refine oc_Bd_mono ?_ h1
  have h3 : oc_pw 6 = 72900 := by decide
  omega
theorem oc_bdTg {M : OcM} (h : oc_Bd 100000 M) (n : Nat) : oc_Bd 100002 (oc_tgA n M) := fun i j hi hj => by
  have := h i j hi hj
  rw [oc_tgA_f]
  by_cases z : i < n ∧ j = oc_fl i
  · rw [if_pos z]; omega
  · rw [if_neg z]; omega
theorem oc_bdSg {M : OcM} (h : oc_Bd 100002 M) (n : Nat) : oc_Bd 100004 (oc_sgA n M) := fun i j hi hj => by
  have h1 := h i j hi hj
  have h2 := h i (oc_fl i) hi (oc_fl_lt hi)
  have h3 := h (oc_fl j) j (oc_fl_lt hj) hj
  rw [oc_sgA_f]
  by_cases z : i < n ∧ i ≠ j
  · rw [if_pos z]; omega
  · rw [if_neg z]; omega
end
section
/-! the actions on matrices -/
def oc_mt (a b : Nat) (c : Int) (M : OcM) : OcM := fun i j => if (i = a ∧ j = b) ∨ (i = oc_fl b ∧ j = oc_fl a) then min (M i j) c else M i j
theorem oc_mt_le (a b : Nat) (c : Int) (M : OcM) (i j : Nat) : oc_mt a b c M i j ≤ M i j := by
  unfold oc_mt
  by_cases h : (i = a ∧ j = b) ∨ (i = oc_fl b ∧ j = oc_fl a)
  · rw [if_pos h]; omega
  · rw [if_neg h]; exact Int.le_refl _
theorem oc_mt_sat {a b : Nat} {c : Int} {M : OcM} (ha : a < 6) (hb : b < 6) (v : Nat → Int) :
    oc_Sat (oc_mt a b c M) v ↔ oc_Sat M v ∧ oc_ev v a - oc_ev v b ≤ c := by
  constructor
  · intro S
    refine ⟨fun i j hi hj => Int.le_trans (S i j hi hj) (oc_mt_le a b c M i j), ?_⟩
    have := S a b ha hb
    unfold oc_mt at this
    rw [if_pos (Or.inl ⟨rfl, rfl⟩)] at this
    omega
  · rintro ⟨S, h⟩ i j hi hj
    have h1 := S i j hi hj
    unfold oc_mt
    by_cases z : (i = a ∧ j = b) ∨ (i = oc_fl b ∧ j = oc_fl a)
    · rw [if_pos z]
      rcases z with ⟨rfl, rfl⟩ | ⟨rfl, rfl⟩
      · omega
      · rw [oc_ev_fl, oc_ev_fl] at h1 ⊢
        omega
    · rw [if_neg z]; exact h1
theorem oc_mt_coh {a b : Nat} {c : Int} {M : OcM} (h : oc_Coh M) : oc_Coh (oc_mt a b c M) := by
  intro i j hi hj
  unfold oc_mt
  rw [h i j hi hj]
  by_cases z : (i = a ∧ j = b) ∨ (i = oc_fl b ∧ j = oc_fl a)
  · have z2 : (oc_fl j = a ∧ oc_fl i = b) ∨ (oc_fl j = oc_fl b ∧ oc_fl i = oc_fl a) := by
      rcases z with ⟨rfl, rfl⟩ | ⟨rfl, rfl⟩
      · exact Or.inr ⟨rfl, rfl⟩
      · exact Or.inl ⟨oc_fl_fl _, oc_fl_fl _⟩
    rw [if_pos z, if_pos z2]
  · have z2 : ¬ ((oc_fl j = a ∧ oc_fl i = b) ∨ (oc_fl j = oc_fl b ∧ oc_fl i = oc_fl a)) := by
      intro y
      rcases y with ⟨y1, y2⟩ | ⟨y1, y2⟩
      · exact z (Or.inr ⟨by rw [← y2, oc_fl_fl], by rw [← y1, oc_fl_fl]⟩)
      · exact z (Or.inl ⟨oc_fl_inj y2, oc_fl_inj y1⟩)
    rw [if_neg z, if_neg z2]
theorem oc_mt_bd {a b : Nat} {c L : Int} {M : OcM} (h : oc_Bd L M) (h1 : - L ≤ c) : oc_Bd L (oc_mt a b c M) := fun i j hi hj => by
  have := h i j hi hj
  unfold oc_mt
  by_cases z : (i = a ∧ j = b) ∨ (i = oc_fl b ∧ j = oc_fl a)
  · rw [if_pos z]; omega
  · rw [if_neg z]; exact this
/-- ready for the closing -/
def oc_Pre (M : OcM) : Prop := oc_Coh M ∧ (∀ a, a < 6 → M a a ≤ 0) ∧ oc_Bd 100 M
theorem oc_mt_pre {a b : Nat} {c : Int} {M : OcM} (h : oc_Pre M) (h1 : - 100 ≤ c) : oc_Pre (oc_mt a b c M) :=
  ⟨oc_mt_coh h.1, fun i hi => Int.le_trans (oc_mt_le a b c M i i) (h.2.1 i hi), oc_mt_bd h.2.2 h1⟩
def oc_fg (x : Nat) (M : OcM) : OcM := fun i j =>
  if i / 2 = x then (if j / 2 = x then (if i = j then M i j else if i = 2 * x then 14 else 0) else ((if i = 2 * x then 14 else 0) + M (oc_fl j) j) / 2)
  else (if j / 2 = x then ((if j = 2 * x + 1 then 14 else 0) + M i (oc_fl i)) / 2 else M i j)
/-- a matrix of numbers from 0 to 7 -/
def oc_Rg (M : OcM) : Prop := ∀ i j, i < 6 → j < 6 → - 14 ≤ M i j ∧ M i j ≤ 14
theorem oc_fg_sat {M : OcM} (T : oc_Tc M) {x : Nat} (hx : x < 3) (v : Nat → Int) :
    oc_Sat (oc_fg x M) v ↔ 0 ≤ v x ∧ v x ≤ 7 ∧ ∃ t, oc_Sat M (oc_up v x t) := by
  have T' := T
  obtain ⟨clo, coh, dg, ev, st⟩ := T
  have q0 : 2 * x / 2 = x := by omega
  have q1 : (2 * x + 1) / 2 = x := by omega
  constructor
  · intro S
    have h1 := S (2 * x) (2 * x + 1) (by omega) (by omega)
    have h2 := S (2 * x + 1) (2 * x) (by omega) (by omega)
    rw [oc_ev_e, oc_ev_o] at h1 h2
    unfold oc_fg at h1 h2
    rw [if_pos q0, if_pos q1, if_neg (by omega), if_pos rfl] at h1
    rw [if_pos q1, if_pos q0, if_neg (by omega), if_neg (by omega)] at h2
    refine ⟨by omega, by omega, ?_⟩
    obtain ⟨t, ht⟩ := oc_ext T' (fun i => i ≠ x) hx (fun h => h rfl) v (by
      intro a b ha hb da db
      have := S a b ha hb
      unfold oc_fg at this
      rw [if_neg da, if_neg db] at this
      exact this)
    refine ⟨t, fun a b ha hb => ht a b ha hb ?_ ?_⟩
    · rcases Classical.em (a / 2 = x) with z | z
      · exact Or.inr z
      · exact Or.inl z
    · rcases Classical.em (b / 2 = x) with z | z
      · exact Or.inr z
      · exact Or.inl z
  · rintro ⟨h0, h7, t, S⟩ i j hi hj
    unfold oc_fg
    by_cases xi : i / 2 = x
    · have ci : i = 2 * x ∨ i = 2 * x + 1 := by omega
      by_cases xj : j / 2 = x
      · have cj : j = 2 * x ∨ j = 2 * x + 1 := by omega
        rw [if_pos xi, if_pos xj]
        rcases ci with rfl | rfl <;> rcases cj with rfl | rfl
        · rw [if_pos rfl, dg _ hi]; omega
        · rw [if_neg (by omega), if_pos rfl, oc_ev_e, oc_ev_o]; omega
        · rw [if_neg (by omega), if_neg (by omega), oc_ev_e, oc_ev_o]; omega
        · rw [if_pos rfl, dg _ hi]; omega
      · rw [if_pos xi, if_neg xj]
        have h2 := S (oc_fl j) j (oc_fl_lt hj) hj
        rw [oc_ev_fl, oc_ev_up xj] at h2
        rcases ci with rfl | rfl
        · rw [if_pos rfl, oc_ev_e]; omega
        · rw [if_neg (by omega), oc_ev_o]; omega
    · by_cases xj : j / 2 = x
      · have cj : j = 2 * x ∨ j = 2 * x + 1 := by omega
        rw [if_neg xi, if_pos xj]
        have h2 := S i (oc_fl i) hi (oc_fl_lt hi)
        rw [oc_ev_fl, oc_ev_up xi] at h2
        rcases cj with rfl | rfl
        · rw [if_neg (by omega), oc_ev_e]; omega
        · rw [if_pos rfl, oc_ev_o]; omega
      · rw [if_neg xi, if_neg xj]
        have h2 := S i j hi hj
        rw [oc_ev_up xi, oc_ev_up xj] at h2
        exact h2
theorem oc_fg_pre {M : OcM} (T : oc_Tc M) (R : oc_Rg M) {x : Nat} (hx : x < 3) : oc_Pre (oc_fg x M) := by
  obtain ⟨clo, coh, dg, ev, st⟩ := T
  refine ⟨?_, ?_, ?_⟩
  · intro i j hi hj
    unfold oc_fg
    rw [oc_fl_div, oc_fl_div]
    by_cases xi : i / 2 = x
    · have ci : i = 2 * x ∨ i = 2 * x + 1 := by omega
      by_cases xj : j / 2 = x
      · have cj : j = 2 * x ∨ j = 2 * x + 1 := by omega
        simp only [if_pos xi, if_pos xj]
        have n1 : ¬ 2 * x = 2 * x + 1 := by omega
        have n2 : ¬ 2 * x + 1 = 2 * x := by omega
        rcases ci with rfl | rfl <;> rcases cj with rfl | rfl
        · rw [if_pos rfl, if_pos rfl, dg _ hi, dg _ (oc_fl_lt hi)]
        · simp only [oc_fl_ev, oc_fl_od, if_neg n1, if_neg n2]
        · simp only [oc_fl_ev, oc_fl_od, if_neg n1, if_neg n2]
        · rw [if_pos rfl, if_pos rfl, dg _ hi, dg _ (oc_fl_lt hi)]
      · simp only [if_pos xi, if_neg xj, oc_fl_fl]
        have n2 : ¬ 2 * x + 1 = 2 * x := by omega
        have n1 : ¬ 2 * x = 2 * x + 1 := by omega
        rcases ci with rfl | rfl
        · simp only [oc_fl_ev, if_true]
        · simp only [oc_fl_od, if_neg n1, if_neg n2]
    · by_cases xj : j / 2 = x
      · have cj : j = 2 * x ∨ j = 2 * x + 1 := by omega
        simp only [if_neg xi, if_pos xj, oc_fl_fl]
        have n2 : ¬ 2 * x + 1 = 2 * x := by omega
        have n1 : ¬ 2 * x = 2 * x + 1 := by omega
        rcases cj with rfl | rfl
        · simp only [oc_fl_ev, if_neg n1, if_neg n2]
        · simp only [oc_fl_od, if_true]
      · simp only [if_neg xi, if_neg xj]
        exact coh i j hi hj
  · intro a ha
    unfold oc_fg
    by_cases xa : a / 2 = x
    · rw [if_pos xa, if_pos xa, if_pos rfl, dg a ha]; omega
    · rw [if_neg xa, if_neg xa, dg a ha]; omega
  · intro i j hi hj
    unfold oc_fg
    have h1 := R i j hi hj
    have h2 := R (oc_fl j) j (oc_fl_lt hj) hj
    have h3 := R i (oc_fl i) hi (oc_fl_lt hi)
    by_cases xi : i / 2 = x
    · by_cases xj : j / 2 = x
      · rw [if_pos xi, if_pos xj]
        by_cases e : i = j
        · rw [if_pos e]; omega
        · rw [if_neg e]
          by_cases e2 : i = 2 * x
          · rw [if_pos e2]; omega
          · rw [if_neg e2]; omega
      · rw [if_pos xi, if_neg xj]
        by_cases e2 : i = 2 * x
        · rw [if_pos e2]; omega
        · rw [if_neg e2]; omega
    · by_cases xj : j / 2 = x
      · rw [if_neg xi, if_pos xj]
        by_cases e2 : j = 2 * x + 1
        · rw [if_pos e2]; omega
        · rw [if_neg e2]; omega
      · rw [if_neg xi, if_neg xj]; omega
def oc_dl (x : Nat) (c : Int) (i : Nat) : Int := if i = 2 * x then c else if i = 2 * x + 1 then - c else 0
def oc_sh (x : Nat) (c : Int) (M : OcM) : OcM := fun i j => M i j + oc_dl x c i - oc_dl x c j
theorem oc_dl_fl (x : Nat) (c : Int) (i : Nat) : oc_dl x c (oc_fl i) = - oc_dl x c i := by
  unfold oc_dl
  by_cases h : i = 2 * x
  · subst h
    rw [oc_fl_ev, if_neg (by omega), if_pos rfl, if_pos rfl]
  · by_cases h2 : i = 2 * x + 1
    · subst h2
      rw [oc_fl_od, if_pos rfl, if_neg (by omega), if_pos rfl, Int.neg_neg]
    · have a1 : oc_fl i ≠ 2 * x := by unfold oc_fl; omega
      have a2 : oc_fl i ≠ 2 * x + 1 := by unfold oc_fl; omega
      rw [if_neg a1, if_neg a2, if_neg h, if_neg h2]; rfl
theorem oc_dl_bd (x : Nat) {c L : Int} (h1 : - L ≤ c) (h2 : c ≤ L) (i : Nat) : - L ≤ oc_dl x c i ∧ oc_dl x c i ≤ L := by
  unfold oc_dl
  by_cases h : i = 2 * x
  · rw [if_pos h]; omega
  · rw [if_neg h]
    by_cases h' : i = 2 * x + 1
    · rw [if_pos h']; omega
    · rw [if_neg h']; omega
theorem oc_ev_sh (v : Nat → Int) (x : Nat) (c : Int) (i : Nat) : oc_ev (oc_up v x (v x - c)) i = oc_ev v i - oc_dl x c i := by
  by_cases h : i / 2 = x
  · have ci : i = 2 * x ∨ i = 2 * x + 1 := by omega
    rcases ci with rfl | rfl
    · rw [oc_ev_e, oc_ev_e, oc_up_s]; unfold oc_dl; rw [if_pos rfl]
    · rw [oc_ev_o, oc_ev_o, oc_up_s]; unfold oc_dl; rw [if_neg (by omega), if_pos rfl]; omega
  · rw [oc_ev_up h]; unfold oc_dl; rw [if_neg (by omega), if_neg (by omega)]; omega
theorem oc_sh_sat {M : OcM} {x : Nat} {c : Int} (v : Nat → Int) : oc_Sat (oc_sh x c M) v ↔ oc_Sat M (oc_up v x (v x - c)) := by
  constructor
  · intro S i j hi hj
    have := S i j hi hj
    unfold oc_sh at this
    rw [oc_ev_sh, oc_ev_sh]; omega
  · intro S i j hi hj
    have := S i j hi hj
    unfold oc_sh
    rw [oc_ev_sh, oc_ev_sh] at this; omega
theorem oc_sh_coh {M : OcM} {x : Nat} {c : Int} (h : oc_Coh M) : oc_Coh (oc_sh x c M) := by
  intro i j hi hj
  unfold oc_sh
  rw [h i j hi hj, oc_dl_fl, oc_dl_fl]; omega
def oc_pi (x i : Nat) : Nat := if i / 2 = x then oc_fl i else i
def oc_tu (x : Nat) (M : OcM) : OcM := fun i j => if i = j then M i j else M (oc_pi x i) (oc_pi x j)
theorem oc_pi_lt {x i : Nat} (h : i < 6) : oc_pi x i < 6 := by
  unfold oc_pi
  by_cases e : i / 2 = x
  · rw [if_pos e]; exact oc_fl_lt h
  · rw [if_neg e]; exact h
theorem oc_pi_pi (x i : Nat) : oc_pi x (oc_pi x i) = i := by
  unfold oc_pi
  by_cases e : i / 2 = x
  · rw [if_pos e, if_pos (by rw [oc_fl_div]; exact e), oc_fl_fl]
  · rw [if_neg e, if_neg e]
theorem oc_pi_fl (x i : Nat) : oc_pi x (oc_fl i) = oc_fl (oc_pi x i) := by
  unfold oc_pi
  by_cases e : i / 2 = x
  · rw [if_pos e, if_pos (by rw [oc_fl_div]; exact e)]
  · rw [if_neg e, if_neg (by rw [oc_fl_div]; exact e)]
theorem oc_ev_tu (v : Nat → Int) (x i : Nat) : oc_ev (oc_up v x (- v x)) i = oc_ev v (oc_pi x i) := by
  unfold oc_pi
  by_cases e : i / 2 = x
  · rw [if_pos e, oc_ev_fl]
    have ci : i = 2 * x ∨ i = 2 * x + 1 := by omega
    rcases ci with rfl | rfl
    · rw [oc_ev_e, oc_ev_e, oc_up_s]
    · rw [oc_ev_o, oc_ev_o, oc_up_s]
  · rw [if_neg e, oc_ev_up e]
theorem oc_tu_f {M : OcM} (dg : ∀ a, a < 6 → M a a = 0) (x : Nat) {i j : Nat} (hi : i < 6) : oc_tu x M i j = M (oc_pi x i) (oc_pi x j) := by
  unfold oc_tu
  by_cases e : i = j
  · subst e; rw [if_pos rfl, dg i hi, dg _ (oc_pi_lt hi)]
  · rw [if_neg e]
theorem oc_tu_sat {M : OcM} (dg : ∀ a, a < 6 → M a a = 0) (x : Nat) (v : Nat → Int) : oc_Sat (oc_tu x M) v ↔ oc_Sat M (oc_up v x (- v x)) := by
  constructor
  · intro S i j hi hj
    have := S (oc_pi x i) (oc_pi x j) (oc_pi_lt hi) (oc_pi_lt hj)
    rw [oc_tu_f dg x (oc_pi_lt hi), oc_pi_pi, oc_pi_pi] at this
    rw [oc_ev_tu, oc_ev_tu]; exact this
  · intro S i j hi hj
    have := S (oc_pi x i) (oc_pi x j) (oc_pi_lt hi) (oc_pi_lt hj)
    rw [oc_ev_tu, oc_ev_tu, oc_pi_pi, oc_pi_pi] at this
    rw [oc_tu_f dg x hi]; exact this
theorem oc_tu_coh {M : OcM} (dg : ∀ a, a < 6 → M a a = 0) (h : oc_Coh M) (x : Nat) : oc_Coh (oc_tu x M) := by
  intro i j hi hj
  rw [oc_tu_f dg x hi, oc_tu_f dg x (oc_fl_lt hj), oc_pi_fl, oc_pi_fl]
  exact h _ _ (oc_pi_lt hi) (oc_pi_lt hj)
theorem oc_tu_rg {M : OcM} (h : oc_Rg M) (x : Nat) : oc_Rg (oc_tu x M) := by
  intro i j hi hj
  unfold oc_tu
  by_cases e : i = j
  · rw [if_pos e]; exact h i j hi hj
  · rw [if_neg e]; exact h _ _ (oc_pi_lt hi) (oc_pi_lt hj)
theorem oc_sh_pre {M : OcM} (hc : oc_Coh M) (dg : ∀ a, a < 6 → M a a = 0) (R : oc_Rg M) (x : Nat) {c : Int} (h1 : - 20 ≤ c) (h2 : c ≤ 20) : oc_Pre (oc_sh x c M) := by
  refine ⟨oc_sh_coh hc, fun a ha => ?_, fun i j hi hj => ?_⟩
  · unfold oc_sh; rw [dg a ha]; omega
  · have a1 := R i j hi hj
    have a2 := oc_dl_bd x h1 h2 i
    have a3 := oc_dl_bd x h1 h2 j
    unfold oc_sh; omega
end
section
/-! states: numbers below 512 with three digits to the base 8 -/
def gr_dg (s i : Nat) : Nat := s / 8 ^ i % 8
def gr_vs (s : Nat) : Nat → Int := fun i => (gr_dg s i : Int)
def gr_set (s A w : Nat) : Nat := s + w * 8 ^ A - gr_dg s A * 8 ^ A
theorem gr_dg_lt (s i : Nat) : gr_dg s i < 8 := Nat.mod_lt _ (by decide)
theorem gr_dg0 (s : Nat) : gr_dg s 0 = s % 8 := by simp only [gr_dg, Nat.reducePow]; omega
theorem gr_dg1 (s : Nat) : gr_dg s 1 = s / 8 % 8 := by simp only [gr_dg, Nat.reducePow]
theorem gr_dg2 (s : Nat) : gr_dg s 2 = s / 64 % 8 := by simp only [gr_dg, Nat.reducePow]
theorem gr_3 {i : Nat} (h : i < 3) : i = 0 ∨ i = 1 ∨ i = 2 := by omega
theorem gr_set_lt {s A w : Nat} (hs : s < 512) (hA : A < 3) (hw : w < 8) : gr_set s A w < 512 := by
  rcases gr_3 hA with rfl | rfl | rfl
  · simp only [gr_set, gr_dg, Nat.reducePow]; omega
  · simp only [gr_set, gr_dg, Nat.reducePow]; omega
  · simp only [gr_set, gr_dg, Nat.reducePow]; omega
theorem gr_set_s {s A w : Nat} (hA : A < 3) (hw : w < 8) : gr_dg (gr_set s A w) A = w := by
  rcases gr_3 hA with rfl | rfl | rfl
  · simp only [gr_set, gr_dg, Nat.reducePow]; omega
  · simp only [gr_set, gr_dg, Nat.reducePow]; omega
  · simp only [gr_set, gr_dg, Nat.reducePow]; omega
theorem gr_set_n {s A w i : Nat} (hA : A < 3) (hi : i < 3) (hw : w < 8) (h : i ≠ A) : gr_dg (gr_set s A w) i = gr_dg s i := by
  rcases gr_3 hA with rfl | rfl | rfl <;> rcases gr_3 hi with rfl | rfl | rfl <;> first
    | exact absurd rfl h
    | (simp only [gr_set, gr_dg, Nat.reducePow]; omega)
theorem gr_ext {s t : Nat} (hs : s < 512) (ht : t < 512) (h : ∀ i, i < 3 → gr_dg s i = gr_dg t i) : s = t := by
  have h0 := h 0 (by omega)
  have h1 := h 1 (by omega)
  have h2 := h 2 (by omega)
  rw [gr_dg0, gr_dg0] at h0
  rw [gr_dg1, gr_dg1] at h1
  rw [gr_dg2, gr_dg2] at h2
  omega
theorem gr_set_set {s A w z : Nat} (hs : s < 512) (hA : A < 3) (hw : w < 8) (hz : z < 8) : gr_set (gr_set s A w) A z = gr_set s A z := by
  refine gr_ext (gr_set_lt (gr_set_lt hs hA hw) hA hz) (gr_set_lt hs hA hz) (fun i hi => ?_)
  by_cases e : i = A
  · subst e; rw [gr_set_s hA hz, gr_set_s hA hz]
  · rw [gr_set_n hA hi hz e, gr_set_n hA hi hw e, gr_set_n hA hi hz e]
theorem gr_set_id {s A : Nat} (hs : s < 512) (hA : A < 3) : gr_set s A (gr_dg s A) = s := by
  unfold gr_set; omega
theorem gr_vs_set {s A w i : Nat} (hA : A < 3) (hi : i < 3) (hw : w < 8) : gr_vs (gr_set s A w) i = oc_up (gr_vs s) A (w : Int) i := by
  unfold gr_vs
  by_cases e : i = A
  · subst e; rw [gr_set_s hA hw, oc_up_s]
  · rw [gr_set_n hA hi hw e, oc_up_n e]
theorem gr_vs_r (s i : Nat) : 0 ≤ gr_vs s i ∧ gr_vs s i ≤ 7 := by
  have := gr_dg_lt s i
  unfold gr_vs; omega
theorem gr_of (v : Nat → Int) (h : ∀ i, i < 3 → 0 ≤ v i ∧ v i ≤ 7) : ∃ s, s < 512 ∧ ∀ i, i < 3 → gr_vs s i = v i := by
  have h0 := h 0 (by omega)
  have h1 := h 1 (by omega)
  have h2 := h 2 (by omega)
  refine ⟨(v 0).toNat + 8 * (v 1).toNat + 64 * (v 2).toNat, by omega, fun i hi => ?_⟩
  unfold gr_vs
  rcases gr_3 hi with rfl | rfl | rfl
  · rw [gr_dg0]; omega
  · rw [gr_dg1]; omega
  · rw [gr_dg2]; omega
theorem gr_ev_r (s : Nat) {a : Nat} (ha : a < 6) : - 7 ≤ oc_ev (gr_vs s) a ∧ oc_ev (gr_vs s) a ≤ 7 := by
  have := gr_vs_r s (a / 2)
  unfold oc_ev
  by_cases h : a % 2 = 0
  · rw [if_pos h]; omega
  · rw [if_neg h]; omega
/-- M is the matrix of the states S, and S are all states of M -/
def gr_Oct (M : OcM) (S : Nat → Prop) : Prop := (∀ s, s < 512 → (S s ↔ oc_Sat M (gr_vs s))) ∧
  ∀ a b, a < 6 → b < 6 → ∃ s, s < 512 ∧ S s ∧ oc_ev (gr_vs s) a - oc_ev (gr_vs s) b = M a b
theorem gr_tc {M : OcM} {S : Nat → Prop} (h : gr_Oct M S) : oc_Tc M := by
  obtain ⟨h1, h2⟩ := h
  have le : ∀ s, s < 512 → S s → ∀ a b, a < 6 → b < 6 → oc_ev (gr_vs s) a - oc_ev (gr_vs s) b ≤ M a b := fun s hs hS => (h1 s hs).mp hS
  refine ⟨?_, ?_, ?_, ?_, ?_⟩
  · intro a b k ha hb hk
    obtain ⟨s, hs, hS, e⟩ := h2 a b ha hb
    have x := le s hs hS a k ha hk
    have y := le s hs hS k b hk hb
    omega
  · intro a b ha hb
    obtain ⟨s, hs, hS, e⟩ := h2 a b ha hb
    obtain ⟨s', hs', hS', e'⟩ := h2 (oc_fl b) (oc_fl a) (oc_fl_lt hb) (oc_fl_lt ha)
    have x := le s hs hS (oc_fl b) (oc_fl a) (oc_fl_lt hb) (oc_fl_lt ha)
    have y := le s' hs' hS' a b ha hb
    rw [oc_ev_fl, oc_ev_fl] at e' x
    omega
  · intro a ha
    obtain ⟨s, hs, hS, e⟩ := h2 a a ha ha
    omega
  · intro a ha
    obtain ⟨s, hs, hS, e⟩ := h2 a (oc_fl a) ha (oc_fl_lt ha)
    rw [oc_ev_fl] at e
    omega
  · intro a b ha hb
    obtain ⟨s, hs, hS, e⟩ := h2 a b ha hb
    have x := le s hs hS a (oc_fl a) ha (oc_fl_lt ha)
    have y := le s hs hS (oc_fl b) b (oc_fl_lt hb) hb
    rw [oc_ev_fl] at x y
    omega
theorem gr_rg {M : OcM} {S : Nat → Prop} (h : gr_Oct M S) : oc_Rg M := by
  intro a b ha hb
  obtain ⟨s, hs, hS, e⟩ := h.2 a b ha hb
  have x := gr_ev_r s ha
  have y := gr_ev_r s hb
  omega
theorem gr_ne {M : OcM} {S : Nat → Prop} (h : gr_Oct M S) : ∃ s, s < 512 ∧ S s := by
  obtain ⟨s, hs, hS, _⟩ := h.2 0 0 (by omega) (by omega)
  exact ⟨s, hs, hS⟩
theorem gr_box {M : OcM} {S : Nat → Prop} (h : gr_Oct M S) {v : Nat → Int} (hv : oc_Sat M v) {i : Nat} (hi : i < 3) : 0 ≤ v i ∧ v i ≤ 7 := by
  have x := hv (2 * i) (2 * i + 1) (by omega) (by omega)
  have y := hv (2 * i + 1) (2 * i) (by omega) (by omega)
  obtain ⟨s, _, _, e⟩ := h.2 (2 * i) (2 * i + 1) (by omega) (by omega)
  obtain ⟨s', _, _, e'⟩ := h.2 (2 * i + 1) (2 * i) (by omega) (by omega)
  have z := gr_vs_r s i
  have z' := gr_vs_r s' i
  rw [oc_ev_e, oc_ev_o] at x y e e'
  omega
theorem gr_mk {M : OcM} (T : oc_Tc M) (B : ∀ v, oc_Sat M v → ∀ i, i < 3 → 0 ≤ v i ∧ v i ≤ 7) : gr_Oct M (fun s => oc_Sat M (gr_vs s)) := by
  refine ⟨fun s _ => Iff.rfl, fun a b ha hb => ?_⟩
  obtain ⟨v, hv, e⟩ := oc_wit T ha hb
  obtain ⟨s, hs, h⟩ := gr_of v (B v hv)
  refine ⟨s, hs, oc_Sat_cong (fun i hi => (h i hi).symm) hv, ?_⟩
  rw [oc_ev_cong (h (a / 2) (by omega)), oc_ev_cong (h (b / 2) (by omega)), e]
theorem gr_Oct_cong {M : OcM} {S S' : Nat → Prop} (h : gr_Oct M S) (e : ∀ s, s < 512 → (S s ↔ S' s)) : gr_Oct M S' :=
  ⟨fun s hs => (e s hs).symm.trans (h.1 s hs), fun a b ha hb => by
    obtain ⟨s, hs, hS, e2⟩ := h.2 a b ha hb
    exact ⟨s, hs, (e s hs).mp hS, e2⟩⟩
theorem gr_Oct_M {M M' : OcM} {S : Nat → Prop} (h : gr_Oct M S) (e : ∀ a b, a < 6 → b < 6 → M' a b = M a b) : gr_Oct M' S :=
  ⟨fun s hs => (h.1 s hs).trans ⟨fun S a b ha hb => by rw [e a b ha hb]; exact S a b ha hb, fun S a b ha hb => by rw [← e a b ha hb]; exact S a b ha hb⟩,
   fun a b ha hb => by
    obtain ⟨s, hs, hS, e2⟩ := h.2 a b ha hb
    exact ⟨s, hs, hS, by rw [e a b ha hb]; exact e2⟩⟩
/-! an edge's action -/
def gr_rl (K : Nat) (x y C z : Int) : Prop := (K = 5 → x + y ≤ C) ∧ (K = 6 → x - y ≤ C) ∧ (K = 7 → - x - y ≤ C) ∧ (K = 1 → z = C) ∧ (K = 2 → z = y + C) ∧
  (K = 3 → z = C - y) ∧ (K = 0 ∨ 5 ≤ K → z = x) ∧ 0 ≤ z ∧ z ≤ 7
def gr_tr (K A B : Nat) (C : Int) (s t : Nat) : Prop := ∃ z : Nat, gr_rl K (gr_dg s A) (gr_dg s B) C z ∧ t = gr_set s A z
def gr_kr (x : Nat) (M : OcM) : OcM := oc_mt (2 * x + 1) (2 * x) 0 (oc_mt (2 * x) (2 * x + 1) 14 M)
def gr_mv (A B f : Nat) (C : Int) (M : OcM) : OcM :=
  if A = B then gr_kr A (oc_sh A C (if f = 2 * A then M else oc_tu A M)) else oc_mt f (2 * A) (- C) (oc_mt (2 * A) f C (oc_fg A M))
def gr_as (A : Nat) (C : Int) (M : OcM) : OcM := oc_mt (2 * A + 1) (2 * A) (- 2 * C) (oc_mt (2 * A) (2 * A + 1) (2 * C) (oc_fg A M))
def gr_fo (K A B : Nat) (C : Int) (M : OcM) : OcM :=
  if K = 0 then M else if K = 1 then gr_as A C M else if K = 2 then gr_mv A B (2 * B) C M else if K = 3 then gr_mv A B (2 * B + 1) C M
  else if K = 4 then oc_fg A M else if K = 5 then oc_mt (2 * A) (2 * B + 1) C M else if K = 6 then oc_mt (2 * A) (2 * B) C M else oc_mt (2 * A + 1) (2 * B) C M
/-- what is asked of an edge's constant -/
def gr_cr (K : Nat) (C : Int) : Prop := (K = 1 → 0 ≤ C ∧ C ≤ 7) ∧ (K = 2 → - 7 ≤ C ∧ C ≤ 7) ∧ (K = 3 → 0 ≤ C ∧ C ≤ 14) ∧ (5 ≤ K → - 20 ≤ C ∧ C ≤ 20)
theorem gr_kr_sat {x : Nat} (hx : x < 3) {M : OcM} (v : Nat → Int) : oc_Sat (gr_kr x M) v ↔ oc_Sat M v ∧ 0 ≤ v x ∧ v x ≤ 7 := by
  unfold gr_kr
  rw [oc_mt_sat (by omega) (by omega), oc_mt_sat (by omega) (by omega), oc_ev_e, oc_ev_o]
  constructor
  · rintro ⟨⟨h, h1⟩, h2⟩; exact ⟨h, by omega, by omega⟩
  · rintro ⟨h, h1, h2⟩; exact ⟨⟨h, by omega⟩, by omega⟩
theorem gr_mv0 {M : OcM} (T : oc_Tc M) {A B : Nat} (hA : A < 3) (hB : B < 3) (C : Int) (v : Nat → Int) :
    oc_Sat (gr_mv A B (2 * B) C M) v ↔ ∃ w, oc_Sat M (oc_up v A w) ∧ v A = oc_up v A w B + C ∧ 0 ≤ v A ∧ v A ≤ 7 := by
  unfold gr_mv
  by_cases e : A = B
  · subst e
    rw [if_pos rfl, if_pos rfl, gr_kr_sat hA, oc_sh_sat]
    constructor
    · rintro ⟨h, h1, h2⟩; exact ⟨v A - C, h, by rw [oc_up_s]; omega, h1, h2⟩
    · rintro ⟨w, h, h3, h1, h2⟩
      rw [oc_up_s] at h3
      rw [show v A - C = w by omega]
      exact ⟨h, h1, h2⟩
  · rw [if_neg e, oc_mt_sat (by omega) (by omega), oc_mt_sat (by omega) (by omega), oc_fg_sat T hA, oc_ev_e, oc_ev_e]
    constructor
    · rintro ⟨⟨⟨h1, h2, w, h⟩, h3⟩, h4⟩
      exact ⟨w, h, by rw [oc_up_n (fun z => e z.symm)]; omega, h1, h2⟩
    · rintro ⟨w, h, h3, h1, h2⟩
      rw [oc_up_n (fun z => e z.symm)] at h3
      exact ⟨⟨⟨h1, h2, w, h⟩, by omega⟩, by omega⟩
theorem gr_mv1 {M : OcM} (T : oc_Tc M) {A B : Nat} (hA : A < 3) (hB : B < 3) (C : Int) (v : Nat → Int) :
    oc_Sat (gr_mv A B (2 * B + 1) C M) v ↔ ∃ w, oc_Sat M (oc_up v A w) ∧ v A = C - oc_up v A w B ∧ 0 ≤ v A ∧ v A ≤ 7 := by
  unfold gr_mv
  by_cases e : A = B
  · subst e
    rw [if_pos rfl, if_neg (by omega), gr_kr_sat hA, oc_sh_sat, oc_tu_sat T.2.2.1, oc_up_up, oc_up_s]
    constructor
    · rintro ⟨h, h1, h2⟩; exact ⟨- (v A - C), h, by rw [oc_up_s]; omega, h1, h2⟩
    · rintro ⟨w, h, h3, h1, h2⟩
      rw [oc_up_s] at h3
      rw [show - (v A - C) = w by omega]
      exact ⟨h, h1, h2⟩
  · rw [if_neg e, oc_mt_sat (by omega) (by omega), oc_mt_sat (by omega) (by omega), oc_fg_sat T hA, oc_ev_e, oc_ev_o]
    constructor
    · rintro ⟨⟨⟨h1, h2, w, h⟩, h3⟩, h4⟩
      exact ⟨w, h, by rw [oc_up_n (fun z => e z.symm)]; omega, h1, h2⟩
    · rintro ⟨w, h, h3, h1, h2⟩
      rw [oc_up_n (fun z => e z.symm)] at h3
      exact ⟨⟨⟨h1, h2, w, h⟩, by omega⟩, by omega⟩
theorem gr_fo_sat {M : OcM} {S : Nat → Prop} (O : gr_Oct M S) {K A B : Nat} {C : Int} (hK : K < 8) (hA : A < 3) (hB : B < 3) (hC : gr_cr K C) (v : Nat → Int) :
    oc_Sat (gr_fo K A B C M) v ↔ ∃ w, oc_Sat M (oc_up v A w) ∧ gr_rl K w (oc_up v A w B) C (v A) := by
  have T := gr_tc O
  obtain ⟨c1, c2, c3, c5⟩ := hC
  unfold gr_fo gr_rl
  have cs : K = 0 ∨ K = 1 ∨ K = 2 ∨ K = 3 ∨ K = 4 ∨ K = 5 ∨ K = 6 ∨ K = 7 := by omega
  have bx : ∀ w, v A = w → oc_Sat M (oc_up v A w) → oc_Sat M v ∧ 0 ≤ v A ∧ v A ≤ 7 := fun w e h => by
    rw [← e, oc_up_id] at h
    exact ⟨h, gr_box O h hA⟩
  have by' : oc_Sat M v → oc_Sat M (oc_up v A (v A)) ∧ 0 ≤ v A ∧ v A ≤ 7 := fun h => by
    rw [oc_up_id]; exact ⟨h, gr_box O h hA⟩
  have idB : oc_up v A (v A) B = v B := by rw [oc_up_id]
  rcases cs with rfl | rfl | rfl | rfl | rfl | rfl | rfl | rfl
  · rw [if_pos rfl]
    constructor
    · intro h
      have := by' h
      exact ⟨v A, this.1, by omega⟩
    · rintro ⟨w, h, h2⟩
      exact (bx w (by omega) h).1
  · rw [if_neg (by omega), if_pos rfl]
    unfold gr_as
    rw [oc_mt_sat (by omega) (by omega), oc_mt_sat (by omega) (by omega), oc_fg_sat T hA, oc_ev_e, oc_ev_o]
    constructor
    · rintro ⟨⟨⟨h1, h2, w, h⟩, h3⟩, h4⟩
      exact ⟨w, h, by omega⟩
    · rintro ⟨w, h, h2⟩
      exact ⟨⟨⟨by omega, by omega, w, h⟩, by omega⟩, by omega⟩
  · rw [if_neg (by omega), if_neg (by omega), if_pos rfl, gr_mv0 T hA hB]
    constructor
    · rintro ⟨w, h, h2⟩; exact ⟨w, h, by omega⟩
    · rintro ⟨w, h, h2⟩; exact ⟨w, h, by omega⟩
  · rw [if_neg (by omega), if_neg (by omega), if_neg (by omega), if_pos rfl, gr_mv1 T hA hB]
    constructor
    · rintro ⟨w, h, h2⟩; exact ⟨w, h, by omega⟩
    · rintro ⟨w, h, h2⟩; exact ⟨w, h, by omega⟩
  · rw [if_neg (by omega), if_neg (by omega), if_neg (by omega), if_neg (by omega), if_pos rfl, oc_fg_sat T hA]
    constructor
    · rintro ⟨h1, h2, w, h⟩; exact ⟨w, h, by omega⟩
    · rintro ⟨w, h, h2⟩; exact ⟨by omega, by omega, w, h⟩
  · rw [if_neg (by omega), if_neg (by omega), if_neg (by omega), if_neg (by omega), if_neg (by omega), if_pos rfl, oc_mt_sat (by omega) (by omega), oc_ev_e, oc_ev_o]
    constructor
    · rintro ⟨h, h2⟩
      have := by' h
      exact ⟨v A, this.1, by rw [idB]; omega⟩
    · rintro ⟨w, h, h2⟩
      have e : v A = w := by omega
      have := (bx w e h).1
      subst e
      rw [idB] at h2
      exact ⟨this, by omega⟩
  · rw [if_neg (by omega), if_neg (by omega), if_neg (by omega), if_neg (by omega), if_neg (by omega), if_neg (by omega), if_pos rfl, oc_mt_sat (by omega) (by omega), oc_ev_e, oc_ev_e]
    constructor
    · rintro ⟨h, h2⟩
      have := by' h
      exact ⟨v A, this.1, by rw [idB]; omega⟩
    · rintro ⟨w, h, h2⟩
      have e : v A = w := by omega
      have := (bx w e h).1
      subst e
      rw [idB] at h2
      exact ⟨this, by omega⟩
  · rw [if_neg (by omega), if_neg (by omega), if_neg (by omega), if_neg (by omega), if_neg (by omega), if_neg (by omega), if_neg (by omega), oc_mt_sat (by omega) (by omega), oc_ev_e, oc_ev_o]
    constructor
    · rintro ⟨h, h2⟩
      have := by' h
      exact ⟨v A, this.1, by rw [idB]; omega⟩
    · rintro ⟨w, h, h2⟩
      have e : v A = w := by omega
      have := (bx w e h).1
      subst e
      rw [idB] at h2
      exact ⟨this, by omega⟩
theorem gr_kr_pre {x : Nat} {M : OcM} (h : oc_Pre M) : oc_Pre (gr_kr x M) := oc_mt_pre (oc_mt_pre h (by omega)) (by omega)
theorem gr_mv_pre {M : OcM} {S : Nat → Prop} (O : gr_Oct M S) {A B f : Nat} {C : Int} (hA : A < 3) (h1 : - 20 ≤ C) (h2 : C ≤ 20) : oc_Pre (gr_mv A B f C M) := by
  have T := gr_tc O
  have R := gr_rg O
  unfold gr_mv
  by_cases e : A = B
  · rw [if_pos e]
    refine gr_kr_pre ?_
    by_cases e2 : f = 2 * A
    · rw [if_pos e2]; exact oc_sh_pre T.2.1 T.2.2.1 R A h1 h2
    · rw [if_neg e2]
      refine oc_sh_pre (oc_tu_coh T.2.2.1 T.2.1 A) (fun a ha => ?_) (oc_tu_rg R A) A h1 h2
      unfold oc_tu; rw [if_pos rfl]; exact T.2.2.1 a ha
  · rw [if_neg e]
    exact oc_mt_pre (oc_mt_pre (oc_fg_pre T R hA) (by omega)) (by omega)
theorem gr_fo_pre {M : OcM} {S : Nat → Prop} (O : gr_Oct M S) {K A B : Nat} {C : Int} (hK : K < 8) (hA : A < 3) (hC : gr_cr K C) : oc_Pre (gr_fo K A B C M) := by
  have T := gr_tc O
  have R := gr_rg O
  obtain ⟨c1, c2, c3, c5⟩ := hC
  have P : oc_Pre M := ⟨T.2.1, fun a ha => by rw [T.2.2.1 a ha]; omega, fun i j hi hj => by have := R i j hi hj; omega⟩
  unfold gr_fo
  have cs : K = 0 ∨ K = 1 ∨ K = 2 ∨ K = 3 ∨ K = 4 ∨ K = 5 ∨ K = 6 ∨ K = 7 := by omega
  rcases cs with rfl | rfl | rfl | rfl | rfl | rfl | rfl | rfl
  · exact P
  · exact oc_mt_pre (oc_mt_pre (oc_fg_pre T R hA) (by omega)) (by omega)
  · exact gr_mv_pre O hA (by omega) (by omega)
  · exact gr_mv_pre O hA (by omega) (by omega)
  · exact oc_fg_pre T R hA
  · exact oc_mt_pre P (by omega)
  · exact oc_mt_pre P (by omega)
  · exact oc_mt_pre P (by omega)
/-- the states to which an edge leads from states of S -/
def gr_im (K A B : Nat) (C : Int) (S : Nat → Prop) (t : Nat) : Prop := ∃ s, s < 512 ∧ S s ∧ gr_tr K A B C s t
theorem gr_tr_lt {K A B s t : Nat} {C : Int} (hA : A < 3) (hs : s < 512) (h : gr_tr K A B C s t) : t < 512 := by
  obtain ⟨z, h, rfl⟩ := h
  unfold gr_rl at h
  exact gr_set_lt hs hA (by omega)
theorem gr_image {M : OcM} {S : Nat → Prop} (O : gr_Oct M S) {K A B : Nat} {C : Int} (hK : K < 8) (hA : A < 3) (hB : B < 3) (hC : gr_cr K C) {t : Nat} (ht : t < 512) :
    oc_Sat (gr_fo K A B C M) (gr_vs t) ↔ gr_im K A B C S t := by
  rw [gr_fo_sat O hK hA hB hC]
  constructor
  · rintro ⟨w, h, r⟩
    have hw := gr_box O h hA
    rw [oc_up_s] at hw
    obtain ⟨n, rfl⟩ : ∃ n : Nat, w = (n : Int) := ⟨w.toNat, by omega⟩
    have hn : n < 8 := by omega
    have hs := gr_set_lt ht hA hn
    have e : ∀ i, i < 3 → oc_up (gr_vs t) A (n : Int) i = gr_vs (gr_set t A n) i := fun i hi => (gr_vs_set hA hi hn).symm
    refine ⟨gr_set t A n, hs, (O.1 _ hs).mpr (oc_Sat_cong e h), gr_dg t A, ?_, ?_⟩
    · rw [gr_set_s hA hn]
      have e1 := e B hB
      unfold gr_vs at e1
      rw [← e1]
      exact r
    · rw [gr_set_set ht hA hn (gr_dg_lt t A), gr_set_id ht hA]
  · rintro ⟨s, hs, hS, z, r, rfl⟩
    have hz : z < 8 := by unfold gr_rl at r; omega
    have e : ∀ i, i < 3 → gr_vs s i = oc_up (gr_vs (gr_set s A z)) A (gr_dg s A : Int) i := fun i hi => by
      by_cases q : i = A
      · subst q; rw [oc_up_s]; rfl
      · rw [oc_up_n q]; unfold gr_vs; rw [gr_set_n hA hi hz q]
    refine ⟨(gr_dg s A : Int), oc_Sat_cong e ((O.1 s hs).mp hS), ?_⟩
    rw [← e B hB]
    have e2 : gr_vs (gr_set s A z) A = (z : Int) := by unfold gr_vs; rw [gr_set_s hA hz]
    rw [e2]
    exact r
theorem gr_fo_box {M : OcM} {S : Nat → Prop} (O : gr_Oct M S) {K A B : Nat} {C : Int} (hK : K < 8) (hA : A < 3) (hB : B < 3) (hC : gr_cr K C) {v : Nat → Int} (h : oc_Sat (gr_fo K A B C M) v) :
    ∀ i, i < 3 → 0 ≤ v i ∧ v i ≤ 7 := by
  obtain ⟨w, hw, r⟩ := (gr_fo_sat O hK hA hB hC v).mp h
  intro i hi
  by_cases e : i = A
  · subst e; unfold gr_rl at r; omega
  · have := gr_box O hw hi
    rw [oc_up_n e] at this
    exact this
/-- the closed matrix of an action is the matrix of the image -/
theorem gr_follow {M : OcM} {S : Nat → Prop} (O : gr_Oct M S) {K A B : Nat} {C : Int} (hK : K < 8) (hA : A < 3) (hB : B < 3) (hC : gr_cr K C)
    (ok : oc_ok (oc_T (gr_fo K A B C M))) : gr_Oct (oc_C (gr_fo K A B C M)) (gr_im K A B C S) := by
  have P := gr_fo_pre (B := B) O hK hA hC
  have T := oc_close P.1 P.2.1 ok
  refine gr_Oct_cong (gr_mk T (fun v hv => gr_fo_box O hK hA hB hC (oc_closeS.mp hv))) (fun s hs => ?_)
  exact oc_closeS.trans (gr_image O hK hA hB hC hs)
theorem gr_followN {M : OcM} {S : Nat → Prop} (O : gr_Oct M S) {K A B : Nat} {C : Int} (hK : K < 8) (hA : A < 3) (hB : B < 3) (hC : gr_cr K C)
    (ok : ¬ oc_ok (oc_T (gr_fo K A B C M))) {t : Nat} (ht : t < 512) : ¬ gr_im K A B C S t := fun h =>
  oc_closeN ok _ ((gr_image O hK hA hB hC ht).mpr h)
theorem gr_follow0 {M : OcM} {S : Nat → Prop} (O : gr_Oct M S) {A B : Nat} {C : Int} (hA : A < 3) : gr_Oct M (gr_im 0 A B C S) := by
  refine gr_Oct_cong O (fun t ht => ⟨fun h => ⟨t, ht, h, gr_dg t A, ?_, (gr_set_id ht hA).symm⟩, ?_⟩)
  · have := gr_dg_lt t A
    unfold gr_rl; omega
  · rintro ⟨s, hs, hS, z, r, rfl⟩
    unfold gr_rl at r
    have e : z = gr_dg s A := by omega
    rw [e, gr_set_id hs hA]; exact hS
end
section
/-! programs and what they mean: cells k = 512 p + s -/
abbrev GrP : Type := Nat × (Nat → Nat) × (Nat → Nat) × (Nat → Nat) × (Nat → Nat) × (Nat → Nat) × (Nat → Int) × (Nat → Nat) × (Nat → Nat)
def gr_E (G : GrP) : Nat := G.1
def gr_F (G : GrP) : Nat → Nat := G.2.1
def gr_T (G : GrP) : Nat → Nat := G.2.2.1
def gr_K (G : GrP) : Nat → Nat := G.2.2.2.1
def gr_A (G : GrP) : Nat → Nat := G.2.2.2.2.1
def gr_B (G : GrP) : Nat → Nat := G.2.2.2.2.2.1
def gr_C (G : GrP) : Nat → Int := G.2.2.2.2.2.2.1
def gr_lo (G : GrP) : Nat → Nat := G.2.2.2.2.2.2.2.1
def gr_hi (G : GrP) : Nat → Nat := G.2.2.2.2.2.2.2.2
def gr_ok (G : GrP) : Prop := gr_E G ≤ 20 ∧ (∀ e, e < 20 → gr_F G e < 7 ∧ gr_T G e < 7 ∧ gr_K G e < 8 ∧ gr_A G e < 3 ∧ gr_B G e < 3) ∧
  (∀ e, e < gr_E G → gr_cr (gr_K G e) (gr_C G e)) ∧ (∀ i, i < 3 → gr_lo G i ≤ gr_hi G i ∧ gr_hi G i ≤ 7)
def gr_te (G : GrP) (e s t : Nat) : Prop := gr_tr (gr_K G e) (gr_A G e) (gr_B G e) (gr_C G e) s t
def gr_st (G : GrP) (k : Nat) : Prop := k < 512 ∧ ∀ i, i < 3 → gr_lo G i ≤ gr_dg k i ∧ gr_dg k i ≤ gr_hi G i
def gr_sc (G : GrP) (k k' : Nat) : Prop := ∃ e s t, e < gr_E G ∧ s < 512 ∧ k = 512 * gr_F G e + s ∧ k' = 512 * gr_T G e + t ∧ gr_te G e s t
theorem gr_te_lt {G : GrP} (g : gr_ok G) {e s t : Nat} (he : e < gr_E G) (hs : s < 512) (h : gr_te G e s t) : t < 512 :=
  gr_tr_lt (g.2.1 e (by have := g.1; omega)).2.2.2.1 hs h
theorem gr_sc_lt {G : GrP} (g : gr_ok G) {k k' : Nat} (h : gr_sc G k k') : k < 3584 ∧ k' < 3584 := by
  obtain ⟨e, s, t, he, hs, rfl, rfl, ht⟩ := h
  have h1 := gr_te_lt g he hs ht
  have h2 := g.2.1 e (by have := g.1; omega)
  omega
/-- reached within n steps -/
def gr_R (G : GrP) : Nat → Nat → Prop
  | 0, k => gr_st G k
  | n + 1, k => gr_R G n k ∨ ∃ j, gr_R G n j ∧ gr_sc G j k
theorem gr_R_lt {G : GrP} (g : gr_ok G) : ∀ {n k : Nat}, gr_R G n k → k < 3584
  | 0, k, h => by have := h.1; omega
  | n + 1, k, h => by
    rcases h with h | ⟨j, _, h⟩
    · exact gr_R_lt g h
    · exact (gr_sc_lt g h).2
theorem gr_R_up {G : GrP} {n k : Nat} (h : gr_R G n k) : ∀ d, gr_R G (n + d) k
  | 0 => h
  | d + 1 => Or.inl (gr_R_up h d)
theorem gr_R_mono {G : GrP} {n m k : Nat} (h : gr_R G n k) (hm : n ≤ m) : gr_R G m k := by
  have := gr_R_up h (m - n)
  rwa [show n + (m - n) = m by omega] at this
theorem gr_R_fix {G : GrP} {n : Nat} (h : ∀ k, gr_R G (n + 1) k → gr_R G n k) : ∀ d k, gr_R G (n + d) k → gr_R G n k
  | 0, k, z => z
  | d + 1, k, z => by
    rcases z with z | ⟨j, z, y⟩
    · exact gr_R_fix h d k z
    · exact h k (Or.inr ⟨j, gr_R_fix h d j z, y⟩)
theorem gr_R_all {G : GrP} {n : Nat} (h : ∀ k, gr_R G (n + 1) k → gr_R G n k) {m k : Nat} (z : gr_R G m k) : gr_R G n k := by
  rcases Nat.le_total m n with q | q
  · exact gr_R_mono z q
  · have := gr_R_fix h (m - n) k
    rw [show n + (m - n) = m by omega] at this
    exact this z
/-- d is the distance of cell k (-1: none) -/
def gr_D (G : GrP) (k : Nat) (d : Int) : Prop := (d = -1 ∧ ∀ n, ¬ gr_R G n k) ∨ ∃ n : Nat, d = n ∧ gr_R G n k ∧ ∀ m, m < n → ¬ gr_R G m k
theorem gr_D_uniq {G : GrP} {k : Nat} {d d' : Int} (h : gr_D G k d) (h' : gr_D G k d') : d = d' := by
  rcases h with ⟨e, h⟩ | ⟨n, e, h, l⟩ <;> rcases h' with ⟨e', h'⟩ | ⟨n', e', h', l'⟩
  · omega
  · exact absurd h' (h n')
  · exact absurd h (h' n)
  · rcases Nat.lt_trichotomy n n' with q | q | q
    · exact absurd h (l' n q)
    · omega
    · exact absurd h' (l n' q)
theorem gr_D_neg {G : GrP} {k : Nat} {d : Int} (h : gr_D G k d) : d < 0 ↔ ∀ n, ¬ gr_R G n k := by
  rcases h with ⟨e, h⟩ | ⟨n, e, h, l⟩
  · exact ⟨fun _ => h, fun _ => by omega⟩
  · exact ⟨fun z => absurd z (by omega), fun z => absurd h (z n)⟩
/-- how far the search has come: levels up to r are known -/
def gr_Dr (G : GrP) (r k : Nat) (d : Int) : Prop := (d = -1 ∧ ¬ gr_R G r k) ∨ ∃ n : Nat, n ≤ r ∧ d = n ∧ gr_R G n k ∧ ∀ m, m < n → ¬ gr_R G m k
theorem gr_Dr_D {G : GrP} {r k : Nat} {d : Int} (f : ∀ k, gr_R G (r + 1) k → gr_R G r k) (h : gr_Dr G r k d) : gr_D G k d := by
  rcases h with ⟨e, h⟩ | ⟨n, _, e, h, l⟩
  · exact Or.inl ⟨e, fun n z => h (gr_R_all f z)⟩
  · exact Or.inr ⟨n, e, h, l⟩
theorem gr_Dr_R {G : GrP} {r k : Nat} {d : Int} (h : gr_Dr G r k d) : 0 ≤ d ↔ gr_R G r k := by
  rcases h with ⟨e, h⟩ | ⟨n, hn, e, h, l⟩
  · exact ⟨fun z => absurd z (by omega), fun z => absurd z h⟩
  · exact ⟨fun _ => gr_R_mono h hn, fun _ => by omega⟩
/-! the least set of the analysis -/
def gr_hull (P : Nat → Prop) (s : Nat) : Prop := ∀ a b, a < 6 → b < 6 → ∃ t, t < 512 ∧ P t ∧ oc_ev (gr_vs s) a - oc_ev (gr_vs s) b ≤ oc_ev (gr_vs t) a - oc_ev (gr_vs t) b
theorem gr_hull_mono {P Q : Nat → Prop} (h : ∀ s, s < 512 → P s → Q s) {s : Nat} (z : gr_hull P s) : gr_hull Q s := fun a b ha hb => by
  obtain ⟨t, ht, hP, e⟩ := z a b ha hb
  exact ⟨t, ht, h t ht hP, e⟩
theorem gr_hull_self {P : Nat → Prop} {s : Nat} (hs : s < 512) (h : P s) : gr_hull P s := fun a b _ _ => ⟨s, hs, h, Int.le_refl _⟩
theorem gr_hull_oct {M : OcM} {S : Nat → Prop} (O : gr_Oct M S) {s : Nat} (hs : s < 512) (h : gr_hull S s) : S s := by
  refine (O.1 s hs).mpr (fun a b ha hb => ?_)
  obtain ⟨t, ht, hS, e⟩ := h a b ha hb
  exact Int.le_trans e ((O.1 t ht).mp hS a b ha hb)
def gr_cl (G : GrP) (S : Nat → Prop) : Prop := (∀ k, gr_st G k → S k) ∧ (∀ k k', S k → gr_sc G k k' → S k') ∧
  (∀ p s, p < 7 → s < 512 → gr_hull (fun t => S (512 * p + t)) s → S (512 * p + s))
def gr_H (G : GrP) (k : Nat) : Prop := ∀ S, gr_cl G S → S k
theorem gr_H_cl (G : GrP) : gr_cl G (gr_H G) := by
  refine ⟨fun k h S c => c.1 k h, fun k k' h z S c => c.2.1 k k' (h S c) z, fun p s hp hs h S c => c.2.2 p s hp hs (gr_hull_mono (fun t _ z => z S c) h)⟩
theorem gr_H_le {G : GrP} {S : Nat → Prop} (c : gr_cl G S) {k : Nat} (h : gr_H G k) : S k := h S c
theorem gr_H_lt {G : GrP} (g : gr_ok G) {k : Nat} (h : gr_H G k) : k < 3584 := by
  refine h (fun k => k < 3584) ⟨fun k z => by have := z.1; omega, fun k k' _ z => (gr_sc_lt g z).2, fun p s hp hs _ => by show 512 * p + s < 3584; omega⟩
/-- an edge leads within the least set -/
theorem gr_H_e {G : GrP} {e s t : Nat} (he : e < gr_E G) (hs : s < 512) (h : gr_H G (512 * gr_F G e + s)) (z : gr_te G e s t) : gr_H G (512 * gr_T G e + t) :=
  (gr_H_cl G).2.1 _ _ h ⟨e, s, t, he, hs, rfl, rfl, z⟩
/-! the join of two matrices -/
def gr_mx (M N : OcM) : OcM := fun a b => max (M a b) (N a b)
theorem gr_mx_oct {M N : OcM} {S U : Nat → Prop} (O : gr_Oct M S) (Q : gr_Oct N U) : gr_Oct (gr_mx M N) (fun s => oc_Sat (gr_mx M N) (gr_vs s)) := by
  refine ⟨fun s _ => Iff.rfl, fun a b ha hb => ?_⟩
  have inc : ∀ s, s < 512 → S s → oc_Sat (gr_mx M N) (gr_vs s) := fun s hs h a b ha hb => by
    have := (O.1 s hs).mp h a b ha hb; unfold gr_mx; omega
  have inc' : ∀ s, s < 512 → U s → oc_Sat (gr_mx M N) (gr_vs s) := fun s hs h a b ha hb => by
    have := (Q.1 s hs).mp h a b ha hb; unfold gr_mx; omega
  rcases Int.le_total (M a b) (N a b) with z | z
  · obtain ⟨s, hs, hU, e⟩ := Q.2 a b ha hb
    exact ⟨s, hs, inc' s hs hU, by unfold gr_mx; omega⟩
  · obtain ⟨s, hs, hS, e⟩ := O.2 a b ha hb
    exact ⟨s, hs, inc s hs hS, by unfold gr_mx; omega⟩
theorem gr_mx_l {M N : OcM} {S : Nat → Prop} (O : gr_Oct M S) {s : Nat} (hs : s < 512) (h : S s) : oc_Sat (gr_mx M N) (gr_vs s) := fun a b ha hb => by
  have := (O.1 s hs).mp h a b ha hb; unfold gr_mx; omega
theorem gr_mx_r {M N : OcM} {U : Nat → Prop} (Q : gr_Oct N U) {s : Nat} (hs : s < 512) (h : U s) : oc_Sat (gr_mx M N) (gr_vs s) := fun a b ha hb => by
  have := (Q.1 s hs).mp h a b ha hb; unfold gr_mx; omega
theorem gr_mx_hull {M N : OcM} {S U P : Nat → Prop} (O : gr_Oct M S) (Q : gr_Oct N U) (hS : ∀ s, s < 512 → S s → P s) (hU : ∀ s, s < 512 → U s → P s) {s : Nat}
    (h : oc_Sat (gr_mx M N) (gr_vs s)) : gr_hull P s := fun a b ha hb => by
  have hh := h a b ha hb
  unfold gr_mx at hh
  rcases Int.le_total (M a b) (N a b) with z | z
  · obtain ⟨t, ht, hT, e⟩ := Q.2 a b ha hb
    exact ⟨t, ht, hU t ht hT, by omega⟩
  · obtain ⟨t, ht, hT, e⟩ := O.2 a b ha hb
    exact ⟨t, ht, hS t ht hT, by omega⟩
end
section
/-! ints by their numbers -/
theorem xa_add {x y : Int32} {a b : Int} (hx : x.toInt = a) (hy : y.toInt = b) (h1 : -1000000 ≤ a + b) (h2 : a + b ≤ 1000000) : (x + y).toInt = a + b := by
  rw [Int32.toInt_add, hx, hy]
  exact Int.bmod_eq_of_le (by omega) (by omega)
theorem xa_sub {x y : Int32} {a b : Int} (hx : x.toInt = a) (hy : y.toInt = b) (h1 : -1000000 ≤ a - b) (h2 : a - b ≤ 1000000) : (x - y).toInt = a - b := by
  rw [Int32.toInt_sub, hx, hy]
  exact Int.bmod_eq_of_le (by omega) (by omega)
theorem xa_mul {x y : Int32} {a b : Int} (hx : x.toInt = a) (hy : y.toInt = b) (h1 : -1000000 ≤ a * b) (h2 : a * b ≤ 1000000) : (x * y).toInt = a * b := by
  rw [Int32.toInt_mul, hx, hy]
  exact Int.bmod_eq_of_le (by omega) (by omega)
theorem xa_neg {x : Int32} {a : Int} (hx : x.toInt = a) (h1 : -1000000 ≤ a) (h2 : a ≤ 1000000) : (- x).toInt = - a := by
  rw [Int32.toInt_neg, hx]
  exact Int.bmod_eq_of_le (by omega) (by omega)
theorem xa_2 {x : Int32} {a : Int} (hx : x.toInt = a) (h1 : -1000 ≤ a) (h2 : a ≤ 1000) : (2 * x).toInt = 2 * a :=
  xa_mul (show (2 : Int32).toInt = 2 by decide) hx (by omega) (by omega)
theorem xa_m2 {x : Int32} {a : Int} (hx : x.toInt = a) (h1 : -1000 ≤ a) (h2 : a ≤ 1000) : ((-2) * x).toInt = - 2 * a :=
  xa_mul (show (-2 : Int32).toInt = -2 by decide) hx (by omega) (by omega)
theorem xa_shr {x : Int32} {a : Int} (hx : x.toInt = a) : (x >>> ((1 : Int32) &&& 31)).toInt = a / 2 := by
  rw [pk_shr x _ 1 (by decide), hx, Int.shiftRight_eq_div_pow]
  rfl
theorem xa_shlE (x : Int32) : x <<< ((1 : Int32) &&& 31) = x + x := by
  apply Int32.toBitVec_inj.mp
  apply BitVec.eq_of_toNat_eq
  rw [pk_shl x _ 1 (by decide), Int32.toBitVec_add, BitVec.toNat_add]
  omega
theorem xa_ev {x : Int32} {a : Int} (hx : x.toInt = a) (h1 : -400000 ≤ a) (h2 : a ≤ 400000) : ((x >>> ((1 : Int32) &&& 31)) <<< ((1 : Int32) &&& 31)).toInt = 2 * (a / 2) := by
  rw [xa_shlE, xa_add (xa_shr hx) (xa_shr hx) (by omega) (by omega)]
  omega
theorem xa_le {x y : Int32} {a b : Int} (hx : x.toInt = a) (hy : y.toInt = b) : x ≤ y ↔ a ≤ b := by
  rw [Int32.le_iff_toInt_le, hx, hy]
theorem xa_lt {x y : Int32} {a b : Int} (hx : x.toInt = a) (hy : y.toInt = b) : x < y ↔ a < b := by
  rw [Int32.lt_iff_toInt_lt, hx, hy]
theorem xa_eq {x y : Int32} {a b : Int} (hx : x.toInt = a) (hy : y.toInt = b) : x = y ↔ a = b := by
  rw [← Int32.toInt_inj, hx, hy]
theorem xa_0 : (0 : Int32).toInt = 0 := by decide
theorem xa_1 : (1 : Int32).toInt = 1 := by decide
theorem xa_14 : (14 : Int32).toInt = 14 := by decide
theorem xa_nI {n : Nat} (h : n < 1000000) : (nI n).toInt = (n : Int) := nI_toInt (by omega)
theorem xa_xor {a : Nat} (h : a < 6) : nI a ^^^ 1 = nI (oc_fl a) := by
  have e : nI a ^^^ 1 = nI (a ^^^ 1) := nx_xor a 1
  rw [e, oc_fl_xor a h]
theorem xa_i1 (a b : Nat) : (252 + (6 * nI a)) + nI b = nI (252 + 6 * a + b) := by
  show (nI 252 + (nI 6 * nI a)) + nI b = _
  rw [pk_mul, nI_add, nI_add]
theorem xa_i2 (a b : Nat) : ((252 + (6 * nI a)) + nI b) + 1 = nI (252 + 6 * a + b + 1) := by
  rw [xa_i1, nI_1]
theorem xa_i3 (a b : Nat) : ((252 + (6 * nI a)) + 6) + nI b = nI (252 + 6 * a + 6 + b) := by
  show ((nI 252 + (nI 6 * nI a)) + nI 6) + nI b = _
  rw [pk_mul, nI_add, nI_add, nI_add]
theorem xa_d2 (a : Nat) : 2 * nI a = nI (2 * a) := pk_mul 2 a
theorem xa_d3 (a : Nat) : (2 * nI a) + 1 = nI (2 * a + 1) := by rw [xa_d2, nI_1]
theorem xa_s1 {n : Nat} (h : n < 2 ^ 31) : nI n >>> ((1 : Int32) &&& 31) = nI (n / 2) := pk_shrN h _ 1 (by decide)
/-! the matrix at work: cells 252 .. 287 of the array -/
def xm_R (g : Nat → Int32) (M : OcM) : Prop := ∀ i j, i < 6 → j < 6 → (g (252 + 6 * i + j)).toInt = M i j
def xm_K (g g' : Nat → Int32) : Prop := ∀ q, q < 252 → g' q = g q
theorem xm_K0 (g : Nat → Int32) : xm_K g g := fun _ _ => rfl
theorem xm_Kt {g h k : Nat → Int32} (a : xm_K g h) (b : xm_K h k) : xm_K g k := fun q hq => (b q hq).trans (a q hq)
theorem xm_Ku {g h : Nat → Int32} (K : xm_K g h) {c : Nat} (hc : 252 ≤ c) (v : Int32) : xm_K g (upd h c v) := fun q hq => by
  rw [pk_un (by omega), K q hq]
theorem xm_Rc {g : Nat → Int32} {M N : OcM} (R : xm_R g M) (e : ∀ i j, i < 6 → j < 6 → M i j = N i j) : xm_R g N := fun i j hi hj => by
  rw [R i j hi hj, e i j hi hj]
theorem xm_Rp {g : Nat → Int32} {M : OcM} (R : xm_R g M) {a b : Nat} (ha : a < 6) (hb : b < 6) {v : Int32} {c : Int} (hv : v.toInt = c) :
    xm_R (upd g (252 + 6 * a + b) v) (fun i j => if i = a ∧ j = b then c else M i j) := fun i j hi hj => by
  by_cases e : i = a ∧ j = b
  · obtain ⟨rfl, rfl⟩ := e
    rw [pk_us, hv]
    exact (if_pos ⟨rfl, rfl⟩).symm
  · rw [pk_un (by omega), R i j hi hj]
    exact (if_neg e).symm
end
section
/-! through, strengthen, close -/
section
variable {f_edges f_known : Int32} {a_from a_to a_kind a_first a_second a_constant a_low a_high a_bound a_filled a_waiting a_waits a_far : Nat → Int32} {a_said a_real a_fresh a_coming : Nat → Int64}
theorem xm_th19 {post : SX → Prop} {g0 : Nat → Int32} {a k : Nat} (ha : a < 6) (hk : k < 6) {M : OcM} (B : oc_Bd 100004 M) {x3 : Int32} (h3 : x3.toInt = M a k)
    (H : ∀ g, xm_K g0 g → xm_R g (oc_th a k M) → post (f_edges, f_known, a_from, a_to, a_kind, a_first, a_second, a_constant, a_low, a_high, g, a_filled, a_waiting, a_waits, a_said, a_real, a_fresh, a_coming, a_far)) :
    ∀ (n m : Nat) (g : Nat → Int32), m ≤ 6 → 6 < n + m → xm_K g0 g → xm_R g (fun i j => if i = a ∧ j < m then min (M i j) (M a k + M k j) else M i j) →
      wX_through_19 post (nI a) (nI k) x3 f_edges f_known n (nI m) a_from a_to a_kind a_first a_second a_constant a_low a_high g a_filled a_waiting a_waits a_said a_real a_fresh a_coming a_far := by
  intro n
  induction n with
  | zero => intro m g h1 h2; omega
  | succ n ih =>
    intro m g hm hn K R
    rw [wX_through_19]
    by_cases e : m = 6
    · subst e
      refine br_t (show (6 : Int32) ≤ nI 6 from by decide) (H g K (xm_Rc R (fun i j hi hj => ?_)))
      unfold oc_th
      by_cases z : i = a
      · rw [if_pos z, if_pos ⟨z, hj⟩]
      · rw [if_neg z, if_neg (fun q => z q.1)]
    · have m6 : m < 6 := by omega
      have rk : (g (252 + 6 * k + m)).toInt = M k m := by
        rw [R k m hk m6]; exact if_neg (fun q => Nat.lt_irrefl m q.2)
      have ra : (g (252 + 6 * a + m)).toInt = M a m := by
        rw [R a m ha m6]; exact if_neg (fun q => Nat.lt_irrefl m q.2)
      have b1 := B a k ha hk
      have b2 := B k m hk m6
      have hs : (x3 + g (252 + 6 * k + m)).toInt = M a k + M k m := xa_add h3 rk (by omega) (by omega)
      have ck : ((252 + (6 * nI k)) + nI m).toNatClampNeg = 252 + 6 * k + m := pk_cl _ (xa_i1 k m)
      have ca : ((252 + (6 * nI a)) + nI m).toNatClampNeg = 252 + 6 * a + m := pk_cl _ (xa_i1 a m)
      refine br_f (nI_ge (b := 6) (by omega) (by omega)) ⟨pk_in (252 + 6 * k + m) 288 (by omega) (xa_i1 k m), nm_r (e' := x3 + g (252 + 6 * k + m)) (by rw [ck]) ⟨pk_in (252 + 6 * a + m) 288 (by omega) (xa_i1 a m), ?_⟩⟩
      rw [ca]
      refine br_c (fun hc => nm_r (nI_1 m) (ih (m + 1) g (by omega) (by omega) K (xm_Rc R (fun i j hi hj => ?_)))) (fun hc => ⟨pk_in (252 + 6 * a + m) 288 (by omega) (xa_i1 a m), nm_e (nm_r (nI_1 m) (ih (m + 1) _ (by omega) (by omega) (xm_Ku K (by omega) _) (xm_Rc (xm_Rp R ha m6 hs) (fun i j hi hj => ?_))))⟩)
      · rw [xa_le ra hs] at hc
        by_cases z : i = a ∧ j < m
        · rw [if_pos z, if_pos ⟨z.1, by omega⟩]
        · rw [if_neg z]
          by_cases y : i = a ∧ j < m + 1
          · rw [if_pos y]
            obtain ⟨rfl, y⟩ := y
            have : j = m := by
              rcases Nat.lt_or_ge j m with q | q
              · exact absurd ⟨rfl, q⟩ z
              · omega
            subst this
            omega
          · rw [if_neg y]
      · rw [xa_le ra hs] at hc
        by_cases z : i = a ∧ j = m
        · obtain ⟨rfl, rfl⟩ := z
          rw [if_pos ⟨rfl, rfl⟩, if_pos ⟨rfl, by omega⟩]
          omega
        · rw [if_neg z]
          by_cases y : i = a ∧ j < m
          · rw [if_pos y, if_pos ⟨y.1, by omega⟩]
          · have y2 : ¬ (i = a ∧ j < m + 1) := fun q => by
              rcases Nat.lt_or_ge j m with w | w
              · exact y ⟨q.1, w⟩
              · exact z ⟨q.1, by omega⟩
            rw [if_neg y, if_neg y2]
theorem xm_through {post : SX → Prop} {a k : Nat} (ha : a < 6) (hk : k < 6) {M : OcM} (B : oc_Bd 100004 M) (R : xm_R a_bound M)
    (H : ∀ g, xm_K a_bound g → xm_R g (oc_th a k M) → post (f_edges, f_known, a_from, a_to, a_kind, a_first, a_second, a_constant, a_low, a_high, g, a_filled, a_waiting, a_waits, a_said, a_real, a_fresh, a_coming, a_far)) : wpX_through post (f_edges, f_known, a_from, a_to, a_kind, a_first, a_second, a_constant, a_low, a_high, a_bound, a_filled, a_waiting, a_waits, a_said, a_real, a_fresh, a_coming, a_far) (nI a) (nI k) := by
  have ca : ((252 + (6 * nI a)) + nI k).toNatClampNeg = 252 + 6 * a + k := pk_cl _ (xa_i1 a k)
  refine ⟨pk_in (252 + 6 * a + k) 288 (by omega) (xa_i1 a k), nm_r (e' := a_bound (252 + 6 * a + k)) (by rw [ca]) ⟨7, ?_⟩⟩
  exact xm_th19 ha hk B (R a k ha hk) H 7 0 a_bound (by omega) (by omega) (xm_K0 _) (xm_Rc R (fun i j hi hj => (if_neg (fun q => Nat.not_lt_zero j q.2)).symm))
theorem xm_st20 {post : SX → Prop} {g0 : Nat → Int32} {a : Nat} (ha : a < 6) {M : OcM} (B : oc_Bd 100004 M) {x2 : Int32} (h2 : x2.toInt = M a (oc_fl a))
    (H : ∀ g, xm_K g0 g → xm_R g (oc_sg a M) → post (f_edges, f_known, a_from, a_to, a_kind, a_first, a_second, a_constant, a_low, a_high, g, a_filled, a_waiting, a_waits, a_said, a_real, a_fresh, a_coming, a_far)) :
    ∀ (n m : Nat) (g : Nat → Int32), m ≤ 6 → 6 < n + m → xm_K g0 g → xm_R g (fun i j => if (i = a ∧ i ≠ j) ∧ j < m then min (M i j) ((M a (oc_fl a) + M (oc_fl j) j) / 2) else M i j) →
      wX_strengthen_20 post (nI a) x2 f_edges f_known n (nI m) a_from a_to a_kind a_first a_second a_constant a_low a_high g a_filled a_waiting a_waits a_said a_real a_fresh a_coming a_far := by
  intro n
  induction n with
  | zero => intro m g h1 h2; omega
  | succ n ih =>
    intro m g hm hn K R
    rw [wX_strengthen_20]
    by_cases e : m = 6
    · subst e
      refine br_t (show (6 : Int32) ≤ nI 6 from by decide) (H g K (xm_Rc R (fun i j hi hj => ?_)))
      unfold oc_sg
      by_cases z : i = a ∧ i ≠ j
      · rw [if_pos z, if_pos ⟨z, hj⟩]
      · rw [if_neg z, if_neg (fun q => z q.1)]
    · have m6 : m < 6 := by omega
      have f6 := oc_fl_lt m6
      have rk : (g (252 + 6 * oc_fl m + m)).toInt = M (oc_fl m) m := by
        rw [R (oc_fl m) m f6 m6]; exact if_neg (fun q => Nat.lt_irrefl m q.2)
      have ra : (g (252 + 6 * a + m)).toInt = M a m := by
        rw [R a m ha m6]; exact if_neg (fun q => Nat.lt_irrefl m q.2)
      have b1 := B a (oc_fl a) ha (oc_fl_lt ha)
      have b2 := B (oc_fl m) m f6 m6
      have ik : (252 + (6 * (nI m ^^^ 1))) + nI m = nI (252 + 6 * oc_fl m + m) := by rw [xa_xor m6]; exact xa_i1 _ _
      have ck : ((252 + (6 * (nI m ^^^ 1))) + nI m).toNatClampNeg = 252 + 6 * oc_fl m + m := pk_cl _ ik
      have ca : ((252 + (6 * nI a)) + nI m).toNatClampNeg = 252 + 6 * a + m := pk_cl _ (xa_i1 a m)
      have hs : ((x2 + g (252 + 6 * oc_fl m + m)) >>> ((1 : Int32) &&& 31)).toInt = (M a (oc_fl a) + M (oc_fl m) m) / 2 := xa_shr (xa_add h2 rk (by omega) (by omega))
      refine br_f (nI_ge (b := 6) (by omega) (by omega)) ⟨pk_in (252 + 6 * oc_fl m + m) 288 (by omega) ik, nm_r (e' := (x2 + g (252 + 6 * oc_fl m + m)) >>> ((1 : Int32) &&& 31)) (by rw [ck]) ?_⟩
      refine pk_eq a m (fun q => nm_r (nI_1 m) (ih (m + 1) g (by omega) (by omega) K (xm_Rc R (fun i j hi hj => ?_)))) (fun q => ⟨pk_in (252 + 6 * a + m) 288 (by omega) (xa_i1 a m), ?_⟩)
      · by_cases z : (i = a ∧ i ≠ j) ∧ j < m
        · rw [if_pos z, if_pos ⟨z.1, by omega⟩]
        · have z2 : ¬ ((i = a ∧ i ≠ j) ∧ j < m + 1) := fun y => z ⟨y.1, by have := y.1.1; have := y.1.2; have := y.2; omega⟩
          rw [if_neg z, if_neg z2]
      · rw [ca]
        refine br_c (fun hc => nm_r (nI_1 m) (ih (m + 1) g (by omega) (by omega) K (xm_Rc R (fun i j hi hj => ?_)))) (fun hc => ⟨pk_in (252 + 6 * a + m) 288 (by omega) (xa_i1 a m), nm_e (nm_r (nI_1 m) (ih (m + 1) _ (by omega) (by omega) (xm_Ku K (by omega) _) (xm_Rc (xm_Rp R ha m6 hs) (fun i j hi hj => ?_))))⟩)
        · rw [xa_le ra hs] at hc
          by_cases z : (i = a ∧ i ≠ j) ∧ j < m
          · rw [if_pos z, if_pos ⟨z.1, by omega⟩]
          · rw [if_neg z]
            by_cases y : (i = a ∧ i ≠ j) ∧ j < m + 1
            · rw [if_pos y]
              have e1 : j = m := by
                rcases Nat.lt_or_ge j m with w | w
                · exact absurd ⟨y.1, w⟩ z
                · have := y.2; omega
              have e2 := y.1.1
              subst e1
              subst e2
              omega
            · rw [if_neg y]
        · rw [xa_le ra hs] at hc
          by_cases z : i = a ∧ j = m
          · obtain ⟨rfl, rfl⟩ := z
            rw [if_pos ⟨rfl, rfl⟩, if_pos ⟨⟨rfl, q⟩, by omega⟩]
            omega
          · rw [if_neg z]
            by_cases y : (i = a ∧ i ≠ j) ∧ j < m
            · rw [if_pos y, if_pos ⟨y.1, by omega⟩]
            · have y2 : ¬ ((i = a ∧ i ≠ j) ∧ j < m + 1) := fun w => by
                rcases Nat.lt_or_ge j m with r | r
                · exact y ⟨w.1, r⟩
                · exact z ⟨w.1.1, by have := w.2; omega⟩
              rw [if_neg y, if_neg y2]
theorem xm_strengthen {post : SX → Prop} {a : Nat} (ha : a < 6) {M : OcM} (B : oc_Bd 100004 M) (R : xm_R a_bound M)
    (H : ∀ g, xm_K a_bound g → xm_R g (oc_sg a M) → post (f_edges, f_known, a_from, a_to, a_kind, a_first, a_second, a_constant, a_low, a_high, g, a_filled, a_waiting, a_waits, a_said, a_real, a_fresh, a_coming, a_far)) : wpX_strengthen post (f_edges, f_known, a_from, a_to, a_kind, a_first, a_second, a_constant, a_low, a_high, a_bound, a_filled, a_waiting, a_waits, a_said, a_real, a_fresh, a_coming, a_far) (nI a) := by
  have ia : (252 + (6 * nI a)) + (nI a ^^^ 1) = nI (252 + 6 * a + oc_fl a) := by rw [xa_xor ha]; exact xa_i1 _ _
  have ca : ((252 + (6 * nI a)) + (nI a ^^^ 1)).toNatClampNeg = 252 + 6 * a + oc_fl a := pk_cl _ ia (by have := oc_fl_lt ha; omega)
  have f6 := oc_fl_lt ha
  refine ⟨pk_in (252 + 6 * a + oc_fl a) 288 (by omega) ia, nm_r (e' := a_bound (252 + 6 * a + oc_fl a)) (by rw [ca]) ⟨7, ?_⟩⟩
  exact xm_st20 ha B (R a (oc_fl a) ha f6) H 7 0 a_bound (by omega) (by omega) (xm_K0 _) (xm_Rc R (fun i j hi hj => (if_neg (fun q => Nat.not_lt_zero j q.2)).symm))
theorem xm_c149 {post : Int32 → SX → Prop} {g0 : Nat → Int32} {M : OcM} (B : oc_Bd 100002 M) (H : ∀ g, xm_K g0 g → xm_R g (oc_sgA 6 M) → post 1 (f_edges, f_known, a_from, a_to, a_kind, a_first, a_second, a_constant, a_low, a_high, g, a_filled, a_waiting, a_waits, a_said, a_real, a_fresh, a_coming, a_far)) :
    ∀ (n m : Nat) (g : Nat → Int32), m ≤ 6 → 6 < n + m → xm_K g0 g → xm_R g (oc_sgA m M) → wX_close_149 post n (nI m) f_edges f_known a_from a_to a_kind a_first a_second a_constant a_low a_high g a_filled a_waiting a_waits a_said a_real a_fresh a_coming a_far := by
  intro n
  induction n with
  | zero => intro m g h1 h2; omega
  | succ n ih =>
    intro m g hm hn K R
    rw [wX_close_149]
    by_cases e : m = 6
    · subst e
      exact br_t (show (6 : Int32) ≤ nI 6 from by decide) (H g K R)
    · refine br_f (nI_ge (b := 6) (by omega) (by omega)) (xm_strengthen (by omega) (oc_bdSg B m) R (fun g' K' R' => ?_))
      exact nm_r (nI_1 m) (ih (m + 1) g' (by omega) (by omega) (xm_Kt K K') R')
theorem xm_c79 {post : Int32 → SX → Prop} {g0 : Nat → Int32} {M : OcM} (B : oc_Bd 100002 M) (K : xm_K g0 a_bound) (R : xm_R a_bound M)
    (H1 : oc_ok M → ∀ g, xm_K g0 g → xm_R g (oc_sgA 6 M) → post 1 (f_edges, f_known, a_from, a_to, a_kind, a_first, a_second, a_constant, a_low, a_high, g, a_filled, a_waiting, a_waits, a_said, a_real, a_fresh, a_coming, a_far)) (H0 : ¬ oc_ok M → post 0 (f_edges, f_known, a_from, a_to, a_kind, a_first, a_second, a_constant, a_low, a_high, a_bound, a_filled, a_waiting, a_waits, a_said, a_real, a_fresh, a_coming, a_far)) :
    ∀ (n m : Nat), m ≤ 6 → 6 < n + m → (∀ a, a < m → 0 ≤ M a a ∧ 0 ≤ M a (oc_fl a) + M (oc_fl a) a) → wX_close_79 post f_edges f_known a_from a_to a_kind a_first a_second a_constant a_low a_high a_bound a_filled a_waiting a_waits a_said a_real a_fresh a_coming a_far n (nI m) := by
  intro n
  induction n with
  | zero => intro m h1 h2; omega
  | succ n ih =>
    intro m hm hn hok
    rw [wX_close_79]
    by_cases e : m = 6
    · subst e
      exact br_t (show (6 : Int32) ≤ nI 6 from by decide) ⟨7, xm_c149 B (H1 hok) 7 0 a_bound (by omega) (by omega) K R⟩
    · have m6 : m < 6 := by omega
      have f6 := oc_fl_lt m6
      have i0 : 252 + (7 * nI m) = nI (252 + 6 * m + m) := by
        show nI 252 + nI 7 * nI m = _
        rw [pk_mul, nI_add, show 252 + 7 * m = 252 + 6 * m + m by omega]
      have i1 : (252 + (6 * nI m)) + (nI m ^^^ 1) = nI (252 + 6 * m + oc_fl m) := by rw [xa_xor m6]; exact xa_i1 _ _
      have i2 : (252 + (6 * (nI m ^^^ 1))) + nI m = nI (252 + 6 * oc_fl m + m) := by rw [xa_xor m6]; exact xa_i1 _ _
      have c0 : (252 + (7 * nI m)).toNatClampNeg = 252 + 6 * m + m := pk_cl _ i0
      have c1 : ((252 + (6 * nI m)) + (nI m ^^^ 1)).toNatClampNeg = 252 + 6 * m + oc_fl m := pk_cl _ i1
      have c2 : ((252 + (6 * (nI m ^^^ 1))) + nI m).toNatClampNeg = 252 + 6 * oc_fl m + m := pk_cl _ i2
      have r0 := R m m m6 m6
      have r1 := R m (oc_fl m) m6 f6
      have r2 := R (oc_fl m) m f6 m6
      have b1 := B m (oc_fl m) m6 f6
      have b2 := B (oc_fl m) m f6 m6
      have rs := xa_add r1 r2 (by omega) (by omega)
      refine br_f (nI_ge (b := 6) (by omega) (by omega)) ⟨pk_in (252 + 6 * m + m) 288 (by omega) i0, ?_⟩
      rw [c0]
      refine br_c (fun hc => H0 (fun q => ?_)) (fun hc => ⟨pk_in (252 + 6 * m + oc_fl m) 288 (by omega) i1, pk_in (252 + 6 * oc_fl m + m) 288 (by omega) i2, ?_⟩)
      · rw [xa_lt r0 xa_0] at hc
        have := (q m m6).1
        omega
      · rw [xa_lt r0 xa_0] at hc
        rw [c1, c2]
        refine br_c (fun hd => nm_r (nI_1 m) (ih (m + 1) (by omega) (by omega) (lt_s hok ?_))) (fun hd => H0 (fun q => ?_))
        · rw [xa_le xa_0 rs] at hd
          exact ⟨by omega, hd⟩
        · rw [xa_le xa_0 rs] at hd
          exact hd (q m m6).2
theorem xm_c36 {post : Int32 → SX → Prop} {g0 : Nat → Int32} {M : OcM} (B : oc_Bd 100000 M)
    (H1 : oc_ok (oc_tgA 6 M) → ∀ g, xm_K g0 g → xm_R g (oc_sgA 6 (oc_tgA 6 M)) → post 1 (f_edges, f_known, a_from, a_to, a_kind, a_first, a_second, a_constant, a_low, a_high, g, a_filled, a_waiting, a_waits, a_said, a_real, a_fresh, a_coming, a_far)) (H0 : ¬ oc_ok (oc_tgA 6 M) → ∀ g, xm_K g0 g → post 0 (f_edges, f_known, a_from, a_to, a_kind, a_first, a_second, a_constant, a_low, a_high, g, a_filled, a_waiting, a_waits, a_said, a_real, a_fresh, a_coming, a_far)) :
    ∀ (n m : Nat) (g : Nat → Int32), m ≤ 6 → 6 < n + m → xm_K g0 g → xm_R g (oc_tgA m M) → wX_close_36 post f_edges f_known n (nI m) a_from a_to a_kind a_first a_second a_constant a_low a_high g a_filled a_waiting a_waits a_said a_real a_fresh a_coming a_far := by
  intro n
  induction n with
  | zero => intro m g h1 h2; omega
  | succ n ih =>
    intro m g hm hn K R
    rw [wX_close_36]
    by_cases e : m = 6
    · subst e
      exact br_t (show (6 : Int32) ≤ nI 6 from by decide) ⟨7, xm_c79 (oc_bdTg B 6) K R H1 (fun q => H0 q g K) 7 0 (by omega) (by omega) (fun a ha => absurd ha (Nat.not_lt_zero a))⟩
    · have m6 : m < 6 := by omega
      have f6 := oc_fl_lt m6
      have i1 : (252 + (6 * nI m)) + (nI m ^^^ 1) = nI (252 + 6 * m + oc_fl m) := by rw [xa_xor m6]; exact xa_i1 _ _
      have c1 : (nI (252 + 6 * m + oc_fl m)).toNatClampNeg = 252 + 6 * m + oc_fl m := nI_clamp (by omega)
      have r1 := R m (oc_fl m) m6 f6
      have b1 := oc_bdTg B m m (oc_fl m) m6 f6
      have hs := xa_ev r1 (by omega) (by omega)
      refine br_f (nI_ge (b := 6) (by omega) (by omega)) (nm_r i1 ⟨vp_in_nI (by omega) (by omega), vp_in_nI (by omega) (by omega), ?_⟩)
      rw [c1]
      refine nm_e (nm_r (nI_1 m) (ih (m + 1) _ (by omega) (by omega) (xm_Ku K (by omega) _) (xm_Rc (xm_Rp R m6 f6 hs) (fun i j hi hj => ?_))))
      show _ = oc_tg m (oc_tgA m M) i j
      unfold oc_tg
      by_cases z : i = m ∧ j = oc_fl m
      · rw [if_pos z, if_pos z, z.1, z.2]
      · rw [if_neg z, if_neg z]
theorem xm_c10 {post : Int32 → SX → Prop} {J2 : Int32 → Int32 → Int32 → (Nat → Int32) → (Nat → Int32) → (Nat → Int32) → (Nat → Int32) → (Nat → Int32) → (Nat → Int32) → (Nat → Int32) → (Nat → Int32) → (Nat → Int32) → (Nat → Int32) → (Nat → Int32) → (Nat → Int32) → (Nat → Int64) → (Nat → Int64) → (Nat → Int64) → (Nat → Int64) → (Nat → Int32) → Prop}
    {g0 : Nat → Int32} {k : Nat} (hk : k < 6) {M : OcM} (B : ∀ m, m ≤ 6 → oc_Bd 100000 (oc_thA k m M)) (H : ∀ g, xm_K g0 g → xm_R g (oc_thA k 6 M) → J2 (nI (k + 1)) f_edges f_known a_from a_to a_kind a_first a_second a_constant a_low a_high g a_filled a_waiting a_waits a_said a_real a_fresh a_coming a_far) :
    ∀ (n m : Nat) (g : Nat → Int32), m ≤ 6 → 6 < n + m → xm_K g0 g → xm_R g (oc_thA k m M) → wX_close_10 post J2 (nI k) n (nI m) f_edges f_known a_from a_to a_kind a_first a_second a_constant a_low a_high g a_filled a_waiting a_waits a_said a_real a_fresh a_coming a_far := by
  intro n
  induction n with
  | zero => intro m g h1 h2; omega
  | succ n ih =>
    intro m g hm hn K R
    rw [wX_close_10]
    by_cases e : m = 6
    · subst e
      exact br_t (show (6 : Int32) ≤ nI 6 from by decide) (nm_r (nI_1 k) (H g K R))
    · refine br_f (nI_ge (b := 6) (by omega) (by omega)) (xm_through (by omega) hk (oc_Bd_mono (by omega) (B m hm)) R (fun g' K' R' => ?_))
      exact nm_r (nI_1 m) (ih (m + 1) g' (by omega) (by omega) (xm_Kt K K') R')
theorem xm_c2 {post : Int32 → SX → Prop} {g0 : Nat → Int32} {M : OcM} (B : oc_Bd 100 M)
    (H1 : oc_ok (oc_T M) → ∀ g, xm_K g0 g → xm_R g (oc_C M) → post 1 (f_edges, f_known, a_from, a_to, a_kind, a_first, a_second, a_constant, a_low, a_high, g, a_filled, a_waiting, a_waits, a_said, a_real, a_fresh, a_coming, a_far)) (H0 : ¬ oc_ok (oc_T M) → ∀ g, xm_K g0 g → post 0 (f_edges, f_known, a_from, a_to, a_kind, a_first, a_second, a_constant, a_low, a_high, g, a_filled, a_waiting, a_waits, a_said, a_real, a_fresh, a_coming, a_far)) :
    ∀ (n m : Nat) (g : Nat → Int32), m ≤ 6 → 6 < n + m → xm_K g0 g → xm_R g (oc_fw m M) → wX_close_2 post n (nI m) f_edges f_known a_from a_to a_kind a_first a_second a_constant a_low a_high g a_filled a_waiting a_waits a_said a_real a_fresh a_coming a_far := by
  intro n
  induction n with
  | zero => intro m g h1 h2; omega
  | succ n ih =>
    intro m g hm hn K R
    rw [wX_close_2]
    by_cases e : m = 6
    · subst e
      exact br_t (show (6 : Int32) ≤ nI 6 from by decide) ⟨7, xm_c36 (oc_bdFw B) H1 H0 7 0 g (by omega) (by omega) K R⟩
    · have m6 : m < 6 := by omega
      exact br_f (nI_ge (b := 6) (by omega) (by omega)) ⟨7, xm_c10 m6 (fun j hj => oc_bdThA B m6 hj) (fun g' K' R' => ih (m + 1) g' (by omega) (by omega) K' R') 7 0 g (by omega) (by omega) K R⟩
theorem xm_close {post : Int32 → SX → Prop} {M : OcM} (B : oc_Bd 100 M) (R : xm_R a_bound M)
    (H1 : oc_ok (oc_T M) → ∀ g, xm_K a_bound g → xm_R g (oc_C M) → post 1 (f_edges, f_known, a_from, a_to, a_kind, a_first, a_second, a_constant, a_low, a_high, g, a_filled, a_waiting, a_waits, a_said, a_real, a_fresh, a_coming, a_far)) (H0 : ¬ oc_ok (oc_T M) → ∀ g, xm_K a_bound g → post 0 (f_edges, f_known, a_from, a_to, a_kind, a_first, a_second, a_constant, a_low, a_high, g, a_filled, a_waiting, a_waits, a_said, a_real, a_fresh, a_coming, a_far)) :
    wpX_close post (f_edges, f_known, a_from, a_to, a_kind, a_first, a_second, a_constant, a_low, a_high, a_bound, a_filled, a_waiting, a_waits, a_said, a_real, a_fresh, a_coming, a_far) :=
  ⟨7, xm_c2 B H1 H0 7 0 a_bound (by omega) (by omega) (xm_K0 _) R⟩
end
end
section
/-! meet, forget, exchange, turn, shift, assign, move -/
def xm_fgI (x m : Nat) (M : OcM) : OcM := fun i j =>
  if i / 2 = x then (if j / 2 = x then (if i = j then M i j else if i = 2 * x then 14 else 0) else if j < m then ((if i = 2 * x then 14 else 0) + M (oc_fl j) j) / 2 else M i j)
  else (if j / 2 = x then (if oc_fl i < m then ((if j = 2 * x + 1 then 14 else 0) + M i (oc_fl i)) / 2 else M i j) else M i j)
theorem xm_fgE {x : Nat} {M : OcM} {i j : Nat} (hi : i < 6) (hj : j < 6) : xm_fgI x 6 M i j = oc_fg x M i j := by
  unfold xm_fgI oc_fg
  have f6 := oc_fl_lt hi
  simp only [if_pos hj, if_pos f6]
theorem xm_fgK {x m : Nat} (h : m / 2 = x) {M : OcM} {i j : Nat} : xm_fgI x m M i j = xm_fgI x (m + 1) M i j := by
  unfold xm_fgI
  by_cases xi : i / 2 = x
  · by_cases xj : j / 2 = x
    · simp only [if_pos xi, if_pos xj]
    · simp only [if_pos xi, if_neg xj]
      have : j < m + 1 ↔ j < m := ⟨fun z => by have : j ≠ m := fun e => xj (e ▸ h); omega, fun z => by omega⟩
      simp only [this]
  · by_cases xj : j / 2 = x
    · simp only [if_neg xi, if_pos xj]
      have : oc_fl i < m + 1 ↔ oc_fl i < m := ⟨fun z => by have : oc_fl i ≠ m := (fun e => xi (by rw [← oc_fl_div, e]; exact h)); omega, fun z => by omega⟩
      simp only [this]
    · simp only [if_neg xi, if_neg xj]
theorem xm_fgS {x m : Nat} (h : m / 2 ≠ x) {M : OcM} {i j : Nat} {a b c d : Nat} (ea : a = 2 * x) (eb : b = 2 * x + 1) (ec : c = oc_fl m) :
    (if i = c ∧ j = a then M (oc_fl m) m / 2 else if i = c ∧ j = b then (14 + M (oc_fl m) m) / 2 else if i = b ∧ j = m then M (oc_fl m) m / 2 else
      if i = a ∧ j = m then (14 + M (oc_fl m) m) / 2 else xm_fgI x m M i j) = xm_fgI x (m + 1) M i j := by
  subst ea eb ec
  have hf : oc_fl m / 2 ≠ x := by rw [oc_fl_div]; exact h
  unfold xm_fgI
  by_cases xi : i / 2 = x
  · have n1 : ∀ q : Prop, ¬ (i = oc_fl m ∧ q) := fun q z => hf (z.1 ▸ xi)
    by_cases xj : j / 2 = x
    · have n2 : ∀ q : Prop, ¬ (q ∧ j = m) := fun q z => h (z.2 ▸ xj)
      simp only [if_neg (n1 _), if_neg (n2 _), if_pos xi, if_pos xj]
    · simp only [if_neg (n1 _), if_pos xi, if_neg xj]
      by_cases e : j = m
      · subst e
        have l : j < j + 1 := Nat.lt_succ_self j
        have ci : i = 2 * x ∨ i = 2 * x + 1 := by omega
        rcases ci with rfl | rfl
        · have n3 : ¬ (2 * x = 2 * x + 1) := by omega
          simp only [n3, false_and, if_false, if_pos l, and_self, if_true]
        · have n4 : ¬ (2 * x + 1 = 2 * x) := by omega
          simp only [if_pos l, and_self, if_true, n4, if_false, Int.zero_add]
      · have n2 : ∀ q : Prop, ¬ (q ∧ j = m) := fun q z => e z.2
        have l : j < m + 1 ↔ j < m := by omega
        simp only [if_neg (n2 _), l]
  · have n1 : ∀ q : Prop, ¬ (i = 2 * x + 1 ∧ q) := fun q z => xi (by omega)
    have n2 : ∀ q : Prop, ¬ (i = 2 * x ∧ q) := fun q z => xi (by omega)
    by_cases xj : j / 2 = x
    · simp only [if_neg (n1 _), if_neg (n2 _), if_neg xi, if_pos xj]
      by_cases e : i = oc_fl m
      · subst e
        have l : m < m + 1 := Nat.lt_succ_self m
        simp only [oc_fl_fl, if_pos l]
        have cj : j = 2 * x ∨ j = 2 * x + 1 := by omega
        rcases cj with rfl | rfl
        · have n4 : ¬ (2 * x = 2 * x + 1) := by omega
          simp only [and_self, if_true, n4, if_false, Int.zero_add]
        · have n4 : ¬ (2 * x + 1 = 2 * x) := by omega
          simp only [n4, and_false, if_false, and_self, if_true]
      · have n3 : ∀ q : Prop, ¬ (i = oc_fl m ∧ q) := fun q z => e z.1
        have n5 : oc_fl i ≠ m := fun z => e (by rw [← z, oc_fl_fl])
        have l : oc_fl i < m + 1 ↔ oc_fl i < m := by omega
        simp only [if_neg (n3 _), l]
    · have n3 : ∀ q : Prop, ¬ (q ∧ j = 2 * x) := fun q z => xj (by omega)
      have n4 : ∀ q : Prop, ¬ (q ∧ j = 2 * x + 1) := fun q z => xj (by omega)
      simp only [if_neg (n1 _), if_neg (n2 _), if_neg (n3 _), if_neg (n4 _), if_neg xi, if_neg xj]
section
variable {f_edges f_known : Int32} {a_from a_to a_kind a_first a_second a_constant a_low a_high a_bound a_filled a_waiting a_waits a_far : Nat → Int32} {a_said a_real a_fresh a_coming : Nat → Int64}
theorem xm_m35 {post : SX → Prop} {a b : Nat} {c : Int} {x3 : Int32} (h3 : x3.toInt = c) (ha : a < 6) (hb : b < 6) {N : OcM} (R : xm_R a_bound N)
    (H : ∀ g, xm_K a_bound g → xm_R g (fun i j => if i = oc_fl b ∧ j = oc_fl a then min (N i j) c else N i j) → post (f_edges, f_known, a_from, a_to, a_kind, a_first, a_second, a_constant, a_low, a_high, g, a_filled, a_waiting, a_waits, a_said, a_real, a_fresh, a_coming, a_far)) : wX_meet_35 post (nI a) (nI b) x3 f_edges f_known a_from a_to a_kind a_first a_second a_constant a_low a_high a_bound a_filled a_waiting a_waits a_said a_real a_fresh a_coming a_far := by
  have fa := oc_fl_lt ha
  have fb := oc_fl_lt hb
  have i1 : (252 + (6 * (nI b ^^^ 1))) + (nI a ^^^ 1) = nI (252 + 6 * oc_fl b + oc_fl a) := by rw [xa_xor ha, xa_xor hb]; exact xa_i1 _ _
  have c1 : (nI (252 + 6 * oc_fl b + oc_fl a)).toNatClampNeg = 252 + 6 * oc_fl b + oc_fl a := nI_clamp (by omega)
  have r1 := R (oc_fl b) (oc_fl a) fb fa
  refine nm_r i1 ⟨vp_in_nI (by omega) (by omega), ?_⟩
  rw [c1]
  refine br_c (fun hc => H a_bound (xm_K0 _) (xm_Rc R (fun i j hi hj => ?_))) (fun hc => ⟨vp_in_nI (by omega) (by omega), nm_e (H _ (xm_Ku (xm_K0 _) (by omega) _) (xm_Rc (xm_Rp R fb fa h3) (fun i j hi hj => ?_)))⟩)
  · rw [xa_le r1 h3] at hc
    by_cases z : i = oc_fl b ∧ j = oc_fl a
    · rw [if_pos z, z.1, z.2]; omega
    · rw [if_neg z]
  · rw [xa_le r1 h3] at hc
    by_cases z : i = oc_fl b ∧ j = oc_fl a
    · rw [if_pos z, if_pos z, z.1, z.2]; omega
    · rw [if_neg z, if_neg z]
theorem xm_meet {post : SX → Prop} {p0 p1 p2 : Int32} {a b : Nat} {c : Int} (h0 : p0 = nI a) (h1 : p1 = nI b) (h2 : p2.toInt = c) (ha : a < 6) (hb : b < 6) {M : OcM} (R : xm_R a_bound M)
    (H : ∀ g, xm_K a_bound g → xm_R g (oc_mt a b c M) → post (f_edges, f_known, a_from, a_to, a_kind, a_first, a_second, a_constant, a_low, a_high, g, a_filled, a_waiting, a_waits, a_said, a_real, a_fresh, a_coming, a_far)) : wpX_meet post (f_edges, f_known, a_from, a_to, a_kind, a_first, a_second, a_constant, a_low, a_high, a_bound, a_filled, a_waiting, a_waits, a_said, a_real, a_fresh, a_coming, a_far) p0 p1 p2 := by
  subst h0
  subst h1
  have c1 : ((252 + (6 * nI a)) + nI b).toNatClampNeg = 252 + 6 * a + b := pk_cl _ (xa_i1 a b)
  have r1 := R a b ha hb
  have fin : ∀ i j, (if i = oc_fl b ∧ j = oc_fl a then min (if i = a ∧ j = b then min (M i j) c else M i j) c else (if i = a ∧ j = b then min (M i j) c else M i j)) = oc_mt a b c M i j := by
    intro i j
    unfold oc_mt
    by_cases z : i = a ∧ j = b
    · rw [if_pos z, if_pos (Or.inl z)]
      by_cases y : i = oc_fl b ∧ j = oc_fl a
      · rw [if_pos y]; omega
      · rw [if_neg y]
    · rw [if_neg z]
      by_cases y : i = oc_fl b ∧ j = oc_fl a
      · rw [if_pos y, if_pos (Or.inr y)]
      · rw [if_neg y, if_neg (fun w => w.elim z y)]
  show vp_in ((252 + (6 * nI a)) + nI b) 288 ∧ _
  refine ⟨pk_in (252 + 6 * a + b) 288 (by omega) (xa_i1 a b), ?_⟩
  rw [c1]
  refine br_c (fun hc => xm_m35 h2 ha hb (N := fun i j => if i = a ∧ j = b then min (M i j) c else M i j) (xm_Rc R (fun i j hi hj => ?_)) (fun g K R' => H g K (xm_Rc R' (fun i j _ _ => fin i j))))
    (fun hc => ⟨pk_in (252 + 6 * a + b) 288 (by omega) (xa_i1 a b), nm_e (xm_m35 h2 ha hb (N := fun i j => if i = a ∧ j = b then min (M i j) c else M i j) (xm_Rc (xm_Rp R ha hb h2) (fun i j hi hj => ?_))
      (fun g K R' => H g (xm_Kt (xm_Ku (xm_K0 _) (by omega) _) K) (xm_Rc R' (fun i j _ _ => fin i j))))⟩)
  · rw [xa_le r1 h2] at hc
    by_cases z : i = a ∧ j = b
    · rw [if_pos z, z.1, z.2]; omega
    · rw [if_neg z]
  · rw [xa_le r1 h2] at hc
    by_cases z : i = a ∧ j = b
    · rw [if_pos z, if_pos z, z.1, z.2]; omega
    · rw [if_neg z, if_neg z]
theorem xm_f40 {post : SX → Prop} {g0 : Nat → Int32} {x : Nat} (hx : x < 3) {M : OcM} (B : oc_Bd 100 M)
    (H : ∀ g, xm_K g0 g → xm_R g (oc_fg x M) → post (f_edges, f_known, a_from, a_to, a_kind, a_first, a_second, a_constant, a_low, a_high, g, a_filled, a_waiting, a_waits, a_said, a_real, a_fresh, a_coming, a_far)) :
    ∀ (n m : Nat) (g : Nat → Int32), m ≤ 6 → 6 < n + m → xm_K g0 g → xm_R g (xm_fgI x m M) →
      wX_forget_40 post (nI x) (nI (252 + 12 * x)) (nI (2 * x)) f_edges f_known n (nI m) a_from a_to a_kind a_first a_second a_constant a_low a_high g a_filled a_waiting a_waits a_said a_real a_fresh a_coming a_far := by
  intro n
  induction n with
  | zero => intro m g h1 h2; omega
  | succ n ih =>
    intro m g hm hn K R
    rw [wX_forget_40]
    by_cases e : m = 6
    · subst e
      exact br_t (show (6 : Int32) ≤ nI 6 from by decide) (H g K (xm_Rc R (fun i j hi hj => xm_fgE hi hj)))
    · have m6 : m < 6 := by omega
      refine br_f (nI_ge (b := 6) (by omega) (by omega)) (pk_eq (m / 2) x (fun q => nm_r (nI_1 m) (ih (m + 1) g (by omega) (by omega) K (xm_Rc R (fun i j hi hj => xm_fgK q)))) (fun q => ?_) (xa_s1 (by omega)))
      have f6 := oc_fl_lt m6
      have fx : oc_fl m / 2 ≠ x := by rw [oc_fl_div]; exact q
      have rk : (g (252 + 6 * oc_fl m + m)).toInt = M (oc_fl m) m := by
        rw [R (oc_fl m) m f6 m6]
        unfold xm_fgI
        rw [if_neg fx, if_neg q]
      have b2 := B (oc_fl m) m f6 m6
      have v1 := xa_shr (xa_add xa_14 rk (by omega) (by omega))
      have v2 := xa_shr rk
      have ik : (252 + (6 * (nI m ^^^ 1))) + nI m = nI (252 + 6 * oc_fl m + m) := by rw [xa_xor m6]; exact xa_i1 _ _
      have i1 : nI (252 + 12 * x) + nI m = nI (252 + 6 * (2 * x) + m) := by rw [nI_add, show 252 + 12 * x + m = 252 + 6 * (2 * x) + m by omega]
      have i2 : (nI (252 + 12 * x) + 6) + nI m = nI (252 + 6 * (2 * x + 1) + m) := by
        show (nI (252 + 12 * x) + nI 6) + nI m = _
        rw [nI_add, nI_add, show 252 + 12 * x + 6 + m = 252 + 6 * (2 * x + 1) + m by omega]
      have i3 : ((252 + (6 * (nI m ^^^ 1))) + nI (2 * x)) + 1 = nI (252 + 6 * oc_fl m + (2 * x + 1)) := by rw [xa_xor m6]; exact xa_i2 _ _
      have i4 : (252 + (6 * (nI m ^^^ 1))) + nI (2 * x) = nI (252 + 6 * oc_fl m + 2 * x) := by rw [xa_xor m6]; exact xa_i1 _ _
      rw [pk_cl _ ik, pk_cl _ i1, pk_cl _ i2, pk_cl _ i3, pk_cl _ i4]
      refine ⟨pk_in _ 288 (by omega) ik, nm_e ⟨pk_in _ 288 (by omega) i1, nm_e ⟨pk_in _ 288 (by omega) i2, nm_e ⟨pk_in _ 288 (by omega) i3, nm_e ⟨pk_in _ 288 (by omega) i4, nm_e (nm_r (nI_1 m) (ih (m + 1) _ (by omega) (by omega) ?_ ?_))⟩⟩⟩⟩⟩
      · exact xm_Ku (xm_Ku (xm_Ku (xm_Ku K (by omega) _) (by omega) _) (by omega) _) (by omega) _
      · exact xm_Rc (xm_Rp (xm_Rp (xm_Rp (xm_Rp R (by omega) m6 v1) (by omega) m6 v2) f6 (by omega) v1) f6 (by omega) v2) (fun i j hi hj => xm_fgS (d := 0) q rfl rfl rfl)
theorem xm_forget {post : SX → Prop} {x : Nat} (hx : x < 3) {M : OcM} (B : oc_Bd 100 M) (R : xm_R a_bound M)
    (H : ∀ g, xm_K a_bound g → xm_R g (oc_fg x M) → post (f_edges, f_known, a_from, a_to, a_kind, a_first, a_second, a_constant, a_low, a_high, g, a_filled, a_waiting, a_waits, a_said, a_real, a_fresh, a_coming, a_far)) : wpX_forget post (f_edges, f_known, a_from, a_to, a_kind, a_first, a_second, a_constant, a_low, a_high, a_bound, a_filled, a_waiting, a_waits, a_said, a_real, a_fresh, a_coming, a_far) (nI x) := by
  have e1 : 252 + (12 * nI x) = nI (252 + 12 * x) := by
    show nI 252 + nI 12 * nI x = _
    rw [pk_mul, nI_add]
  have i1 : (nI (252 + 12 * x) + nI (2 * x)) + 1 = nI (252 + 6 * (2 * x) + (2 * x + 1)) := by
    rw [nI_add, nI_1, show 252 + 12 * x + 2 * x + 1 = 252 + 6 * (2 * x) + (2 * x + 1) by omega]
  have i2 : (nI (252 + 12 * x) + 6) + nI (2 * x) = nI (252 + 6 * (2 * x + 1) + 2 * x) := by
    show (nI (252 + 12 * x) + nI 6) + nI (2 * x) = _
    rw [nI_add, nI_add, show 252 + 12 * x + 6 + 2 * x = 252 + 6 * (2 * x + 1) + 2 * x by omega]
  refine nm_r e1 (nm_r (xa_d2 x) ?_)
  rw [pk_cl _ i1, pk_cl _ i2]
  refine ⟨pk_in _ 288 (by omega) i1, nm_e ⟨pk_in _ 288 (by omega) i2, nm_e ⟨7, ?_⟩⟩⟩
  refine xm_f40 hx B H 7 0 _ (by omega) (by omega) (xm_Ku (xm_Ku (xm_K0 _) (by omega) _) (by omega) _) (xm_Rc (xm_Rp (xm_Rp R (by omega) (by omega) xa_14) (by omega) (by omega) xa_0) (fun i j hi hj => ?_))
  unfold xm_fgI
  by_cases xi : i / 2 = x
  · have ci : i = 2 * x ∨ i = 2 * x + 1 := by omega
    by_cases xj : j / 2 = x
    · have cj : j = 2 * x ∨ j = 2 * x + 1 := by omega
      simp only [if_pos xi, if_pos xj]
      have n1 : ¬ 2 * x = 2 * x + 1 := by omega
      have n2 : ¬ 2 * x + 1 = 2 * x := by omega
      rcases ci with rfl | rfl <;> rcases cj with rfl | rfl
      · simp only [n1, n2, false_and, and_false, if_false, if_true]
      · simp only [n1, n2, and_self, false_and, and_false, if_false, if_true]
      · simp only [n1, n2, and_self, false_and, and_false, if_false, if_true]
      · simp only [n1, n2, false_and, and_false, if_false, if_true]
    · have n1 : ¬ (i = 2 * x + 1 ∧ j = 2 * x) := by omega
      have n2 : ¬ (i = 2 * x ∧ j = 2 * x + 1) := by omega
      rw [if_neg n1, if_neg n2, if_pos xi, if_neg xj, if_neg (Nat.not_lt_zero _)]
  · have n1 : ¬ (i = 2 * x + 1 ∧ j = 2 * x) := by omega
    have n2 : ¬ (i = 2 * x ∧ j = 2 * x + 1) := by omega
    rw [if_neg n1, if_neg n2, if_neg xi]
    by_cases xj : j / 2 = x
    · rw [if_pos xj, if_neg (Nat.not_lt_zero _)]
    · rw [if_neg xj]
theorem xm_exch {post : SX → Prop} {p0 p1 : Int32} {a b c d : Nat} (h0 : p0 = nI (252 + 6 * a + b)) (h1 : p1 = nI (252 + 6 * c + d)) (ha : a < 6) (hb : b < 6) (hc : c < 6) (hd : d < 6) {M : OcM} (R : xm_R a_bound M)
    (H : ∀ g, xm_K a_bound g → xm_R g (fun i j => if i = c ∧ j = d then M a b else if i = a ∧ j = b then M c d else M i j) → post (f_edges, f_known, a_from, a_to, a_kind, a_first, a_second, a_constant, a_low, a_high, g, a_filled, a_waiting, a_waits, a_said, a_real, a_fresh, a_coming, a_far)) : wpX_exchange post (f_edges, f_known, a_from, a_to, a_kind, a_first, a_second, a_constant, a_low, a_high, a_bound, a_filled, a_waiting, a_waits, a_said, a_real, a_fresh, a_coming, a_far) p0 p1 := by
  subst h0
  subst h1
  have c0 : (nI (252 + 6 * a + b)).toNatClampNeg = 252 + 6 * a + b := nI_clamp (by omega)
  have c1 : (nI (252 + 6 * c + d)).toNatClampNeg = 252 + 6 * c + d := nI_clamp (by omega)
  show vp_in (nI (252 + 6 * a + b)) 288 ∧ _
  rw [c0, c1]
  exact ⟨vp_in_nI (by omega) (by omega), nm_e ⟨vp_in_nI (by omega) (by omega), vp_in_nI (by omega) (by omega), nm_e ⟨vp_in_nI (by omega) (by omega), nm_e (H _ (xm_Ku (xm_Ku (xm_K0 _) (by omega) _) (by omega) _) (xm_Rp (xm_Rp R ha hb (R c d hc hd)) hc hd (R a b ha hb)))⟩⟩⟩
end
end
section
/-! turn, shift, keepRange, assign, move -/
def xm_tuI (x m : Nat) (M : OcM) : OcM := fun i j =>
  if i / 2 = x then (if j / 2 = x then M i j else if j < m then M (oc_fl i) j else M i j) else (if j / 2 = x then (if i < m then M i (oc_fl j) else M i j) else M i j)
theorem xm_tuK {x m : Nat} (h : m / 2 = x) {M : OcM} {i j : Nat} : xm_tuI x m M i j = xm_tuI x (m + 1) M i j := by
  unfold xm_tuI
  by_cases xi : i / 2 = x
  · by_cases xj : j / 2 = x
    · simp only [if_pos xi, if_pos xj]
    · simp only [if_pos xi, if_neg xj]
      have : j < m + 1 ↔ j < m := ⟨fun z => by have : j ≠ m := fun e => xj (e ▸ h); omega, fun z => by omega⟩
      simp only [this]
  · by_cases xj : j / 2 = x
    · simp only [if_neg xi, if_pos xj]
      have : i < m + 1 ↔ i < m := ⟨fun z => by have : i ≠ m := fun e => xi (e ▸ h); omega, fun z => by omega⟩
      simp only [this]
    · simp only [if_neg xi, if_neg xj]
theorem xm_tuV {x m : Nat} (h : m / 2 ≠ x) {M : OcM} {i : Nat} (xi : i / 2 = x) : xm_tuI x m M i m = M i m ∧ xm_tuI x m M m i = M m i := by
  unfold xm_tuI
  have l : ¬ m < m := Nat.lt_irrefl m
  simp only [if_pos xi, if_neg h, if_neg l, and_self]
theorem xm_tuS {x m : Nat} (h : m / 2 ≠ x) {M N : OcM} {i j : Nat}
    (hN : ∀ i j, N i j = if i = 2 * x + 1 ∧ j = m then M (2 * x) m else if i = 2 * x ∧ j = m then M (2 * x + 1) m else xm_tuI x m M i j) :
    (if i = m ∧ j = 2 * x + 1 then M m (2 * x) else if i = m ∧ j = 2 * x then M m (2 * x + 1) else N i j) = xm_tuI x (m + 1) M i j := by
  rw [hN i j]
  unfold xm_tuI
  by_cases xi : i / 2 = x
  · have n1 : ∀ q : Prop, ¬ (i = m ∧ q) := fun q z => h (z.1 ▸ xi)
    by_cases xj : j / 2 = x
    · have n2 : ∀ q : Prop, ¬ (q ∧ j = m) := fun q z => h (z.2 ▸ xj)
      simp only [if_neg (n1 _), if_neg (n2 _), if_pos xi, if_pos xj]
    · simp only [if_neg (n1 _), if_pos xi, if_neg xj]
      by_cases e : j = m
      · subst e
        have l : j < j + 1 := Nat.lt_succ_self j
        have ci : i = 2 * x ∨ i = 2 * x + 1 := by omega
        rcases ci with rfl | rfl
        · have n3 : ¬ (2 * x = 2 * x + 1) := by omega
          simp only [n3, false_and, if_false, if_pos l, and_self, if_true, oc_fl_ev]
        · simp only [if_pos l, and_self, if_true, oc_fl_od]
      · have n2 : ∀ q : Prop, ¬ (q ∧ j = m) := fun q z => e z.2
        have l : j < m + 1 ↔ j < m := by omega
        simp only [if_neg (n2 _), l]
  · have n1 : ∀ q : Prop, ¬ (i = 2 * x + 1 ∧ q) := fun q z => xi (by omega)
    have n2 : ∀ q : Prop, ¬ (i = 2 * x ∧ q) := fun q z => xi (by omega)
    by_cases xj : j / 2 = x
    · simp only [if_neg (n1 _), if_neg (n2 _), if_neg xi, if_pos xj]
      by_cases e : i = m
      · subst e
        have l : i < i + 1 := Nat.lt_succ_self i
        have cj : j = 2 * x ∨ j = 2 * x + 1 := by omega
        rcases cj with rfl | rfl
        · have n4 : ¬ (2 * x = 2 * x + 1) := by omega
          simp only [n4, and_false, if_false, if_pos l, and_self, if_true, oc_fl_ev]
        · simp only [if_pos l, and_self, if_true, oc_fl_od]
      · have n3 : ∀ q : Prop, ¬ (i = m ∧ q) := fun q z => e z.1
        have l : i < m + 1 ↔ i < m := by omega
        simp only [if_neg (n3 _), l]
    · have n3 : ∀ q : Prop, ¬ (q ∧ j = 2 * x) := fun q z => xj (by omega)
      have n4 : ∀ q : Prop, ¬ (q ∧ j = 2 * x + 1) := fun q z => xj (by omega)
      simp only [if_neg (n1 _), if_neg (n2 _), if_neg (n3 _), if_neg (n4 _), if_neg xi, if_neg xj]
theorem xm_tuE {x : Nat} {M : OcM} {i j : Nat} (hi : i < 6) (hj : j < 6) :
    (if i = 2 * x + 1 ∧ j = 2 * x then M (2 * x) (2 * x + 1) else if i = 2 * x ∧ j = 2 * x + 1 then M (2 * x + 1) (2 * x) else xm_tuI x 6 M i j) = oc_tu x M i j := by
  unfold xm_tuI oc_tu oc_pi
  by_cases xi : i / 2 = x
  · have ci : i = 2 * x ∨ i = 2 * x + 1 := by omega
    by_cases xj : j / 2 = x
    · have cj : j = 2 * x ∨ j = 2 * x + 1 := by omega
      simp only [if_pos xi, if_pos xj]
      have n1 : ¬ 2 * x = 2 * x + 1 := by omega
      have n2 : ¬ 2 * x + 1 = 2 * x := by omega
      rcases ci with rfl | rfl <;> rcases cj with rfl | rfl
      · simp only [n1, n2, false_and, and_false, if_false, if_true]
      · simp only [n1, n2, and_self, false_and, and_false, if_false, if_true, oc_fl_ev, oc_fl_od]
      · simp only [n1, n2, and_self, false_and, and_false, if_false, if_true, oc_fl_ev, oc_fl_od]
      · simp only [n1, n2, false_and, and_false, if_false, if_true]
    · have n1 : ¬ (i = 2 * x + 1 ∧ j = 2 * x) := by omega
      have n2 : ¬ (i = 2 * x ∧ j = 2 * x + 1) := by omega
      have n3 : ¬ i = j := fun e => xj (e ▸ xi)
      simp only [if_neg n1, if_neg n2, if_neg n3, if_pos xi, if_neg xj, if_pos hj]
  · have n1 : ¬ (i = 2 * x + 1 ∧ j = 2 * x) := by omega
    have n2 : ¬ (i = 2 * x ∧ j = 2 * x + 1) := by omega
    by_cases xj : j / 2 = x
    · have n3 : ¬ i = j := fun e => xi (e ▸ xj)
      simp only [if_neg n1, if_neg n2, if_neg n3, if_neg xi, if_pos xj, if_pos hi]
    · simp only [if_neg n1, if_neg n2, if_neg xi, if_neg xj]
      by_cases e : i = j
      · rw [if_pos e]
      · rw [if_neg e]
def xm_shI (x m : Nat) (c : Int) (M : OcM) : OcM := fun i j =>
  if i / 2 = x then (if j / 2 = x then M i j else if j < m then M i j + oc_dl x c i else M i j) else (if j / 2 = x then (if i < m then M i j - oc_dl x c j else M i j) else M i j)
theorem xm_dl0 (x : Nat) (c : Int) : oc_dl x c (2 * x) = c := by unfold oc_dl; rw [if_pos rfl]
theorem xm_dl1 (x : Nat) (c : Int) : oc_dl x c (2 * x + 1) = - c := by unfold oc_dl; rw [if_neg (by omega), if_pos rfl]
theorem xm_dln {x i : Nat} (h : i / 2 ≠ x) (c : Int) : oc_dl x c i = 0 := by unfold oc_dl; rw [if_neg (by omega), if_neg (by omega)]
theorem xm_shK {x m : Nat} (h : m / 2 = x) {c : Int} {M : OcM} {i j : Nat} : xm_shI x m c M i j = xm_shI x (m + 1) c M i j := by
  unfold xm_shI
  by_cases xi : i / 2 = x
  · by_cases xj : j / 2 = x
    · simp only [if_pos xi, if_pos xj]
    · simp only [if_pos xi, if_neg xj]
      have : j < m + 1 ↔ j < m := ⟨fun z => by have : j ≠ m := fun e => xj (e ▸ h); omega, fun z => by omega⟩
      simp only [this]
  · by_cases xj : j / 2 = x
    · simp only [if_neg xi, if_pos xj]
      have : i < m + 1 ↔ i < m := ⟨fun z => by have : i ≠ m := fun e => xi (e ▸ h); omega, fun z => by omega⟩
      simp only [this]
    · simp only [if_neg xi, if_neg xj]
theorem xm_shV {x m : Nat} (h : m / 2 ≠ x) {c : Int} {M : OcM} {i : Nat} (xi : i / 2 = x) : xm_shI x m c M i m = M i m ∧ xm_shI x m c M m i = M m i := by
  unfold xm_shI
  have l : ¬ m < m := Nat.lt_irrefl m
  simp only [if_pos xi, if_neg h, if_neg l, and_self]
theorem xm_shS {x m : Nat} (h : m / 2 ≠ x) {c : Int} {M : OcM} {i j : Nat} :
    (if i = m ∧ j = 2 * x + 1 then M m (2 * x + 1) + c else if i = m ∧ j = 2 * x then M m (2 * x) - c else if i = 2 * x + 1 ∧ j = m then M (2 * x + 1) m - c else
      if i = 2 * x ∧ j = m then M (2 * x) m + c else xm_shI x m c M i j) = xm_shI x (m + 1) c M i j := by
  unfold xm_shI
  by_cases xi : i / 2 = x
  · have n1 : ∀ q : Prop, ¬ (i = m ∧ q) := fun q z => h (z.1 ▸ xi)
    by_cases xj : j / 2 = x
    · have n2 : ∀ q : Prop, ¬ (q ∧ j = m) := fun q z => h (z.2 ▸ xj)
      simp only [if_neg (n1 _), if_neg (n2 _), if_pos xi, if_pos xj]
    · simp only [if_neg (n1 _), if_pos xi, if_neg xj]
      by_cases e : j = m
      · subst e
        have l : j < j + 1 := Nat.lt_succ_self j
        have ci : i = 2 * x ∨ i = 2 * x + 1 := by omega
        rcases ci with rfl | rfl
        · have n3 : ¬ (2 * x = 2 * x + 1) := by omega
          simp only [n3, false_and, if_false, if_pos l, and_self, if_true, xm_dl0]
        · simp only [if_pos l, and_self, if_true, xm_dl1]
          omega
      · have n2 : ∀ q : Prop, ¬ (q ∧ j = m) := fun q z => e z.2
        have l : j < m + 1 ↔ j < m := by omega
        simp only [if_neg (n2 _), l]
  · have n1 : ∀ q : Prop, ¬ (i = 2 * x + 1 ∧ q) := fun q z => xi (by omega)
    have n2 : ∀ q : Prop, ¬ (i = 2 * x ∧ q) := fun q z => xi (by omega)
    by_cases xj : j / 2 = x
    · simp only [if_neg (n1 _), if_neg (n2 _), if_neg xi, if_pos xj]
      by_cases e : i = m
      · subst e
        have l : i < i + 1 := Nat.lt_succ_self i
        have cj : j = 2 * x ∨ j = 2 * x + 1 := by omega
        rcases cj with rfl | rfl
        · have n4 : ¬ (2 * x = 2 * x + 1) := by omega
          simp only [n4, and_false, if_false, if_pos l, and_self, if_true, xm_dl0]
        · simp only [if_pos l, and_self, if_true, xm_dl1]
          omega
      · have n3 : ∀ q : Prop, ¬ (i = m ∧ q) := fun q z => e z.1
        have l : i < m + 1 ↔ i < m := by omega
        simp only [if_neg (n3 _), l]
    · have n3 : ∀ q : Prop, ¬ (q ∧ j = 2 * x) := fun q z => xj (by omega)
      have n4 : ∀ q : Prop, ¬ (q ∧ j = 2 * x + 1) := fun q z => xj (by omega)
      simp only [if_neg (n1 _), if_neg (n2 _), if_neg (n3 _), if_neg (n4 _), if_neg xi, if_neg xj]
theorem xm_shE {x : Nat} {c : Int} {M : OcM} {i j : Nat} (hi : i < 6) (hj : j < 6) :
    (if i = 2 * x + 1 ∧ j = 2 * x then M (2 * x + 1) (2 * x) - 2 * c else if i = 2 * x ∧ j = 2 * x + 1 then M (2 * x) (2 * x + 1) + 2 * c else xm_shI x 6 c M i j) = oc_sh x c M i j := by
  unfold xm_shI oc_sh
  by_cases xi : i / 2 = x
  · have ci : i = 2 * x ∨ i = 2 * x + 1 := by omega
    by_cases xj : j / 2 = x
    · have cj : j = 2 * x ∨ j = 2 * x + 1 := by omega
      simp only [if_pos xi, if_pos xj]
      have n1 : ¬ 2 * x = 2 * x + 1 := by omega
      have n2 : ¬ 2 * x + 1 = 2 * x := by omega
      rcases ci with rfl | rfl <;> rcases cj with rfl | rfl
      · simp only [n1, n2, false_and, and_false, if_false]; omega
      · simp only [n1, n2, and_self, false_and, and_false, if_false, if_true, xm_dl0, xm_dl1]; omega
      · simp only [n1, n2, and_self, false_and, and_false, if_false, if_true, xm_dl0, xm_dl1]; omega
      · simp only [n1, n2, false_and, and_false, if_false]; omega
    · have n1 : ¬ (i = 2 * x + 1 ∧ j = 2 * x) := by omega
      have n2 : ¬ (i = 2 * x ∧ j = 2 * x + 1) := by omega
      simp only [if_neg n1, if_neg n2, if_pos xi, if_neg xj, if_pos hj, xm_dln xj]; omega
  · have n1 : ¬ (i = 2 * x + 1 ∧ j = 2 * x) := by omega
    have n2 : ¬ (i = 2 * x ∧ j = 2 * x + 1) := by omega
    by_cases xj : j / 2 = x
    · simp only [if_neg n1, if_neg n2, if_neg xi, if_pos xj, if_pos hi, xm_dln xi]; omega
    · simp only [if_neg n1, if_neg n2, if_neg xi, if_neg xj, xm_dln xi, xm_dln xj]; omega
section
variable {f_edges f_known : Int32} {a_from a_to a_kind a_first a_second a_constant a_low a_high a_bound a_filled a_waiting a_waits a_far : Nat → Int32} {a_said a_real a_fresh a_coming : Nat → Int64}
theorem xm_t6 {post : SX → Prop} {g0 : Nat → Int32} {x : Nat} (hx : x < 3) {M : OcM}
    (H : ∀ g, xm_K g0 g → xm_R g (oc_tu x M) → post (f_edges, f_known, a_from, a_to, a_kind, a_first, a_second, a_constant, a_low, a_high, g, a_filled, a_waiting, a_waits, a_said, a_real, a_fresh, a_coming, a_far)) :
    ∀ (n m : Nat) (g : Nat → Int32), m ≤ 6 → 6 < n + m → xm_K g0 g → xm_R g (xm_tuI x m M) → wX_turn_6 post (nI x) (nI (2 * x)) n (nI m) f_edges f_known a_from a_to a_kind a_first a_second a_constant a_low a_high g a_filled a_waiting a_waits a_said a_real a_fresh a_coming a_far := by
  intro n
  induction n with
  | zero => intro m g h1 h2; omega
  | succ n ih =>
    intro m g hm hn K R
    rw [wX_turn_6]
    by_cases e : m = 6
    · subst e
      refine br_t (show (6 : Int32) ≤ nI 6 from by decide) (xm_exch (a := 2 * x) (b := 2 * x + 1) (c := 2 * x + 1) (d := 2 * x) (xa_i2 _ _) ?_ (by omega) (by omega) (by omega) (by omega) R (fun g' K' R' => ?_))
      · rw [xa_i3, show 252 + 6 * (2 * x) + 6 + 2 * x = 252 + 6 * (2 * x + 1) + 2 * x by omega]
      · refine H g' (xm_Kt K K') (xm_Rc R' (fun i j hi hj => ?_))
        have q0 : 2 * x / 2 = x := by omega
        have q1 : (2 * x + 1) / 2 = x := by omega
        have e0 : xm_tuI x 6 M (2 * x) (2 * x + 1) = M (2 * x) (2 * x + 1) := by unfold xm_tuI; rw [if_pos q0, if_pos q1]
        have e1 : xm_tuI x 6 M (2 * x + 1) (2 * x) = M (2 * x + 1) (2 * x) := by unfold xm_tuI; rw [if_pos q1, if_pos q0]
        rw [e0, e1]
        exact xm_tuE hi hj
    · have m6 : m < 6 := by omega
      refine br_f (nI_ge (b := 6) (by omega) (by omega)) (pk_eq (m / 2) x (fun q => nm_r (nI_1 m) (ih (m + 1) g (by omega) (by omega) K (xm_Rc R (fun i j hi hj => xm_tuK q)))) (fun q => ?_) (xa_s1 (by omega)))
      have q0 : 2 * x / 2 = x := by omega
      have q1 : (2 * x + 1) / 2 = x := by omega
      refine xm_exch (a := 2 * x) (b := m) (c := 2 * x + 1) (d := m) (xa_i1 _ _) ?_ (by omega) m6 (by omega) m6 R (fun g1 K1 R1 => ?_)
      · rw [xa_i3, show 252 + 6 * (2 * x) + 6 + m = 252 + 6 * (2 * x + 1) + m by omega]
      · refine xm_exch (a := m) (b := 2 * x) (c := m) (d := 2 * x + 1) (xa_i1 _ _) (xa_i2 _ _) m6 (by omega) m6 (by omega) R1 (fun g2 K2 R2 => ?_)
        refine nm_r (nI_1 m) (ih (m + 1) g2 (by omega) (by omega) (xm_Kt K (xm_Kt K1 K2)) (xm_Rc R2 (fun i j hi hj => ?_)))
        have n0 : ∀ q : Prop, ¬ (m = 2 * x + 1 ∧ q) := fun w z => q (by omega)
        have n1 : ∀ q : Prop, ¬ (m = 2 * x ∧ q) := fun w z => q (by omega)
        simp only [if_neg (n0 _), if_neg (n1 _), (xm_tuV q q0).1, (xm_tuV q q0).2, (xm_tuV q q1).1, (xm_tuV q q1).2]
        exact xm_tuS (N := fun i j => if i = 2 * x + 1 ∧ j = m then M (2 * x) m else if i = 2 * x ∧ j = m then M (2 * x + 1) m else xm_tuI x m M i j) q (fun _ _ => rfl)
theorem xm_turn {post : SX → Prop} {x : Nat} (hx : x < 3) {M : OcM} (R : xm_R a_bound M)
    (H : ∀ g, xm_K a_bound g → xm_R g (oc_tu x M) → post (f_edges, f_known, a_from, a_to, a_kind, a_first, a_second, a_constant, a_low, a_high, g, a_filled, a_waiting, a_waits, a_said, a_real, a_fresh, a_coming, a_far)) : wpX_turn post (f_edges, f_known, a_from, a_to, a_kind, a_first, a_second, a_constant, a_low, a_high, a_bound, a_filled, a_waiting, a_waits, a_said, a_real, a_fresh, a_coming, a_far) (nI x) := by
  refine nm_r (xa_d2 x) ⟨7, xm_t6 hx H 7 0 a_bound (by omega) (by omega) (xm_K0 _) (xm_Rc R (fun i j hi hj => ?_))⟩
  unfold xm_tuI
  simp only [if_neg (Nat.not_lt_zero _)]
  by_cases xi : i / 2 = x
  · by_cases xj : j / 2 = x
    · rw [if_pos xi, if_pos xj]
    · rw [if_pos xi, if_neg xj]
  · by_cases xj : j / 2 = x
    · rw [if_neg xi, if_pos xj]
    · rw [if_neg xi, if_neg xj]
theorem xm_s7 {post : SX → Prop} {g0 : Nat → Int32} {x : Nat} (hx : x < 3) {M : OcM} (B : oc_Bd 100 M) {p1 : Int32} {c : Int} (hc : p1.toInt = c) (c1 : - 20 ≤ c) (c2 : c ≤ 20)
    (H : ∀ g, xm_K g0 g → xm_R g (oc_sh x c M) → post (f_edges, f_known, a_from, a_to, a_kind, a_first, a_second, a_constant, a_low, a_high, g, a_filled, a_waiting, a_waits, a_said, a_real, a_fresh, a_coming, a_far)) :
    ∀ (n m : Nat) (g : Nat → Int32), m ≤ 6 → 6 < n + m → xm_K g0 g → xm_R g (xm_shI x m c M) → wX_shift_7 post (nI x) p1 (nI (2 * x)) f_edges f_known n (nI m) a_from a_to a_kind a_first a_second a_constant a_low a_high g a_filled a_waiting a_waits a_said a_real a_fresh a_coming a_far := by
  intro n
  induction n with
  | zero => intro m g h1 h2; omega
  | succ n ih =>
    intro m g hm hn K R
    have q0 : 2 * x / 2 = x := by omega
    have q1 : (2 * x + 1) / 2 = x := by omega
    have hc2 := xa_2 hc (by omega) (by omega)
    rw [wX_shift_7]
    by_cases e : m = 6
    · subst e
      have i1 : ((252 + (6 * nI (2 * x))) + nI (2 * x)) + 1 = nI (252 + 6 * (2 * x) + (2 * x + 1)) := xa_i2 _ _
      have i2 : ((252 + (6 * nI (2 * x))) + 6) + nI (2 * x) = nI (252 + 6 * (2 * x + 1) + 2 * x) := by
        rw [xa_i3, show 252 + 6 * (2 * x) + 6 + 2 * x = 252 + 6 * (2 * x + 1) + 2 * x by omega]
      refine br_t (show (6 : Int32) ≤ nI 6 from by decide) ?_
      rw [pk_cl _ i1, pk_cl _ i2]
      have e0 : xm_shI x 6 c M (2 * x) (2 * x + 1) = M (2 * x) (2 * x + 1) := by unfold xm_shI; rw [if_pos q0, if_pos q1]
      have e1 : xm_shI x 6 c M (2 * x + 1) (2 * x) = M (2 * x + 1) (2 * x) := by unfold xm_shI; rw [if_pos q1, if_pos q0]
      have b0 := B (2 * x) (2 * x + 1) (by omega) (by omega)
      have b1 := B (2 * x + 1) (2 * x) (by omega) (by omega)
      have r0 := R (2 * x) (2 * x + 1) (by omega) (by omega)
      rw [e0] at r0
      have v0 := xa_add r0 hc2 (by omega) (by omega)
      have R1 := xm_Rp R (a := 2 * x) (b := 2 * x + 1) (by omega) (by omega) v0
      have r1 := R1 (2 * x + 1) (2 * x) (by omega) (by omega)
      dsimp only at r1
      rw [if_neg (by omega), e1] at r1
      have v1 := xa_sub r1 hc2 (by omega) (by omega)
      have R2 := xm_Rp R1 (a := 2 * x + 1) (b := 2 * x) (by omega) (by omega) v1
      exact ⟨pk_in _ 288 (by omega) i1, pk_in _ 288 (by omega) i1, nm_e ⟨pk_in _ 288 (by omega) i2, pk_in _ 288 (by omega) i2, nm_e (H _ (xm_Ku (xm_Ku K (by omega) _) (by omega) _) (xm_Rc R2 (fun i j hi hj => xm_shE hi hj)))⟩⟩
    · have m6 : m < 6 := by omega
      refine br_f (nI_ge (b := 6) (by omega) (by omega)) (pk_eq (m / 2) x (fun q => nm_r (nI_1 m) (ih (m + 1) g (by omega) (by omega) K (xm_Rc R (fun i j hi hj => xm_shK q)))) (fun q => ?_) (xa_s1 (by omega)))
      have i1 : (252 + (6 * nI (2 * x))) + nI m = nI (252 + 6 * (2 * x) + m) := xa_i1 _ _
      have i2 : ((252 + (6 * nI (2 * x))) + 6) + nI m = nI (252 + 6 * (2 * x + 1) + m) := by
        rw [xa_i3, show 252 + 6 * (2 * x) + 6 + m = 252 + 6 * (2 * x + 1) + m by omega]
      have i3 : (252 + (6 * nI m)) + nI (2 * x) = nI (252 + 6 * m + 2 * x) := xa_i1 _ _
      have i4 : ((252 + (6 * nI m)) + nI (2 * x)) + 1 = nI (252 + 6 * m + (2 * x + 1)) := xa_i2 _ _
      rw [pk_cl _ i1, pk_cl _ i2, pk_cl _ i3, pk_cl _ i4]
      have b0 := B (2 * x) m (by omega) m6
      have b1 := B (2 * x + 1) m (by omega) m6
      have b2 := B m (2 * x) m6 (by omega)
      have b3 := B m (2 * x + 1) m6 (by omega)
      have r0 := R (2 * x) m (by omega) m6
      rw [(xm_shV q q0).1] at r0
      have v0 := xa_add r0 hc (by omega) (by omega)
      have R1 := xm_Rp R (a := 2 * x) (b := m) (by omega) m6 v0
      have r1 := R1 (2 * x + 1) m (by omega) m6
      dsimp only at r1
      rw [if_neg (by omega), (xm_shV q q1).1] at r1
      have v1 := xa_sub r1 hc (by omega) (by omega)
      have R2 := xm_Rp R1 (a := 2 * x + 1) (b := m) (by omega) m6 v1
      have r2 := R2 m (2 * x) m6 (by omega)
      dsimp only at r2
      rw [if_neg (by omega), if_neg (by omega), (xm_shV q q0).2] at r2
      have v2 := xa_sub r2 hc (by omega) (by omega)
      have R3 := xm_Rp R2 (a := m) (b := 2 * x) m6 (by omega) v2
      have r3 := R3 m (2 * x + 1) m6 (by omega)
      dsimp only at r3
      rw [if_neg (by omega), if_neg (by omega), if_neg (by omega), (xm_shV q q1).2] at r3
      have v3 := xa_add r3 hc (by omega) (by omega)
      have R4 := xm_Rp R3 (a := m) (b := 2 * x + 1) m6 (by omega) v3
      exact ⟨pk_in _ 288 (by omega) i1, pk_in _ 288 (by omega) i1, nm_e ⟨pk_in _ 288 (by omega) i2, pk_in _ 288 (by omega) i2, nm_e ⟨pk_in _ 288 (by omega) i3, pk_in _ 288 (by omega) i3, nm_e ⟨pk_in _ 288 (by omega) i4, pk_in _ 288 (by omega) i4,
        nm_e (nm_r (nI_1 m) (ih (m + 1) _ (by omega) (by omega) (xm_Ku (xm_Ku (xm_Ku (xm_Ku K (by omega) _) (by omega) _) (by omega) _) (by omega) _) (xm_Rc R4 (fun i j hi hj => xm_shS q))))⟩⟩⟩⟩
theorem xm_shift {post : SX → Prop} {x : Nat} (hx : x < 3) {M : OcM} (B : oc_Bd 100 M) {p1 : Int32} {c : Int} (hc : p1.toInt = c) (c1 : - 20 ≤ c) (c2 : c ≤ 20) (R : xm_R a_bound M)
    (H : ∀ g, xm_K a_bound g → xm_R g (oc_sh x c M) → post (f_edges, f_known, a_from, a_to, a_kind, a_first, a_second, a_constant, a_low, a_high, g, a_filled, a_waiting, a_waits, a_said, a_real, a_fresh, a_coming, a_far)) : wpX_shift post (f_edges, f_known, a_from, a_to, a_kind, a_first, a_second, a_constant, a_low, a_high, a_bound, a_filled, a_waiting, a_waits, a_said, a_real, a_fresh, a_coming, a_far) (nI x) p1 := by
  refine nm_r (xa_d2 x) ⟨7, xm_s7 hx B hc c1 c2 H 7 0 a_bound (by omega) (by omega) (xm_K0 _) (xm_Rc R (fun i j hi hj => ?_))⟩
  unfold xm_shI
  simp only [if_neg (Nat.not_lt_zero _)]
  by_cases xi : i / 2 = x
  · by_cases xj : j / 2 = x
    · rw [if_pos xi, if_pos xj]
    · rw [if_pos xi, if_neg xj]
  · by_cases xj : j / 2 = x
    · rw [if_neg xi, if_pos xj]
    · rw [if_neg xi, if_neg xj]
theorem xm_keep {post : SX → Prop} {x : Nat} (hx : x < 3) {M : OcM} (R : xm_R a_bound M)
    (H : ∀ g, xm_K a_bound g → xm_R g (gr_kr x M) → post (f_edges, f_known, a_from, a_to, a_kind, a_first, a_second, a_constant, a_low, a_high, g, a_filled, a_waiting, a_waits, a_said, a_real, a_fresh, a_coming, a_far)) : wpX_keepRange post (f_edges, f_known, a_from, a_to, a_kind, a_first, a_second, a_constant, a_low, a_high, a_bound, a_filled, a_waiting, a_waits, a_said, a_real, a_fresh, a_coming, a_far) (nI x) := by
  unfold wpX_keepRange
  refine xm_meet (a := 2 * x) (b := 2 * x + 1) (xa_d2 x) (xa_d3 x) xa_14 (by omega) (by omega) R (fun g K R1 => ?_)
  refine xm_meet (a := 2 * x + 1) (b := 2 * x) (xa_d3 x) (xa_d2 x) xa_0 (by omega) (by omega) R1 (fun g2 K2 R2 => ?_)
  exact H g2 (xm_Kt K K2) R2
theorem xm_assign {post : SX → Prop} {x : Nat} (hx : x < 3) {M : OcM} (B : oc_Bd 100 M) {p1 : Int32} {c : Int} (hc : p1.toInt = c) (c1 : - 20 ≤ c) (c2 : c ≤ 20) (R : xm_R a_bound M)
    (H : ∀ g, xm_K a_bound g → xm_R g (gr_as x c M) → post (f_edges, f_known, a_from, a_to, a_kind, a_first, a_second, a_constant, a_low, a_high, g, a_filled, a_waiting, a_waits, a_said, a_real, a_fresh, a_coming, a_far)) : wpX_assign post (f_edges, f_known, a_from, a_to, a_kind, a_first, a_second, a_constant, a_low, a_high, a_bound, a_filled, a_waiting, a_waits, a_said, a_real, a_fresh, a_coming, a_far) (nI x) p1 := by
  unfold wpX_assign
  refine xm_forget hx B R (fun g K R1 => ?_)
  refine xm_meet (a := 2 * x) (b := 2 * x + 1) (xa_d2 x) (xa_d3 x) (xa_2 hc (by omega) (by omega)) (by omega) (by omega) R1 (fun g2 K2 R2 => ?_)
  refine xm_meet (a := 2 * x + 1) (b := 2 * x) (xa_d3 x) (xa_d2 x) (xa_m2 hc (by omega) (by omega)) (by omega) (by omega) R2 (fun g3 K3 R3 => ?_)
  exact H g3 (xm_Kt K (xm_Kt K2 K3)) R3
theorem xm_mv17 {post : SX → Prop} {x : Nat} (hx : x < 3) {M : OcM} (B : oc_Bd 100 M) {p1 : Int32} {c : Int} (hc : p1.toInt = c) (c1 : - 20 ≤ c) (c2 : c ≤ 20) (R : xm_R a_bound M)
    (H : ∀ g, xm_K a_bound g → xm_R g (gr_kr x (oc_sh x c M)) → post (f_edges, f_known, a_from, a_to, a_kind, a_first, a_second, a_constant, a_low, a_high, g, a_filled, a_waiting, a_waits, a_said, a_real, a_fresh, a_coming, a_far)) : wX_move_17 post (nI x) p1 f_edges f_known a_from a_to a_kind a_first a_second a_constant a_low a_high a_bound a_filled a_waiting a_waits a_said a_real a_fresh a_coming a_far := by
  unfold wX_move_17
  refine xm_shift hx B hc c1 c2 R (fun g K R1 => ?_)
  refine xm_keep hx R1 (fun g2 K2 R2 => ?_)
  exact H g2 (xm_Kt K K2) R2
theorem xm_move {post : SX → Prop} {x y f : Nat} (hx : x < 3) (hy : y < 3) (hf : f < 6) {M : OcM} (B : oc_Bd 100 M) {p2 p3 : Int32} {c : Int} (h2 : p2 = nI f) (hc : p3.toInt = c) (c1 : - 20 ≤ c) (c2 : c ≤ 20) (R : xm_R a_bound M)
    (BT : oc_Bd 100 (oc_tu x M))
    (H : ∀ g, xm_K a_bound g → xm_R g (gr_mv x y f c M) → post (f_edges, f_known, a_from, a_to, a_kind, a_first, a_second, a_constant, a_low, a_high, g, a_filled, a_waiting, a_waits, a_said, a_real, a_fresh, a_coming, a_far)) : wpX_move post (f_edges, f_known, a_from, a_to, a_kind, a_first, a_second, a_constant, a_low, a_high, a_bound, a_filled, a_waiting, a_waits, a_said, a_real, a_fresh, a_coming, a_far) (nI x) (nI y) p2 p3 := by
  subst h2
  unfold wpX_move
  unfold gr_mv at H
  refine pk_eq x y (fun q => ?_) (fun q => ?_)
  · rw [if_pos q] at H
    refine pk_eq f (2 * x) (fun w => ?_) (fun w => ?_) rfl (xa_d2 x)
    · rw [if_pos w] at H
      exact xm_mv17 hx B hc c1 c2 R H
    · rw [if_neg w] at H
      refine xm_turn hx R (fun g K R1 => ?_)
      exact xm_mv17 hx BT hc c1 c2 R1 (fun g2 K2 R2 => H g2 (xm_Kt K K2) R2)
  · rw [if_neg q] at H
    refine xm_forget hx B R (fun g K R1 => ?_)
    refine xm_meet (a := 2 * x) (b := f) (xa_d2 x) rfl hc (by omega) hf R1 (fun g2 K2 R2 => ?_)
    refine xm_meet (a := f) (b := 2 * x) rfl (xa_d2 x) (xa_neg hc (by omega) (by omega)) hf (by omega) R2 (fun g3 K3 R3 => ?_)
    exact H g3 (xm_Kt K (xm_Kt K2 K3)) R3
end
end
section
/-! the program in the arrays; following an edge -/
def xp_P (G : GrP) (f_edges : Int32) (a_from a_to a_kind a_first a_second a_low a_high : Nat → Int32) : Prop :=
  gr_ok G ∧ f_edges = nI (gr_E G) ∧
  (∀ e, e < 20 → a_from e = nI (gr_F G e) ∧ a_to e = nI (gr_T G e) ∧ a_kind e = nI (gr_K G e) ∧ a_first e = nI (gr_A G e) ∧ a_second e = nI (gr_B G e)) ∧
  (∀ i, i < 3 → a_low i = nI (gr_lo G i) ∧ a_high i = nI (gr_hi G i))
def xp_C (G : GrP) (c : Nat → Int32) : Prop := ∀ e, e < gr_E G → gr_K G e ≠ 0 → gr_K G e ≠ 4 → (c e).toInt = gr_C G e
def gr_ie (G : GrP) (e : Nat) (S : Nat → Prop) (t : Nat) : Prop := gr_im (gr_K G e) (gr_A G e) (gr_B G e) (gr_C G e) S t
def xs_M (g : Nat → Int32) (p : Nat) : OcM := fun i j => (g (36 * p + 6 * i + j)).toInt
section
variable {f_edges f_known : Int32} {a_from a_to a_kind a_first a_second a_constant a_low a_high a_bound a_filled a_waiting a_waits a_far : Nat → Int32} {a_said a_real a_fresh a_coming : Nat → Int64}
theorem xf_231 {post : Int32 → SX → Prop} {M : OcM} (P : oc_Pre M) (R : xm_R a_bound M)
    (H1 : oc_ok (oc_T M) → ∀ g, xm_K a_bound g → xm_R g (oc_C M) → post 1 (f_edges, f_known, a_from, a_to, a_kind, a_first, a_second, a_constant, a_low, a_high, g, a_filled, a_waiting, a_waits, a_said, a_real, a_fresh, a_coming, a_far)) (H0 : ¬ oc_ok (oc_T M) → ∀ g, xm_K a_bound g → post 0 (f_edges, f_known, a_from, a_to, a_kind, a_first, a_second, a_constant, a_low, a_high, g, a_filled, a_waiting, a_waits, a_said, a_real, a_fresh, a_coming, a_far)) :
    wX_follow_231 post f_edges f_known a_from a_to a_kind a_first a_second a_constant a_low a_high a_bound a_filled a_waiting a_waits a_said a_real a_fresh a_coming a_far := by
  unfold wX_follow_231
  exact xm_close P.2.2 R (fun o g K R => ⟨rfl, H1 o g K R⟩) (fun o g K => ⟨rfl, H0 o g K⟩)
theorem xf_28 {post : Int32 → SX → Prop} {g0 : Nat → Int32} {G : GrP} (go : gr_ok G) {e : Nat} (he : e < gr_E G)
    (hA : a_first e = nI (gr_A G e)) (hB : a_second e = nI (gr_B G e)) (hK : a_kind e = nI (gr_K G e)) (hC : xp_C G a_constant)
    {S : Nat → Prop} (O : gr_Oct (xs_M g0 (gr_F G e)) S)
    (H1 : ∀ g M, xm_K g0 g → xm_R g M → gr_Oct M (gr_ie G e S) → post 1 (f_edges, f_known, a_from, a_to, a_kind, a_first, a_second, a_constant, a_low, a_high, g, a_filled, a_waiting, a_waits, a_said, a_real, a_fresh, a_coming, a_far))
    (H0 : ∀ g, xm_K g0 g → (∀ t, t < 512 → ¬ gr_ie G e S t) → post 0 (f_edges, f_known, a_from, a_to, a_kind, a_first, a_second, a_constant, a_low, a_high, g, a_filled, a_waiting, a_waits, a_said, a_real, a_fresh, a_coming, a_far)) :
    ∀ (n m : Nat) (g : Nat → Int32), m ≤ 36 → 36 < n + m → xm_K g0 g → (∀ q, q < m → g (252 + q) = g0 (36 * gr_F G e + q)) →
      wX_follow_28 post (nI e) (nI (36 * gr_F G e)) f_edges f_known n (nI m) a_from a_to a_kind a_first a_second a_constant a_low a_high g a_filled a_waiting a_waits a_said a_real a_fresh a_coming a_far := by
  have e20 : e < 20 := Nat.lt_of_lt_of_le he go.1
  obtain ⟨f7, t7, k8, a3, b3⟩ := go.2.1 e e20
  have hcr := go.2.2.1 e he
  intro n
  induction n with
  | zero => intro m g h1 h2; omega
  | succ n ih =>
    intro m g hm hn K hq
    rw [wX_follow_28]
    by_cases em : m = 36
    · subst em
      have R : xm_R g (xs_M g0 (gr_F G e)) := fun i j hi hj => by
        have := hq (6 * i + j) (by omega)
        unfold xs_M
        rw [show 252 + 6 * i + j = 252 + (6 * i + j) by omega, this, show 36 * gr_F G e + (6 * i + j) = 36 * gr_F G e + 6 * i + j by omega]
      have ce : (nI e).toNatClampNeg = e := nI_clamp (by omega)
      have hi : vp_in (nI e) 20 := vp_in_nI e20 (by omega)
      have P := gr_fo_pre (B := gr_B G e) O k8 a3 hcr
      have T1 : ∀ M0, gr_fo (gr_K G e) (gr_A G e) (gr_B G e) (gr_C G e) (xs_M g0 (gr_F G e)) = M0 → ∀ g', xm_K g0 g' → xm_R g' M0 → wX_follow_231 post f_edges f_known a_from a_to a_kind a_first a_second a_constant a_low a_high g' a_filled a_waiting a_waits a_said a_real a_fresh a_coming a_far := by
        intro M0 hM g' K' R'
        subst hM
        exact xf_231 P R' (fun o g2 K2 R2 => H1 g2 _ (xm_Kt K' K2) R2 (gr_follow O k8 a3 b3 hcr o)) (fun o g2 K2 => H0 g2 (xm_Kt K' K2) (fun t ht => gr_followN O k8 a3 b3 hcr o ht))
      have Rg := gr_rg O
      have Bd : oc_Bd 100 (xs_M g0 (gr_F G e)) := fun i j hi hj => by have := Rg i j hi hj; omega
      have BT : oc_Bd 100 (oc_tu (gr_A G e) (xs_M g0 (gr_F G e))) := fun i j hi hj => by have := oc_tu_rg Rg (gr_A G e) i j hi hj; omega
      have cs : gr_K G e = 0 ∨ gr_K G e = 1 ∨ gr_K G e = 2 ∨ gr_K G e = 3 ∨ gr_K G e = 4 ∨ gr_K G e = 5 ∨ gr_K G e = 6 ∨ gr_K G e = 7 := by omega
      have hc := hC e he
      unfold gr_cr at hcr
      refine br_t (show (36 : Int32) ≤ nI 36 from by decide) ⟨hi, nm_r (e' := nI (gr_A G e)) (by rw [ce, hA]) ⟨hi, nm_r (e' := nI (gr_B G e)) (by rw [ce, hB]) ⟨hi, nm_r (e' := a_constant e) (by rw [ce]) ⟨hi, nm_r (e' := nI (gr_K G e)) (by rw [ce, hK]) ?_⟩⟩⟩⟩
      rcases cs with k | k | k | k | k | k | k | k
      · rw [k]
        refine br_f (show ¬ nI 0 < 0 by decide) (br_f (show ¬ 6 < nI 0 by decide) (br_t (show nI 0 = 0 by decide) (H1 g _ K R ?_)))
        have := gr_follow0 O (B := gr_B G e) (C := gr_C G e) a3
        unfold gr_ie
        rw [k]
        exact this
      · have hc' := hc (by omega) (by omega)
        rw [k] at T1
        rw [k]
        exact br_f (show ¬ nI 1 < 0 by decide) (br_f (show ¬ 6 < nI 1 by decide) (br_f (show ¬ nI 1 = 0 by decide) (br_t (show nI 1 = 1 by decide) (xm_assign a3 Bd hc' (by omega) (by omega) R (fun g' K' R' => T1 _ rfl g' (xm_Kt K K') R')))))
      · have hc' := hc (by omega) (by omega)
        rw [k] at T1
        rw [k]
        exact br_f (show ¬ nI 2 < 0 by decide) (br_f (show ¬ 6 < nI 2 by decide) (br_f (show ¬ nI 2 = 0 by decide) (br_f (show ¬ nI 2 = 1 by decide) (br_t (show nI 2 = 2 by decide) (xm_move (f := 2 * gr_B G e) a3 b3 (by omega) Bd (xa_d2 _) hc' (by omega) (by omega) R BT (fun g' K' R' => T1 _ rfl g' (xm_Kt K K') R'))))))
      · have hc' := hc (by omega) (by omega)
        rw [k] at T1
        rw [k]
        exact br_f (show ¬ nI 3 < 0 by decide) (br_f (show ¬ 6 < nI 3 by decide) (br_f (show ¬ nI 3 = 0 by decide) (br_f (show ¬ nI 3 = 1 by decide) (br_f (show ¬ nI 3 = 2 by decide) (br_t (show nI 3 = 3 by decide) (xm_move (f := 2 * gr_B G e + 1) a3 b3 (by omega) Bd (xa_d3 _) hc' (by omega) (by omega) R BT (fun g' K' R' => T1 _ rfl g' (xm_Kt K K') R')))))))
      · rw [k] at T1
        rw [k]
        exact br_f (show ¬ nI 4 < 0 by decide) (br_f (show ¬ 6 < nI 4 by decide) (br_f (show ¬ nI 4 = 0 by decide) (br_f (show ¬ nI 4 = 1 by decide) (br_f (show ¬ nI 4 = 2 by decide) (br_f (show ¬ nI 4 = 3 by decide) (br_t (show nI 4 = 4 by decide) (xm_forget a3 Bd R (fun g' K' R' => T1 _ rfl g' (xm_Kt K K') R'))))))))
      · have hc' := hc (by omega) (by omega)
        rw [k] at T1
        rw [k]
        exact br_f (show ¬ nI 5 < 0 by decide) (br_f (show ¬ 6 < nI 5 by decide) (br_f (show ¬ nI 5 = 0 by decide) (br_f (show ¬ nI 5 = 1 by decide) (br_f (show ¬ nI 5 = 2 by decide) (br_f (show ¬ nI 5 = 3 by decide) (br_f (show ¬ nI 5 = 4 by decide) (br_t (show nI 5 = 5 by decide) (xm_meet (xa_d2 _) (xa_d3 _) hc' (by omega) (by omega) R (fun g' K' R' => T1 _ rfl g' (xm_Kt K K') R')))))))))
      · have hc' := hc (by omega) (by omega)
        rw [k] at T1
        rw [k]
        exact br_f (show ¬ nI 6 < 0 by decide) (br_f (show ¬ 6 < nI 6 by decide) (br_f (show ¬ nI 6 = 0 by decide) (br_f (show ¬ nI 6 = 1 by decide) (br_f (show ¬ nI 6 = 2 by decide) (br_f (show ¬ nI 6 = 3 by decide) (br_f (show ¬ nI 6 = 4 by decide) (br_f (show ¬ nI 6 = 5 by decide) (br_t (show nI 6 = 6 by decide) (xm_meet (xa_d2 _) (xa_d2 _) hc' (by omega) (by omega) R (fun g' K' R' => T1 _ rfl g' (xm_Kt K K') R'))))))))))
      · have hc' := hc (by omega) (by omega)
        rw [k] at T1
        rw [k]
        exact br_f (show ¬ nI 7 < 0 by decide) (br_t (show 6 < nI 7 by decide) (xm_meet (xa_d3 _) (xa_d2 _) hc' (by omega) (by omega) R (fun g' K' R' => T1 _ rfl g' (xm_Kt K K') R')))
    · have i1 : nI (36 * gr_F G e) + nI m = nI (36 * gr_F G e + m) := nI_add _ _
      have i2 : 252 + nI m = nI (252 + m) := nI_add 252 m
      refine br_f (nI_ge (b := 36) (by omega) (by omega)) ?_
      rw [pk_cl _ i1, pk_cl _ i2]
      refine ⟨pk_in _ 288 (by omega) i1, pk_in _ 288 (by omega) i2, nm_e (nm_r (nI_1 m) (ih (m + 1) _ (by omega) (by omega) (xm_Ku K (by omega) _) ?_))⟩
      intro q hq'
      by_cases z : q = m
      · subst z; rw [pk_us, K _ (by omega)]
      · rw [pk_un (by omega), hq q (by omega)]
theorem xf_follow {post : Int32 → SX → Prop} {G : GrP} (hP : xp_P G f_edges a_from a_to a_kind a_first a_second a_low a_high) (hC : xp_C G a_constant) {e : Nat} (he : e < gr_E G)
    {S : Nat → Prop} (HN : a_filled (gr_F G e) = 0 → post 0 (f_edges, f_known, a_from, a_to, a_kind, a_first, a_second, a_constant, a_low, a_high, a_bound, a_filled, a_waiting, a_waits, a_said, a_real, a_fresh, a_coming, a_far))
    (O : a_filled (gr_F G e) ≠ 0 → gr_Oct (xs_M a_bound (gr_F G e)) S)
    (H1 : a_filled (gr_F G e) ≠ 0 → ∀ g M, xm_K a_bound g → xm_R g M → gr_Oct M (gr_ie G e S) → post 1 (f_edges, f_known, a_from, a_to, a_kind, a_first, a_second, a_constant, a_low, a_high, g, a_filled, a_waiting, a_waits, a_said, a_real, a_fresh, a_coming, a_far))
    (H0 : a_filled (gr_F G e) ≠ 0 → ∀ g, xm_K a_bound g → (∀ t, t < 512 → ¬ gr_ie G e S t) → post 0 (f_edges, f_known, a_from, a_to, a_kind, a_first, a_second, a_constant, a_low, a_high, g, a_filled, a_waiting, a_waits, a_said, a_real, a_fresh, a_coming, a_far)) : wpX_follow post (f_edges, f_known, a_from, a_to, a_kind, a_first, a_second, a_constant, a_low, a_high, a_bound, a_filled, a_waiting, a_waits, a_said, a_real, a_fresh, a_coming, a_far) (nI e) := by
  obtain ⟨go, _, ha, _⟩ := hP
  have e20 : e < 20 := Nat.lt_of_lt_of_le he go.1
  obtain ⟨f7, t7, k8, a3, b3⟩ := go.2.1 e e20
  obtain ⟨hF, hT, hK, hA, hB⟩ := ha e e20
  have ce : (nI e).toNatClampNeg = e := nI_clamp (by omega)
  have hi : vp_in (nI e) 20 := vp_in_nI e20 (by omega)
  have i1 : 36 * nI (gr_F G e) = nI (36 * gr_F G e) := pk_mul 36 _
  refine ⟨hi, nm_r (e' := nI (36 * gr_F G e)) (by rw [ce, hF, i1]) ⟨hi, ?_⟩⟩
  rw [ce, hF, nI_clamp (by omega)]
  exact ⟨vp_in_nI (by omega) (by omega), br_c (fun z => HN z) (fun z => ⟨37, xf_28 go he hA hB hK hC (O z) (H1 z) (H0 z) 37 0 a_bound (by omega) (by omega) (xm_K0 _) (fun q hq => absurd hq (Nat.not_lt_zero q))⟩)⟩
end
end
section
/-! widen -/
theorem xw_b1 : vp_nar .boolean 1 = 1 := rfl
theorem xw_b0 : vp_nar .boolean 0 = 0 := rfl
theorem xw_by : ∀ p, p < 8 → vp_nar .byte (nI p).toInt8.toInt32 = nI p := by
  intro p hp
  rw [pk_vb]
  exact (by decide : ∀ p, p < 8 → (nI p).toInt8.toInt32 = nI p) p hp
def xw_nv (g : Nat → Int32) (p : Nat) (fl : Int32) (q : Nat) : Int32 := if fl = 0 then g (252 + q) else if g (36 * p + q) < g (252 + q) then g (252 + q) else g (36 * p + q)
def xw_f (g : Nat → Int32) (p : Nat) (fl : Int32) (m : Nat) : Nat → Int32 := fun c => if 36 * p ≤ c ∧ c < 36 * p + m then xw_nv g p fl (c - 36 * p) else g c
theorem xw_f0 (g : Nat → Int32) (p : Nat) (fl : Int32) : xw_f g p fl 0 = g := by
  funext c
  exact if_neg (by omega)
theorem xw_fo {g : Nat → Int32} {p : Nat} {fl : Int32} {m c : Nat} (h : ¬ (36 * p ≤ c ∧ c < 36 * p + m)) : xw_f g p fl m c = g c := if_neg h
theorem xw_fs (g : Nat → Int32) (p : Nat) (fl : Int32) (m : Nat) : upd (xw_f g p fl m) (36 * p + m) (xw_nv g p fl m) = xw_f g p fl (m + 1) := by
  funext c
  by_cases e : c = 36 * p + m
  · subst e
    rw [pk_us]
    refine ((if_pos (by omega)).trans ?_).symm
    rw [show 36 * p + m - 36 * p = m by omega]
  · rw [pk_un e]
    unfold xw_f
    by_cases z : 36 * p ≤ c ∧ c < 36 * p + m
    · rw [if_pos z, if_pos (by omega)]
    · rw [if_neg z, if_neg (by omega)]
theorem xw_fk {g : Nat → Int32} {p : Nat} {fl : Int32} {m : Nat} (h : xw_nv g p fl m = g (36 * p + m)) : xw_f g p fl m = xw_f g p fl (m + 1) := by
  rw [← xw_fs, h]
  funext c
  by_cases e : c = 36 * p + m
  · subst e
    rw [pk_us, xw_fo (by omega)]
  · rw [pk_un e]
/-- something grows by the joining -/
def xw_gr (g : Nat → Int32) (p : Nat) (fl : Int32) (m : Nat) : Prop := fl = 0 ∨ ∃ q, q < m ∧ g (36 * p + q) < g (252 + q)
section
variable {f_edges f_known : Int32} {a_from a_to a_kind a_first a_second a_constant a_low a_high a_bound a_filled a_waiting a_waits a_far : Nat → Int32} {a_said a_real a_fresh a_coming : Nat → Int64}
theorem xw_18 {post : Int32 → SX → Prop} {p n : Nat} (hp : p < 7)
    (H0 : ¬ xw_gr a_bound p (a_filled p) 36 → post (nI n) (f_edges, f_known, a_from, a_to, a_kind, a_first, a_second, a_constant, a_low, a_high, xw_f a_bound p (a_filled p) 36, upd a_filled p 1, a_waiting, a_waits, a_said, a_real, a_fresh, a_coming, a_far))
    (H1 : xw_gr a_bound p (a_filled p) 36 → a_waits p ≠ 0 → post (nI n) (f_edges, f_known, a_from, a_to, a_kind, a_first, a_second, a_constant, a_low, a_high, xw_f a_bound p (a_filled p) 36, upd a_filled p 1, a_waiting, a_waits, a_said, a_real, a_fresh, a_coming, a_far))
    (H2 : xw_gr a_bound p (a_filled p) 36 → a_waits p = 0 → n < 8 ∧ post (nI (n + 1)) (f_edges, f_known, a_from, a_to, a_kind, a_first, a_second, a_constant, a_low, a_high, xw_f a_bound p (a_filled p) 36, upd a_filled p 1, upd a_waiting n (nI p), upd a_waits p 1, a_said, a_real, a_fresh, a_coming, a_far)) :
    ∀ (k m b : Nat), m ≤ 36 → 36 < k + m → (b = 0 ∧ ¬ xw_gr a_bound p (a_filled p) m) ∨ (b = 1 ∧ xw_gr a_bound p (a_filled p) m) →
      wX_widen_18 post (nI p) (nI n) f_edges f_known k (nI b) (nI m) a_from a_to a_kind a_first a_second a_constant a_low a_high (xw_f a_bound p (a_filled p) m) a_filled a_waiting a_waits a_said a_real a_fresh a_coming a_far := by
  intro k
  induction k with
  | zero => intro m b h1 h2; omega
  | succ k ih =>
    intro m b hm hk hb
    rw [wX_widen_18]
    have cp : (nI p).toNatClampNeg = p := nI_clamp (by omega)
    have ip : vp_in (nI p) 8 := vp_in_nI (by omega) (by omega)
    by_cases e : m = 36
    · subst e
      refine br_t (show (36 : Int32) ≤ nI 36 from by decide) ⟨ip, nm_r (e' := upd a_filled p 1) (by rw [cp, xw_b1]) ?_⟩
      rcases hb with ⟨rfl, hb⟩ | ⟨rfl, hb⟩
      · exact br_t (show nI 0 = 0 from rfl) (H0 hb)
      · refine br_f (show ¬ nI 1 = 0 by decide) ⟨ip, ?_⟩
        rw [cp]
        refine br_c (fun hw => ?_) (fun hw => H1 hb hw)
        obtain ⟨h8, hh⟩ := H2 hb hw
        have cn : (nI n).toNatClampNeg = n := nI_clamp (by omega)
        rw [cn, xw_b1, xw_by p (by omega), nI_1]
        exact ⟨ip, nm_e ⟨vp_in_nI h8 (by omega), nm_e hh⟩⟩
    · have m36 : m < 36 := by omega
      have i1 : 252 + nI m = nI (252 + m) := nI_add 252 m
      have i2 : (36 * nI p) + nI m = nI (36 * p + m) := by
        show nI 36 * nI p + nI m = _
        rw [pk_mul, nI_add]
      have r1 : xw_f a_bound p (a_filled p) m (252 + m) = a_bound (252 + m) := xw_fo (by omega)
      have r2 : xw_f a_bound p (a_filled p) m (36 * p + m) = a_bound (36 * p + m) := xw_fo (by omega)
      refine br_f (nI_ge (b := 36) (by omega) (by omega)) ⟨pk_in _ 288 (by omega) i1, nm_r (e' := a_bound (252 + m)) (by rw [pk_cl _ i1, r1]) ⟨ip, ?_⟩⟩
      rw [cp]
      have up : xw_nv a_bound p (a_filled p) m = a_bound (252 + m) → xw_gr a_bound p (a_filled p) (m + 1) →
          wX_widen_67 post (wX_widen_18 post (nI p) (nI n) f_edges f_known k) (nI p) (nI n) (nI m) (a_bound (252 + m)) f_edges f_known a_from a_to a_kind a_first a_second a_constant a_low a_high (xw_f a_bound p (a_filled p) m) a_filled a_waiting a_waits a_said a_real a_fresh a_coming a_far := by
        intro hv hg
        unfold wX_widen_67
        refine ⟨pk_in _ 288 (by omega) i2, nm_r (e' := xw_f a_bound p (a_filled p) (m + 1)) (by rw [pk_cl _ i2, ← hv, xw_fs]) (nm_r (nI_1 m) ?_)⟩
        exact ih (m + 1) 1 (by omega) (by omega) (Or.inr ⟨rfl, hg⟩)
      refine br_c (fun hz => up (if_pos hz) (Or.inl hz)) (fun hz => ⟨pk_in _ 288 (by omega) i2, ?_⟩)
      rw [pk_cl _ i2, r2]
      refine br_c (fun hl => up ((if_neg hz).trans (if_pos hl)) (Or.inr ⟨m, by omega, hl⟩)) (fun hl => nm_r (nI_1 m) ?_)
      rw [xw_fk ((if_neg hz).trans (if_neg hl))]
      refine ih (m + 1) b (by omega) (by omega) ?_
      rcases hb with ⟨h1, h2⟩ | ⟨h1, h2⟩
      · refine Or.inl ⟨h1, fun w => h2 ?_⟩
        rcases w with w | ⟨q, hq, w⟩
        · exact absurd w hz
        · by_cases e2 : q = m
          · subst e2; exact absurd w hl
          · exact Or.inr ⟨q, by omega, w⟩
      · refine Or.inr ⟨h1, ?_⟩
        rcases h2 with w | ⟨q, hq, w⟩
        · exact Or.inl w
        · exact Or.inr ⟨q, by omega, w⟩
theorem xw_widen {post : Int32 → SX → Prop} {p0 p1 : Int32} {p n : Nat} (h0 : p0 = nI p) (h1 : p1 = nI n) (hp : p < 7)
    (H0 : ¬ xw_gr a_bound p (a_filled p) 36 → post (nI n) (f_edges, f_known, a_from, a_to, a_kind, a_first, a_second, a_constant, a_low, a_high, xw_f a_bound p (a_filled p) 36, upd a_filled p 1, a_waiting, a_waits, a_said, a_real, a_fresh, a_coming, a_far))
    (H1 : xw_gr a_bound p (a_filled p) 36 → a_waits p ≠ 0 → post (nI n) (f_edges, f_known, a_from, a_to, a_kind, a_first, a_second, a_constant, a_low, a_high, xw_f a_bound p (a_filled p) 36, upd a_filled p 1, a_waiting, a_waits, a_said, a_real, a_fresh, a_coming, a_far))
    (H2 : xw_gr a_bound p (a_filled p) 36 → a_waits p = 0 → n < 8 ∧ post (nI (n + 1)) (f_edges, f_known, a_from, a_to, a_kind, a_first, a_second, a_constant, a_low, a_high, xw_f a_bound p (a_filled p) 36, upd a_filled p 1, upd a_waiting n (nI p), upd a_waits p 1, a_said, a_real, a_fresh, a_coming, a_far)) :
    wpX_widen post (f_edges, f_known, a_from, a_to, a_kind, a_first, a_second, a_constant, a_low, a_high, a_bound, a_filled, a_waiting, a_waits, a_said, a_real, a_fresh, a_coming, a_far) p0 p1 := by
  subst h0
  subst h1
  have cp : (nI p).toNatClampNeg = p := nI_clamp (by omega)
  show vp_in (nI p) 8 ∧ _
  rw [cp]
  refine ⟨vp_in_nI (by omega) (by omega), br_c (fun hz => ⟨37, ?_⟩) (fun hz => ⟨37, ?_⟩)⟩
  · have := xw_18 hp H0 H1 H2 37 0 1 (by omega) (by omega) (Or.inr ⟨rfl, Or.inl hz⟩)
    rw [xw_f0] at this
    exact this
  · have := xw_18 hp H0 H1 H2 37 0 0 (by omega) (by omega) (Or.inl ⟨rfl, fun w => w.elim hz (fun w => by obtain ⟨q, hq, _⟩ := w; omega)⟩)
    rw [xw_f0] at this
    exact this
end
end
section
/-! what a joining does to the sets of the places -/
theorem xw_M {g : Nat → Int32} {p : Nat} {fl : Int32} {i j : Nat} (hi : i < 6) (hj : j < 6) :
    xs_M (xw_f g p fl 36) p i j = if fl = 0 then xs_M g 7 i j else max (xs_M g p i j) (xs_M g 7 i j) := by
  unfold xs_M xw_f
  rw [if_pos (by omega), show 36 * p + 6 * i + j - 36 * p = 6 * i + j by omega]
  unfold xw_nv
  have e1 : 252 + (6 * i + j) = 36 * 7 + 6 * i + j := by omega
  have e2 : 36 * p + (6 * i + j) = 36 * p + 6 * i + j := by omega
  rw [e1, e2]
  by_cases z : fl = 0
  · rw [if_pos z, if_pos z]
  · rw [if_neg z, if_neg z]
    by_cases y : g (36 * p + 6 * i + j) < g (36 * 7 + 6 * i + j)
    · rw [if_pos y]
      rw [Int32.lt_iff_toInt_lt] at y
      omega
    · rw [if_neg y]
      rw [Int32.lt_iff_toInt_lt] at y
      omega
theorem xw_Mq {g : Nat → Int32} {p q : Nat} {fl : Int32} (h : q ≠ p) {i j : Nat} (hi : i < 6) (hj : j < 6) : xs_M (xw_f g p fl 36) q i j = xs_M g q i j := by
  unfold xs_M
  rw [xw_fo (by omega)]
theorem xs_satC {M N : OcM} (h : ∀ i j, i < 6 → j < 6 → M i j = N i j) {v : Nat → Int} : oc_Sat M v ↔ oc_Sat N v :=
  ⟨fun S a b ha hb => by rw [← h a b ha hb]; exact S a b ha hb, fun S a b ha hb => by rw [h a b ha hb]; exact S a b ha hb⟩
/-- the states of place p -/
def xs_S (g fl : Nat → Int32) (p s : Nat) : Prop := fl p ≠ 0 ∧ oc_Sat (xs_M g p) (gr_vs s)
def xs_I (G : GrP) (g fl : Nat → Int32) : Prop := ∀ p, p < 7 → fl p ≠ 0 → gr_Oct (xs_M g p) (xs_S g fl p) ∧ ∀ s, s < 512 → xs_S g fl p s → gr_H G (512 * p + s)
theorem xs_grow {G : GrP} {g fl : Nat → Int32} {p : Nat} {W : OcM} {U : Nat → Prop} (hp : p < 7) (I : xs_I G g fl) (R : xm_R g W) (O : gr_Oct W U)
    (hU : ∀ s, s < 512 → U s → gr_H G (512 * p + s)) :
    xs_I G (xw_f g p (fl p) 36) (upd fl p 1) ∧ (∀ q s, q < 7 → s < 512 → xs_S g fl q s → xs_S (xw_f g p (fl p) 36) (upd fl p 1) q s) ∧
    (∀ q s, q ≠ p → (xs_S (xw_f g p (fl p) 36) (upd fl p 1) q s ↔ xs_S g fl q s)) ∧ (∀ s, s < 512 → U s → xs_S (xw_f g p (fl p) 36) (upd fl p 1) p s) ∧
    (xw_gr g p (fl p) 36 → ∃ s, s < 512 ∧ xs_S (xw_f g p (fl p) 36) (upd fl p 1) p s ∧ ¬ xs_S g fl p s) ∧
    (¬ xw_gr g p (fl p) 36 → ∀ q s, xs_S (xw_f g p (fl p) 36) (upd fl p 1) q s ↔ xs_S g fl q s) := by
  have W7 : ∀ i j, i < 6 → j < 6 → xs_M g 7 i j = W i j := fun i j hi hj => R i j hi hj
  have one : (1 : Int32) ≠ 0 := by decide
  have oth : ∀ q s, q ≠ p → (xs_S (xw_f g p (fl p) 36) (upd fl p 1) q s ↔ xs_S g fl q s) := fun q s hq => by
    unfold xs_S
    rw [pk_un hq, xs_satC (fun i j hi hj => xw_Mq hq hi hj)]
  -- the matrix of p, and its set
  have main : ∃ N : OcM, (∀ i j, i < 6 → j < 6 → xs_M (xw_f g p (fl p) 36) p i j = N i j) ∧ gr_Oct N (fun s => oc_Sat N (gr_vs s)) ∧
      (∀ s, s < 512 → U s → oc_Sat N (gr_vs s)) ∧ (∀ s, s < 512 → xs_S g fl p s → oc_Sat N (gr_vs s)) ∧ (∀ s, s < 512 → oc_Sat N (gr_vs s) → gr_H G (512 * p + s)) := by
    by_cases z : fl p = 0
    · refine ⟨W, fun i j hi hj => by rw [xw_M hi hj, if_pos z, W7 i j hi hj], gr_Oct_cong O (fun s hs => O.1 s hs), fun s hs h => (O.1 s hs).mp h, fun s _ h => absurd z h.1, fun s hs h => hU s hs ((O.1 s hs).mpr h)⟩
    · obtain ⟨Op, Hp⟩ := I p hp z
      refine ⟨gr_mx (xs_M g p) W, fun i j hi hj => by rw [xw_M hi hj, if_neg z, W7 i j hi hj]; rfl, gr_mx_oct Op O, fun s hs h => gr_mx_r O hs h, fun s hs h => gr_mx_l Op hs h, fun s hs h => ?_⟩
      exact (gr_H_cl G).2.2 p s hp hs (gr_mx_hull Op O Hp hU h)
  obtain ⟨N, hN, ON, hNU, hNS, hNH⟩ := main
  have own : ∀ s, xs_S (xw_f g p (fl p) 36) (upd fl p 1) p s ↔ oc_Sat N (gr_vs s) := fun s => by
    unfold xs_S
    rw [pk_us, xs_satC hN]
    exact ⟨fun h => h.2, fun h => ⟨one, h⟩⟩
  refine ⟨?_, ?_, oth, fun s hs h => (own s).mpr (hNU s hs h), ?_, ?_⟩
  · intro q hq hf
    by_cases e : q = p
    · subst e
      exact ⟨gr_Oct_cong (gr_Oct_M ON hN) (fun s hs => (own s).symm), fun s hs h => hNH s hs ((own s).mp h)⟩
    · rw [pk_un e] at hf
      obtain ⟨Oq, Hq⟩ := I q hq hf
      exact ⟨gr_Oct_cong (gr_Oct_M Oq (fun i j hi hj => xw_Mq e hi hj)) (fun s hs => (oth q s e).symm), fun s hs h => Hq s hs ((oth q s e).mp h)⟩
  · intro q s hq hs h
    by_cases e : q = p
    · subst e; exact (own s).mpr (hNS s hs h)
    · exact (oth q s e).mpr h
  · intro h
    rcases h with z | ⟨c, hc, z⟩
    · obtain ⟨s, hs, h⟩ := gr_ne O
      exact ⟨s, hs, (own s).mpr (hNU s hs h), fun w => w.1 z⟩
    · obtain ⟨s, hs, h, e⟩ := O.2 (c / 6) (c % 6) (by omega) (by omega)
      refine ⟨s, hs, (own s).mpr (hNU s hs h), fun w => ?_⟩
      have a1 := w.2 (c / 6) (c % 6) (by omega) (by omega)
      have a2 := R (c / 6) (c % 6) (by omega) (by omega)
      unfold xs_M at a1
      rw [show 36 * p + 6 * (c / 6) + c % 6 = 36 * p + c by omega] at a1
      rw [show 252 + 6 * (c / 6) + c % 6 = 252 + c by omega] at a2
      rw [Int32.lt_iff_toInt_lt] at z
      omega
  · intro h q s
    by_cases e : q = p
    · subst e
      have z : fl q ≠ 0 := fun z => h (Or.inl z)
      have y : ∀ c, c < 36 → ¬ g (36 * q + c) < g (252 + c) := fun c hc w => h (Or.inr ⟨c, hc, w⟩)
      unfold xs_S
      rw [pk_us]
      have : ∀ i j, i < 6 → j < 6 → xs_M (xw_f g q (fl q) 36) q i j = xs_M g q i j := fun i j hi hj => by
        rw [xw_M hi hj, if_neg z]
        have w := y (6 * i + j) (by omega)
        rw [Int32.lt_iff_toInt_lt, show 36 * q + (6 * i + j) = 36 * q + 6 * i + j by omega, show 252 + (6 * i + j) = 36 * 7 + 6 * i + j by omega] at w
        unfold xs_M
        omega
      rw [xs_satC this]
      exact ⟨fun w => ⟨z, w.2⟩, fun w => ⟨one, w.2⟩⟩
    · exact oth q s e
/-! the places at work -/
def xs_L (n : Nat) (wt wg : Nat → Int32) : Prop := ct_n (fun q => wt q ≠ 0) 7 = n ∧ (∀ i, i < n → ∃ q, q < 7 ∧ wg i = nI q ∧ wt q ≠ 0) ∧ (∀ i j, i < n → j < n → wg i = wg j → i = j)
theorem ct_ins {P Q : Nat → Prop} {a : Nat} (hp : ¬ P a) (hq : Q a) : ∀ {N : Nat}, a < N → (∀ k, k < N → k ≠ a → (P k ↔ Q k)) → ct_n Q N = ct_n P N + 1
  | 0, h, _ => absurd h (Nat.not_lt_zero a)
  | N + 1, h, e => by
    simp only [ct_n]
    rcases Nat.lt_or_ge a N with z | z
    · rw [ct_ins hp hq z (fun k hk hn => e k (by omega) hn), ct_bcong (e N (by omega) (by omega))]; omega
    · have y : a = N := by omega
      subst y
      rw [ct_bt hq, ct_bf hp, ct_eq (P := P) (Q := Q) (fun k hk => e k (by omega) (by omega))]
theorem xs_push {n p : Nat} {wt wg : Nat → Int32} (L : xs_L n wt wg) (hp : p < 7) (h : wt p = 0) : n < 7 ∧ xs_L (n + 1) (upd wt p 1) (upd wg n (nI p)) := by
  obtain ⟨h1, h2, h3⟩ := L
  have one : (1 : Int32) ≠ 0 := by decide
  have hc : ct_n (fun q => upd wt p 1 q ≠ 0) 7 = n + 1 := by
    rw [← h1]
    exact ct_ins (P := fun q => wt q ≠ 0) (a := p) (fun w => w h) (by show upd wt p 1 p ≠ 0; rw [pk_us]; exact one) hp (fun k _ hk => by show wt k ≠ 0 ↔ upd wt p 1 k ≠ 0; rw [pk_un hk])
  have hle := ct_le (fun q => upd wt p 1 q ≠ 0) 7
  refine ⟨by omega, hc, fun i hi => ?_, fun i j hi hj e => ?_⟩
  · by_cases e : i = n
    · subst e
      exact ⟨p, hp, pk_us, by rw [pk_us]; exact one⟩
    · obtain ⟨q, hq, e1, e2⟩ := h2 i (by omega)
      refine ⟨q, hq, by rw [pk_un e]; exact e1, ?_⟩
      by_cases e3 : q = p
      · subst e3; exact absurd h e2
      · rw [pk_un e3]; exact e2
  · have key : ∀ i, i < n → wg i ≠ nI p := fun i hi w => by
      obtain ⟨q, hq, e1, e2⟩ := h2 i hi
      rw [e1, nI_eq (by omega) (by omega)] at w
      subst w
      exact e2 h
    by_cases ei : i = n
    · by_cases ej : j = n
      · omega
      · rw [ei, pk_us, pk_un ej] at e
        exact absurd e.symm (key j (by omega))
    · by_cases ej : j = n
      · rw [ej, pk_us, pk_un ei] at e
        exact absurd e (key i (by omega))
      · rw [pk_un ei, pk_un ej] at e
        exact h3 i j (by omega) (by omega) e
theorem xs_pop {n : Nat} {wt wg : Nat → Int32} (L : xs_L (n + 1) wt wg) : ∃ p, p < 7 ∧ wg n = nI p ∧ wt p ≠ 0 ∧ xs_L n (upd wt p 0) wg := by
  obtain ⟨h1, h2, h3⟩ := L
  obtain ⟨p, hp, e, hw⟩ := h2 n (by omega)
  refine ⟨p, hp, e, hw, ?_, fun i hi => ?_, fun i j hi hj => h3 i j (by omega) (by omega)⟩
  · have := ct_ins (P := fun q => upd wt p 0 q ≠ 0) (Q := fun q => wt q ≠ 0) (a := p) (fun w => w (by rw [pk_us])) hw (N := 7) hp (fun k _ hk => by show upd wt p 0 k ≠ 0 ↔ wt k ≠ 0; rw [pk_un hk])
    omega
  · obtain ⟨q, hq, e1, e2⟩ := h2 i (by omega)
    refine ⟨q, hq, e1, ?_⟩
    have : q ≠ p := fun z => by
      subst z
      have := h3 i n (by omega) (by omega) (e1.trans e.symm)
      omega
    rw [pk_un this]; exact e2
theorem xs_none {wt wg : Nat → Int32} (L : xs_L 0 wt wg) {q : Nat} (hq : q < 7) : wt q = 0 := by
  rcases Classical.em (wt q = 0) with z | z
  · exact z
  · have := ct_lt (P := fun _ => False) (Q := fun q => wt q ≠ 0) (a := q) id z (N := 7) (fun _ _ w => w.elim) hq
    rw [L.1] at this
    omega
/-! the invariant of the work list -/
def xs_E (G : GrP) (g fl wt : Nat → Int32) (ex : Nat → Prop) : Prop := ∀ e, e < gr_E G → wt (gr_F G e) ≠ 0 ∨ ex e ∨ ∀ s t, s < 512 → xs_S g fl (gr_F G e) s → gr_te G e s t → xs_S g fl (gr_T G e) t
def xs_X (G : GrP) (n : Nat) (g fl wg wt : Nat → Int32) (ex : Nat → Prop) : Prop := xs_I G g fl ∧ xs_L n wt wg ∧ xs_E G g fl wt ex ∧ ∀ k, gr_st G k → xs_S g fl 0 k
noncomputable def xs_mu (g fl : Nat → Int32) : Nat := 3584 - ct_n (fun k => xs_S g fl (k / 512) (k % 512)) 3584
theorem xs_mu_lt {g fl g' fl' : Nat → Int32} (h : ∀ q s, q < 7 → s < 512 → xs_S g fl q s → xs_S g' fl' q s) {p s : Nat} (hp : p < 7) (hs : s < 512) (h1 : xs_S g' fl' p s) (h0 : ¬ xs_S g fl p s) :
    xs_mu g' fl' < xs_mu g fl := by
  have d1 : (512 * p + s) / 512 = p := by omega
  have d2 : (512 * p + s) % 512 = s := by omega
  have := ct_lt (P := fun k => xs_S g fl (k / 512) (k % 512)) (Q := fun k => xs_S g' fl' (k / 512) (k % 512)) (a := 512 * p + s) (by show ¬ xs_S g fl _ _; rw [d1, d2]; exact h0)
    (by show xs_S g' fl' _ _; rw [d1, d2]; exact h1) (N := 3584) (fun k hk w => h _ _ (by omega) (by omega) w) (by omega)
  have l := ct_le (fun k => xs_S g' fl' (k / 512) (k % 512)) 3584
  unfold xs_mu
  omega
theorem xs_mu_eq {g fl g' fl' : Nat → Int32} (h : ∀ q s, xs_S g' fl' q s ↔ xs_S g fl q s) : xs_mu g' fl' = xs_mu g fl := by
  unfold xs_mu
  rw [ct_eq (P := fun k => xs_S g' fl' (k / 512) (k % 512)) (Q := fun k => xs_S g fl (k / 512) (k % 512)) (fun k _ => h _ _)]
end
section
/-! the analysis -/
theorem xs_MK {g g' : Nat → Int32} (K : xm_K g g') {p : Nat} (hp : p < 7) {i j : Nat} (hi : i < 6) (hj : j < 6) : xs_M g' p i j = xs_M g p i j := by
  unfold xs_M
  rw [K _ (by omega)]
theorem xs_SK {g g' fl : Nat → Int32} (K : xm_K g g') {p : Nat} (hp : p < 7) (s : Nat) : xs_S g' fl p s ↔ xs_S g fl p s := by
  unfold xs_S
  rw [xs_satC (fun i j hi hj => xs_MK K hp hi hj)]
theorem xs_XK {G : GrP} (go : gr_ok G) {n : Nat} {g g' fl wg wt : Nat → Int32} {ex : Nat → Prop} (K : xm_K g g') (X : xs_X G n g fl wg wt ex) : xs_X G n g' fl wg wt ex := by
  obtain ⟨I, L, E, st⟩ := X
  refine ⟨fun p hp hf => ?_, L, fun e he => ?_, fun k hk => (xs_SK K (by omega) k).mpr (st k hk)⟩
  · obtain ⟨O, H⟩ := I p hp hf
    exact ⟨gr_Oct_cong (gr_Oct_M O (fun i j hi hj => xs_MK K hp hi hj)) (fun s _ => (xs_SK K hp s).symm), fun s hs h => H s hs ((xs_SK K hp s).mp h)⟩
  · have e20 : e < 20 := Nat.lt_of_lt_of_le he go.1
    obtain ⟨f7, t7, _⟩ := go.2.1 e e20
    rcases E e he with h | h | h
    · exact Or.inl h
    · exact Or.inr (Or.inl h)
    · exact Or.inr (Or.inr (fun s t hs hS ht => (xs_SK K t7 t).mpr (h s t hs ((xs_SK K f7 s).mp hS) ht)))
theorem xs_muK {g g' fl : Nat → Int32} (K : xm_K g g') : xs_mu g' fl = xs_mu g fl := by
  unfold xs_mu
  rw [ct_eq (P := fun k => xs_S g' fl (k / 512) (k % 512)) (Q := fun k => xs_S g fl (k / 512) (k % 512)) (fun k hk => xs_SK K (by omega) _)]
theorem xs_skip {G : GrP} {n p m : Nat} {g fl wg wt : Nat → Int32} (X : xs_X G n g fl wg wt (fun e => gr_F G e = p ∧ m ≤ e))
    (h : gr_F G m = p → ∀ s t, s < 512 → xs_S g fl (gr_F G m) s → gr_te G m s t → xs_S g fl (gr_T G m) t) : xs_X G n g fl wg wt (fun e => gr_F G e = p ∧ m + 1 ≤ e) := by
  obtain ⟨I, L, E, st⟩ := X
  refine ⟨I, L, fun e he => ?_, st⟩
  rcases E e he with w | w | w
  · exact Or.inl w
  · by_cases z : e = m
    · subst z
      exact Or.inr (Or.inr (h w.1))
    · exact Or.inr (Or.inl ⟨w.1, by omega⟩)
  · exact Or.inr (Or.inr w)
theorem xs_wide {G : GrP} (go : gr_ok G) {n n' e : Nat} {g fl wg wt wg' wt' : Nat → Int32} {W : OcM} (he : e < gr_E G) (X : xs_X G n g fl wg wt (fun e' => gr_F G e' = gr_F G e ∧ e ≤ e'))
    (hf : fl (gr_F G e) ≠ 0) (R : xm_R g W) (O : gr_Oct W (gr_ie G e (xs_S g fl (gr_F G e)))) (L : xs_L n' wt' wg') (hw : ∀ q, wt q ≠ 0 → wt' q ≠ 0)
    (hg : xw_gr g (gr_T G e) (fl (gr_T G e)) 36 → wt' (gr_T G e) ≠ 0) :
    xs_X G n' (xw_f g (gr_T G e) (fl (gr_T G e)) 36) (upd fl (gr_T G e) 1) wg' wt' (fun e' => gr_F G e' = gr_F G e ∧ e + 1 ≤ e') ∧
    (xw_gr g (gr_T G e) (fl (gr_T G e)) 36 → xs_mu (xw_f g (gr_T G e) (fl (gr_T G e)) 36) (upd fl (gr_T G e) 1) < xs_mu g fl) ∧
    (¬ xw_gr g (gr_T G e) (fl (gr_T G e)) 36 → xs_mu (xw_f g (gr_T G e) (fl (gr_T G e)) 36) (upd fl (gr_T G e) 1) = xs_mu g fl) := by
  obtain ⟨I, _, E, st⟩ := X
  have e20 : e < 20 := Nat.lt_of_lt_of_le he go.1
  obtain ⟨f7, t7, k8, a3, b3⟩ := go.2.1 e e20
  obtain ⟨Oe, He⟩ := I _ f7 hf
  obtain ⟨g1, g2, g3, g4, g5, g6⟩ := xs_grow t7 I R O (fun t ht h => by
    obtain ⟨s, hs, hS, htr⟩ := h
    exact gr_H_e he hs (He s hs hS) htr)
  refine ⟨⟨g1, L, fun e' he' => ?_, fun k hk => g2 0 k (by omega) hk.1 (st k hk)⟩, fun h => ?_, fun h => xs_mu_eq (g6 h)⟩
  · have e20' : e' < 20 := Nat.lt_of_lt_of_le he' go.1
    obtain ⟨f7', t7', _⟩ := go.2.1 e' e20'
    -- either the place waits, or its set is as it was
    have alt : wt' (gr_F G e') ≠ 0 ∨ ∀ s, xs_S (xw_f g (gr_T G e) (fl (gr_T G e)) 36) (upd fl (gr_T G e) 1) (gr_F G e') s ↔ xs_S g fl (gr_F G e') s := by
      by_cases z : gr_F G e' = gr_T G e
      · rcases Classical.em (xw_gr g (gr_T G e) (fl (gr_T G e)) 36) with y | y
        · rw [z]; exact Or.inl (hg y)
        · exact Or.inr (fun s => g6 y _ s)
      · exact Or.inr (fun s => g3 _ s z)
    rcases alt with alt | alt
    · exact Or.inl alt
    · rcases E e' he' with w | w | w
      · exact Or.inl (hw _ w)
      · by_cases z : e' = e
        · subst z
          refine Or.inr (Or.inr (fun s t hs hS ht => ?_))
          exact g4 t (gr_te_lt go he hs ht) ⟨s, hs, (alt s).mp hS, ht⟩
        · exact Or.inr (Or.inl ⟨w.1, by omega⟩)
      · refine Or.inr (Or.inr (fun s t hs hS ht => ?_))
        exact g2 _ t t7' (gr_te_lt go he' hs ht) (w s t hs ((alt s).mp hS) ht)
  · obtain ⟨s, hs, h1, h0⟩ := g5 h
    exact xs_mu_lt g2 t7 hs h1 h0
/-- what the analysis leaves -/
def xs_F (G : GrP) (g fl : Nat → Int32) : Prop := ∀ p, p < 7 → (fl p = 0 ∧ ∀ s, s < 512 → ¬ gr_H G (512 * p + s)) ∨ (fl p ≠ 0 ∧ gr_Oct (xs_M g p) (fun s => gr_H G (512 * p + s)))
theorem xs_fin {G : GrP} (go : gr_ok G) {g fl wg wt : Nat → Int32} (X : xs_X G 0 g fl wg wt (fun _ => False)) : xs_F G g fl := by
  obtain ⟨I, L, E, st⟩ := X
  have cl : gr_cl G (fun k => k < 3584 ∧ xs_S g fl (k / 512) (k % 512)) := by
    refine ⟨fun k hk => ?_, fun k k' hk h => ?_, fun p s hp hs h => ?_⟩
    · have h5 := hk.1
      refine ⟨by omega, ?_⟩
      rw [show k / 512 = 0 by omega, show k % 512 = k by omega]
      exact st k hk
    · obtain ⟨e, s, t, he, hs, e1, e2, ht⟩ := h
      have e20 : e < 20 := Nat.lt_of_lt_of_le he go.1
      obtain ⟨f7, t7, _⟩ := go.2.1 e e20
      have ht5 := gr_te_lt go he hs ht
      subst e1 e2
      have d1 : (512 * gr_F G e + s) / 512 = gr_F G e := by omega
      have d2 : (512 * gr_F G e + s) % 512 = s := by omega
      have d3 : (512 * gr_T G e + t) / 512 = gr_T G e := by omega
      have d4 : (512 * gr_T G e + t) % 512 = t := by omega
      have hk2 := hk.2
      rw [d1, d2] at hk2
      refine ⟨by omega, ?_⟩
      rw [d3, d4]
      rcases E e he with w | w | w
      · exact absurd (xs_none L f7) w
      · exact w.elim
      · exact w s t hs hk2 ht
    · have d1 : (512 * p + s) / 512 = p := by omega
      have d2 : (512 * p + s) % 512 = s := by omega
      refine ⟨by omega, ?_⟩
      rw [d1, d2]
      have h' : gr_hull (xs_S g fl p) s := gr_hull_mono (fun t ht w => by
        have := w.2
        rw [show (512 * p + t) / 512 = p by omega, show (512 * p + t) % 512 = t by omega] at this
        exact this) h
      obtain ⟨t, ht, hS, _⟩ := h' 0 0 (by omega) (by omega)
      exact gr_hull_oct (I p hp hS.1).1 hs h'
  have key : ∀ p s, p < 7 → s < 512 → gr_H G (512 * p + s) → xs_S g fl p s := fun p s hp hs h => by
    have := (gr_H_le cl h).2
    rw [show (512 * p + s) / 512 = p by omega, show (512 * p + s) % 512 = s by omega] at this
    exact this
  intro p hp
  rcases Classical.em (fl p = 0) with z | z
  · exact Or.inl ⟨z, fun s hs h => (key p s hp hs h).1 z⟩
  · obtain ⟨O, H⟩ := I p hp z
    exact Or.inr ⟨z, gr_Oct_cong O (fun s hs => ⟨H s hs, key p s hp hs⟩)⟩
/-! the beginning -/
def xi_0 : OcM := fun i j => if i = j then 0 else 14
def xi_M (G : GrP) : Nat → OcM
  | 0 => xi_0
  | n + 1 => oc_mt (2 * n + 1) (2 * n) (- 2 * (gr_lo G n : Int)) (oc_mt (2 * n) (2 * n + 1) (2 * (gr_hi G n : Int)) (xi_M G n))
theorem xi_pre {G : GrP} (go : gr_ok G) : ∀ n, n ≤ 3 → oc_Pre (xi_M G n)
  | 0, _ => by
    refine ⟨fun i j _ _ => ?_, fun a _ => ?_, fun i j _ _ => ?_⟩
    · show xi_0 (oc_fl j) (oc_fl i) = xi_0 i j
      unfold xi_0
      by_cases e : i = j
      · rw [if_pos e, if_pos (by rw [e])]
      · rw [if_neg e, if_neg (fun w => e (oc_fl_inj w).symm)]
    · show xi_0 a a ≤ 0
      unfold xi_0; rw [if_pos rfl]; omega
    · show -100 ≤ xi_0 i j ∧ xi_0 i j ≤ 100
      unfold xi_0
      by_cases e : i = j
      · rw [if_pos e]; omega
      · rw [if_neg e]; omega
  | n + 1, h => by
    have := go.2.2.2 n (by omega)
    exact oc_mt_pre (oc_mt_pre (xi_pre go n (by omega)) (by omega)) (by omega)
theorem xi_sat {G : GrP} (v : Nat → Int) : ∀ n, n ≤ 3 → (oc_Sat (xi_M G n) v ↔ oc_Sat xi_0 v ∧ ∀ i, i < n → (gr_lo G i : Int) ≤ v i ∧ v i ≤ (gr_hi G i : Int))
  | 0, _ => ⟨fun h => ⟨h, fun i hi => absurd hi (Nat.not_lt_zero i)⟩, fun h => h.1⟩
  | n + 1, h => by
    show oc_Sat (oc_mt (2 * n + 1) (2 * n) _ (oc_mt (2 * n) (2 * n + 1) _ (xi_M G n))) v ↔ _
    rw [oc_mt_sat (by omega) (by omega), oc_mt_sat (by omega) (by omega), xi_sat v n (by omega), oc_ev_e, oc_ev_o]
    constructor
    · rintro ⟨⟨⟨a, b⟩, c⟩, d⟩
      exact ⟨a, lt_s b ⟨by omega, by omega⟩⟩
    · rintro ⟨a, b⟩
      have := b n (by omega)
      exact ⟨⟨⟨a, fun i hi => b i (by omega)⟩, by omega⟩, by omega⟩
theorem xi_0s (s : Nat) : oc_Sat xi_0 (gr_vs s) := fun a b ha hb => by
  have h1 := gr_ev_r s ha
  have h2 := gr_ev_r s hb
  unfold xi_0
  by_cases e : a = b
  · subst e; rw [if_pos rfl]; omega
  · rw [if_neg e]; omega
theorem xi_oct {G : GrP} (go : gr_ok G) : oc_ok (oc_T (xi_M G 3)) ∧ gr_Oct (oc_C (xi_M G 3)) (gr_st G) := by
  have st : ∀ s, s < 512 → (oc_Sat (xi_M G 3) (gr_vs s) ↔ gr_st G s) := fun s hs => by
    rw [xi_sat _ 3 (Nat.le_refl _)]
    constructor
    · rintro ⟨_, h⟩
      refine ⟨hs, fun i hi => ?_⟩
      have := h i hi
      unfold gr_vs at this
      omega
    · rintro ⟨_, h⟩
      refine ⟨xi_0s s, fun i hi => ?_⟩
      have := h i hi
      unfold gr_vs
      omega
  have ok : oc_ok (oc_T (xi_M G 3)) := by
    obtain ⟨s, hs, h⟩ := gr_of (fun i => (gr_lo G i : Int)) (fun i hi => by have := go.2.2.2 i hi; omega)
    refine oc_sat_ok (oc_satT ((st s hs).mpr ⟨hs, fun i hi => ?_⟩))
    have h1 := h i hi
    have h2 := go.2.2.2 i hi
    unfold gr_vs at h1
    omega
  have P := xi_pre go 3 (Nat.le_refl _)
  refine ⟨ok, gr_Oct_cong (gr_mk (oc_close P.1 P.2.1 ok) (fun v hv i hi => ?_)) (fun s hs => oc_closeS.trans (st s hs))⟩
  have h1 := ((xi_sat v 3 (Nat.le_refl _)).mp (oc_closeS.mp hv)).2 i hi
  have h2 := go.2.2.2 i hi
  omega
end
section
/-! the analysis, walked -/
abbrev XrJ : Type := Int32 → Int32 → Int32 → (Nat → Int32) → (Nat → Int32) → (Nat → Int32) → (Nat → Int32) → (Nat → Int32) → (Nat → Int32) → (Nat → Int32) → (Nat → Int32) → (Nat → Int32) → (Nat → Int32) → (Nat → Int32) → (Nat → Int32) → (Nat → Int64) → (Nat → Int64) → (Nat → Int64) → (Nat → Int64) → (Nat → Int32) → Prop
section
variable {f_edges f_known : Int32} {a_from a_to a_kind a_first a_second a_constant a_low a_high a_bound a_filled a_waiting a_waits a_far : Nat → Int32} {a_said a_real a_fresh a_coming : Nat → Int64}
theorem xr_154 {post : SX → Prop} {J131 : XrJ} {G : GrP} (hP : xp_P G f_edges a_from a_to a_kind a_first a_second a_low a_high) (hC : xp_C G a_constant) {p : Nat} (hp : p < 7) {μ : Nat}
    (H : ∀ n g fl wg wt, xs_X G n g fl wg wt (fun _ => False) → 8 * xs_mu g fl + n ≤ μ → J131 (nI n) f_edges f_known a_from a_to a_kind a_first a_second a_constant a_low a_high g fl wg wt a_said a_real a_fresh a_coming a_far) :
    ∀ (k m n : Nat) (g fl wg wt : Nat → Int32), m ≤ gr_E G → gr_E G < k + m → xs_X G n g fl wg wt (fun e => gr_F G e = p ∧ m ≤ e) → 8 * xs_mu g fl + n ≤ μ →
      wX_analyse_154 post J131 (nI p) k (nI n) (nI m) f_edges f_known a_from a_to a_kind a_first a_second a_constant a_low a_high g fl wg wt a_said a_real a_fresh a_coming a_far := by
  have hP' := hP
  obtain ⟨go, hE, ha, _⟩ := hP
  have E20 := go.1
  intro k
  induction k with
  | zero => intro m n g fl wg wt h1 h2; omega
  | succ k ih =>
    intro m n g fl wg wt hm hk X hμ
    rw [wX_analyse_154]
    refine pk_le (gr_E G) m (fun q => H n g fl wg wt ?_ hμ) (fun q => ?_) hE rfl
    · obtain ⟨I, L, E, st⟩ := X
      refine ⟨I, L, fun e he => ?_, st⟩
      rcases E e he with w | w | w
      · exact Or.inl w
      · exact absurd w.2 (by omega)
      · exact Or.inr (Or.inr w)
    · have m20 : m < 20 := by omega
      obtain ⟨f7, t7, k8, a3, b3⟩ := go.2.1 m m20
      obtain ⟨hF, hT, hK, hA, hB⟩ := ha m m20
      have cm : (nI m).toNatClampNeg = m := nI_clamp (by omega)
      have im : vp_in (nI m) 20 := vp_in_nI m20 (by omega)
      refine ⟨im, ?_⟩
      rw [cm, hF]
      refine pk_eq (gr_F G m) p (fun z => ?_) (fun z => nm_r (nI_1 m) (ih (m + 1) n g fl wg wt (by omega) (by omega) (xs_skip X (fun w => absurd w z)) hμ))
      subst z
      refine xf_follow (a_bound := g) (a_filled := fl) (S := xs_S g fl (gr_F G m)) hP' hC q (fun hz => ?_) (fun hz => (X.1 _ f7 hz).1) (fun hz g' W K R O => ?_) (fun hz g' K hN => ?_)
      · refine br_t rfl (nm_r (nI_1 m) (ih (m + 1) n g fl wg wt (by omega) (by omega) (xs_skip X (fun _ s t _ hS _ => absurd hz hS.1)) hμ))
      · refine br_f (by decide) ⟨im, ?_⟩
        have X' := xs_XK go K X
        have hμ' : 8 * xs_mu g' fl + n ≤ μ := by rw [xs_muK K]; exact hμ
        have O' : gr_Oct W (gr_ie G m (xs_S g' fl (gr_F G m))) := gr_Oct_cong O (fun t ht => ⟨fun ⟨s, hs, hS, h⟩ => ⟨s, hs, (xs_SK K f7 s).mpr hS, h⟩, fun ⟨s, hs, hS, h⟩ => ⟨s, hs, (xs_SK K f7 s).mp hS, h⟩⟩)
        refine xw_widen (a_bound := g') (a_filled := fl) (a_waits := wt) (a_waiting := wg) (p := gr_T G m) (n := n) hT rfl t7 (fun hg => ?_) (fun hg hw => ?_) (fun hg hw => ?_)
        · obtain ⟨X2, _, mu⟩ := xs_wide go q X' hz R O' X'.2.1 (fun _ w => w) (fun w => absurd w hg)
          have := mu hg
          exact nm_r (nI_1 m) (ih (m + 1) n _ _ wg wt (by omega) (by omega) X2 (by omega))
        · obtain ⟨X2, mu, _⟩ := xs_wide go q X' hz R O' X'.2.1 (fun _ w => w) (fun _ => hw)
          have := mu hg
          exact nm_r (nI_1 m) (ih (m + 1) n _ _ wg wt (by omega) (by omega) X2 (by omega))
        · obtain ⟨n7, L2⟩ := xs_push X'.2.1 t7 hw
          have one : (1 : Int32) ≠ 0 := by decide
          obtain ⟨X2, mu, _⟩ := xs_wide go q X' hz R O' L2 (fun c w => by
            by_cases e : c = gr_T G m
            · subst e; rw [pk_us]; exact one
            · rw [pk_un e]; exact w) (fun _ => by rw [pk_us]; exact one)
          have := mu hg
          exact ⟨by omega, nm_r (nI_1 m) (ih (m + 1) (n + 1) _ _ _ _ (by omega) (by omega) X2 (by omega))⟩
      · refine br_t rfl (nm_r (nI_1 m) (ih (m + 1) n g' fl wg wt (by omega) (by omega) (xs_skip (xs_XK go K X) (fun _ s t hs hS ht => ?_)) (by rw [xs_muK K]; exact hμ)))
        exact absurd ⟨s, hs, (xs_SK K f7 s).mp hS, ht⟩ (hN t (gr_te_lt go q hs ht))
theorem xr_131 {post : SX → Prop} {G : GrP} (hP : xp_P G f_edges a_from a_to a_kind a_first a_second a_low a_high) (hC : xp_C G a_constant)
    (H : ∀ g fl wg wt, xs_F G g fl → post (f_edges, f_known, a_from, a_to, a_kind, a_first, a_second, a_constant, a_low, a_high, g, fl, wg, wt, a_said, a_real, a_fresh, a_coming, a_far)) :
    ∀ (N n : Nat) (g fl wg wt : Nat → Int32), xs_X G n g fl wg wt (fun _ => False) → 8 * xs_mu g fl + n < N →
      wX_analyse_131 post N (nI n) f_edges f_known a_from a_to a_kind a_first a_second a_constant a_low a_high g fl wg wt a_said a_real a_fresh a_coming a_far := by
  intro N
  induction N with
  | zero => intro n g fl wg wt _ h; omega
  | succ N ih =>
    intro n g fl wg wt X hN
    rw [wX_analyse_131]
    cases n with
    | zero => exact br_t (show nI 0 ≤ 0 by decide) (H g fl wg wt (xs_fin hP.1 X))
    | succ n =>
      obtain ⟨p, hp, e, hw, L⟩ := xs_pop X.2.1
      have hle := ct_le (fun q => wt q ≠ 0) 7
      rw [X.2.1.1] at hle
      have cn : (nI n).toNatClampNeg = n := nI_clamp (by omega)
      refine br_f (nI_nle (by omega) (by omega)) (nm_r (pk_m1 n) ⟨vp_in_nI (by omega) (by omega), nm_r (e' := nI p) (by rw [cn, e]) ⟨vp_in_nI (by omega) (by omega), nm_r (e' := upd wt p 0) (by rw [nI_clamp (by omega), xw_b0]) ⟨gr_E G + 1, ?_⟩⟩⟩)
      refine xr_154 (μ := 8 * xs_mu g fl + n) hP hC hp (fun n' g' fl' wg' wt' X' hμ => ih n' g' fl' wg' wt' X' (by omega)) (gr_E G + 1) 0 n g fl wg (upd wt p 0) (by omega) (by omega) ?_ (Nat.le_refl _)
      obtain ⟨I, _, E, st⟩ := X
      refine ⟨I, L, fun e' he' => ?_, st⟩
      rcases E e' he' with w | w | w
      · by_cases z : gr_F G e' = p
        · exact Or.inr (Or.inl ⟨z, Nat.zero_le _⟩)
        · exact Or.inl (by rw [pk_un z]; exact w)
      · exact w.elim
      · exact Or.inr (Or.inr w)
theorem xr_67 {post : SX → Prop} {G : GrP} (hP : xp_P G f_edges a_from a_to a_kind a_first a_second a_low a_high) (hC : xp_C G a_constant)
    (hz : ∀ q, q < 7 → a_filled q = 0 ∧ a_waits q = 0)
    (H : ∀ g fl wg wt, xs_F G g fl → post (f_edges, f_known, a_from, a_to, a_kind, a_first, a_second, a_constant, a_low, a_high, g, fl, wg, wt, a_said, a_real, a_fresh, a_coming, a_far)) :
    ∀ (k m : Nat) (g : Nat → Int32), m ≤ 3 → 3 < k + m → xm_R g (xi_M G m) → wX_analyse_67 post k (nI m) f_edges f_known a_from a_to a_kind a_first a_second a_constant a_low a_high g a_filled a_waiting a_waits a_said a_real a_fresh a_coming a_far := by
  have hP' := hP
  obtain ⟨go, hE, ha, hl⟩ := hP
  intro k
  induction k with
  | zero => intro m g h1 h2; omega
  | succ k ih =>
    intro m g hm hk R
    rw [wX_analyse_67]
    by_cases e : m = 3
    · subst e
      obtain ⟨ok, O⟩ := xi_oct go
      refine br_t (show (3 : Int32) ≤ nI 3 by decide) (xm_close (xi_pre go 3 (Nat.le_refl _)).2.2 R (fun _ g1 K1 R1 => ?_) (fun n => absurd ok n))
      have f0 := (hz 0 (by omega)).1
      have w0 := (hz 0 (by omega)).2
      have I0 : xs_I G g1 a_filled := fun q hq h => absurd (hz q hq).1 h
      have L0 : xs_L 0 a_waits a_waiting := ⟨ct_zero (fun q hq h => h (hz q hq).2), fun i hi => absurd hi (Nat.not_lt_zero i), fun i _ hi => absurd hi (Nat.not_lt_zero i)⟩
      obtain ⟨_, L1⟩ := xs_push L0 (p := 0) (by omega) w0
      obtain ⟨g1', g2, g3, g4, g5, g6⟩ := xs_grow (p := 0) (by omega) I0 R1 O (fun s hs h => (gr_H_cl G).1 _ (by rw [show 512 * 0 + s = s by omega]; exact h))
      refine xw_widen (a_bound := g1) (p := 0) (n := 0) rfl rfl (by omega) (fun hg => absurd (Or.inl f0) hg) (fun _ hw => absurd w0 hw) (fun _ _ => ⟨by omega, 8 * xs_mu (xw_f g1 0 (a_filled 0) 36) (upd a_filled 0 1) + 1 + 1, ?_⟩)
      refine xr_131 hP' hC H _ 1 _ _ _ _ ⟨g1', L1, fun e' he' => ?_, fun k hk => g4 k hk.1 hk⟩ (Nat.lt_succ_self _)
      by_cases z : gr_F G e' = 0
      · exact Or.inl (by rw [z, pk_us]; decide)
      · refine Or.inr (Or.inr (fun s t hs hS ht => ?_))
        have f7 := (go.2.1 e' (by have := go.1; omega)).1
        have := ((g3 _ s z).mp hS).1
        exact absurd (hz _ f7).1 this
    · have m3 : m < 3 := by omega
      have cm : (nI m).toNatClampNeg = m := nI_clamp (by omega)
      have im : vp_in (nI m) 3 := vp_in_nI m3 (by omega)
      obtain ⟨h1, h2⟩ := hl m m3
      have hr := go.2.2.2 m m3
      refine br_f (nI_ge (b := 3) (by omega) (by omega)) ⟨im, ?_⟩
      rw [cm, h2]
      refine xm_meet (a := 2 * m) (b := 2 * m + 1) (xa_d2 m) (xa_d3 m) (xa_2 (xa_nI (by omega)) (by omega) (by omega)) (by omega) (by omega) R (fun g1 K1 R1 => ⟨im, ?_⟩)
      rw [h1]
      refine xm_meet (a := 2 * m + 1) (b := 2 * m) (xa_d3 m) (xa_d2 m) (xa_m2 (xa_nI (by omega)) (by omega) (by omega)) (by omega) (by omega) R1 (fun g2 K2 R2 => ?_)
      exact nm_r (nI_1 m) (ih (m + 1) g2 (by omega) (by omega) R2)
theorem xr_30 {post : SX → Prop} {G : GrP} (hP : xp_P G f_edges a_from a_to a_kind a_first a_second a_low a_high) (hC : xp_C G a_constant)
    (hz : ∀ q, q < 7 → a_filled q = 0 ∧ a_waits q = 0)
    (H : ∀ g fl wg wt, xs_F G g fl → post (f_edges, f_known, a_from, a_to, a_kind, a_first, a_second, a_constant, a_low, a_high, g, fl, wg, wt, a_said, a_real, a_fresh, a_coming, a_far)) :
    ∀ (k m : Nat) (g : Nat → Int32), m ≤ 36 → 36 < k + m → (∀ q, q < m → (g (252 + q)).toInt = if q % 7 = 0 then 0 else 14) → wX_analyse_30 post f_edges f_known k (nI m) a_from a_to a_kind a_first a_second a_constant a_low a_high g a_filled a_waiting a_waits a_said a_real a_fresh a_coming a_far := by
  intro k
  induction k with
  | zero => intro m g h1 h2; omega
  | succ k ih =>
    intro m g hm hk R
    rw [wX_analyse_30]
    by_cases e : m = 36
    · subst e
      refine br_t (show (36 : Int32) ≤ nI 36 by decide) ⟨4, xr_67 hP hC hz H 4 0 g (by omega) (by omega) (fun i j hi hj => ?_)⟩
      rw [show 252 + 6 * i + j = 252 + (6 * i + j) by omega, R (6 * i + j) (by omega)]
      show _ = xi_0 i j
      unfold xi_0
      by_cases z : i = j
      · rw [if_pos z, if_pos (by omega)]
      · rw [if_neg z, if_neg (by omega)]
    · have i1 : 252 + nI m = nI (252 + m) := nI_add 252 m
      have hr : nI m - nI m / 7 * 7 = nI (m % 7) := pk_rem (d := 7) (by omega) (by omega) (by omega)
      refine br_f (nI_ge (b := 36) (by omega) (by omega)) ⟨by decide, ?_⟩
      rw [hr, pk_cl _ i1]
      refine pk_eq (m % 7) 0 (fun z => ⟨pk_in _ 288 (by omega) i1, nm_e (nm_r (nI_1 m) (ih (m + 1) _ (by omega) (by omega) (fun q hq => ?_)))⟩) (fun z => ⟨pk_in _ 288 (by omega) i1, nm_e (nm_r (nI_1 m) (ih (m + 1) _ (by omega) (by omega) (fun q hq => ?_)))⟩)
      · by_cases y : q = m
        · subst y; rw [pk_us, if_pos z]; decide
        · rw [pk_un (by omega), R q (by omega)]
      · by_cases y : q = m
        · subst y; rw [pk_us, if_neg z]; decide
        · rw [pk_un (by omega), R q (by omega)]
theorem xr_2 {post : SX → Prop} {G : GrP} (hP : xp_P G f_edges a_from a_to a_kind a_first a_second a_low a_high) (hC : xp_C G a_constant)
    (H : ∀ g fl wg wt, xs_F G g fl → post (f_edges, f_known, a_from, a_to, a_kind, a_first, a_second, a_constant, a_low, a_high, g, fl, wg, wt, a_said, a_real, a_fresh, a_coming, a_far)) :
    ∀ (k m : Nat) (fl wt : Nat → Int32), m ≤ 7 → 7 < k + m → (∀ q, q < m → fl q = 0 ∧ wt q = 0) → wX_analyse_2 post f_edges f_known k (nI m) a_from a_to a_kind a_first a_second a_constant a_low a_high a_bound fl a_waiting wt a_said a_real a_fresh a_coming a_far := by
  intro k
  induction k with
  | zero => intro m fl wt h1 h2; omega
  | succ k ih =>
    intro m fl wt hm hk R
    rw [wX_analyse_2]
    by_cases e : m = 7
    · subst e
      exact br_t (show (7 : Int32) ≤ nI 7 by decide) ⟨37, xr_30 hP hC R H 37 0 a_bound (by omega) (by omega) (fun q hq => absurd hq (Nat.not_lt_zero q))⟩
    · have cm : (nI m).toNatClampNeg = m := nI_clamp (by omega)
      have im : vp_in (nI m) 8 := vp_in_nI (by omega) (by omega)
      refine br_f (nI_ge (b := 7) (by omega) (by omega)) ?_
      rw [cm, xw_b0]
      refine ⟨im, nm_e ⟨im, nm_e (nm_r (nI_1 m) (ih (m + 1) _ _ (by omega) (by omega) (fun q hq => ?_)))⟩⟩
      by_cases y : q = m
      · subst y; rw [pk_us, pk_us]; exact ⟨rfl, rfl⟩
      · rw [pk_un y, pk_un y]; exact R q (by omega)
theorem xr_analyse {post : SX → Prop} {G : GrP} (hP : xp_P G f_edges a_from a_to a_kind a_first a_second a_low a_high) (hC : xp_C G a_constant)
    (H : ∀ g fl wg wt, xs_F G g fl → post (f_edges, f_known, a_from, a_to, a_kind, a_first, a_second, a_constant, a_low, a_high, g, fl, wg, wt, a_said, a_real, a_fresh, a_coming, a_far)) : wpX_analyse post (f_edges, f_known, a_from, a_to, a_kind, a_first, a_second, a_constant, a_low, a_high, a_bound, a_filled, a_waiting, a_waits, a_said, a_real, a_fresh, a_coming, a_far) :=
  ⟨8, xr_2 hP hC H 8 0 a_filled a_waits (by omega) (by omega) (fun q hq => absurd hq (Nat.not_lt_zero q))⟩
end
end
section
/-! words of 64 bits -/
theorem xb_odd : ∀ n : Nat, 0 < n → ∃ j q, n = 2 ^ j * (2 * q + 1) := by
  intro n
  induction n using Nat.strongRecOn with
  | _ n ih =>
    intro h
    by_cases e : n % 2 = 0
    · obtain ⟨j, q, h2⟩ := ih (n / 2) (by omega) (by omega)
      refine ⟨j + 1, q, ?_⟩
      rw [Nat.pow_succ, Nat.mul_comm (2 ^ j) 2, Nat.mul_assoc, ← h2]
      omega
    · exact ⟨0, n / 2, by omega⟩
theorem xb_j64 {n j q : Nat} (h : n = 2 ^ j * (2 * q + 1)) (hn : n < 2 ^ 64) : j < 64 := by
  have h1 : 2 ^ j ≤ n := by rw [h]; exact Nat.le_mul_of_pos_right _ (by omega)
  exact (Nat.pow_lt_pow_iff_right (by decide : 1 < 2)).mp (Nat.lt_of_le_of_lt h1 hn)
theorem xb_tlo {j q t : Nat} (h : t < j) : (2 ^ j * (2 * q + 1)).testBit t = false := by
  have := Nat.testBit_two_pow_mul_add (2 * q + 1) (b := 0) (i := j) (Nat.two_pow_pos j) t
  rw [Nat.add_zero, if_pos h, Nat.zero_testBit] at this
  exact this
theorem xb_tj (j q : Nat) : (2 ^ j * (2 * q + 1)).testBit j = true := by
  have := Nat.testBit_two_pow_mul_add (2 * q + 1) (b := 0) (i := j) (Nat.two_pow_pos j) j
  rw [Nat.add_zero, if_neg (Nat.lt_irrefl j), Nat.sub_self] at this
  rw [this, Nat.testBit_zero]
  simp
theorem xb_clr (j q : Nat) : (2 ^ j * (2 * q + 1)) &&& (2 ^ j * (2 * q + 1) - 1) = 2 ^ j * (2 * q) := by
  have hp := Nat.two_pow_pos j
  have e1 : 2 ^ j * (2 * q + 1) - 1 = 2 ^ j * (2 * q) + (2 ^ j - 1) := by
    rw [Nat.mul_add, Nat.mul_one]; omega
  apply Nat.eq_of_testBit_eq
  intro t
  rw [Nat.testBit_and, e1]
  have h1 := Nat.testBit_two_pow_mul_add (2 * q + 1) (b := 0) (i := j) hp t
  have h2 := Nat.testBit_two_pow_mul_add (2 * q) (b := 2 ^ j - 1) (i := j) (by omega) t
  have h3 := Nat.testBit_two_pow_mul_add (2 * q) (b := 0) (i := j) hp t
  rw [Nat.add_zero] at h1 h3
  rw [h1, h2, h3]
  by_cases z : t < j
  · rw [if_pos z, if_pos z, if_pos z, Nat.zero_testBit]; rfl
  · rw [if_neg z, if_neg z, if_neg z]
    cases hd : t - j with
    | zero => rw [Nat.testBit_zero, Nat.testBit_zero]; simp
    | succ d =>
      rw [Nat.testBit_succ, Nat.testBit_succ, show (2 * q + 1) / 2 = q by omega, show 2 * q / 2 = q by omega, Bool.and_self]
theorem xb_tcl (j q t : Nat) : (2 ^ j * (2 * q)).testBit t = (decide (j + 1 ≤ t) && (2 ^ j * (2 * q + 1)).testBit t) := by
  have hp := Nat.two_pow_pos j
  have h1 := Nat.testBit_two_pow_mul_add (2 * q + 1) (b := 0) (i := j) hp t
  have h3 := Nat.testBit_two_pow_mul_add (2 * q) (b := 0) (i := j) hp t
  rw [Nat.add_zero] at h1 h3
  rw [h1, h3]
  by_cases z : t < j
  · rw [if_pos z, if_pos z, Nat.zero_testBit, Bool.and_false]
  · rw [if_neg z, if_neg z]
    cases hd : t - j with
    | zero =>
      rw [Nat.testBit_zero, Nat.testBit_zero, decide_eq_false (by omega : ¬ j + 1 ≤ t)]
      simp
    | succ d =>
      rw [Nat.testBit_succ, Nat.testBit_succ, show (2 * q + 1) / 2 = q by omega, show 2 * q / 2 = q by omega, decide_eq_true (by omega : j + 1 ≤ t), Bool.true_and]
theorem xb_dv {j q k : Nat} (h : k ≤ j) : 2 ^ j * (2 * q + 1) / 2 ^ k = 2 ^ (j - k) * (2 * q + 1) := by
  rw [wb_pw h, Nat.mul_assoc, Nat.mul_div_cancel_left _ (Nat.two_pow_pos k)]
theorem xb_low25 {post : Int32 → Prop} {j q m : Nat} (hm : m = 2 ^ j * (2 * q + 1)) (h64 : m < 2 ^ 64) (H : post (nI j)) :
    ∀ (n k : Nat), k ≤ j → j - k < n → wX_lowest_25 post n (nI k) (lN (m / 2 ^ k)) := by
  have j64 := xb_j64 hm h64
  intro n
  induction n with
  | zero => intro k h1 h2; omega
  | succ n ih =>
    intro k hk hn
    have l64 : m / 2 ^ k < 2 ^ 64 := Nat.lt_of_le_of_lt (Nat.div_le_self _ _) h64
    have e : m / 2 ^ k = 2 ^ (j - k) * (2 * q + 1) := by rw [hm]; exact xb_dv hk
    rw [wX_lowest_25]
    dsimp only
    rw [wb_a1 l64]
    by_cases z : k = j
    · subst z
      have : m / 2 ^ k % 2 = 1 := by rw [e, Nat.sub_self]; omega
      rw [this]
      exact br_f (by decide) H
    · have h0 : m / 2 ^ k % 2 = 0 := by
        rw [e, show j - k = (j - k - 1) + 1 by omega, Nat.pow_succ, Nat.mul_comm (2 ^ (j - k - 1)) 2, Nat.mul_assoc]
        exact Nat.mul_mod_right 2 _
      rw [h0]
      have sh := wb_shr l64 (k := 1) (by decide)
      refine br_t rfl (nm_r (e' := lN (m / 2 ^ (k + 1))) ?_ (nm_r (nI_1 k) (ih (k + 1) (by omega) (by omega))))
      refine sh.trans ?_
      rw [Nat.div_div_eq_div_mul, ← Nat.pow_add]
theorem xb_low4 {post : Int32 → Prop} {j q m : Nat} (hm : m = 2 ^ j * (2 * q + 1)) (h64 : m < 2 ^ 64) (H : post (nI j)) :
    ∀ (n k : Nat), k ≤ j → j - k < n → wX_lowest_4 post n (nI k) (lN (m / 2 ^ k)) := by
  have j64 := xb_j64 hm h64
  intro n
  induction n with
  | zero => intro k h1 h2; omega
  | succ n ih =>
    intro k hk hn
    have l64 : m / 2 ^ k < 2 ^ 64 := Nat.lt_of_le_of_lt (Nat.div_le_self _ _) h64
    have e : m / 2 ^ k = 2 ^ (j - k) * (2 * q + 1) := by rw [hm]; exact xb_dv hk
    have ma : lN (m / 2 ^ k) &&& 255 = lN (m / 2 ^ k % 256) := wb_mask (k := 8) l64 (by decide)
    rw [wX_lowest_4]
    dsimp only
    rw [ma]
    by_cases z : 8 ≤ j - k
    · have h0 : m / 2 ^ k % 256 = 0 := by
        rw [e, show j - k = (j - k - 8) + 8 by omega, Nat.pow_add, Nat.mul_comm (2 ^ (j - k - 8)) (2 ^ 8), Nat.mul_assoc]
        exact Nat.mul_mod_right 256 _
      rw [h0]
      have sh := wb_shr l64 (k := 8) (by decide)
      refine br_t rfl (nm_r (e' := lN (m / 2 ^ (k + 8))) ?_ (nm_r (nI_add k 8) (ih (k + 8) (by omega) (by omega))))
      refine sh.trans ?_
      rw [Nat.div_div_eq_div_mul, ← Nat.pow_add]
    · have h0 : m / 2 ^ k % 256 ≠ 0 := by
        rw [e]
        have c : j - k = 0 ∨ j - k = 1 ∨ j - k = 2 ∨ j - k = 3 ∨ j - k = 4 ∨ j - k = 5 ∨ j - k = 6 ∨ j - k = 7 := by omega
        rcases c with c | c | c | c | c | c | c | c <;> rw [c] <;> omega
      refine br_f (fun w => h0 ?_) ⟨65, xb_low25 hm h64 H 65 k hk (by omega)⟩
      have hlt : m / 2 ^ k % 256 < 256 := Nat.mod_lt _ (by decide)
      exact (lN_eq (b := 0) (by omega) (by decide)).mp w
theorem xb_lowest {post : Int32 → Prop} {j q m : Nat} (hm : m = 2 ^ j * (2 * q + 1)) (h64 : m < 2 ^ 64) (H : post (nI j)) : wpX_lowest post (lN m) := by
  have := xb_low4 hm h64 H 65 0 (by omega) (by have := xb_j64 hm h64; omega)
  rw [Nat.pow_zero, Nat.div_one] at this
  exact ⟨65, this⟩
theorem xb_skip {σ : Type} {w : Nat} {I : Nat → σ → Prop} (hk : ∀ i s, i < 64 → w.testBit i = false → I i s → I (i + 1) s) (i : Nat) (s : σ) :
    ∀ d, i + d ≤ 64 → (∀ t, i ≤ t → t < i + d → w.testBit t = false) → I i s → I (i + d) s
  | 0, _, _, h => h
  | d + 1, h1, h2, h => hk (i + d) s (by omega) (h2 (i + d) (by omega) (by omega)) (xb_skip hk i s d (by omega) (fun t a b => h2 t a (by omega)) h)
theorem xb_loopA {σ : Type} (W : Nat → Int64 → σ → Prop) (w : Nat) (I : Nat → σ → Prop)
    (hk : ∀ i s, i < 64 → w.testBit i = false → I i s → I (i + 1) s)
    (hx : ∀ n s, I 64 s → W (n + 1) 0 s)
    (hs : ∀ n j l s, j < 64 → w.testBit j = true → ¬ l = 0 → (∀ post : Int32 → Prop, post (nI j) → wpX_lowest post l) → I j s → (∀ s', I (j + 1) s' → W n (l &&& (l - 1)) s') → W (n + 1) l s) :
    ∀ (n i m : Nat) (s : σ), i ≤ 64 → 64 < n + i → m < 2 ^ 64 → (∀ t, m.testBit t = (decide (i ≤ t) && w.testBit t)) → I i s → W n (lN m) s := by
  intro n
  induction n with
  | zero => intro i m s h1 h2; omega
  | succ n ih =>
    intro i m s hi hn hm hb hI
    rcases Nat.eq_zero_or_pos m with z | z
    · subst z
      refine hx n s ?_
      have := xb_skip hk i s (64 - i) (by omega) (fun t a b => by
        have := hb t
        rw [Nat.zero_testBit, decide_eq_true a, Bool.true_and] at this
        exact this.symm) hI
      rwa [show i + (64 - i) = 64 by omega] at this
    · obtain ⟨j, q, e⟩ := xb_odd m z
      have j64 := xb_j64 e hm
      have bj := xb_tj j q
      rw [← e, hb j] at bj
      have ij : i ≤ j := by
        rcases Nat.lt_or_ge j i with y | y
        · rw [decide_eq_false (by omega), Bool.false_and] at bj; exact absurd bj (by decide)
        · exact y
      rw [decide_eq_true ij, Bool.true_and] at bj
      have Ij : I j s := by
        have := xb_skip hk i s (j - i) (by omega) (fun t a b => by
          have h1 := xb_tlo (q := q) (show t < j by omega)
          rw [← e, hb t, decide_eq_true a, Bool.true_and] at h1
          exact h1) hI
        rwa [show i + (j - i) = j by omega] at this
      have ne : ¬ lN m = 0 := by
        intro y
        have := congrArg (fun x : Int64 => x.toBitVec.toNat) y
        simp only [wb_tn hm] at this
        have z0 : (0 : Int64).toBitVec.toNat = 0 := by decide
        omega
      have cl : lN m &&& (lN m - 1) = lN (2 ^ j * (2 * q)) := by
        have s1 : lN m - 1 = lN (m - 1) := lN_sub (b := 1) (by omega)
        rw [s1, wb_and hm (by omega), e, xb_clr]
      refine hs n j (lN m) s j64 bj ne (fun post h => xb_lowest e hm h) Ij (fun s' h' => ?_)
      rw [cl]
      refine ih (j + 1) _ s' (by omega) (by omega) ?_ (fun t => ?_) h'
      · have : 2 ^ j * (2 * q) ≤ 2 ^ j * (2 * q + 1) := Nat.mul_le_mul_left _ (by omega)
        omega
      · rw [xb_tcl, ← e, hb t]
        by_cases y : j + 1 ≤ t
        · rw [decide_eq_true y, decide_eq_true (by omega : i ≤ t), Bool.true_and, Bool.true_and]
        · rw [decide_eq_false y, Bool.false_and, Bool.false_and]
/-- the bits of a word -/
def xb_w (x : Int64) (t : Nat) : Bool := x.toBitVec.getLsbD t
theorem xb_wN {n : Nat} (h : n < 2 ^ 64) (t : Nat) : xb_w (lN n) t = n.testBit t := by
  unfold xb_w
  rw [← BitVec.testBit_toNat, wb_tn h]
theorem xb_0 (t : Nat) : xb_w 0 t = false := by
  have := xb_wN (n := 0) (by decide) t
  rw [Nat.zero_testBit] at this
  exact this
/-- a loop over the bits of a word, from the lowest up -/
theorem xb_loop {σ : Type} (W : Nat → Int64 → σ → Prop) (x : Int64) (I : Nat → σ → Prop)
    (hk : ∀ i s, i < 64 → xb_w x i = false → I i s → I (i + 1) s)
    (hx : ∀ n s, I 64 s → W (n + 1) 0 s)
    (hs : ∀ n j l s, j < 64 → xb_w x j = true → ¬ l = 0 → (∀ post : Int32 → Prop, post (nI j) → wpX_lowest post l) → I j s → (∀ s', I (j + 1) s' → W n (l &&& (l - 1)) s') → W (n + 1) l s)
    (s : σ) (h0 : I 0 s) : W 65 x s := by
  obtain ⟨w, hw, rfl⟩ := wb_of x
  refine xb_loopA W w I (fun i s hi h => hk i s hi (by rw [xb_wN hw]; exact h)) hx (fun n j l s hj h => hs n j l s hj (by rw [xb_wN hw]; exact h)) 65 0 w s (by omega) (by omega) hw (fun t => ?_) h0
  rw [decide_eq_true (Nat.zero_le t), Bool.true_and]
/-! bits of arrays: cell k is bit k % 64 of word k / 64 -/
def xb_b (g : Nat → Int64) (k : Nat) : Bool := xb_w (g (k / 64)) (k % 64)
theorem xb_or (x y : Int64) (t : Nat) : xb_w (x ||| y) t = (xb_w x t || xb_w y t) := by
  unfold xb_w
  rw [Int64.toBitVec_or, BitVec.getLsbD_or]
theorem xb_and (x y : Int64) (t : Nat) : xb_w (x &&& y) t = (xb_w x t && xb_w y t) := by
  unfold xb_w
  rw [Int64.toBitVec_and, BitVec.getLsbD_and]
theorem xb_m1 : ∀ t, t < 64 → xb_w (-1) t = true := by decide +kernel
theorem xb_not (x : Int64) {t : Nat} (h : t < 64) : xb_w (x ^^^ (-1)) t = !(xb_w x t) := by
  have := xb_m1 t h
  unfold xb_w at this ⊢
  rw [Int64.toBitVec_xor, BitVec.getLsbD_xor, this, Bool.xor_true]
theorem xb_one {j : Nat} (hj : j < 64) (t : Nat) : xb_w ((1 : Int64) <<< ((nI j).toInt64 &&& 63)) t = decide (j = t) := by
  have e : (1 : Int64) <<< ((nI j).toInt64 &&& 63) = lN (2 ^ j) := by
    have := wb_shl 1 hj
    rw [Nat.one_mul] at this
    exact this
  rw [e, xb_wN (wb_lt2 hj), Nat.testBit_two_pow]
theorem xb_ext {x y : Int64} (h : ∀ t, t < 64 → xb_w x t = xb_w y t) : x = y :=
  wb_inj (BitVec.eq_of_getLsbD_eq (fun i hi => h i hi))
theorem xb_ne {x : Int64} (h : ¬ x = 0) : ∃ t, t < 64 ∧ xb_w x t = true := by
  rcases Classical.em (∃ t, t < 64 ∧ xb_w x t = true) with z | z
  · exact z
  · refine absurd (xb_ext (fun t ht => ?_)) h
    rw [xb_0]
    cases e : xb_w x t with
    | false => rfl
    | true => exact absurd ⟨t, ht, e⟩ z
end
section
/-! the sets of the matrices: row -/
theorem xl_min {post : Int32 → Prop} {p0 p1 p2 : Int32} {a b c : Int} (h0 : p0.toInt = a) (h1 : p1.toInt = b) (h2 : p2.toInt = c)
    (H : ∀ r : Int32, r.toInt = min (min a b) c → post r) : wpX_min post p0 p1 p2 := by
  have t : ∀ (q : Int32) (d : Int), q.toInt = d → d = min a b → wX_min_10 post p2 q := fun q d hq hd =>
    br_c (fun w => H p2 (by rw [xa_le h2 hq] at w; omega)) (fun w => H q (by rw [xa_le h2 hq] at w; omega))
  exact br_c (fun w => t p1 b h1 (by rw [xa_le h1 h0] at w; omega)) (fun w => t p0 a h0 (by rw [xa_le h1 h0] at w; omega))
theorem xl_v0 {x y z : Nat} (hx : x < 8) : gr_vs (x + 8 * y + 64 * z) 0 = (x : Int) := by unfold gr_vs; rw [gr_dg0]; omega
theorem xl_v1 {x y z : Nat} (hx : x < 8) (hy : y < 8) : gr_vs (x + 8 * y + 64 * z) 1 = (y : Int) := by unfold gr_vs; rw [gr_dg1]; omega
theorem xl_v2 {x y z : Nat} (hx : x < 8) (hy : y < 8) (hz : z < 8) : gr_vs (x + 8 * y + 64 * z) 2 = (z : Int) := by unfold gr_vs; rw [gr_dg2]; omega
theorem xl_sat {M : OcM} (T : oc_Tc M) {v : Nat → Int} {x y z : Int} (h0 : v 0 = x) (h1 : v 1 = y) (h2 : v 2 = z) : oc_Sat M v ↔
    (y - z ≤ M 2 4 ∧ z - y ≤ M 4 2 ∧ y + z ≤ M 2 5 ∧ - y - z ≤ M 3 4) ∧ (2 * y ≤ M 2 3 ∧ - 2 * y ≤ M 3 2 ∧ 2 * z ≤ M 4 5 ∧ - 2 * z ≤ M 5 4) ∧
    (2 * x ≤ M 0 1 ∧ x ≤ M 0 2 + y ∧ x ≤ M 0 3 - y ∧ x ≤ M 0 4 + z ∧ x ≤ M 0 5 - z) ∧ (- 2 * x ≤ M 1 0 ∧ - x ≤ M 1 2 + y ∧ - x ≤ M 1 3 - y ∧ - x ≤ M 1 4 + z ∧ - x ≤ M 1 5 - z) := by
  obtain ⟨clo, coh, dg, ev, st⟩ := T
  have e0 : oc_ev v 0 = x := by rw [← h0]; exact oc_ev_e v 0
  have e1 : oc_ev v 1 = - x := by rw [← h0]; exact oc_ev_o v 0
  have e2 : oc_ev v 2 = y := by rw [← h1]; exact oc_ev_e v 1
  have e3 : oc_ev v 3 = - y := by rw [← h1]; exact oc_ev_o v 1
  have e4 : oc_ev v 4 = z := by rw [← h2]; exact oc_ev_e v 2
  have e5 : oc_ev v 5 = - z := by rw [← h2]; exact oc_ev_o v 2
  constructor
  · intro S
    have a1 := S 2 4 (by omega) (by omega)
    have a2 := S 4 2 (by omega) (by omega)
    have a3 := S 2 5 (by omega) (by omega)
    have a4 := S 3 4 (by omega) (by omega)
    have a5 := S 2 3 (by omega) (by omega)
    have a6 := S 3 2 (by omega) (by omega)
    have a7 := S 4 5 (by omega) (by omega)
    have a8 := S 5 4 (by omega) (by omega)
    have b1 := S 0 1 (by omega) (by omega)
    have b2 := S 0 2 (by omega) (by omega)
    have b3 := S 0 3 (by omega) (by omega)
    have b4 := S 0 4 (by omega) (by omega)
    have b5 := S 0 5 (by omega) (by omega)
    have c1 := S 1 0 (by omega) (by omega)
    have c2 := S 1 2 (by omega) (by omega)
    have c3 := S 1 3 (by omega) (by omega)
    have c4 := S 1 4 (by omega) (by omega)
    have c5 := S 1 5 (by omega) (by omega)
    rw [e2, e4] at a1
    rw [e4, e2] at a2
    rw [e2, e5] at a3
    rw [e3, e4] at a4
    rw [e2, e3] at a5
    rw [e3, e2] at a6
    rw [e4, e5] at a7
    rw [e5, e4] at a8
    rw [e0, e1] at b1
    rw [e0, e2] at b2
    rw [e0, e3] at b3
    rw [e0, e4] at b4
    rw [e0, e5] at b5
    rw [e1, e0] at c1
    rw [e1, e2] at c2
    rw [e1, e3] at c3
    rw [e1, e4] at c4
    rw [e1, e5] at c5
    refine ⟨⟨by omega, by omega, by omega, by omega⟩, ⟨by omega, by omega, by omega, by omega⟩, ⟨by omega, by omega, by omega, by omega, by omega⟩, ⟨by omega, by omega, by omega, by omega, by omega⟩⟩
  · rintro ⟨⟨a1, a2, a3, a4⟩, ⟨a5, a6, a7, a8⟩, ⟨b1, b2, b3, b4, b5⟩, ⟨c1, c2, c3, c4, c5⟩⟩
    have d1 : M 5 3 = M 2 4 := coh 2 4 (by omega) (by omega)
    have d2 : M 3 5 = M 4 2 := coh 4 2 (by omega) (by omega)
    have d3 : M 4 3 = M 2 5 := coh 2 5 (by omega) (by omega)
    have d4 : M 5 2 = M 3 4 := coh 3 4 (by omega) (by omega)
    have d5 : M 3 1 = M 0 2 := coh 0 2 (by omega) (by omega)
    have d6 : M 2 1 = M 0 3 := coh 0 3 (by omega) (by omega)
    have d7 : M 5 1 = M 0 4 := coh 0 4 (by omega) (by omega)
    have d8 : M 4 1 = M 0 5 := coh 0 5 (by omega) (by omega)
    have f1 : M 3 0 = M 1 2 := coh 1 2 (by omega) (by omega)
    have f2 : M 2 0 = M 1 3 := coh 1 3 (by omega) (by omega)
    have f3 : M 5 0 = M 1 4 := coh 1 4 (by omega) (by omega)
    have f4 : M 4 0 = M 1 5 := coh 1 5 (by omega) (by omega)
    intro a b ha hb
    by_cases e : a = b
    · subst e; rw [dg a ha]; omega
    have ca : a = 0 ∨ a = 1 ∨ a = 2 ∨ a = 3 ∨ a = 4 ∨ a = 5 := by omega
    have cb : b = 0 ∨ b = 1 ∨ b = 2 ∨ b = 3 ∨ b = 4 ∨ b = 5 := by omega
    rcases ca with rfl | rfl | rfl | rfl | rfl | rfl <;> rcases cb with rfl | rfl | rfl | rfl | rfl | rfl <;> first
      | exact absurd rfl e
      | (simp only [e0, e1, e2, e3, e4, e5]; omega)
theorem xl_tab : ∀ a, a < 8 → ∀ b, b < 8 → ∀ x, x < 8 → b ≤ a → (2 * 2 ^ a - 2 ^ b).testBit x = decide (b ≤ x ∧ x ≤ a) := by decide +kernel
theorem xl_rng : ∀ a, a < 8 → ∀ b, b < 8 → b ≤ a → 2 ^ b ≤ 2 * 2 ^ a ∧ 2 * 2 ^ a - 2 ^ b < 256 := by decide +kernel
theorem xl_m3 (a b c d : Int) : a ≤ min (min b c) d ↔ a ≤ b ∧ a ≤ c ∧ a ≤ d := by omega
theorem xl_key {x y z m1 m2 m3 m4 m5 q2 : Int} (h2 : q2 = min (min (min (min (m1 / 2) (m2 + y)) (m3 - y)) (m4 + z)) (m5 - z)) :
    x ≤ q2 ↔ 2 * x ≤ m1 ∧ x ≤ m2 + y ∧ x ≤ m3 - y ∧ x ≤ m4 + z ∧ x ≤ m5 - z := by
  rw [h2, xl_m3, xl_m3]
  constructor
  · rintro ⟨⟨a, b, c⟩, d, e⟩; exact ⟨by omega, b, c, d, e⟩
  · rintro ⟨a, b, c, d, e⟩; exact ⟨⟨by omega, b, c⟩, d, e⟩
theorem xl_bds {y z m1 m2 m3 m4 m5 q2 : Int} (h2 : q2 = min (min (min (min (m1 / 2) (m2 + y)) (m3 - y)) (m4 + z)) (m5 - z))
    (b1 : -1000 ≤ m1) (b2 : -1000 ≤ m2 + y) (b3 : -1000 ≤ m3 - y) (b4 : -1000 ≤ m4 + z) (b5 : -1000 ≤ m5 - z) : -1000 ≤ q2 ∧ q2 ≤ m1 / 2 := by
  refine ⟨(xl_key h2).mpr ⟨by omega, b2, b3, b4, b5⟩, ?_⟩
  have := ((xl_key h2).mp (Int.le_refl q2)).1
  omega
section
variable {f_edges f_known : Int32} {a_from a_to a_kind a_first a_second a_constant a_low a_high a_bound a_filled a_waiting a_waits a_far : Nat → Int32} {a_said a_real a_fresh a_coming : Nat → Int64}
theorem xl_row {post : Int32 → Prop} {p y z : Nat} (hp : p < 7) (hy : y < 8) (hz : z < 8) {S : Nat → Prop} (O : gr_Oct (xs_M a_bound p) S)
    (H : ∀ R : Nat, R < 256 → (∀ x, x < 8 → (R.testBit x = true ↔ oc_Sat (xs_M a_bound p) (gr_vs (x + 8 * y + 64 * z)))) → post (nI R)) :
    wpX_row post (f_edges, f_known, a_from, a_to, a_kind, a_first, a_second, a_constant, a_low, a_high, a_bound, a_filled, a_waiting, a_waits, a_said, a_real, a_fresh, a_coming, a_far) (nI (36 * p)) (nI y) (nI z) := by
  have T := gr_tc O
  have Rg := gr_rg O
  have sat := fun (x : Nat) (hx : x < 8) => xl_sat T (xl_v0 (y := y) (z := z) hx) (xl_v1 (z := z) hx hy) (xl_v2 hx hy hz)
  have no : (∀ x : Nat, x < 8 → ¬ oc_Sat (xs_M a_bound p) (gr_vs (x + 8 * y + 64 * z))) → post 0 := fun h =>
    H 0 (by omega) (fun x hx => by rw [Nat.zero_testBit]; exact ⟨fun w => absurd w (by decide), fun w => absurd w (h x hx)⟩)
  have ix : ∀ c : Nat, nI (36 * p) + nI c = nI (36 * p + c) := fun c => nI_add _ _
  have rd : ∀ i j : Nat, i < 6 → j < 6 → (a_bound (36 * p + (6 * i + j))).toInt = xs_M a_bound p i j := fun i j _ _ => by
    unfold xs_M; rw [show 36 * p + (6 * i + j) = 36 * p + 6 * i + j by omega]
  have cl : ∀ c : Nat, c < 36 → (nI (36 * p) + nI c).toNatClampNeg = 36 * p + c := fun c hc => pk_cl _ (ix c)
  have inn : ∀ c : Nat, c < 36 → vp_in (nI (36 * p) + nI c) 288 := fun c hc => pk_in _ 288 (by omega) (ix c)
  have ty : (nI y).toInt = (y : Int) := xa_nI (by omega)
  have tz : (nI z).toInt = (z : Int) := xa_nI (by omega)
  generalize hM : xs_M a_bound p = M at *
  have g24 := Rg 2 4 (by omega) (by omega)
  have g42 := Rg 4 2 (by omega) (by omega)
  have g01 := Rg 0 1 (by omega) (by omega)
  have g02 := Rg 0 2 (by omega) (by omega)
  have g03 := Rg 0 3 (by omega) (by omega)
  have g04 := Rg 0 4 (by omega) (by omega)
  have g05 := Rg 0 5 (by omega) (by omega)
  have g10 := Rg 1 0 (by omega) (by omega)
  have g12 := Rg 1 2 (by omega) (by omega)
  have g13 := Rg 1 3 (by omega) (by omega)
  have g14 := Rg 1 4 (by omega) (by omega)
  have g15 := Rg 1 5 (by omega) (by omega)
  -- x is at least 0
  have m10 : M 1 0 ≤ 0 := by
    obtain ⟨s, _, _, e⟩ := O.2 1 0 (by omega) (by omega)
    have w := gr_vs_r s 0
    have u0 : oc_ev (gr_vs s) 0 = gr_vs s 0 := oc_ev_e _ 0
    have u1 : oc_ev (gr_vs s) 1 = - gr_vs s 0 := oc_ev_o _ 0
    omega
  have z61 : ∀ q : (∀ x : Nat, x < 8 → ¬ oc_Sat M (gr_vs (x + 8 * y + 64 * z))), wX_row_61 post (nI (36 * p)) (nI y) (nI z) f_edges f_known a_from a_to a_kind a_first a_second a_constant a_low a_high a_bound a_filled a_waiting a_waits a_said a_real a_fresh a_coming a_far := fun q =>
    br_f (show ¬ (1 : Int32) = 0 by decide) (no q)
  have r24 : (a_bound (nI (36 * p) + 16).toNatClampNeg).toInt = M 2 4 := (congrArg (fun c => (a_bound c).toInt) (cl 16 (by omega))).trans (rd 2 4 (by omega) (by omega))
  have r42 : (a_bound (nI (36 * p) + 26).toNatClampNeg).toInt = M 4 2 := (congrArg (fun c => (a_bound c).toInt) (cl 26 (by omega))).trans (rd 4 2 (by omega) (by omega))
  have r25 : (a_bound (nI (36 * p) + 17).toNatClampNeg).toInt = M 2 5 := (congrArg (fun c => (a_bound c).toInt) (cl 17 (by omega))).trans (rd 2 5 (by omega) (by omega))
  have r34 : (a_bound (nI (36 * p) + 22).toNatClampNeg).toInt = M 3 4 := (congrArg (fun c => (a_bound c).toInt) (cl 22 (by omega))).trans (rd 3 4 (by omega) (by omega))
  have r23 : (a_bound (nI (36 * p) + 15).toNatClampNeg).toInt = M 2 3 := (congrArg (fun c => (a_bound c).toInt) (cl 15 (by omega))).trans (rd 2 3 (by omega) (by omega))
  have r32 : (a_bound (nI (36 * p) + 20).toNatClampNeg).toInt = M 3 2 := (congrArg (fun c => (a_bound c).toInt) (cl 20 (by omega))).trans (rd 3 2 (by omega) (by omega))
  have r45 : (a_bound (nI (36 * p) + 29).toNatClampNeg).toInt = M 4 5 := (congrArg (fun c => (a_bound c).toInt) (cl 29 (by omega))).trans (rd 4 5 (by omega) (by omega))
  have r54 : (a_bound (nI (36 * p) + 34).toNatClampNeg).toInt = M 5 4 := (congrArg (fun c => (a_bound c).toInt) (cl 34 (by omega))).trans (rd 5 4 (by omega) (by omega))
  have r01 : (a_bound (nI (36 * p) + 1).toNatClampNeg).toInt = M 0 1 := (congrArg (fun c => (a_bound c).toInt) (cl 1 (by omega))).trans (rd 0 1 (by omega) (by omega))
  have r02 : (a_bound (nI (36 * p) + 2).toNatClampNeg).toInt = M 0 2 := (congrArg (fun c => (a_bound c).toInt) (cl 2 (by omega))).trans (rd 0 2 (by omega) (by omega))
  have r03 : (a_bound (nI (36 * p) + 3).toNatClampNeg).toInt = M 0 3 := (congrArg (fun c => (a_bound c).toInt) (cl 3 (by omega))).trans (rd 0 3 (by omega) (by omega))
  have r04 : (a_bound (nI (36 * p) + 4).toNatClampNeg).toInt = M 0 4 := (congrArg (fun c => (a_bound c).toInt) (cl 4 (by omega))).trans (rd 0 4 (by omega) (by omega))
  have r05 : (a_bound (nI (36 * p) + 5).toNatClampNeg).toInt = M 0 5 := (congrArg (fun c => (a_bound c).toInt) (cl 5 (by omega))).trans (rd 0 5 (by omega) (by omega))
  have r10 : (a_bound (nI (36 * p) + 6).toNatClampNeg).toInt = M 1 0 := (congrArg (fun c => (a_bound c).toInt) (cl 6 (by omega))).trans (rd 1 0 (by omega) (by omega))
  have r12 : (a_bound (nI (36 * p) + 8).toNatClampNeg).toInt = M 1 2 := (congrArg (fun c => (a_bound c).toInt) (cl 8 (by omega))).trans (rd 1 2 (by omega) (by omega))
  have r13 : (a_bound (nI (36 * p) + 9).toNatClampNeg).toInt = M 1 3 := (congrArg (fun c => (a_bound c).toInt) (cl 9 (by omega))).trans (rd 1 3 (by omega) (by omega))
  have r14 : (a_bound (nI (36 * p) + 10).toNatClampNeg).toInt = M 1 4 := (congrArg (fun c => (a_bound c).toInt) (cl 10 (by omega))).trans (rd 1 4 (by omega) (by omega))
  have r15 : (a_bound (nI (36 * p) + 11).toNatClampNeg).toInt = M 1 5 := (congrArg (fun c => (a_bound c).toInt) (cl 11 (by omega))).trans (rd 1 5 (by omega) (by omega))
  have v1 : (nI y - nI z).toInt = (y : Int) - z := xa_sub ty tz (by omega) (by omega)
  have v2 : (nI z - nI y).toInt = (z : Int) - y := xa_sub tz ty (by omega) (by omega)
  have v3 : (nI y + nI z).toInt = (y : Int) + z := xa_add ty tz (by omega) (by omega)
  have v4 : (- nI y - nI z).toInt = - (y : Int) - z := xa_sub (xa_neg ty (by omega) (by omega)) tz (by omega) (by omega)
  refine ⟨inn 16 (by omega), br_c (fun w => z61 (fun x hx s => ?_)) (fun w1 => ⟨inn 26 (by omega), br_c (fun w => z61 (fun x hx s => ?_)) (fun w2 => ⟨inn 17 (by omega), br_c (fun w => z61 (fun x hx s => ?_)) (fun w3 => ⟨inn 22 (by omega), br_c (fun w4 => ?_) (fun w => z61 (fun x hx s => ?_))⟩)⟩)⟩)⟩
  · have := ((sat x hx).mp s).1.1
    rw [xa_lt r24 v1] at w; omega
  · have := ((sat x hx).mp s).1.2.1
    rw [xa_lt r42 v2] at w; omega
  · have := ((sat x hx).mp s).1.2.2.1
    rw [xa_lt r25 v3] at w; omega
  rotate_left
  · have := ((sat x hx).mp s).1.2.2.2
    rw [xa_le v4 r34] at w; omega
  rw [xa_lt r24 v1] at w1
  rw [xa_lt r42 v2] at w2
  rw [xa_lt r25 v3] at w3
  rw [xa_le v4 r34] at w4
  have u1 := xa_2 ty (by omega) (by omega)
  have u2 := xa_m2 ty (by omega) (by omega)
  have u3 := xa_2 tz (by omega) (by omega)
  have u4 := xa_m2 tz (by omega) (by omega)
  refine br_t rfl ⟨inn 15 (by omega), br_c (fun w => no (fun x hx s => ?_)) (fun w5 => ⟨inn 20 (by omega), br_c (fun w => no (fun x hx s => ?_)) (fun w6 => ⟨inn 29 (by omega), br_c (fun w => no (fun x hx s => ?_)) (fun w7 => ⟨inn 34 (by omega), br_c (fun w8 => ?_) (fun w => no (fun x hx s => ?_))⟩)⟩)⟩)⟩
  · have := ((sat x hx).mp s).2.1.1
    rw [xa_lt r23 u1] at w; omega
  · have := ((sat x hx).mp s).2.1.2.1
    rw [xa_lt r32 u2] at w; omega
  · have := ((sat x hx).mp s).2.1.2.2.1
    rw [xa_lt r45 u3] at w; omega
  rotate_left
  · have := ((sat x hx).mp s).2.1.2.2.2
    rw [xa_le u4 r54] at w; omega
  rw [xa_lt r23 u1] at w5
  rw [xa_lt r32 u2] at w6
  rw [xa_lt r45 u3] at w7
  rw [xa_le u4 r54] at w8
  refine ⟨inn 1 (by omega), inn 2 (by omega), inn 3 (by omega), xl_min (xa_shr r01) (xa_add r02 ty (by omega) (by omega)) (xa_sub r03 ty (by omega) (by omega)) (fun q1 h1 => ?_)⟩
  refine ⟨inn 4 (by omega), inn 5 (by omega), xl_min h1 (xa_add r04 tz (by omega) (by omega)) (xa_sub r05 tz (by omega) (by omega)) (fun q2 h2 => ?_)⟩
  refine ⟨inn 6 (by omega), inn 8 (by omega), inn 9 (by omega), xl_min (xa_shr r10) (xa_add r12 ty (by omega) (by omega)) (xa_sub r13 ty (by omega) (by omega)) (fun q3 h3 => ?_)⟩
  refine ⟨inn 10 (by omega), inn 11 (by omega), xl_min h3 (xa_add r14 tz (by omega) (by omega)) (xa_sub r15 tz (by omega) (by omega)) (fun q4 h4 => ?_)⟩
  have k2 := xl_bds h2 (by omega) (by omega) (by omega) (by omega) (by omega)
  have k4 := xl_bds h4 (by omega) (by omega) (by omega) (by omega) (by omega)
  have hn : (- q4).toInt = - q4.toInt := xa_neg rfl (by omega) (by omega)
  -- the states of the row are those from less to more
  have key : ∀ x : Nat, x < 8 → (oc_Sat M (gr_vs (x + 8 * y + 64 * z)) ↔ - (x : Int) ≤ q4.toInt ∧ (x : Int) ≤ q2.toInt) := fun x hx => by
    rw [sat x hx, xl_key h2, xl_key h4]
    constructor
    · rintro ⟨_, _, b, ⟨c1, c⟩⟩
      exact ⟨⟨by omega, c⟩, b⟩
    · rintro ⟨⟨c1, c⟩, b⟩
      exact ⟨⟨Int.not_lt.mp w1, Int.not_lt.mp w2, Int.not_lt.mp w3, w4⟩, ⟨Int.not_lt.mp w5, Int.not_lt.mp w6, Int.not_lt.mp w7, w8⟩, b, ⟨by omega, c⟩⟩
  clear h1 h2 h3 h4
  refine nm_e (br_c (fun w => ?_) (fun w => no (fun x hx s => ?_)))
  · rw [xa_le hn rfl] at w
    have b7 : q2.toInt ≤ 7 := by omega
    obtain ⟨a, ea⟩ : ∃ a : Nat, q2.toInt = (a : Int) := ⟨q2.toInt.toNat, by omega⟩
    obtain ⟨b, eb⟩ : ∃ b : Nat, - q4.toInt = (b : Int) := ⟨(- q4.toInt).toNat, by omega⟩
    have ha : a < 8 := by omega
    have hb : b ≤ a := by omega
    have e1 : q2 = nI a := (xa_eq rfl (xa_nI (by omega))).mpr ea
    have e2 : - q4 = nI b := (xa_eq hn (xa_nI (by omega))).mpr eb
    obtain ⟨l1, l2⟩ := xl_rng a ha b (by omega) hb
    have s1 : (2 : Int32) <<< (nI a &&& 31) = nI (2 * 2 ^ a) := pk_shlN (n := 2) _ a (s_l a (by omega)) (by
      have : 2 * 2 ^ a ≤ 2 * 2 ^ 8 := Nat.mul_le_mul_left 2 (Nat.pow_le_pow_right (by omega) (by omega))
      omega)
    have s2 : (1 : Int32) <<< (nI b &&& 31) = nI (2 ^ b) := by
      have := pk_shlN (n := 1) _ b (s_l b (by omega)) (by
        have : 2 ^ b ≤ 2 ^ 8 := Nat.pow_le_pow_right (by omega) (by omega)
        omega)
      rw [Nat.one_mul] at this
      exact this
    rw [e2, e1, s1, s2, pk_sub l1]
    refine H _ l2 (fun x hx => ?_)
    rw [xl_tab a ha b (by omega) x hx hb, key x hx, decide_eq_true_iff]
    omega
  · rw [xa_le hn rfl] at w
    have := (key x hx).mp s
    omega
end
end
section
/-! fill: the set of the states of a place's matrix, in words -/
abbrev XlJ : Type := Int32 → (Nat → Int32) → (Nat → Int32) → (Nat → Int32) → (Nat → Int32) → (Nat → Int32) → (Nat → Int32) → (Nat → Int32) → (Nat → Int32) → (Nat → Int32) → (Nat → Int32) → (Nat → Int32) → (Nat → Int32) → (Nat → Int64) → (Nat → Int64) → (Nat → Int64) → (Nat → Int64) → (Nat → Int32) → Prop
def xs_Fp (G : GrP) (g fl : Nat → Int32) (p : Nat) : Prop := (fl p = 0 ∧ ∀ s, s < 512 → ¬ gr_H G (512 * p + s)) ∨ (fl p ≠ 0 ∧ gr_Oct (xs_M g p) (fun s => gr_H G (512 * p + s)))
theorem pk_uLo {f : Nat → Int64} {k j : Nat} {x : Int64} : vp_updL f k x j = if j = k then x else f j := rfl
theorem xl_pw {m : Nat} (h : m < 8) {R : Nat} (hR : R < 256) : R * 2 ^ (8 * m) < 2 ^ 64 := by
  have h1 : R * 2 ^ (8 * m) < 2 ^ 8 * 2 ^ (8 * m) := Nat.mul_lt_mul_of_pos_right hR (Nat.two_pow_pos _)
  rw [← Nat.pow_add] at h1
  exact Nat.lt_of_lt_of_le h1 (Nat.pow_le_pow_right (by omega) (by omega))
theorem xl_orlt {a b : Nat} (ha : a < 2 ^ 64) (hb : b < 2 ^ 64) : a ||| b < 2 ^ 64 := Nat.or_lt_two_pow ha hb
section
variable {f_edges f_known : Int32} {a_from a_to a_kind a_first a_second a_constant a_low a_high a_bound a_filled a_waiting a_waits a_far : Nat → Int32} {a_said a_real a_fresh a_coming : Nat → Int64}
theorem xl_13 {post : SX → Prop} {J2 : XlJ} {G : GrP} {p z : Nat} (hp : p < 7) (hz : z < 8) (F : xs_Fp G a_bound a_filled p)
    (Hc : ∀ x3 : Int64, (∀ t, t < 64 → (xb_w x3 t = true ↔ gr_H G (512 * p + (t + 64 * z)))) → wX_fill_56 post J2 (nI p) (nI z) x3 f_edges f_known a_from a_to a_kind a_first a_second a_constant a_low a_high a_bound a_filled a_waiting a_waits a_said a_real a_fresh a_coming a_far) :
    ∀ (n m a : Nat), m ≤ 8 → 8 < n + m → a < 2 ^ 64 → (∀ t, t < 64 → (a.testBit t = true ↔ t < 8 * m ∧ gr_H G (512 * p + (t + 64 * z)))) → wX_fill_13 post J2 (nI p) (nI z) f_edges f_known a_from a_to a_kind a_first a_second a_constant a_low a_high a_bound a_filled a_waiting a_waits a_said a_real a_fresh a_coming a_far n (lN a) (nI m) := by
  intro n
  induction n with
  | zero => intro m a h1 h2; omega
  | succ n ih =>
    intro m a hm hn ha hb
    rw [wX_fill_13]
    have cp : (nI p).toNatClampNeg = p := nI_clamp (by omega)
    by_cases e : m = 8
    · subst e
      refine br_t (show (8 : Int32) ≤ nI 8 by decide) (Hc _ (fun t ht => ?_))
      rw [xb_wN ha, hb t ht]
      exact ⟨fun w => w.2, fun w => ⟨by omega, w⟩⟩
    · refine br_f (nI_ge (b := 8) (by omega) (by omega)) ⟨vp_in_nI (by omega) (by omega), ?_⟩
      rw [cp]
      rcases F with ⟨f0, hF⟩ | ⟨f1, O⟩
      · refine br_t f0 (Hc _ (fun t ht => ?_))
        rw [xb_wN ha, hb t ht]
        exact ⟨fun w => w.2, fun w => absurd w (hF _ (by omega))⟩
      · have i1 : 36 * nI p = nI (36 * p) := pk_mul 36 p
        have i2 : 8 * nI m = nI (8 * m) := pk_mul 8 m
        refine br_f f1 ?_
        rw [i1]
        refine xl_row hp (by omega) hz O (fun R hR hx => ?_)
        have l1 := xl_pw (show m < 8 by omega) hR
        have e1 : lN a ||| ((nI R).toInt64 <<< ((8 * nI m).toInt64 &&& 63)) = lN (a ||| R * 2 ^ (8 * m)) := by
          rw [i2, nI_l (by omega), wb_shl R (by omega), wb_or ha l1]
        refine nm_r e1 (nm_r (nI_1 m) (ih (m + 1) _ (by omega) (by omega) (xl_orlt ha l1) (fun t ht => ?_)))
        rw [Nat.testBit_or, Nat.testBit_mul_two_pow, Bool.or_eq_true, hb t ht, Bool.and_eq_true, decide_eq_true_iff]
        constructor
        · rintro (⟨h1, h2⟩ | ⟨h1, h2⟩)
          · exact ⟨by omega, h2⟩
          · have l8 : t - 8 * m < 8 := by
              rcases Nat.lt_or_ge (t - 8 * m) 8 with q | q
              · exact q
              · have : R.testBit (t - 8 * m) = false := Nat.testBit_lt_two_pow (Nat.lt_of_lt_of_le hR (show 2 ^ 8 ≤ 2 ^ (t - 8 * m) from Nat.pow_le_pow_right (by omega) q))
                rw [this] at h2
                exact absurd h2 (by decide)
            have s := (hx _ l8).mp h2
            rw [show t - 8 * m + 8 * m + 64 * z = t + 64 * z by omega] at s
            exact ⟨by omega, (O.1 _ (by omega)).mpr s⟩
        · rintro ⟨h1, h2⟩
          rcases Nat.lt_or_ge t (8 * m) with q | q
          · exact Or.inl ⟨q, h2⟩
          · refine Or.inr ⟨q, (hx (t - 8 * m) (by omega)).mpr ?_⟩
            rw [show t - 8 * m + 8 * m + 64 * z = t + 64 * z by omega]
            exact (O.1 _ (by omega)).mp h2
theorem xl_2 {post : SX → Prop} {G : GrP} {p : Nat} (hp : p < 7) (F : xs_Fp G a_bound a_filled p)
    (Hc : ∀ sd, (∀ w, w / 8 ≠ p → sd w = a_said w) → (∀ w t, w < 8 → t < 64 → (xb_w (sd (8 * p + w)) t = true ↔ gr_H G (512 * p + (t + 64 * w)))) → post (f_edges, f_known, a_from, a_to, a_kind, a_first, a_second, a_constant, a_low, a_high, a_bound, a_filled, a_waiting, a_waits, sd, a_real, a_fresh, a_coming, a_far)) :
    ∀ (n m : Nat) (sd : Nat → Int64), m ≤ 8 → 8 < n + m → (∀ w, w / 8 ≠ p → sd w = a_said w) → (∀ w t, w < m → t < 64 → (xb_w (sd (8 * p + w)) t = true ↔ gr_H G (512 * p + (t + 64 * w)))) →
      wX_fill_2 post (nI p) f_edges f_known n (nI m) a_from a_to a_kind a_first a_second a_constant a_low a_high a_bound a_filled a_waiting a_waits sd a_real a_fresh a_coming a_far := by
  intro n
  induction n with
  | zero => intro m sd h1 h2; omega
  | succ n ih =>
    intro m sd hm hn k1 k2
    rw [wX_fill_2]
    by_cases e : m = 8
    · subst e
      exact br_t (show (8 : Int32) ≤ nI 8 by decide) (Hc sd k1 k2)
    · refine br_f (nI_ge (b := 8) (by omega) (by omega)) ⟨9, ?_⟩
      refine xl_13 (a_said := sd) hp (by omega) F (fun x3 h3 => ?_) 9 0 0 (by omega) (by omega) (by omega) (fun t ht => ?_)
      · have i1 : (8 * nI p) + nI m = nI (8 * p + m) := by
          show nI 8 * nI p + nI m = _
          rw [pk_mul, nI_add]
        unfold wX_fill_56
        rw [pk_cl _ i1]
        refine ⟨pk_in _ 56 (by omega) i1, nm_e (nm_r (nI_1 m) (ih (m + 1) _ (by omega) (by omega) (fun w hw => ?_) (fun w t hw ht => ?_)))⟩
        · rw [pk_uLn (by omega), k1 w hw]
        · by_cases y : w = m
          · subst y; rw [pk_uLs]; exact h3 t ht
          · rw [pk_uLn (by omega)]; exact k2 w t (by omega) ht
      · rw [Nat.zero_testBit]
        exact ⟨fun w => absurd w (by decide), fun w => absurd w.1 (by omega)⟩
theorem xl_fill {post : SX → Prop} {G : GrP} {p : Nat} (hp : p < 7) (F : xs_Fp G a_bound a_filled p)
    (Hc : ∀ sd, (∀ k, k / 512 ≠ p → xb_b sd k = xb_b a_said k) → (∀ k, k / 512 = p → (xb_b sd k = true ↔ gr_H G k)) → post (f_edges, f_known, a_from, a_to, a_kind, a_first, a_second, a_constant, a_low, a_high, a_bound, a_filled, a_waiting, a_waits, sd, a_real, a_fresh, a_coming, a_far)) : wpX_fill post (f_edges, f_known, a_from, a_to, a_kind, a_first, a_second, a_constant, a_low, a_high, a_bound, a_filled, a_waiting, a_waits, a_said, a_real, a_fresh, a_coming, a_far) (nI p) := by
  refine ⟨9, xl_2 hp F (fun sd h1 h2 => Hc sd (fun k hk => ?_) (fun k hk => ?_)) 9 0 a_said (by omega) (by omega) (fun _ _ => rfl) (fun w t hw => absurd hw (Nat.not_lt_zero w))⟩
  · unfold xb_b
    rw [h1 _ (by omega)]
  · have := h2 (k / 64 - 8 * p) (k % 64) (by omega) (by omega)
    rw [show 8 * p + (k / 64 - 8 * p) = k / 64 by omega, show 512 * p + (k % 64 + 64 * (k / 64 - 8 * p)) = k by omega] at this
    exact this
end
end
section
/-! outside, number, step -/
theorem xg_out {post : Int32 → Prop} {p0 p1 p2 : Int32} (H0 : p1 ≤ p0 → p0 ≤ p2 → post 0) (H1 : ¬ (p1 ≤ p0 ∧ p0 ≤ p2) → post 1) : wpX_outside post p0 p1 p2 := by
  refine br_c (fun a => br_c (fun b => ⟨rfl, H0 a b⟩) (fun b => ⟨rfl, H1 (fun w => b w.2)⟩)) (fun a => br_c (fun b => ⟨rfl, H1 (fun w => a w.1)⟩) (fun b => ⟨rfl, H1 (fun w => a w.1)⟩))
theorem xg_outN {post : Int32 → Prop} {p0 p1 p2 : Int32} {v a b : Int} (h0 : p0.toInt = v) (h1 : p1.toInt = a) (h2 : p2.toInt = b) (H0 : a ≤ v → v ≤ b → post 0) (H1 : ¬ (a ≤ v ∧ v ≤ b) → post 1) : wpX_outside post p0 p1 p2 :=
  xg_out (fun x y => H0 ((xa_le h1 h0).mp x) ((xa_le h0 h2).mp y)) (fun w => H1 (fun z => w ⟨(xa_le h1 h0).mpr z.1, (xa_le h0 h2).mpr z.2⟩))
theorem xg_p3 {A : Nat} (h : A < 3) : 2 ^ (3 * A) = 8 ^ A := by
  rcases gr_3 h with rfl | rfl | rfl <;> decide
theorem xg_num {s A : Nat} (hs : s < 512) (hA : A < 3) : (nI s >>> ((3 * nI A) &&& 31)) &&& 7 = nI (gr_dg s A) := by
  have i1 : 3 * nI A = nI (3 * A) := pk_mul 3 A
  rw [i1, pk_shrN (by omega) _ (3 * A) (s_l _ (by omega)), pk_andN (Nat.lt_of_le_of_lt (Nat.div_le_self _ _) (by omega)) 3 (by decide), xg_p3 hA]
  rfl
theorem xg_set0 : ∀ s, s < 512 → ∀ z, z < 8 → (nI s &&& (((7 : Int32) <<< ((3 * nI 0) &&& 31)) ^^^ (-1))) ||| (nI z <<< ((3 * nI 0) &&& 31)) = nI (gr_set s 0 z) := by decide +kernel
theorem xg_set1 : ∀ s, s < 512 → ∀ z, z < 8 → (nI s &&& (((7 : Int32) <<< ((3 * nI 1) &&& 31)) ^^^ (-1))) ||| (nI z <<< ((3 * nI 1) &&& 31)) = nI (gr_set s 1 z) := by decide +kernel
theorem xg_set2 : ∀ s, s < 512 → ∀ z, z < 8 → (nI s &&& (((7 : Int32) <<< ((3 * nI 2) &&& 31)) ^^^ (-1))) ||| (nI z <<< ((3 * nI 2) &&& 31)) = nI (gr_set s 2 z) := by decide +kernel
theorem xg_set {s A z : Nat} (hs : s < 512) (hA : A < 3) (hz : z < 8) : (nI s &&& (((7 : Int32) <<< ((3 * nI A) &&& 31)) ^^^ (-1))) ||| (nI z <<< ((3 * nI A) &&& 31)) = nI (gr_set s A z) := by
  rcases gr_3 hA with rfl | rfl | rfl
  · exact xg_set0 s hs z hz
  · exact xg_set1 s hs z hz
  · exact xg_set2 s hs z hz
section
variable {f_edges f_known : Int32} {a_from a_to a_kind a_first a_second a_constant a_low a_high a_bound a_filled a_waiting a_waits a_far : Nat → Int32} {a_said a_real a_fresh a_coming : Nat → Int64}
theorem xg_step {post : Int32 → Prop} {G : GrP} (hP : xp_P G f_edges a_from a_to a_kind a_first a_second a_low a_high) (hC : xp_C G a_constant) {e s : Nat} (he : e < gr_E G) (hs : s < 512)
    (H1 : ∀ t, t < 512 → gr_te G e s t → (gr_K G e ≠ 4 → ∀ t', gr_te G e s t' → t' = t) → (gr_K G e = 4 → t = s) → post (nI t))
    (H0 : (∀ t, ¬ gr_te G e s t) → post (-1)) : wpX_step post (f_edges, f_known, a_from, a_to, a_kind, a_first, a_second, a_constant, a_low, a_high, a_bound, a_filled, a_waiting, a_waits, a_said, a_real, a_fresh, a_coming, a_far) (nI e) (nI s) := by
  obtain ⟨go, hE, ha, _⟩ := hP
  have e20 : e < 20 := Nat.lt_of_lt_of_le he go.1
  obtain ⟨f7, t7, k8, a3, b3⟩ := go.2.1 e e20
  obtain ⟨hF, hT, hK, hA, hB⟩ := ha e e20
  have hcr := go.2.2.1 e he
  have hc := hC e he
  have ce : (nI e).toNatClampNeg = e := nI_clamp (by omega)
  have hi : vp_in (nI e) 20 := vp_in_nI e20 (by omega)
  have dA := gr_dg_lt s (gr_A G e)
  have dB := gr_dg_lt s (gr_B G e)
  have tA : (nI (gr_dg s (gr_A G e))).toInt = (gr_dg s (gr_A G e) : Int) := xa_nI (by omega)
  have tB : (nI (gr_dg s (gr_B G e))).toInt = (gr_dg s (gr_B G e) : Int) := xa_nI (by omega)
  -- the cases in which the state stays
  have self : gr_rl (gr_K G e) (gr_dg s (gr_A G e)) (gr_dg s (gr_B G e)) (gr_C G e) (gr_dg s (gr_A G e)) → gr_te G e s s := fun h => ⟨gr_dg s (gr_A G e), h, (gr_set_id hs a3).symm⟩
  have selfU : gr_K G e = 0 ∨ 5 ≤ gr_K G e → ∀ t', gr_te G e s t' → t' = s ∧ gr_rl (gr_K G e) (gr_dg s (gr_A G e)) (gr_dg s (gr_B G e)) (gr_C G e) (gr_dg s (gr_A G e)) := fun hk t' h => by
    obtain ⟨z, h, h2⟩ := h
    have h' := h
    unfold gr_rl at h
    have : z = gr_dg s (gr_A G e) := by have := h.2.2.2.2.2.2.1 hk; omega
    rw [this] at h' h2
    exact ⟨by rw [h2, gr_set_id hs a3], h'⟩
  have st131 : ∀ (v : Int32) (c : Int), v.toInt = c → (∀ z : Int, gr_rl (gr_K G e) (gr_dg s (gr_A G e)) (gr_dg s (gr_B G e)) (gr_C G e) z ↔ z = c ∧ 0 ≤ z ∧ z ≤ 7) → gr_K G e ≠ 4 → wX_step_131 post (nI e) (nI s) v f_edges f_known a_from a_to a_kind a_first a_second a_constant a_low a_high a_bound a_filled a_waiting a_waits a_said a_real a_fresh a_coming a_far := by
    intro v c hv hr hk
    unfold wX_step_131
    refine xg_outN hv xa_0 (show (7 : Int32).toInt = 7 by decide) (fun l1 l2 => br_t rfl ⟨hi, hi, ?_⟩) (fun w => br_f (by decide) (H0 (fun t h => ?_)))
    · obtain ⟨n, en⟩ : ∃ n : Nat, c = (n : Int) := ⟨c.toNat, by omega⟩
      have e1 : v = nI n := (xa_eq hv (xa_nI (by omega))).mpr en
      have n8 : n < 8 := by omega
      rw [ce, hA, e1, xg_set hs a3 n8]
      refine H1 _ (gr_set_lt hs a3 n8) ⟨n, (hr n).mpr ⟨by omega, by omega, by omega⟩, rfl⟩ (fun _ t' h => ?_) (fun w => absurd w hk)
      obtain ⟨z, h1, h2⟩ := h
      have := (hr z).mp h1
      have : z = n := by omega
      rw [h2, this]
    · obtain ⟨z, h1, h2⟩ := h
      have := (hr z).mp h1
      omega
  have st90 : ∀ (v : Int32) (c : Int), v.toInt = c → 5 ≤ gr_K G e → (gr_rl (gr_K G e) (gr_dg s (gr_A G e)) (gr_dg s (gr_B G e)) (gr_C G e) (gr_dg s (gr_A G e)) ↔ c ≤ gr_C G e) → wX_step_90 post (nI s) (a_constant e) v f_edges f_known a_from a_to a_kind a_first a_second a_constant a_low a_high a_bound a_filled a_waiting a_waits a_said a_real a_fresh a_coming a_far := by
    intro v c hv hk hr
    unfold wX_step_90
    have hc' := hc (by omega) (by omega)
    refine br_c (fun w => H0 (fun t h => ?_)) (fun w => H1 s hs (self (hr.mpr ?_)) (fun _ t' h => (selfU (Or.inr hk) t' h).1) (fun w => by omega))
    · have := hr.mp (selfU (Or.inr hk) t h).2
      rw [xa_lt hc' hv] at w
      omega
    · rw [xa_lt hc' hv] at w
      omega
  show vp_in (nI e) 20 ∧ _
  refine ⟨hi, ?_⟩
  show vp_in (nI e) 20 ∧ _
  refine ⟨hi, ?_⟩
  show vp_in (nI e) 20 ∧ _
  rw [ce, hA, hB, hK, xg_num hs a3, xg_num hs b3]
  refine ⟨hi, nm_e ⟨hi, nm_e ?_⟩⟩
  unfold gr_cr at hcr
  have cs : gr_K G e = 0 ∨ gr_K G e = 1 ∨ gr_K G e = 2 ∨ gr_K G e = 3 ∨ gr_K G e = 4 ∨ gr_K G e = 5 ∨ gr_K G e = 6 ∨ gr_K G e = 7 := by omega
  rcases cs with k | k | k | k | k | k | k | k
  · have r0 : gr_rl (gr_K G e) (gr_dg s (gr_A G e)) (gr_dg s (gr_B G e)) (gr_C G e) (gr_dg s (gr_A G e)) := by rw [k]; unfold gr_rl; omega
    have U := selfU (Or.inl k)
    have S := self r0
    rw [k]
    exact br_t (show nI 0 = 0 by decide) (H1 s hs S (fun _ t' h => (U t' h).1) (fun w => by omega))
  · have hc' := hc (by omega) (by omega)
    have X := st131 (a_constant e) _ hc' (fun z => by rw [k]; unfold gr_rl; omega) (by omega)
    rw [k]
    exact br_f (show ¬ nI 1 = 0 by decide) (br_f (show ¬ nI 1 = 4 by decide) (br_t (show nI 1 ≤ 4 by decide) (br_t (show nI 1 = 1 by decide) X)))
  · have hc' := hc (by omega) (by omega)
    have X := st131 (nI (gr_dg s (gr_B G e)) + a_constant e) _ (xa_add tB hc' (by omega) (by omega)) (fun z => by rw [k]; unfold gr_rl; omega) (by omega)
    rw [k]
    exact br_f (show ¬ nI 2 = 0 by decide) (br_f (show ¬ nI 2 = 4 by decide) (br_t (show nI 2 ≤ 4 by decide) (br_f (show ¬ nI 2 = 1 by decide) (br_t (show nI 2 = 2 by decide) X))))
  · have hc' := hc (by omega) (by omega)
    have X := st131 (a_constant e - nI (gr_dg s (gr_B G e))) _ (xa_sub hc' tB (by omega) (by omega)) (fun z => by rw [k]; unfold gr_rl; omega) (by omega)
    rw [k]
    exact br_f (show ¬ nI 3 = 0 by decide) (br_f (show ¬ nI 3 = 4 by decide) (br_t (show nI 3 ≤ 4 by decide) (br_f (show ¬ nI 3 = 1 by decide) (br_f (show ¬ nI 3 = 2 by decide) X))))
  · have r0 : gr_rl (gr_K G e) (gr_dg s (gr_A G e)) (gr_dg s (gr_B G e)) (gr_C G e) (gr_dg s (gr_A G e)) := by rw [k]; unfold gr_rl; omega
    have S := self r0
    have X := H1 s hs S (fun w => absurd k w) (fun _ => rfl)
    rw [k]
    exact br_f (show ¬ nI 4 = 0 by decide) (br_t (show nI 4 = 4 by decide) X)
  · have X := st90 (nI (gr_dg s (gr_A G e)) + nI (gr_dg s (gr_B G e))) _ (xa_add tA tB (by omega) (by omega)) (by omega) (by rw [k]; unfold gr_rl; omega)
    rw [k]
    exact br_f (show ¬ nI 5 = 0 by decide) (br_f (show ¬ nI 5 = 4 by decide) (br_f (show ¬ nI 5 ≤ 4 by decide) (br_t (show nI 5 = 5 by decide) X)))
  · have X := st90 (nI (gr_dg s (gr_A G e)) - nI (gr_dg s (gr_B G e))) _ (xa_sub tA tB (by omega) (by omega)) (by omega) (by rw [k]; unfold gr_rl; omega)
    rw [k]
    exact br_f (show ¬ nI 6 = 0 by decide) (br_f (show ¬ nI 6 = 4 by decide) (br_f (show ¬ nI 6 ≤ 4 by decide) (br_f (show ¬ nI 6 = 5 by decide) (br_t (show nI 6 = 6 by decide) X))))
  · have X := st90 (- nI (gr_dg s (gr_A G e)) - nI (gr_dg s (gr_B G e))) _ (xa_sub (xa_neg tA (by omega) (by omega)) tB (by omega) (by omega)) (by omega) (by rw [k]; unfold gr_rl; omega)
    rw [k]
    exact br_f (show ¬ nI 7 = 0 by decide) (br_f (show ¬ nI 7 = 4 by decide) (br_f (show ¬ nI 7 ≤ 4 by decide) (br_f (show ¬ nI 7 = 5 by decide) (br_f (show ¬ nI 7 = 6 by decide) X))))
end
end
section
/-! what really happens: arrive -/
theorem xh_sh {r : Nat} (h : r < 32768) : vp_nar .short (nI r).toInt16.toInt32 = nI r := by
  rw [pk_vs]
  apply Int32.toInt_inj.mp
  rw [Int16.toInt_toInt32, Int32.toInt_toInt16, nI_toInt (by omega)]
  exact Int.bmod_eq_of_le (by omega) (by omega)
theorem xb_set (g : Nat → Int64) (c k : Nat) : xb_b (vp_updL g (c / 64) (g (c / 64) ||| ((1 : Int64) <<< ((nI (c % 64)).toInt64 &&& 63)))) k = (xb_b g k || decide (k = c)) := by
  unfold xb_b
  by_cases e : k / 64 = c / 64
  · rw [e, pk_uLs, xb_or, xb_one (Nat.mod_lt _ (by decide))]
    congr 1
    apply decide_eq_decide.mpr
    omega
  · rw [pk_uLn e, decide_eq_false (by omega), Bool.or_false]
/-- the new ones of word w, and what far becomes -/
def xh_fr (rl cm : Nat → Int64) (k : Nat) : Bool := xb_b cm k && !(xb_b rl k)
section
variable {f_edges f_known : Int32} {a_from a_to a_kind a_first a_second a_constant a_low a_high a_bound a_filled a_waiting a_waits a_far : Nat → Int32} {a_said a_real a_fresh a_coming : Nat → Int64}
theorem xh_82 {post : Int32 → SX → Prop} {J4 : Int32 → XlJ} {r w : Nat} (hr : r < 32768) (hw : w < 56) {x2 : Int32} {x : Int64} {far0 : Nat → Int32}
    (H : ∀ fa, (∀ k, k / 64 ≠ w → fa k = far0 k) → (∀ k, k / 64 = w → xb_w x (k % 64) = true → fa k = nI r) → (∀ k, k / 64 = w → xb_w x (k % 64) = false → fa k = far0 k) →
      J4 x2 (nI (w + 1)) a_from a_to a_kind a_first a_second a_constant a_low a_high a_bound a_filled a_waiting a_waits a_said a_real a_fresh a_coming fa) :
    wX_arrive_82 post J4 (nI r) x2 (nI w) f_edges f_known 65 x a_from a_to a_kind a_first a_second a_constant a_low a_high a_bound a_filled a_waiting a_waits a_said a_real a_fresh a_coming far0 := by
  refine xb_loop (fun n l fa => wX_arrive_82 post J4 (nI r) x2 (nI w) f_edges f_known n l a_from a_to a_kind a_first a_second a_constant a_low a_high a_bound a_filled a_waiting a_waits a_said a_real a_fresh a_coming fa) x
    (fun i fa => (∀ k, k / 64 ≠ w → fa k = far0 k) ∧ (∀ k, k / 64 = w → k % 64 < i → xb_w x (k % 64) = true → fa k = nI r) ∧ (∀ k, k / 64 = w → (k % 64 < i → xb_w x (k % 64) = false) → fa k = far0 k))
    ?_ ?_ ?_ far0 ⟨fun _ _ => rfl, fun k _ h => absurd h (Nat.not_lt_zero _), fun _ _ _ => rfl⟩
  · rintro i fa hi hb ⟨h1, h2, h3⟩
    refine ⟨h1, fun k hk hl hx => ?_, fun k hk hl => h3 k hk (fun q => hl (by omega))⟩
    by_cases z : k % 64 = i
    · rw [z, hb] at hx; exact absurd hx (by decide)
    · exact h2 k hk (by omega) hx
  · rintro n fa ⟨h1, h2, h3⟩
    show wX_arrive_82 post J4 (nI r) x2 (nI w) f_edges f_known (n + 1) 0 a_from a_to a_kind a_first a_second a_constant a_low a_high a_bound a_filled a_waiting a_waits a_said a_real a_fresh a_coming fa
    rw [wX_arrive_82]
    exact br_t rfl (nm_r (nI_1 w) (H fa h1 (fun k hk hx => h2 k hk (Nat.mod_lt _ (by decide)) hx) (fun k hk hx => h3 k hk (fun _ => hx))))
  · rintro n j l fa hj hb hl low ⟨h1, h2, h3⟩ ih
    show wX_arrive_82 post J4 (nI r) x2 (nI w) f_edges f_known (n + 1) l a_from a_to a_kind a_first a_second a_constant a_low a_high a_bound a_filled a_waiting a_waits a_said a_real a_fresh a_coming fa
    rw [wX_arrive_82]
    refine br_f hl (low _ ?_)
    have i1 : (64 * nI w) + nI j = nI (64 * w + j) := by
      show nI 64 * nI w + nI j = _
      rw [pk_mul, nI_add]
    rw [pk_cl _ i1, xh_sh hr]
    refine ⟨pk_in _ 3584 (by omega) i1, nm_e (nm_e (ih _ ⟨fun k hk => ?_, fun k hk hl hx => ?_, fun k hk hl => ?_⟩))⟩
    · rw [pk_un (by omega), h1 k hk]
    · by_cases z : k = 64 * w + j
      · subst z; rw [pk_us]
      · rw [pk_un z]; exact h2 k hk (by omega) hx
    · have z : k ≠ 64 * w + j := fun z => by
        have : k % 64 = j := by omega
        have := hl (by omega)
        rw [show k % 64 = j by omega, hb] at this
        exact absurd this (by decide)
      rw [pk_un z]; exact h3 k hk (fun q => hl (by omega))
theorem xh_4 {post : Int32 → SX → Prop} {r : Nat} (hr : r < 32768) {rl0 cm0 : Nat → Int64} {far0 : Nat → Int32}
    (H : ∀ (b : Nat) rl fr cm fa, (b = 0 ∧ (∀ k, k < 3584 → xh_fr rl0 cm0 k = false)) ∨ (b = 1 ∧ ∃ k, k < 3584 ∧ xh_fr rl0 cm0 k = true) →
      (∀ k, k < 3584 → xb_b rl k = (xb_b rl0 k || xb_b cm0 k)) → (∀ k, k < 3584 → xb_b fr k = xh_fr rl0 cm0 k) → (∀ k, k < 3584 → xb_b cm k = false) →
      (∀ k, k < 3584 → xh_fr rl0 cm0 k = true → fa k = nI r) → (∀ k, k < 3584 → xh_fr rl0 cm0 k = false → fa k = far0 k) → post (nI b) (f_edges, f_known, a_from, a_to, a_kind, a_first, a_second, a_constant, a_low, a_high, a_bound, a_filled, a_waiting, a_waits, a_said, rl, fr, cm, fa)) :
    ∀ (n m b : Nat) (rl fr cm : Nat → Int64) (fa : Nat → Int32), m ≤ 56 → 56 < n + m → (b = 0 ∧ (∀ k, k < 64 * m → xh_fr rl0 cm0 k = false)) ∨ (b = 1 ∧ ∃ k, k < 64 * m ∧ xh_fr rl0 cm0 k = true) →
      (∀ k, k < 64 * m → xb_b rl k = (xb_b rl0 k || xb_b cm0 k) ∧ xb_b fr k = xh_fr rl0 cm0 k ∧ xb_b cm k = false ∧ (xh_fr rl0 cm0 k = true → fa k = nI r)) →
      (∀ w, m ≤ w → rl w = rl0 w ∧ cm w = cm0 w) → (∀ k, (k < 64 * m → xh_fr rl0 cm0 k = false) → fa k = far0 k) →
      wX_arrive_4 post (nI r) f_edges f_known n (nI b) (nI m) a_from a_to a_kind a_first a_second a_constant a_low a_high a_bound a_filled a_waiting a_waits a_said rl fr cm fa := by
  intro n
  induction n with
  | zero => intro m b rl fr cm fa h1 h2; omega
  | succ n ih =>
    intro m b rl fr cm fa hm hn hb hd hu hf
    rw [wX_arrive_4]
    by_cases e : m = 56
    · subst e
      have nb : narrow .boolean (.int (nI b)) = .int (nI b) := by
        rcases hb with ⟨rfl, _⟩ | ⟨rfl, _⟩ <;> rfl
      exact br_t (show (56 : Int32) ≤ nI 56 by decide) ⟨nb, H b rl fr cm fa hb (fun k hk => (hd k hk).1) (fun k hk => (hd k hk).2.1) (fun k hk => (hd k hk).2.2.1) (fun k hk => (hd k hk).2.2.2) (fun k hk h => hf k (fun _ => h))⟩
    · have cm' : (nI m).toNatClampNeg = m := nI_clamp (by omega)
      have im : vp_in (nI m) 56 := vp_in_nI (by omega) (by omega)
      obtain ⟨ur, uc⟩ := hu m (Nat.le_refl _)
      refine br_f (nI_ge (b := 56) (by omega) (by omega)) ?_
      rw [cm', ur, uc]
      -- the new word of fresh
      have hx : ∀ k, k / 64 = m → xb_w (cm0 m &&& (rl0 m ^^^ (-1))) (k % 64) = xh_fr rl0 cm0 k := fun k hk => by
        unfold xh_fr xb_b
        rw [xb_and, xb_not _ (Nat.mod_lt _ (by decide)), hk]
      have step : ∀ (b' : Nat) (x2 : Int32), x2 = nI b' → (b' = 0 ∧ (∀ k, k < 64 * (m + 1) → xh_fr rl0 cm0 k = false)) ∨ (b' = 1 ∧ ∃ k, k < 64 * (m + 1) ∧ xh_fr rl0 cm0 k = true) →
          wX_arrive_82 post (wX_arrive_4 post (nI r) f_edges f_known n) (nI r) x2 (nI m) f_edges f_known 65 (cm0 m &&& (rl0 m ^^^ (-1)))
            a_from a_to a_kind a_first a_second a_constant a_low a_high a_bound a_filled a_waiting a_waits a_said (vp_updL rl m (rl0 m ||| (cm0 m &&& (rl0 m ^^^ (-1))))) (vp_updL fr m (cm0 m &&& (rl0 m ^^^ (-1)))) (vp_updL cm m 0) fa := by
        intro b' x2 h2 hb'
        subst h2
        refine xh_82 hr (by omega) (fun fa' g1 g2 g3 => ih (m + 1) b' _ _ _ fa' (by omega) (by omega) hb' (fun k hk => ?_) (fun w hw => ?_) (fun k hk => ?_))
        · by_cases z : k / 64 = m
          · have hxk := hx k z
            unfold xh_fr at hxk
            have bk : xb_b rl0 k = xb_w (rl0 m) (k % 64) := by unfold xb_b; rw [z]
            have ck : xb_b cm0 k = xb_w (cm0 m) (k % 64) := by unfold xb_b; rw [z]
            refine ⟨?_, ?_, ?_, fun h => g2 k z (by rw [hx k z]; exact h)⟩
            · show xb_w (vp_updL rl m _ (k / 64)) (k % 64) = _
              rw [z, pk_uLs, xb_or, hxk, ← bk]
              cases xb_b rl0 k <;> cases xb_b cm0 k <;> rfl
            · show xb_w (vp_updL fr m _ (k / 64)) (k % 64) = _
              rw [z, pk_uLs]; exact hx k z
            · show xb_w (vp_updL cm m _ (k / 64)) (k % 64) = _
              rw [z, pk_uLs, xb_0]
          · obtain ⟨d1, d2, d3, d4⟩ := hd k (by omega)
            refine ⟨?_, ?_, ?_, fun h => ?_⟩
            · rw [← d1]; unfold xb_b; rw [pk_uLn z]
            · rw [← d2]; unfold xb_b; rw [pk_uLn z]
            · rw [← d3]; unfold xb_b; rw [pk_uLn z]
            · rw [g1 k z]; exact d4 h
        · rw [pk_uLn (by omega), pk_uLn (by omega)]
          exact hu w (by omega)
        · by_cases z : k / 64 = m
          · rw [g3 k z (by rw [hx k z]; exact hk (by omega))]
            exact hf k (fun q => absurd q (by omega))
          · rw [g1 k z]
            exact hf k (fun q => hk (by omega))
      refine ⟨im, im, im, nm_e ?_⟩
      rw [pk_uLs]
      refine ⟨im, im, im, nm_e ⟨im, nm_e ⟨im, ?_⟩⟩⟩
      refine br_c (fun z => nm_e ⟨im, nm_e ⟨65, step b _ ?_ ?_⟩⟩) (fun z => nm_e ⟨im, nm_e ⟨65, step 1 _ ?_ ?_⟩⟩)
      · rcases hb with ⟨rfl, _⟩ | ⟨rfl, _⟩ <;> rfl
      · have none : ∀ k, k / 64 = m → xh_fr rl0 cm0 k = false := fun k hk => by rw [← hx k hk, z, xb_0]
        rcases hb with ⟨b0, h⟩ | ⟨b1, k, hk, h⟩
        · refine Or.inl ⟨b0, fun k hk => ?_⟩
          by_cases y : k / 64 = m
          · exact none k y
          · exact h k (by omega)
        · exact Or.inr ⟨b1, k, by omega, h⟩
      · rcases hb with ⟨rfl, _⟩ | ⟨rfl, _⟩ <;> rfl
      · obtain ⟨t, ht, h⟩ := xb_ne z
        have := hx (64 * m + t) (by omega)
        rw [show (64 * m + t) % 64 = t by omega, h] at this
        exact Or.inr ⟨rfl, 64 * m + t, by omega, this.symm⟩
theorem xh_arrive {post : Int32 → SX → Prop} {r : Nat} (hr : r < 32768)
    (H : ∀ (b : Nat) rl fr cm fa, (b = 0 ∧ (∀ k, k < 3584 → xh_fr a_real a_coming k = false)) ∨ (b = 1 ∧ ∃ k, k < 3584 ∧ xh_fr a_real a_coming k = true) →
      (∀ k, k < 3584 → xb_b rl k = (xb_b a_real k || xb_b a_coming k)) → (∀ k, k < 3584 → xb_b fr k = xh_fr a_real a_coming k) → (∀ k, k < 3584 → xb_b cm k = false) →
      (∀ k, k < 3584 → xh_fr a_real a_coming k = true → fa k = nI r) → (∀ k, k < 3584 → xh_fr a_real a_coming k = false → fa k = a_far k) → post (nI b) (f_edges, f_known, a_from, a_to, a_kind, a_first, a_second, a_constant, a_low, a_high, a_bound, a_filled, a_waiting, a_waits, a_said, rl, fr, cm, fa)) :
    wpX_arrive post (f_edges, f_known, a_from, a_to, a_kind, a_first, a_second, a_constant, a_low, a_high, a_bound, a_filled, a_waiting, a_waits, a_said, a_real, a_fresh, a_coming, a_far) (nI r) :=
  ⟨57, xh_4 hr H 57 0 0 a_real a_fresh a_coming a_far (by omega) (by omega) (Or.inl ⟨rfl, fun k hk => absurd hk (by omega)⟩) (fun k hk => absurd hk (by omega)) (fun w _ => ⟨rfl, rfl⟩) (fun k _ => rfl)⟩
end
end
section
/-! go: all new states of an edge's place go over it -/
abbrev XoJ : Type := Int64 → (Nat → Int32) → (Nat → Int32) → (Nat → Int32) → (Nat → Int32) → (Nat → Int32) → (Nat → Int32) → (Nat → Int32) → (Nat → Int32) → (Nat → Int32) → (Nat → Int32) → (Nat → Int32) → (Nat → Int32) → (Nat → Int64) → (Nat → Int64) → (Nat → Int64) → (Nat → Int64) → (Nat → Int32) → Prop
def xo_S (G : GrP) (e : Nat) (fr : Nat → Int64) (lim k : Nat) : Prop := ∃ s t, s < lim ∧ xb_b fr (512 * gr_F G e + s) = true ∧ gr_te G e s t ∧ k = 512 * gr_T G e + t
section
variable {f_edges f_known : Int32} {a_from a_to a_kind a_first a_second a_constant a_low a_high a_bound a_filled a_waiting a_waits a_far : Nat → Int32} {a_said a_real a_fresh a_coming : Nat → Int64}
theorem xo_143 {post : SX → Prop} {J23 : XlJ} {J41 : XoJ} {J109 : XlJ} {x1 x2 x3 x4 : Int32} {x5 : Int64} {x7 x8 x9 x10 z0 : Int32} {q u m : Nat} (hq : q < 7) (hu : u < 512) (h3 : x3 = nI (8 * q)) (hz : z0 = nI u)
    (H : ∀ cm, (∀ k, xb_b cm k = true ↔ xb_b a_coming k = true ∨ k = 512 * q + u) → J109 (nI (m + 1)) a_from a_to a_kind a_first a_second a_constant a_low a_high a_bound a_filled a_waiting a_waits a_said a_real a_fresh cm a_far) :
    wX_go_143 post J23 J41 J109 x1 x2 x3 x4 x5 x7 x8 x9 x10 (nI m) z0 f_edges f_known a_from a_to a_kind a_first a_second a_constant a_low a_high a_bound a_filled a_waiting a_waits a_said a_real a_fresh a_coming a_far := by
  subst h3
  subst hz
  have s1 : nI u >>> ((6 : Int32) &&& 31) = nI (u / 64) := pk_shrN (by omega) _ 6 (by decide)
  have s2 : nI u &&& 63 = nI (u % 64) := pk_andN (by omega) 6 (by decide)
  have d1 : 8 * q + u / 64 = (512 * q + u) / 64 := by omega
  have d2 : u % 64 = (512 * q + u) % 64 := by omega
  have i1 : nI (8 * q) + (nI u >>> ((6 : Int32) &&& 31)) = nI ((512 * q + u) / 64) := by rw [s1, nI_add, d1]
  unfold wX_go_143
  rw [pk_cl _ i1, s2, d2]
  refine ⟨pk_in _ 56 (by omega) i1, pk_in _ 56 (by omega) i1, nm_e (nm_r (nI_1 m) (H _ (fun k => ?_)))⟩
  rw [xb_set, Bool.or_eq_true, decide_eq_true_iff]
theorem xo_109 {post : SX → Prop} {J23 : XlJ} {J41 : XoJ} {x1 x2 x4 : Int32} {x5 : Int64} {q s t A N : Nat} (hq : q < 7) (hs : s < 512) (ht : t < 512) (hA : A < 3) (hN : N = 1 ∨ N = 8) {cm0 : Nat → Int64}
    (H : ∀ cm, (∀ k, xb_b cm k = true ↔ xb_b cm0 k = true ∨ ∃ i, i < N ∧ k = 512 * q + (if N = 1 then t else gr_set s A i)) → J41 (x5 &&& (x5 - 1)) a_from a_to a_kind a_first a_second a_constant a_low a_high a_bound a_filled a_waiting a_waits a_said a_real a_fresh cm a_far) :
    ∀ (n m : Nat) (cm : Nat → Int64), m ≤ N → N < n + m → (∀ k, xb_b cm k = true ↔ xb_b cm0 k = true ∨ ∃ i, i < m ∧ k = 512 * q + (if N = 1 then t else gr_set s A i)) →
      wX_go_109 post J23 J41 x1 x2 (nI (8 * q)) x4 x5 (nI s) (nI t) (3 * nI A) (nI N) f_edges f_known n (nI m) a_from a_to a_kind a_first a_second a_constant a_low a_high a_bound a_filled a_waiting a_waits a_said a_real a_fresh cm a_far := by
  intro n
  induction n with
  | zero => intro m cm h1 h2; omega
  | succ n ih =>
    intro m cm hm hn hc
    rw [wX_go_109]
    refine pk_le N m (fun e => ?_) (fun e => ?_)
    · have : m = N := by omega
      subst this
      exact nm_e (H cm hc)
    · have st : ∀ u cm', (if N = 1 then t else gr_set s A m) = u → (∀ k, xb_b cm' k = true ↔ xb_b cm k = true ∨ k = 512 * q + u) →
          wX_go_109 post J23 J41 x1 x2 (nI (8 * q)) x4 x5 (nI s) (nI t) (3 * nI A) (nI N) f_edges f_known n (nI (m + 1)) a_from a_to a_kind a_first a_second a_constant a_low a_high a_bound a_filled a_waiting a_waits a_said a_real a_fresh cm' a_far := by
        intro u cm' hu h
        refine ih (m + 1) cm' (by omega) (by omega) (fun k => ?_)
        rw [h k, hc k]
        constructor
        · rintro ((a | ⟨i, hi, b⟩) | a)
          · exact Or.inl a
          · exact Or.inr ⟨i, by omega, b⟩
          · exact Or.inr ⟨m, by omega, by rw [hu]; exact a⟩
        · rintro (a | ⟨i, hi, b⟩)
          · exact Or.inl (Or.inl a)
          · by_cases z : i = m
            · subst z; rw [hu] at b; exact Or.inr b
            · exact Or.inl (Or.inr ⟨i, by omega, b⟩)
      refine pk_eq N 1 (fun z => ?_) (fun z => ?_)
      · exact xo_143 hq ht rfl rfl (fun cm' h => st t cm' (if_pos z) h)
      · have m8 : m < 8 := by omega
        exact xo_143 hq (gr_set_lt hs hA m8) rfl (xg_set hs hA m8) (fun cm' h => st _ cm' (if_neg z) h)
theorem xo_41 {post : SX → Prop} {J23 : XlJ} {x2 : Int32} {G : GrP} (hP : xp_P G f_edges a_from a_to a_kind a_first a_second a_low a_high) (hC : xp_C G a_constant) {e z : Nat} (he : e < gr_E G) (hz : z < 8) {cm0 cm1 : Nat → Int64}
    (H : ∀ cm, (∀ k, xb_b cm k = true ↔ xb_b cm0 k = true ∨ xo_S G e a_fresh (64 * (z + 1)) k) → J23 (nI (z + 1)) a_from a_to a_kind a_first a_second a_constant a_low a_high a_bound a_filled a_waiting a_waits a_said a_real a_fresh cm a_far)
    (h1 : ∀ k, xb_b cm1 k = true ↔ xb_b cm0 k = true ∨ xo_S G e a_fresh (64 * z) k) :
    wX_go_41 post J23 (nI e) x2 (nI (8 * gr_T G e)) (nI z) f_edges f_known 65 (a_fresh (8 * gr_F G e + z)) a_from a_to a_kind a_first a_second a_constant a_low a_high a_bound a_filled a_waiting a_waits a_said a_real a_fresh cm1 a_far := by
  have hP' := hP
  obtain ⟨go, hE, ha, _⟩ := hP
  have e20 : e < 20 := Nat.lt_of_lt_of_le he go.1
  obtain ⟨f7, t7, k8, a3, b3⟩ := go.2.1 e e20
  obtain ⟨hF, hT, hK, hA, hB⟩ := ha e e20
  have ce : (nI e).toNatClampNeg = e := nI_clamp (by omega)
  have hi : vp_in (nI e) 20 := vp_in_nI e20 (by omega)
  have bit : ∀ j, j < 64 → xb_b a_fresh (512 * gr_F G e + (64 * z + j)) = xb_w (a_fresh (8 * gr_F G e + z)) j := fun j hj => by
    unfold xb_b
    rw [show (512 * gr_F G e + (64 * z + j)) / 64 = 8 * gr_F G e + z by omega, show (512 * gr_F G e + (64 * z + j)) % 64 = j by omega]
  refine xb_loop (fun n l cm => wX_go_41 post J23 (nI e) x2 (nI (8 * gr_T G e)) (nI z) f_edges f_known n l a_from a_to a_kind a_first a_second a_constant a_low a_high a_bound a_filled a_waiting a_waits a_said a_real a_fresh cm a_far) _
    (fun i cm => ∀ k, xb_b cm k = true ↔ xb_b cm0 k = true ∨ xo_S G e a_fresh (64 * z + i) k) ?_ ?_ ?_ cm1 h1
  · intro i cm hi hb h k
    rw [h k]
    constructor
    · rintro (a | ⟨s, t, hs, c⟩)
      · exact Or.inl a
      · exact Or.inr ⟨s, t, by omega, c⟩
    · rintro (a | ⟨s, t, hs, c1, c2⟩)
      · exact Or.inl a
      · by_cases y : s = 64 * z + i
        · subst y; rw [bit i hi, hb] at c1; exact absurd c1 (by decide)
        · exact Or.inr ⟨s, t, by omega, c1, c2⟩
  · intro n cm h
    show wX_go_41 post J23 (nI e) x2 (nI (8 * gr_T G e)) (nI z) f_edges f_known (n + 1) 0 a_from a_to a_kind a_first a_second a_constant a_low a_high a_bound a_filled a_waiting a_waits a_said a_real a_fresh cm a_far
    rw [wX_go_41]
    refine br_t rfl (nm_r (nI_1 z) (H cm (fun k => ?_)))
    rw [h k, show 64 * (z + 1) = 64 * z + 64 by omega]
  · intro n j l cm hj hb hl low h ih
    show wX_go_41 post J23 (nI e) x2 (nI (8 * gr_T G e)) (nI z) f_edges f_known (n + 1) l a_from a_to a_kind a_first a_second a_constant a_low a_high a_bound a_filled a_waiting a_waits a_said a_real a_fresh cm a_far
    rw [wX_go_41]
    have i1 : (64 * nI z) + nI j = nI (64 * z + j) := by
      show nI 64 * nI z + nI j = _
      rw [pk_mul, nI_add]
    have s5 : 64 * z + j < 512 := by omega
    have bj := bit j hj
    rw [hb] at bj
    refine br_f hl (low _ (nm_r i1 (xg_step hP' hC he s5 (fun t ht te uq k4 => ?_) (fun no => ?_))))
    · refine br_t (nI_pos' (by omega)) ⟨hi, nm_r (e' := 3 * nI (gr_A G e)) (by rw [ce, hA]) ⟨hi, ?_⟩⟩
      rw [ce, hK]
      refine pk_eq (gr_K G e) 4 (fun z4 => ⟨9, xo_109 (N := 8) t7 s5 ht a3 (Or.inr rfl) (cm0 := cm) (fun cm' h' => ih cm' (fun k => ?_)) 9 0 cm (by omega) (by omega) (fun k => ?_)⟩)
        (fun z4 => ⟨2, xo_109 (N := 1) t7 s5 ht a3 (Or.inl rfl) (cm0 := cm) (fun cm' h' => ih cm' (fun k => ?_)) 2 0 cm (by omega) (by omega) (fun k => ?_)⟩)
      · rw [h' k, h k]
        constructor
        · rintro ((a | ⟨s, t', hs, c⟩) | ⟨i, hi8, a⟩)
          · exact Or.inl a
          · exact Or.inr ⟨s, t', by omega, c⟩
          · rw [if_neg (by decide)] at a
            refine Or.inr ⟨64 * z + j, gr_set (64 * z + j) (gr_A G e) i, by omega, bj, ⟨i, ?_, rfl⟩, a⟩
            rw [z4]; unfold gr_rl; omega
        · rintro (a | ⟨s, t', hs, c1, c2, c3⟩)
          · exact Or.inl (Or.inl a)
          · by_cases y : s = 64 * z + j
            · subst y
              obtain ⟨w, r, rfl⟩ := c2
              unfold gr_rl at r
              exact Or.inr ⟨w, by omega, by rw [if_neg (by decide)]; exact c3⟩
            · exact Or.inl (Or.inr ⟨s, t', by omega, c1, c2, c3⟩)
      · exact ⟨Or.inl, fun w => w.elim id (fun ⟨i, hi0, _⟩ => absurd hi0 (Nat.not_lt_zero i))⟩
      · rw [h' k, h k]
        constructor
        · rintro ((a | ⟨s, t', hs, c⟩) | ⟨i, hi8, a⟩)
          · exact Or.inl a
          · exact Or.inr ⟨s, t', by omega, c⟩
          · rw [if_pos rfl] at a
            exact Or.inr ⟨64 * z + j, t, by omega, bj, te, a⟩
        · rintro (a | ⟨s, t', hs, c1, c2, c3⟩)
          · exact Or.inl (Or.inl a)
          · by_cases y : s = 64 * z + j
            · subst y
              have := uq z4 t' c2
              subst this
              exact Or.inr ⟨0, by omega, by rw [if_pos rfl]; exact c3⟩
            · exact Or.inl (Or.inr ⟨s, t', by omega, c1, c2, c3⟩)
      · exact ⟨Or.inl, fun w => w.elim id (fun ⟨i, hi0, _⟩ => absurd hi0 (Nat.not_lt_zero i))⟩
    · refine br_f (by decide) (nm_e (ih cm (fun k => ?_)))
      rw [h k]
      constructor
      · rintro (a | ⟨s, t', hs, c⟩)
        · exact Or.inl a
        · exact Or.inr ⟨s, t', by omega, c⟩
      · rintro (a | ⟨s, t', hs, c1, c2, c3⟩)
        · exact Or.inl a
        · by_cases y : s = 64 * z + j
          · subst y; exact absurd c2 (no t')
          · exact Or.inr ⟨s, t', by omega, c1, c2, c3⟩
theorem xo_23 {post : SX → Prop} {G : GrP} (hP : xp_P G f_edges a_from a_to a_kind a_first a_second a_low a_high) (hC : xp_C G a_constant) {e : Nat} (he : e < gr_E G) {cm0 : Nat → Int64}
    (H : ∀ cm, (∀ k, xb_b cm k = true ↔ xb_b cm0 k = true ∨ xo_S G e a_fresh 512 k) → post (f_edges, f_known, a_from, a_to, a_kind, a_first, a_second, a_constant, a_low, a_high, a_bound, a_filled, a_waiting, a_waits, a_said, a_real, a_fresh, cm, a_far)) :
    ∀ (n m : Nat) (cm : Nat → Int64), m ≤ 8 → 8 < n + m → (∀ k, xb_b cm k = true ↔ xb_b cm0 k = true ∨ xo_S G e a_fresh (64 * m) k) →
      wX_go_23 post (nI e) (nI (8 * gr_F G e)) (nI (8 * gr_T G e)) f_edges f_known n (nI m) a_from a_to a_kind a_first a_second a_constant a_low a_high a_bound a_filled a_waiting a_waits a_said a_real a_fresh cm a_far := by
  have f7 := (hP.1.2.1 e (Nat.lt_of_lt_of_le he hP.1.1)).1
  intro n
  induction n with
  | zero => intro m cm h1 h2; omega
  | succ n ih =>
    intro m cm hm hn hc
    rw [wX_go_23]
    by_cases e8 : m = 8
    · subst e8
      exact br_t (show (8 : Int32) ≤ nI 8 by decide) (H cm hc)
    · have i1 : nI (8 * gr_F G e) + nI m = nI (8 * gr_F G e + m) := nI_add _ _
      refine br_f (nI_ge (b := 8) (by omega) (by omega)) ⟨pk_in _ 56 (by omega) i1, nm_r (e' := a_fresh (8 * gr_F G e + m)) (by rw [pk_cl _ i1]) ⟨65, ?_⟩⟩
      exact xo_41 hP hC he (by omega) (fun cm' h => ih (m + 1) cm' (by omega) (by omega) h) hc
theorem xo_go {post : SX → Prop} {G : GrP} (hP : xp_P G f_edges a_from a_to a_kind a_first a_second a_low a_high) (hC : xp_C G a_constant) {e : Nat} (he : e < gr_E G)
    (H : ∀ cm, (∀ k, xb_b cm k = true ↔ xb_b a_coming k = true ∨ xo_S G e a_fresh 512 k) → post (f_edges, f_known, a_from, a_to, a_kind, a_first, a_second, a_constant, a_low, a_high, a_bound, a_filled, a_waiting, a_waits, a_said, a_real, a_fresh, cm, a_far)) : wpX_go post (f_edges, f_known, a_from, a_to, a_kind, a_first, a_second, a_constant, a_low, a_high, a_bound, a_filled, a_waiting, a_waits, a_said, a_real, a_fresh, a_coming, a_far) (nI e) := by
  have hP' := hP
  obtain ⟨go, hE, ha, _⟩ := hP
  have e20 : e < 20 := Nat.lt_of_lt_of_le he go.1
  obtain ⟨hF, hT, hK, hA, hB⟩ := ha e e20
  have ce : (nI e).toNatClampNeg = e := nI_clamp (by omega)
  have hi : vp_in (nI e) 20 := vp_in_nI e20 (by omega)
  have i1 : 8 * nI (gr_F G e) = nI (8 * gr_F G e) := pk_mul 8 _
  have i2 : 8 * nI (gr_T G e) = nI (8 * gr_T G e) := pk_mul 8 _
  refine ⟨hi, nm_r (e' := nI (8 * gr_F G e)) (by rw [ce, hF, i1]) ⟨hi, nm_r (e' := nI (8 * gr_T G e)) (by rw [ce, hT, i2]) ⟨9, ?_⟩⟩⟩
  refine xo_23 hP' hC he H 9 0 a_coming (by omega) (by omega) (fun k => ⟨Or.inl, fun w => w.elim id (fun ⟨s, t, hs, _⟩ => absurd hs (by omega))⟩)
end
end
section
/-! the search, level by level; knowing -/
def gr_Rp (G : GrP) : Nat → Nat → Prop
  | 0, _ => False
  | n + 1, k => gr_R G n k
def xh_I (G : GrP) (r : Nat) (rl cm : Nat → Int64) (fa : Nat → Int32) : Prop := (∀ k, k < 3584 → (xb_b rl k = true ↔ gr_Rp G r k)) ∧ (∀ k, k < 3584 → (gr_R G r k ↔ xb_b cm k = true ∨ gr_Rp G r k)) ∧
  (∀ k, k < 3584 → gr_Rp G r k → ∃ n, n < r ∧ fa k = nI n ∧ gr_R G n k ∧ ∀ m, m < n → ¬ gr_R G m k) ∧ r ≤ ct_n (gr_Rp G r) 3584
def xh_F (G : GrP) (rl : Nat → Int64) (fa : Nat → Int32) : Prop := ∀ k, k < 3584 → ∃ d : Int, gr_D G k d ∧ (xb_b rl k = true ↔ 0 ≤ d) ∧ (0 ≤ d → (fa k).toInt = d)
theorem gr_Rp_le {G : GrP} {r k : Nat} (h : gr_Rp G r k) : gr_R G r k := by
  cases r with
  | zero => exact h.elim
  | succ r => exact Or.inl h
theorem gr_Rp_fix {G : GrP} {r : Nat} (h : ∀ k, gr_R G r k → gr_Rp G r k) : ∀ k, gr_R G (r + 1) k → gr_R G r k := by
  intro k hk
  rcases hk with hk | ⟨j, hj, hs⟩
  · exact hk
  · cases r with
    | zero => exact (h j hj).elim
    | succ r => exact Or.inr ⟨j, h j hj, hs⟩
theorem gr_Rp_mono {G : GrP} {r m k : Nat} (h : gr_R G m k) (hm : m < r) : gr_Rp G r k := by
  cases r with
  | zero => omega
  | succ r => exact gr_R_mono h (by omega)
/-- the state after an arrival -/
theorem xh_step {G : GrP} (go : gr_ok G) {r : Nat} {rl0 cm0 rl fr cm' : Nat → Int64} {fa0 fa : Nat → Int32} (I : xh_I G r rl0 cm0 fa0)
    (h1 : ∀ k, k < 3584 → xb_b rl k = (xb_b rl0 k || xb_b cm0 k)) (h2 : ∀ k, k < 3584 → xb_b fr k = xh_fr rl0 cm0 k)
    (h4 : ∀ k, k < 3584 → xh_fr rl0 cm0 k = true → fa k = nI r) (h5 : ∀ k, k < 3584 → xh_fr rl0 cm0 k = false → fa k = fa0 k)
    (hn : ∃ k, k < 3584 ∧ xh_fr rl0 cm0 k = true) (hc : ∀ k, xb_b cm' k = true → k < 3584 → ∃ e, e < gr_E G ∧ xo_S G e fr 512 k) (hc' : ∀ k e, e < gr_E G → xo_S G e fr 512 k → xb_b cm' k = true) :
    xh_I G (r + 1) rl cm' fa ∧ ct_n (gr_Rp G r) 3584 < ct_n (gr_Rp G (r + 1)) 3584 := by
  obtain ⟨i1, i2, i3, i4⟩ := I
  have hfr : ∀ k, k < 3584 → (xh_fr rl0 cm0 k = true ↔ gr_R G r k ∧ ¬ gr_Rp G r k) := fun k hk => by
    unfold xh_fr
    rw [Bool.and_eq_true, Bool.not_eq_true', ← Bool.not_eq_true, i1 k hk, i2 k hk]
    constructor
    · rintro ⟨a, b⟩; exact ⟨Or.inl a, b⟩
    · rintro ⟨a | a, b⟩
      · exact ⟨a, b⟩
      · exact absurd a b
  have lt : ct_n (gr_Rp G r) 3584 < ct_n (gr_Rp G (r + 1)) 3584 := by
    obtain ⟨k, hk, h⟩ := hn
    have := (hfr k hk).mp h
    exact ct_lt (P := gr_Rp G r) (Q := gr_Rp G (r + 1)) (a := k) this.2 this.1 (fun j _ w => gr_Rp_le w) hk
  refine ⟨⟨fun k hk => ?_, fun k hk => ?_, fun k hk h => ?_, by omega⟩, lt⟩
  · rw [h1 k hk, Bool.or_eq_true, i1 k hk]
    show _ ↔ gr_R G r k
    rw [i2 k hk]
    exact ⟨fun w => w.symm, fun w => w.symm⟩
  · show gr_R G (r + 1) k ↔ xb_b cm' k = true ∨ gr_R G r k
    constructor
    · rintro (h | ⟨j, hj, hs⟩)
      · exact Or.inr h
      · rcases Classical.em (gr_Rp G r j) with z | z
        · refine Or.inr ?_
          cases r with
          | zero => exact z.elim
          | succ r => exact Or.inr ⟨j, z, hs⟩
        · refine Or.inl ?_
          have jl := gr_R_lt go hj
          obtain ⟨e, s, t, he, hs5, e1, e2, ht⟩ := hs
          subst e1
          refine hc' k e he ⟨s, t, hs5, ?_, ht, e2⟩
          rw [h2 _ jl, hfr _ jl]
          exact ⟨hj, z⟩
    · rintro (h | h)
      · obtain ⟨e, he, s, t, hs, hb, ht, ek⟩ := hc k h hk
        have e20 : e < 20 := Nat.lt_of_lt_of_le he go.1
        have f7 := (go.2.1 e e20).1
        have jl : 512 * gr_F G e + s < 3584 := by omega
        rw [h2 _ jl, hfr _ jl] at hb
        exact Or.inr ⟨_, hb.1, e, s, t, he, hs, rfl, ek, ht⟩
      · exact Or.inl h
  · have h' : gr_R G r k := h
    rcases Classical.em (gr_Rp G r k) with z | z
    · obtain ⟨n, hn', e, w⟩ := i3 k hk z
      refine ⟨n, by omega, ?_, w⟩
      have : xh_fr rl0 cm0 k = false := by
        rw [← Bool.not_eq_true, hfr k hk]
        exact fun w => w.2 z
      rw [h5 k hk this, e]
    · exact ⟨r, by omega, h4 k hk ((hfr k hk).mpr ⟨h', z⟩), h', fun m hm w => z (gr_Rp_mono w hm)⟩
theorem xh_fin {G : GrP} {r : Nat} {rl0 cm0 rl : Nat → Int64} {fa0 fa : Nat → Int32} (go : gr_ok G) (I : xh_I G r rl0 cm0 fa0) (hr : r < 32768)
    (h1 : ∀ k, k < 3584 → xb_b rl k = (xb_b rl0 k || xb_b cm0 k)) (h5 : ∀ k, k < 3584 → xh_fr rl0 cm0 k = false → fa k = fa0 k)
    (hn : ∀ k, k < 3584 → xh_fr rl0 cm0 k = false) : xh_F G rl fa := by
  obtain ⟨i1, i2, i3, i4⟩ := I
  have eq : ∀ k, gr_R G r k → gr_Rp G r k := fun k h => by
    have hk := gr_R_lt go h
    rcases (i2 k hk).mp h with z | z
    · have := hn k hk
      unfold xh_fr at this
      rw [z, Bool.true_and, Bool.not_eq_false'] at this
      exact (i1 k hk).mp this
    · exact z
  have fx := gr_Rp_fix eq
  intro k hk
  have rb : xb_b rl k = true ↔ gr_R G r k := by
    rw [h1 k hk, Bool.or_eq_true, i1 k hk, i2 k hk]
    exact ⟨fun w => w.symm, fun w => w.symm⟩
  rcases Classical.em (gr_R G r k) with z | z
  · obtain ⟨n, hn', e, w1, w2⟩ := i3 k hk (eq k z)
    refine ⟨(n : Int), Or.inr ⟨n, rfl, w1, w2⟩, rb.trans ⟨fun _ => by omega, fun _ => z⟩, fun _ => ?_⟩
    rw [h5 k hk (hn k hk), e, nI_toInt (by omega)]
  · exact ⟨-1, Or.inl ⟨rfl, fun n w => z (gr_R_all fx w)⟩, rb.trans ⟨fun w => absurd w z, fun w => absurd w (by omega)⟩, fun w => absurd w (by omega)⟩
section
variable {f_edges f_known : Int32} {a_from a_to a_kind a_first a_second a_constant a_low a_high a_bound a_filled a_waiting a_waits a_far : Nat → Int32} {a_said a_real a_fresh a_coming : Nat → Int64}
theorem xh_158 {post : SX → Prop} {J143 : Int32 → XrJ} {x1 : Int32} {G : GrP} (hP : xp_P G f_edges a_from a_to a_kind a_first a_second a_low a_high) (hC : xp_C G a_constant)
    (H : ∀ cm, (∀ k, xb_b cm k = true ↔ xb_b a_coming k = true ∨ ∃ e, e < gr_E G ∧ xo_S G e a_fresh 512 k) → J143 x1 1 f_edges f_known a_from a_to a_kind a_first a_second a_constant a_low a_high a_bound a_filled a_waiting a_waits a_said a_real a_fresh cm a_far) :
    ∀ (n m : Nat) (cm : Nat → Int64), m ≤ gr_E G → gr_E G < n + m → (∀ k, xb_b cm k = true ↔ xb_b a_coming k = true ∨ ∃ e, e < m ∧ xo_S G e a_fresh 512 k) →
      wX_happen_158 post J143 x1 1 n (nI m) f_edges f_known a_from a_to a_kind a_first a_second a_constant a_low a_high a_bound a_filled a_waiting a_waits a_said a_real a_fresh cm a_far := by
  have E20 := hP.1.1
  intro n
  induction n with
  | zero => intro m cm h1 h2; omega
  | succ n ih =>
    intro m cm hm hn hc
    rw [wX_happen_158]
    refine pk_le (gr_E G) m (fun q => ?_) (fun q => br_f (by decide) (xo_go hP hC q (fun cm' h => ?_))) hP.2.1 rfl
    · have : m = gr_E G := by omega
      subst this
      exact H cm hc
    · refine nm_r (nI_1 m) (ih (m + 1) cm' (by omega) (by omega) (fun k => ?_))
      rw [h k, hc k]
      constructor
      · rintro ((a | ⟨e, he, b⟩) | a)
        · exact Or.inl a
        · exact Or.inr ⟨e, by omega, b⟩
        · exact Or.inr ⟨m, by omega, a⟩
      · rintro (a | ⟨e, he, b⟩)
        · exact Or.inl (Or.inl a)
        · by_cases z : e = m
          · subst z; exact Or.inr b
          · exact Or.inl (Or.inr ⟨e, by omega, b⟩)
theorem xh_143 {post : SX → Prop} {G : GrP} (hP : xp_P G f_edges a_from a_to a_kind a_first a_second a_low a_high) (hC : xp_C G a_constant)
    (H : ∀ rl fr cm fa, xh_F G rl fa → post (f_edges, f_known, a_from, a_to, a_kind, a_first, a_second, a_constant, a_low, a_high, a_bound, a_filled, a_waiting, a_waits, a_said, rl, fr, cm, fa)) :
    ∀ (N r : Nat) (rl fr cm : Nat → Int64) (fa : Nat → Int32), xh_I G r rl cm fa → 3585 - ct_n (gr_Rp G r) 3584 < N → wX_happen_143 post N (nI r) 1 f_edges f_known a_from a_to a_kind a_first a_second a_constant a_low a_high a_bound a_filled a_waiting a_waits a_said rl fr cm fa := by
  have go := hP.1
  intro N
  induction N with
  | zero => intro r rl fr cm fa _ h; omega
  | succ N ih =>
    intro r rl fr cm fa I hN
    rw [wX_happen_143]
    have cl := ct_le (gr_Rp G r) 3584
    have ri := I.2.2.2
    have r5 : r < 32768 := by omega
    refine br_f (by decide) (xh_arrive r5 (fun b rl' fr' cm' fa' hb h1 h2 h3 h4 h5 => nm_r (nI_1 r) ?_))
    rcases hb with ⟨rfl, hb⟩ | ⟨rfl, hb⟩
    · refine ⟨1, ?_⟩
      obtain ⟨N, rfl⟩ : ∃ M, N = M + 1 := ⟨N - 1, by omega⟩
      have e0 : wX_happen_143 post (N + 1) (nI (r + 1)) 0 f_edges f_known a_from a_to a_kind a_first a_second a_constant a_low a_high a_bound a_filled a_waiting a_waits a_said rl' fr' cm' fa' := by
        rw [wX_happen_143]
        exact br_t rfl (H _ _ _ _ (xh_fin go I r5 h1 h5 hb))
      rw [wX_happen_158]
      exact br_c (fun _ => e0) (fun _ => br_t rfl e0)
    · refine ⟨gr_E G + 1, xh_158 (a_coming := cm') (a_fresh := fr') hP hC (fun cm2 hc2 => ?_) (gr_E G + 1) 0 cm' (by omega) (by omega) (fun k => ⟨Or.inl, fun w => w.elim id (fun ⟨e, he, _⟩ => absurd he (Nat.not_lt_zero e))⟩)⟩
      obtain ⟨I', lt⟩ := xh_step (cm' := cm2) go I h1 h2 h4 h5 hb (fun k w hk => ((hc2 k).mp w).elim (fun z => by rw [h3 k hk] at z; exact absurd z (by decide)) id) (fun k e he w => (hc2 k).mpr (Or.inr ⟨e, he, w⟩))
      exact ih (r + 1) _ _ _ _ I' (by omega)
theorem xh_110 {post : SX → Prop} {J30 : XlJ} {m : Nat} (hm : m < 512) (b : Prop) {z0 : Int32} (hz : (z0 = 0 ∧ ¬ b) ∨ (z0 = 1 ∧ b))
    (H : ∀ cm, (∀ k, xb_b cm k = true ↔ xb_b a_coming k = true ∨ (b ∧ k = m)) → J30 (nI (m + 1)) a_from a_to a_kind a_first a_second a_constant a_low a_high a_bound a_filled a_waiting a_waits a_said a_real a_fresh cm a_far) : wX_happen_110 post J30 (nI m) z0 f_edges f_known a_from a_to a_kind a_first a_second a_constant a_low a_high a_bound a_filled a_waiting a_waits a_said a_real a_fresh a_coming a_far := by
  have s1 : nI m >>> ((6 : Int32) &&& 31) = nI (m / 64) := pk_shrN (by omega) _ 6 (by decide)
  have s2 : nI m &&& 63 = nI (m % 64) := pk_andN (by omega) 6 (by decide)
  have cl : (nI (m / 64)).toNatClampNeg = m / 64 := nI_clamp (by omega)
  unfold wX_happen_110
  rcases hz with ⟨rfl, hb⟩ | ⟨rfl, hb⟩
  · exact br_t rfl (nm_r (nI_1 m) (H a_coming (fun k => ⟨Or.inl, fun w => w.elim id (fun w => absurd w.1 hb)⟩)))
  · refine br_f (by decide) ?_
    rw [s1, s2, cl]
    refine ⟨vp_in_nI (by omega) (by omega), vp_in_nI (by omega) (by omega), nm_e (nm_r (nI_1 m) (H _ (fun k => ?_)))⟩
    rw [xb_set, Bool.or_eq_true, decide_eq_true_iff]
    exact ⟨fun w => w.elim Or.inl (fun w => Or.inr ⟨hb, w⟩), fun w => w.elim Or.inl (fun w => Or.inr w.2)⟩
theorem xh_30 {post : SX → Prop} {G : GrP} (hP : xp_P G f_edges a_from a_to a_kind a_first a_second a_low a_high) (hC : xp_C G a_constant) (hz : ∀ k, k < 3584 → xb_b a_real k = false)
    (H : ∀ rl fr cm fa, xh_F G rl fa → post (f_edges, f_known, a_from, a_to, a_kind, a_first, a_second, a_constant, a_low, a_high, a_bound, a_filled, a_waiting, a_waits, a_said, rl, fr, cm, fa)) :
    ∀ (n m : Nat) (cm : Nat → Int64), m ≤ 512 → 512 < n + m → (∀ k, k < 3584 → (xb_b cm k = true ↔ k < m ∧ gr_st G k)) → wX_happen_30 post f_edges f_known n (nI m) a_from a_to a_kind a_first a_second a_constant a_low a_high a_bound a_filled a_waiting a_waits a_said a_real a_fresh cm a_far := by
  have hP' := hP
  obtain ⟨go, hE, ha, hl⟩ := hP
  intro n
  induction n with
  | zero => intro m cm h1 h2; omega
  | succ n ih =>
    intro m cm hm hn hc
    rw [wX_happen_30]
    by_cases e : m = 512
    · subst e
      refine br_t (show (512 : Int32) ≤ nI 512 by decide) ⟨_, xh_143 hP' hC H 3586 0 a_real a_fresh cm a_far ⟨fun k hk => ?_, fun k hk => ?_, fun k hk h => h.elim, Nat.zero_le _⟩ (by omega)⟩
      · rw [hz k hk]; exact ⟨fun w => absurd w (by decide), fun w => w.elim⟩
      · rw [hc k hk]
        exact ⟨fun w => Or.inl ⟨w.1, w⟩, fun w => w.elim (fun w => w.2) (fun w => w.elim)⟩
    · have m5 : m < 512 := by omega
      obtain ⟨l0, u0⟩ := hl 0 (by omega)
      obtain ⟨l1, u1⟩ := hl 1 (by omega)
      obtain ⟨l2, u2⟩ := hl 2 (by omega)
      have g0 := go.2.2.2 0 (by omega)
      have g1 := go.2.2.2 1 (by omega)
      have g2 := go.2.2.2 2 (by omega)
      have n0 : nI m &&& 7 = nI (gr_dg m 0) := by rw [pk_andN (by omega) 3 (by decide), gr_dg0]
      have n1 : (nI m >>> ((3 : Int32) &&& 31)) &&& 7 = nI (gr_dg m 1) := by rw [pk_shrN (by omega) _ 3 (by decide), pk_andN (by omega) 3 (by decide), gr_dg1]
      have n2 : nI m >>> ((6 : Int32) &&& 31) = nI (gr_dg m 2) := by
        have d : m / 2 ^ 6 = m / 64 % 8 := by omega
        rw [pk_shrN (by omega) _ 6 (by decide), gr_dg2]
        exact congrArg nI d
      have d0 := gr_dg_lt m 0
      have d1 := gr_dg_lt m 1
      have d2 := gr_dg_lt m 2
      have go' : ∀ cm', (∀ k, xb_b cm' k = true ↔ xb_b cm k = true ∨ (gr_st G m ∧ k = m)) → wX_happen_30 post f_edges f_known n (nI (m + 1)) a_from a_to a_kind a_first a_second a_constant a_low a_high a_bound a_filled a_waiting a_waits a_said a_real a_fresh cm' a_far := by
        intro cm' h
        refine ih (m + 1) cm' (by omega) (by omega) (fun k hk => ?_)
        rw [h k, hc k hk]
        constructor
        · rintro (⟨a, b⟩ | ⟨a, rfl⟩)
          · exact ⟨by omega, b⟩
          · exact ⟨by omega, a⟩
        · rintro ⟨a, b⟩
          by_cases z : k = m
          · subst z; exact Or.inr ⟨b, rfl⟩
          · exact Or.inl ⟨by omega, b⟩
      have no : ¬ gr_st G m → wX_happen_109 post (wX_happen_30 post f_edges f_known n) (nI m) f_edges f_known a_from a_to a_kind a_first a_second a_constant a_low a_high a_bound a_filled a_waiting a_waits a_said a_real a_fresh cm a_far := fun h =>
        xh_110 (a_coming := cm) m5 (gr_st G m) (Or.inl ⟨rfl, h⟩) go'
      refine br_f (nI_ge (b := 512) (by omega) (by omega)) ?_
      rw [n0, n1, n2, l0, u0, l1, u1, l2, u2]
      refine xg_outN (xa_nI (by omega)) (xa_nI (by omega)) (xa_nI (by omega)) (fun a0 b0 => br_t rfl ?_) (fun w => br_f (by decide) (no (fun s => w ?_)))
      · refine xg_outN (xa_nI (by omega)) (xa_nI (by omega)) (xa_nI (by omega)) (fun a1 b1 => br_t rfl ?_) (fun w => br_f (by decide) (no (fun s => w ?_)))
        · refine xg_outN (xa_nI (by omega)) (xa_nI (by omega)) (xa_nI (by omega)) (fun a2 b2 => br_t rfl ?_) (fun w => br_f (by decide) (no (fun s => w ?_)))
          · refine xh_110 (a_coming := cm) m5 (gr_st G m) (Or.inr ⟨rfl, m5, fun i hi => ?_⟩) go'
            rcases gr_3 hi with rfl | rfl | rfl
            · omega
            · omega
            · omega
          · have := s.2 2 (by omega); omega
        · have := s.2 1 (by omega); omega
      · have := s.2 0 (by omega); omega
theorem xh_2 {post : SX → Prop} {G : GrP} (hP : xp_P G f_edges a_from a_to a_kind a_first a_second a_low a_high) (hC : xp_C G a_constant)
    (H : ∀ rl fr cm fa, xh_F G rl fa → post (f_edges, f_known, a_from, a_to, a_kind, a_first, a_second, a_constant, a_low, a_high, a_bound, a_filled, a_waiting, a_waits, a_said, rl, fr, cm, fa)) :
    ∀ (n m : Nat) (rl cm : Nat → Int64), m ≤ 56 → 56 < n + m → (∀ w, w < m → rl w = 0 ∧ cm w = 0) → wX_happen_2 post f_edges f_known n (nI m) a_from a_to a_kind a_first a_second a_constant a_low a_high a_bound a_filled a_waiting a_waits a_said rl a_fresh cm a_far := by
  intro n
  induction n with
  | zero => intro m rl cm h1 h2; omega
  | succ n ih =>
    intro m rl cm hm hn hz
    rw [wX_happen_2]
    by_cases e : m = 56
    · subst e
      refine br_t (show (56 : Int32) ≤ nI 56 by decide) ⟨513, xh_30 hP hC (fun k hk => ?_) H 513 0 cm (by omega) (by omega) (fun k hk => ?_)⟩
      · unfold xb_b; rw [(hz _ (by omega)).1, xb_0]
      · unfold xb_b; rw [(hz _ (by omega)).2, xb_0]
        exact ⟨fun w => absurd w (by decide), fun w => absurd w.1 (Nat.not_lt_zero k)⟩
    · have cm' : (nI m).toNatClampNeg = m := nI_clamp (by omega)
      have im : vp_in (nI m) 56 := vp_in_nI (by omega) (by omega)
      refine br_f (nI_ge (b := 56) (by omega) (by omega)) ?_
      rw [cm']
      refine ⟨im, nm_e ⟨im, nm_e (nm_r (nI_1 m) (ih (m + 1) _ _ (by omega) (by omega) (fun w hw => ?_)))⟩⟩
      by_cases y : w = m
      · subst y; rw [pk_uLs, pk_uLs]; exact ⟨rfl, rfl⟩
      · rw [pk_uLn y, pk_uLn y]; exact hz w (by omega)
theorem xh_happen {post : SX → Prop} {G : GrP} (hP : xp_P G f_edges a_from a_to a_kind a_first a_second a_low a_high) (hC : xp_C G a_constant)
    (H : ∀ rl fr cm fa, xh_F G rl fa → post (f_edges, f_known, a_from, a_to, a_kind, a_first, a_second, a_constant, a_low, a_high, a_bound, a_filled, a_waiting, a_waits, a_said, rl, fr, cm, fa)) : wpX_happen post (f_edges, f_known, a_from, a_to, a_kind, a_first, a_second, a_constant, a_low, a_high, a_bound, a_filled, a_waiting, a_waits, a_said, a_real, a_fresh, a_coming, a_far) :=
  ⟨57, xh_2 hP hC H 57 0 a_real a_coming (by omega) (by omega) (fun w hw => absurd hw (Nat.not_lt_zero w))⟩
theorem xk_19 {post : SX → Prop} {G : GrP} (hP : xp_P G f_edges a_from a_to a_kind a_first a_second a_low a_high) (hC : xp_C G a_constant) (F : xs_F G a_bound a_filled)
    (H : ∀ sd rl fr cm fa, (∀ k, k < 3584 → (xb_b sd k = true ↔ gr_H G k)) → xh_F G rl fa → post (f_edges, f_known, a_from, a_to, a_kind, a_first, a_second, a_constant, a_low, a_high, a_bound, a_filled, a_waiting, a_waits, sd, rl, fr, cm, fa)) :
    ∀ (n m : Nat) (sd : Nat → Int64), m ≤ 7 → 7 < n + m → (∀ k, k / 512 < m → (xb_b sd k = true ↔ gr_H G k)) → wX_know_19 post n (nI m) f_edges f_known a_from a_to a_kind a_first a_second a_constant a_low a_high a_bound a_filled a_waiting a_waits sd a_real a_fresh a_coming a_far := by
  intro n
  induction n with
  | zero => intro m sd h1 h2; omega
  | succ n ih =>
    intro m sd hm hn hs
    rw [wX_know_19]
    by_cases e : m = 7
    · subst e
      exact br_t (show (7 : Int32) ≤ nI 7 by decide) (xh_happen hP hC (fun rl fr cm fa h => H sd rl fr cm fa (fun k hk => hs k (by omega)) h))
    · refine br_f (nI_ge (b := 7) (by omega) (by omega)) (xl_fill (by omega) (F m (by omega)) (fun sd' h1 h2 => nm_r (nI_1 m) (ih (m + 1) sd' (by omega) (by omega) (fun k hk => ?_))))
      by_cases z : k / 512 = m
      · exact h2 k z
      · rw [h1 k z]; exact hs k (by omega)
theorem xk_know {post : SX → Prop} {G : GrP} (hP : xp_P G f_edges a_from a_to a_kind a_first a_second a_low a_high) (hC : xp_C G a_constant) (Hk : f_known ≠ 0 → post (f_edges, f_known, a_from, a_to, a_kind, a_first, a_second, a_constant, a_low, a_high, a_bound, a_filled, a_waiting, a_waits, a_said, a_real, a_fresh, a_coming, a_far))
    (H : f_known = 0 → ∀ g fl wg wt sd rl fr cm fa, xs_F G g fl → (∀ k, k < 3584 → (xb_b sd k = true ↔ gr_H G k)) → xh_F G rl fa →
      post (f_edges, 1, a_from, a_to, a_kind, a_first, a_second, a_constant, a_low, a_high, g, fl, wg, wt, sd, rl, fr, cm, fa)) : wpX_know post (f_edges, f_known, a_from, a_to, a_kind, a_first, a_second, a_constant, a_low, a_high, a_bound, a_filled, a_waiting, a_waits, a_said, a_real, a_fresh, a_coming, a_far) := by
  refine br_c (fun z => xr_analyse hP hC (fun g fl wg wt F => ⟨8, ?_⟩)) Hk
  exact xk_19 hP hC F (fun sd rl fr cm fa h1 h2 => H z g fl wg wt sd rl fr cm fa F h1 h2) 8 0 a_said (by omega) (by omega) (fun k hk => absurd hk (Nat.not_lt_zero _))
end
end
section
/-! the reference: within, of, result -/
theorem yw_in {post : Int32 → Prop} {p0 p1 p2 : Int32} (H1 : p1 ≤ p0 → p0 ≤ p2 → post 1) (H0 : ¬ (p1 ≤ p0 ∧ p0 ≤ p2) → post 0) : wpY_within post p0 p1 p2 := by
  refine br_c (fun a => H0 (fun w => ?_)) (fun a => br_c (fun b => H0 (fun w => ?_)) (fun b => H1 (Int32.not_lt.mp a) (Int32.not_lt.mp b)))
  · exact (Int32.not_lt.mpr w.1) a
  · exact (Int32.not_lt.mpr w.2) b
theorem yw_inN {post : Int32 → Prop} {p0 p1 p2 : Int32} {v a b : Int} (h0 : p0.toInt = v) (h1 : p1.toInt = a) (h2 : p2.toInt = b) (H1 : a ≤ v → v ≤ b → post 1) (H0 : ¬ (a ≤ v ∧ v ≤ b) → post 0) : wpY_within post p0 p1 p2 :=
  yw_in (fun x y => H1 ((xa_le h1 h0).mp x) ((xa_le h0 h2).mp y)) (fun w => H0 (fun z => w ⟨(xa_le h1 h0).mpr z.1, (xa_le h0 h2).mpr z.2⟩))
theorem yr_set0 : ∀ s, s < 512 → ∀ z, z < 8 → nI s + ((nI z - nI (gr_dg s 0)) <<< ((3 * nI 0) &&& 31)) = nI (gr_set s 0 z) := by decide +kernel
theorem yr_set1 : ∀ s, s < 512 → ∀ z, z < 8 → nI s + ((nI z - nI (gr_dg s 1)) <<< ((3 * nI 1) &&& 31)) = nI (gr_set s 1 z) := by decide +kernel
theorem yr_set2 : ∀ s, s < 512 → ∀ z, z < 8 → nI s + ((nI z - nI (gr_dg s 2)) <<< ((3 * nI 2) &&& 31)) = nI (gr_set s 2 z) := by decide +kernel
theorem yr_set {s A z : Nat} (hs : s < 512) (hA : A < 3) (hz : z < 8) : nI s + ((nI z - nI (gr_dg s A)) <<< ((3 * nI A) &&& 31)) = nI (gr_set s A z) := by
  rcases gr_3 hA with rfl | rfl | rfl
  · exact yr_set0 s hs z hz
  · exact yr_set1 s hs z hz
  · exact yr_set2 s hs z hz
section
variable {f_edges f_known : Int32} {a_from a_to a_kind a_first a_second a_number a_low a_high a_steps a_held a_bounds : Nat → Int32}
theorem yr_result {post : Int32 → Prop} {G : GrP} (hP : xp_P G f_edges a_from a_to a_kind a_first a_second a_low a_high) (hC : xp_C G a_number) {e s j : Nat} (he : e < gr_E G) (hs : s < 512) (hj : j < 8)
    (H1 : ∀ t, t < 512 → gr_te G e s t → (gr_K G e ≠ 4 → ∀ t', gr_te G e s t' → t' = t) → (gr_K G e = 4 → t = gr_set s (gr_A G e) j) → post (nI t))
    (H0 : (∀ t, ¬ gr_te G e s t) → post (-1)) : wpY_result post (f_edges, f_known, a_from, a_to, a_kind, a_first, a_second, a_number, a_low, a_high, a_steps, a_held, a_bounds) (nI e) (nI s) (nI j) := by
  obtain ⟨go, hE, ha, _⟩ := hP
  have e20 : e < 20 := Nat.lt_of_lt_of_le he go.1
  obtain ⟨f7, t7, k8, a3, b3⟩ := go.2.1 e e20
  obtain ⟨hF, hT, hK, hA, hB⟩ := ha e e20
  have hcr := go.2.2.1 e he
  have hc := hC e he
  have ce : (nI e).toNatClampNeg = e := nI_clamp (by omega)
  have hi : vp_in (nI e) 20 := vp_in_nI e20 (by omega)
  have dA := gr_dg_lt s (gr_A G e)
  have dB := gr_dg_lt s (gr_B G e)
  have tA : (nI (gr_dg s (gr_A G e))).toInt = (gr_dg s (gr_A G e) : Int) := xa_nI (by omega)
  have tB : (nI (gr_dg s (gr_B G e))).toInt = (gr_dg s (gr_B G e) : Int) := xa_nI (by omega)
  -- a value v, if it is a number from 0 to 7
  have fin : ∀ (v : Int32) (c : Int), v.toInt = c → (∀ z : Int, gr_rl (gr_K G e) (gr_dg s (gr_A G e)) (gr_dg s (gr_B G e)) (gr_C G e) z → gr_K G e ≠ 4 → z = c) →
      (0 ≤ c → c ≤ 7 → gr_rl (gr_K G e) (gr_dg s (gr_A G e)) (gr_dg s (gr_B G e)) (gr_C G e) c) → (gr_K G e = 4 → c = j) → wY_result_157 post (nI e) (nI s) (nI (gr_dg s (gr_A G e))) v f_edges f_known a_from a_to a_kind a_first a_second a_number a_low a_high a_steps a_held a_bounds := by
    intro v c hv hr hr2 h4
    unfold wY_result_157
    refine br_c (fun w => H0 (fun t h => ?_)) (fun w => br_c (fun w2 => ⟨hi, ?_⟩) (fun w2 => H0 (fun t h => ?_)))
    · rw [xa_lt hv xa_0] at w
      obtain ⟨z, h1, h2⟩ := h
      have h1' := h1
      unfold gr_rl at h1'
      by_cases k4 : gr_K G e = 4
      · have := h4 k4; omega
      · have := hr z h1 k4; omega
    · rw [xa_lt hv xa_0] at w
      rw [xa_le hv (show (7 : Int32).toInt = 7 by decide)] at w2
      obtain ⟨n, en⟩ : ∃ n : Nat, c = (n : Int) := ⟨c.toNat, by omega⟩
      have e1 : v = nI n := (xa_eq hv (xa_nI (by omega))).mpr en
      have n8 : n < 8 := by omega
      rw [ce, hA, e1, yr_set hs a3 n8]
      refine H1 _ (gr_set_lt hs a3 n8) ⟨n, by rw [← en]; exact hr2 (by omega) (by omega), rfl⟩ (fun k4 t' h => ?_) (fun k4 => ?_)
      · obtain ⟨z, h1, h2⟩ := h
        have : z = n := by have := hr z h1 k4; omega
        rw [h2, this]
      · have : n = j := by have := h4 k4; omega
        rw [this]
    · rw [xa_lt hv xa_0] at w
      rw [xa_le hv (show (7 : Int32).toInt = 7 by decide)] at w2
      obtain ⟨z, h1, h2⟩ := h
      have h1' := h1
      unfold gr_rl at h1'
      by_cases k4 : gr_K G e = 4
      · have := h4 k4; omega
      · have := hr z h1 k4; omega
  have chk : ∀ (v : Int32) (c : Int), v.toInt = c → 5 ≤ gr_K G e → (∀ z : Int, gr_rl (gr_K G e) (gr_dg s (gr_A G e)) (gr_dg s (gr_B G e)) (gr_C G e) z ↔ z = gr_dg s (gr_A G e) ∧ c ≤ gr_C G e) →
      ((v ≤ a_number e → wY_result_157 post (nI e) (nI s) (nI (gr_dg s (gr_A G e))) (nI (gr_dg s (gr_A G e))) f_edges f_known a_from a_to a_kind a_first a_second a_number a_low a_high a_steps a_held a_bounds) ∧ (¬ v ≤ a_number e → post (-1))) := by
    intro v c hv hk hr
    have hc' := hc (by omega) (by omega)
    refine br_c (fun w => fin _ _ tA (fun z h _ => ((hr z).mp h).1) (fun _ _ => (hr _).mpr ⟨rfl, ?_⟩) (fun w => by omega)) (fun w => H0 (fun t h => ?_))
    · rw [xa_le hv hc'] at w; exact w
    · rw [xa_le hv hc'] at w
      obtain ⟨z, h1, h2⟩ := h
      exact w ((hr z).mp h1).2
  show vp_in (nI e) 20 ∧ _
  refine ⟨hi, ?_⟩
  show vp_in (nI e) 20 ∧ _
  refine ⟨hi, ?_⟩
  show vp_in (nI e) 20 ∧ _
  rw [ce, hA, hB, hK, xg_num hs a3, xg_num hs b3]
  refine ⟨hi, nm_e ⟨hi, nm_e ?_⟩⟩
  unfold gr_cr at hcr
  have cs : gr_K G e = 0 ∨ gr_K G e = 1 ∨ gr_K G e = 2 ∨ gr_K G e = 3 ∨ gr_K G e = 4 ∨ gr_K G e = 5 ∨ gr_K G e = 6 ∨ gr_K G e = 7 := by omega
  rcases cs with k | k | k | k | k | k | k | k
  · have X := fin _ _ tA (fun z h _ => by rw [k] at h; unfold gr_rl at h; omega) (fun _ _ => by rw [k]; unfold gr_rl; omega) (fun w => by omega)
    rw [k]
    exact br_f (show ¬ nI 0 < 0 by decide) (br_f (show ¬ 6 < nI 0 by decide) (br_t (show nI 0 = 0 by decide) X))
  · have hc' := hc (by omega) (by omega)
    have X := fin _ _ hc' (fun z h _ => by rw [k] at h; unfold gr_rl at h; omega) (fun _ _ => by rw [k]; unfold gr_rl; omega) (fun w => by omega)
    rw [k]
    exact br_f (show ¬ nI 1 < 0 by decide) (br_f (show ¬ 6 < nI 1 by decide) (br_f (show ¬ nI 1 = 0 by decide) (br_t (show nI 1 = 1 by decide) X)))
  · have hc' := hc (by omega) (by omega)
    have X := fin _ _ (xa_add tB hc' (by omega) (by omega)) (fun z h _ => by rw [k] at h; unfold gr_rl at h; omega) (fun _ _ => by rw [k]; unfold gr_rl; omega) (fun w => by omega)
    rw [k]
    exact br_f (show ¬ nI 2 < 0 by decide) (br_f (show ¬ 6 < nI 2 by decide) (br_f (show ¬ nI 2 = 0 by decide) (br_f (show ¬ nI 2 = 1 by decide) (br_t (show nI 2 = 2 by decide) (nm_e X)))))
  · have hc' := hc (by omega) (by omega)
    have X := fin _ _ (xa_sub hc' tB (by omega) (by omega)) (fun z h _ => by rw [k] at h; unfold gr_rl at h; omega) (fun _ _ => by rw [k]; unfold gr_rl; omega) (fun w => by omega)
    rw [k]
    exact br_f (show ¬ nI 3 < 0 by decide) (br_f (show ¬ 6 < nI 3 by decide) (br_f (show ¬ nI 3 = 0 by decide) (br_f (show ¬ nI 3 = 1 by decide) (br_f (show ¬ nI 3 = 2 by decide) (br_t (show nI 3 = 3 by decide) (nm_e X))))))
  · have X := fin (nI j) _ (xa_nI (by omega)) (fun z h w => absurd k w) (fun _ _ => by rw [k]; unfold gr_rl; omega) (fun w => rfl)
    rw [k]
    exact br_f (show ¬ nI 4 < 0 by decide) (br_f (show ¬ 6 < nI 4 by decide) (br_f (show ¬ nI 4 = 0 by decide) (br_f (show ¬ nI 4 = 1 by decide) (br_f (show ¬ nI 4 = 2 by decide) (br_f (show ¬ nI 4 = 3 by decide) (br_t (show nI 4 = 4 by decide) X))))))
  · have X := chk _ _ (xa_add tA tB (by omega) (by omega)) (by omega) (fun z => by rw [k]; unfold gr_rl; omega)
    rw [k]
    exact br_f (show ¬ nI 5 < 0 by decide) (br_f (show ¬ 6 < nI 5 by decide) (br_f (show ¬ nI 5 = 0 by decide) (br_f (show ¬ nI 5 = 1 by decide) (br_f (show ¬ nI 5 = 2 by decide) (br_f (show ¬ nI 5 = 3 by decide) (br_f (show ¬ nI 5 = 4 by decide) (br_t (show nI 5 = 5 by decide) X)))))))
  · have X := chk _ _ (xa_sub tA tB (by omega) (by omega)) (by omega) (fun z => by rw [k]; unfold gr_rl; omega)
    rw [k]
    exact br_f (show ¬ nI 6 < 0 by decide) (br_f (show ¬ 6 < nI 6 by decide) (br_f (show ¬ nI 6 = 0 by decide) (br_f (show ¬ nI 6 = 1 by decide) (br_f (show ¬ nI 6 = 2 by decide) (br_f (show ¬ nI 6 = 3 by decide) (br_f (show ¬ nI 6 = 4 by decide) (br_f (show ¬ nI 6 = 5 by decide) (br_t (show nI 6 = 6 by decide) X))))))))
  · have X := chk _ _ (xa_sub (xa_neg tA (by omega) (by omega)) tB (by omega) (by omega)) (by omega) (fun z => by rw [k]; unfold gr_rl; omega)
    rw [k]
    exact br_f (show ¬ nI 7 < 0 by decide) (br_t (show 6 < nI 7 by decide) X)
theorem yr_ways {post : Int32 → Prop} {G : GrP} (hP : xp_P G f_edges a_from a_to a_kind a_first a_second a_low a_high) {e : Nat} (he : e < gr_E G) (H : post (nI (if gr_K G e = 4 then 8 else 1))) : wpY_waysOf post (f_edges, f_known, a_from, a_to, a_kind, a_first, a_second, a_number, a_low, a_high, a_steps, a_held, a_bounds) (nI e) := by
  obtain ⟨go, hE, ha, _⟩ := hP
  have e20 : e < 20 := Nat.lt_of_lt_of_le he go.1
  obtain ⟨f7, t7, k8, a3, b3⟩ := go.2.1 e e20
  obtain ⟨hF, hT, hK, hA, hB⟩ := ha e e20
  have ce : (nI e).toNatClampNeg = e := nI_clamp (by omega)
  refine ⟨vp_in_nI e20 (by omega), ?_⟩
  rw [ce, hK]
  refine pk_eq (gr_K G e) 4 (fun z => ?_) (fun z => ?_)
  · rw [if_pos z] at H; exact H
  · rw [if_neg z] at H; exact H
theorem yr_begins2 {post : Int32 → Prop} {G : GrP} (hP : xp_P G f_edges a_from a_to a_kind a_first a_second a_low a_high) {s : Nat} (hs : s < 512)
    (H1 : gr_st G s → post 1) (H0 : ¬ gr_st G s → post 0) :
    ∀ (n m : Nat), m ≤ 3 → 3 < n + m → (∀ i, i < m → gr_lo G i ≤ gr_dg s i ∧ gr_dg s i ≤ gr_hi G i) → wY_begins_2 post (nI s) f_edges f_known a_from a_to a_kind a_first a_second a_number a_low a_high a_steps a_held a_bounds n (nI m) := by
  obtain ⟨go, hE, ha, hl⟩ := hP
  intro n
  induction n with
  | zero => intro m h1 h2; omega
  | succ n ih =>
    intro m hm hn hb
    rw [wY_begins_2]
    by_cases e : m = 3
    · subst e
      exact br_t (show (3 : Int32) ≤ nI 3 by decide) (H1 ⟨hs, hb⟩)
    · have m3 : m < 3 := by omega
      have cm : (nI m).toNatClampNeg = m := nI_clamp (by omega)
      have im : vp_in (nI m) 3 := vp_in_nI m3 (by omega)
      obtain ⟨l, u⟩ := hl m m3
      have g0 := go.2.2.2 m m3
      have d0 := gr_dg_lt s m
      refine br_f (nI_ge (b := 3) (by omega) (by omega)) ?_
      show vp_in (nI m) 3 ∧ _
      rw [xg_num hs m3, cm, l, u]
      refine ⟨im, im, yw_inN (xa_nI (by omega)) (xa_nI (by omega)) (xa_nI (by omega)) (fun a b => br_f (by decide) (nm_r (nI_1 m) (ih (m + 1) (by omega) (by omega) (lt_s hb ⟨by omega, by omega⟩)))) (fun w => br_t rfl (H0 (fun z => w ?_)))⟩
      have := z.2 m m3
      omega
theorem yr_begins {post : Int32 → Prop} {G : GrP} (hP : xp_P G f_edges a_from a_to a_kind a_first a_second a_low a_high) {s : Nat} (hs : s < 512)
    (H1 : gr_st G s → post 1) (H0 : ¬ gr_st G s → post 0) : wpY_begins post (f_edges, f_known, a_from, a_to, a_kind, a_first, a_second, a_number, a_low, a_high, a_steps, a_held, a_bounds) (nI s) :=
  ⟨4, yr_begins2 hP hs H1 H0 4 0 (by omega) (by omega) (fun i hi => absurd hi (Nat.not_lt_zero i))⟩
end
end
section
/-! the reference's search -/
abbrev YsJ : Type := Int32 → Int32 → (Nat → Int32) → (Nat → Int32) → (Nat → Int32) → (Nat → Int32) → (Nat → Int32) → (Nat → Int32) → (Nat → Int32) → (Nat → Int32) → (Nat → Int32) → (Nat → Int32) → (Nat → Int32) → Prop
def ys_P (s0 s : Nat → Int32) (Q : Nat → Prop) (rd : Int32) (b : Nat) : Prop := (∀ k, k < 3584 → s0 k < 0 → Q k → s k = rd) ∧ (∀ k, k < 3584 → ¬ (s0 k < 0 ∧ Q k) → s k = s0 k) ∧
  ((b = 0 ∧ ∀ k, k < 3584 → ¬ (s0 k < 0 ∧ Q k)) ∨ (b = 1 ∧ ∃ k, k < 3584 ∧ s0 k < 0 ∧ Q k))
theorem ys_0 {s : Nat → Int32} {Q : Nat → Prop} {rd : Int32} (h : ∀ k, k < 3584 → ¬ Q k) : ys_P s s Q rd 0 :=
  ⟨fun k hk _ q => absurd q (h k hk), fun _ _ _ => rfl, Or.inl ⟨rfl, fun k hk q => h k hk q.2⟩⟩
theorem ys_eq {s0 s : Nat → Int32} {Q Q' : Nat → Prop} {rd : Int32} {b : Nat} (h : ∀ k, k < 3584 → (Q k ↔ Q' k)) (P : ys_P s0 s Q rd b) : ys_P s0 s Q' rd b := by
  obtain ⟨p1, p2, p3⟩ := P
  refine ⟨fun k hk a q => p1 k hk a ((h k hk).mpr q), fun k hk n => p2 k hk (fun w => n ⟨w.1, (h k hk).mp w.2⟩), ?_⟩
  rcases p3 with ⟨e, p⟩ | ⟨e, k, hk, a, q⟩
  · exact Or.inl ⟨e, fun k hk w => p k hk ⟨w.1, (h k hk).mpr w.2⟩⟩
  · exact Or.inr ⟨e, k, hk, a, (h k hk).mp q⟩
theorem ys_b {s0 s : Nat → Int32} {Q : Nat → Prop} {rd : Int32} {b : Nat} (P : ys_P s0 s Q rd b) : b = 0 ∨ b = 1 := P.2.2.elim (fun w => Or.inl w.1) (fun w => Or.inr w.1)
theorem ys_neg {s0 s : Nat → Int32} {Q : Nat → Prop} {rd : Int32} {b : Nat} (P : ys_P s0 s Q rd b) (hr : ¬ rd < 0) {k : Nat} (hk : k < 3584) : s k < 0 ↔ s0 k < 0 ∧ ¬ Q k := by
  rcases Classical.em (s0 k < 0 ∧ Q k) with z | z
  · rw [P.1 k hk z.1 z.2]
    exact ⟨fun w => absurd w hr, fun w => absurd z.2 w.2⟩
  · rw [P.2.1 k hk z]
    exact ⟨fun w => ⟨w, fun q => z ⟨w, q⟩⟩, fun w => w.1⟩
theorem ys_addK {s0 s : Nat → Int32} {Q : Nat → Prop} {rd : Int32} {b c : Nat} (P : ys_P s0 s Q rd b) (hr : ¬ rd < 0) (hc : c < 3584) (h : ¬ s c < 0) : ys_P s0 s (fun k => Q k ∨ k = c) rd b := by
  have key : s0 c < 0 → Q c := fun w => by
    rcases Classical.em (Q c) with z | z
    · exact z
    · exact absurd ((ys_neg P hr hc).mpr ⟨w, z⟩) h
  obtain ⟨p1, p2, p3⟩ := P
  have up : ∀ k, s0 k < 0 → (Q k ∨ k = c) → Q k := fun k a w => w.elim id (fun e => by subst e; exact key a)
  refine ⟨fun k hk a q => p1 k hk a (up k a q), fun k hk n => p2 k hk (fun w => n ⟨w.1, Or.inl w.2⟩), ?_⟩
  rcases p3 with ⟨e, p⟩ | ⟨e, k, hk, a, q⟩
  · exact Or.inl ⟨e, fun k hk w => p k hk ⟨w.1, up k w.1 w.2⟩⟩
  · exact Or.inr ⟨e, k, hk, a, Or.inl q⟩
theorem ys_addN {s0 s : Nat → Int32} {Q : Nat → Prop} {rd : Int32} {b c : Nat} (P : ys_P s0 s Q rd b) (hr : ¬ rd < 0) (hc : c < 3584) (h : s c < 0) : ys_P s0 (upd s c rd) (fun k => Q k ∨ k = c) rd 1 := by
  have n0 := ((ys_neg P hr hc).mp h).1
  obtain ⟨p1, p2, p3⟩ := P
  refine ⟨fun k hk a q => ?_, fun k hk n => ?_, Or.inr ⟨rfl, c, hc, n0, Or.inr rfl⟩⟩
  · by_cases e : k = c
    · subst e; rw [pk_us]
    · rw [pk_un e]; exact p1 k hk a (q.resolve_right e)
  · have e : k ≠ c := fun e => by subst e; exact n ⟨n0, Or.inr rfl⟩
    rw [pk_un e]; exact p2 k hk (fun w => n ⟨w.1, Or.inl w.2⟩)
theorem ys_comp {s0 s1 s2 : Nat → Int32} {Q1 Q2 : Nat → Prop} {rd : Int32} {b1 b2 : Nat} (P1 : ys_P s0 s1 Q1 rd b1) (P2 : ys_P s1 s2 Q2 rd b2) (hr : ¬ rd < 0) : ys_P s0 s2 (fun k => Q1 k ∨ Q2 k) rd (max b1 b2) := by
  have ng := fun (k : Nat) (hk : k < 3584) => ys_neg P1 hr hk
  obtain ⟨p1, p2, p3⟩ := P1
  obtain ⟨q1, q2, q3⟩ := P2
  refine ⟨fun k hk a q => ?_, fun k hk n => ?_, ?_⟩
  · rcases Classical.em (Q1 k) with z | z
    · have n1 : ¬ s1 k < 0 := fun w => ((ng k hk).mp w).2 z
      rw [q2 k hk (fun w => n1 w.1)]; exact p1 k hk a z
    · exact q1 k hk ((ng k hk).mpr ⟨a, z⟩) (q.resolve_left z)
  · have a1 : s1 k = s0 k := p2 k hk (fun w => n ⟨w.1, Or.inl w.2⟩)
    rw [q2 k hk (fun w => n ⟨((ng k hk).mp w.1).1, Or.inr w.2⟩), a1]
  · rcases p3 with ⟨e, p⟩ | ⟨e, k, hk, a, q⟩
    · rcases q3 with ⟨e', p'⟩ | ⟨e', k, hk, a, q⟩
      · refine Or.inl ⟨by omega, fun k hk w => ?_⟩
        rcases Classical.em (Q1 k) with z | z
        · exact p k hk ⟨w.1, z⟩
        · exact p' k hk ⟨(ng k hk).mpr ⟨w.1, z⟩, w.2.resolve_left z⟩
      · exact Or.inr ⟨by omega, k, hk, ((ng k hk).mp a).1, Or.inr q⟩
    · have hb2 : b2 = 0 ∨ b2 = 1 := q3.elim (fun w => Or.inl w.1) (fun w => Or.inr w.1)
      exact Or.inr ⟨by omega, k, hk, a, Or.inl q⟩
theorem ys_or {b1 b2 : Nat} (h1 : b1 = 0 ∨ b1 = 1) (h2 : b2 = 0 ∨ b2 = 1) : nI b1 ||| nI b2 = nI (max b1 b2) := by
  rcases h1 with rfl | rfl <;> rcases h2 with rfl | rfl <;> decide
theorem ys_nb {b : Nat} (h : b = 0 ∨ b = 1) : narrow .boolean (.int (nI b)) = .int (nI b) := by
  rcases h with rfl | rfl <;> rfl
section
variable {f_edges f_known : Int32} {a_from a_to a_kind a_first a_second a_number a_low a_high a_steps a_held a_bounds : Nat → Int32}
theorem ys_18 {post : Int32 → SY → Prop} {J6 : YsJ} {G : GrP} (hP : xp_P G f_edges a_from a_to a_kind a_first a_second a_low a_high) (hC : xp_C G a_number) {e s p : Nat} (he : e < gr_E G) (hs : s < 512) (hp : p < 7)
    {rd : Int32} (hrd : ¬ rd < 0) {s0 : Nat → Int32} {Q0 : Nat → Prop}
    (HJ : ∀ b st, ys_P s0 st (fun k => Q0 k ∨ (gr_F G e = p ∧ ∃ t, gr_te G e s t ∧ k = 512 * gr_T G e + t)) rd b → J6 (nI b) (nI (e + 1)) a_from a_to a_kind a_first a_second a_number a_low a_high st a_held a_bounds) :
    ∀ (n j b : Nat) (st : Nat → Int32), j ≤ (if gr_K G e = 4 then 8 else 1) → (if gr_K G e = 4 then 8 else 1) < n + j →
      ys_P s0 st (fun k => Q0 k ∨ (gr_F G e = p ∧ ∃ t, gr_te G e s t ∧ k = 512 * gr_T G e + t ∧ (gr_K G e = 4 → ∃ i, i < j ∧ t = gr_set s (gr_A G e) i) ∧ (gr_K G e ≠ 4 → 0 < j))) rd b →
      wY_goOn_18 post J6 (nI p) (nI s) rd (nI e) f_edges f_known n (nI b) (nI j) a_from a_to a_kind a_first a_second a_number a_low a_high st a_held a_bounds := by
  have hP' := hP
  obtain ⟨go, hE, ha, _⟩ := hP
  have e20 : e < 20 := Nat.lt_of_lt_of_le he go.1
  obtain ⟨f7, t7, k8, a3, b3⟩ := go.2.1 e e20
  obtain ⟨hF, hT, hK, hA, hB⟩ := ha e e20
  have ce : (nI e).toNatClampNeg = e := nI_clamp (by omega)
  have hi : vp_in (nI e) 20 := vp_in_nI e20 (by omega)
  have W8 : (if gr_K G e = 4 then 8 else 1) ≤ 8 := by by_cases z : gr_K G e = 4 <;> simp [z]
  intro n
  induction n with
  | zero => intro j b st h1 h2; omega
  | succ n ih =>
    intro j b st hj hn P
    rw [wY_goOn_18]
    refine yr_ways hP' he (pk_le _ j (fun q => ?_) (fun q => ⟨hi, ?_⟩) rfl rfl (by omega) (by omega))
    · refine nm_r (nI_1 e) (HJ b st (ys_eq (fun k hk => ?_) P))
      constructor
      · rintro (a | ⟨a, t, b1, b2, _⟩)
        · exact Or.inl a
        · exact Or.inr ⟨a, t, b1, b2⟩
      · rintro (a | ⟨a, t, b1, b2⟩)
        · exact Or.inl a
        · refine Or.inr ⟨a, t, b1, b2, fun k4 => ?_, fun k4 => ?_⟩
          · obtain ⟨z, r, rfl⟩ := b1
            rw [if_pos k4] at q
            unfold gr_rl at r
            exact ⟨z, by omega, rfl⟩
          · rw [if_neg k4] at q; omega
    · rw [ce, hF]
      refine pk_eq (gr_F G e) p (fun z => ?_) (fun z => nm_r (nI_1 e) (HJ b st (ys_eq (fun k hk => ?_) P)))
      · have j8 : j < 8 := by omega
        refine yr_result (a_steps := st) hP' hC he hs j8 (fun t ht te uq k4 => ?_) (fun no => ?_)
        · have i1 : (512 * nI (gr_T G e)) + nI t = nI (512 * gr_T G e + t) := by
            show nI 512 * nI (gr_T G e) + nI t = _
            rw [pk_mul, nI_add]
          have c5 : 512 * gr_T G e + t < 3584 := by omega
          have P' : ∀ b' st', ys_P s0 st' (fun k => (Q0 k ∨ (gr_F G e = p ∧ ∃ t, gr_te G e s t ∧ k = 512 * gr_T G e + t ∧ (gr_K G e = 4 → ∃ i, i < j ∧ t = gr_set s (gr_A G e) i) ∧ (gr_K G e ≠ 4 → 0 < j))) ∨ k = 512 * gr_T G e + t) rd b' →
              wY_goOn_18 post J6 (nI p) (nI s) rd (nI e) f_edges f_known n (nI b') (nI (j + 1)) a_from a_to a_kind a_first a_second a_number a_low a_high st' a_held a_bounds := by
            intro b' st' h
            refine ih (j + 1) b' st' (by omega) (by omega) (ys_eq (fun k hk => ?_) h)
            constructor
            · rintro ((a | ⟨a, t', b1, b2, b3, b4⟩) | a)
              · exact Or.inl a
              · exact Or.inr ⟨a, t', b1, b2, fun w => by obtain ⟨i, h1, h2⟩ := b3 w; exact ⟨i, by omega, h2⟩, fun _ => by omega⟩
              · exact Or.inr ⟨z, t, te, a, fun w => ⟨j, by omega, k4 w⟩, fun _ => by omega⟩
            · rintro (a | ⟨a, t', b1, b2, b3, b4⟩)
              · exact Or.inl (Or.inl a)
              · by_cases w : gr_K G e = 4
                · obtain ⟨i, h1, h2⟩ := b3 w
                  by_cases y : i = j
                  · subst y
                    rw [← k4 w] at h2
                    subst h2
                    exact Or.inr b2
                  · exact Or.inl (Or.inr ⟨a, t', b1, b2, fun _ => ⟨i, by omega, h2⟩, fun w' => absurd w w'⟩)
                · have := uq w t' b1
                  subst this
                  exact Or.inr b2
          refine br_f (nI_pos (by omega)) ⟨hi, ?_⟩
          rw [hT, pk_cl _ i1]
          refine ⟨pk_in _ 3584 c5 i1, br_c (fun w => nm_r (nI_1 j) (P' b st (ys_addK P hrd c5 (Int32.not_lt.mpr w)))) (fun w => ⟨hi, ?_⟩)⟩
          exact ⟨pk_in _ 3584 c5 i1, nm_e (nm_r (nI_1 j) (P' 1 _ (ys_addN P hrd c5 (Int32.not_le.mp w))))⟩
        · refine br_t (by decide) (nm_r (nI_1 j) (ih (j + 1) b st (by omega) (by omega) (ys_eq (fun k hk => ?_) P)))
          constructor
          · rintro (a | ⟨a, t', b1, _⟩)
            · exact Or.inl a
            · exact absurd b1 (no t')
          · rintro (a | ⟨a, t', b1, _⟩)
            · exact Or.inl a
            · exact absurd b1 (no t')
      · exact ⟨fun w => w.elim Or.inl (fun w => absurd w.1 z), fun w => w.elim Or.inl (fun w => absurd w.1 z)⟩
theorem ys_6 {post : Int32 → SY → Prop} {G : GrP} (hP : xp_P G f_edges a_from a_to a_kind a_first a_second a_low a_high) (hC : xp_C G a_number) {s p : Nat} (hs : s < 512) (hp : p < 7)
    {rd : Int32} (hrd : ¬ rd < 0) {s0 : Nat → Int32}
    (H : ∀ b st, ys_P s0 st (fun k => ∃ e, e < gr_E G ∧ gr_F G e = p ∧ ∃ t, gr_te G e s t ∧ k = 512 * gr_T G e + t) rd b → post (nI b) (f_edges, f_known, a_from, a_to, a_kind, a_first, a_second, a_number, a_low, a_high, st, a_held, a_bounds)) :
    ∀ (n m b : Nat) (st : Nat → Int32), m ≤ gr_E G → gr_E G < n + m → ys_P s0 st (fun k => ∃ e, e < m ∧ gr_F G e = p ∧ ∃ t, gr_te G e s t ∧ k = 512 * gr_T G e + t) rd b →
      wY_goOn_6 post (nI p) (nI s) rd f_edges f_known n (nI b) (nI m) a_from a_to a_kind a_first a_second a_number a_low a_high st a_held a_bounds := by
  have E20 := hP.1.1
  intro n
  induction n with
  | zero => intro m b st h1 h2; omega
  | succ n ih =>
    intro m b st hm hn P
    rw [wY_goOn_6]
    refine pk_le (gr_E G) m (fun q => ⟨ys_nb (ys_b P), ?_⟩) (fun q => ⟨9, ?_⟩) hP.2.1 rfl
    · have : m = gr_E G := by omega
      subst this
      exact H b st P
    · refine ys_18 hP hC q hs hp hrd (Q0 := fun k => ∃ e, e < m ∧ gr_F G e = p ∧ ∃ t, gr_te G e s t ∧ k = 512 * gr_T G e + t) (fun b' st' h => ih (m + 1) b' st' (by omega) (by omega) (ys_eq (fun k hk => ?_) h)) 9 0 b st (by omega) ?_ (ys_eq (fun k hk => ?_) P)
      · constructor
        · rintro (⟨e, he, a⟩ | a)
          · exact ⟨e, by omega, a⟩
          · exact ⟨m, by omega, a⟩
        · rintro ⟨e, he, a⟩
          by_cases z : e = m
          · subst z; exact Or.inr a
          · exact Or.inl ⟨e, by omega, a⟩
      · by_cases z : gr_K G m = 4
        · rw [if_pos z]; omega
        · rw [if_neg z]; omega
      · constructor
        · exact Or.inl
        · rintro (a | ⟨a, t, b1, b2, b3, b4⟩)
          · exact a
          · by_cases z : gr_K G m = 4
            · obtain ⟨i, hi, _⟩ := b3 z; omega
            · have := b4 z; omega
theorem ys_goOn {post : Int32 → SY → Prop} {G : GrP} (hP : xp_P G f_edges a_from a_to a_kind a_first a_second a_low a_high) (hC : xp_C G a_number) {s p : Nat} (hs : s < 512) (hp : p < 7)
    {rd : Int32} (hrd : ¬ rd < 0) (H : ∀ b st, ys_P a_steps st (fun k => gr_sc G (512 * p + s) k) rd b → post (nI b) (f_edges, f_known, a_from, a_to, a_kind, a_first, a_second, a_number, a_low, a_high, st, a_held, a_bounds)) : wpY_goOn post (f_edges, f_known, a_from, a_to, a_kind, a_first, a_second, a_number, a_low, a_high, a_steps, a_held, a_bounds) (nI p) (nI s) rd := by
  refine ⟨gr_E G + 1, ys_6 hP hC hs hp hrd (fun b st P => H b st (ys_eq (fun k hk => ?_) P)) (gr_E G + 1) 0 0 a_steps (by omega) (by omega) (ys_0 (fun k _ w => by obtain ⟨e, he, _⟩ := w; omega))⟩
  constructor
  · rintro ⟨e, he, hF, t, te, ek⟩
    exact ⟨e, s, t, he, hs, by rw [hF], ek, te⟩
  · rintro ⟨e, s', t, he, hs', e1, e2, te⟩
    have f7 := (hP.1.2.1 e (Nat.lt_of_lt_of_le he hP.1.1)).1
    have es : s' = s := by omega
    subst es
    exact ⟨e, he, by omega, t, te, e2⟩
theorem ys_83 {post : SY → Prop} {J75 : Int32 → Int32 → YsJ} {G : GrP} (hP : xp_P G f_edges a_from a_to a_kind a_first a_second a_low a_high) (hC : xp_C G a_number) {r : Nat} (hr : r < 100000) {s0 : Nat → Int32}
    (HJ : ∀ b st, ys_P s0 st (fun k => ∃ j, j < 3584 ∧ s0 j = nI r ∧ gr_sc G j k) (nI (r + 1)) b → J75 (nI b) (nI (r + 1)) f_edges f_known a_from a_to a_kind a_first a_second a_number a_low a_high st a_held a_bounds) :
    ∀ (n m b : Nat) (st : Nat → Int32), m ≤ 3584 → 3584 < n + m → ys_P s0 st (fun k => ∃ j, j < m ∧ s0 j = nI r ∧ gr_sc G j k) (nI (r + 1)) b →
      wY_know_83 post J75 (nI r) n (nI b) (nI m) f_edges f_known a_from a_to a_kind a_first a_second a_number a_low a_high st a_held a_bounds := by
  have hrd : ¬ nI (r + 1) < 0 := nI_pos (by omega)
  intro n
  induction n with
  | zero => intro m b st h1 h2; omega
  | succ n ih =>
    intro m b st hm hn P
    rw [wY_know_83]
    by_cases e : m = 3584
    · subst e
      exact br_t (show (3584 : Int32) ≤ nI 3584 by decide) (nm_r (nI_1 r) (HJ b st P))
    · have m5 : m < 3584 := by omega
      have cm : (nI m).toNatClampNeg = m := nI_clamp (by omega)
      have d1 : nI m / 512 = nI (m / 512) := pk_div (d := 512) (by omega) (by omega) (by omega)
      have d2 : nI m - nI m / 512 * 512 = nI (m % 512) := pk_rem (d := 512) (by omega) (by omega) (by omega)
      have same : st m = nI r ↔ s0 m = nI r := by
        rcases Classical.em (s0 m < 0 ∧ ∃ j, j < m ∧ s0 j = nI r ∧ gr_sc G j m) with z | z
        · rw [P.1 m m5 z.1 z.2]
          constructor
          · intro w
            rw [nI_eq (by omega) (by omega)] at w
            omega
          · intro w
            rw [w] at z
            exact absurd z.1 (nI_pos (by omega))
        · rw [P.2.1 m m5 z]
      refine br_f (nI_ge (b := 3584) (by omega) (by omega)) ⟨vp_in_nI m5 (by omega), ?_⟩
      rw [cm]
      refine br_c (fun w => ⟨by decide, by decide, ?_⟩) (fun w => nm_r (nI_1 m) (ih (m + 1) b st (by omega) (by omega) (ys_eq (fun k hk => ?_) P)))
      · have w' := same.mp w
        rw [d2, d1, nI_1 r]
        refine ys_goOn (a_steps := st) hP hC (Nat.mod_lt _ (by decide)) (by omega) hrd (fun b2 st2 P2 => ?_)
        rw [show 512 * (m / 512) + m % 512 = m by omega] at P2
        refine nm_r (ys_or (ys_b P) (ys_b P2)) (nm_r (nI_1 m) (ih (m + 1) _ st2 (by omega) (by omega) (ys_eq (fun k hk => ?_) (ys_comp P P2 hrd))))
        constructor
        · rintro (⟨j, hj, a⟩ | a)
          · exact ⟨j, by omega, a⟩
          · exact ⟨m, by omega, w', a⟩
        · rintro ⟨j, hj, a1, a2⟩
          by_cases z : j = m
          · subst z; exact Or.inr a2
          · exact Or.inl ⟨j, by omega, a1, a2⟩
      · constructor
        · rintro ⟨j, hj, a⟩; exact ⟨j, by omega, a⟩
        · rintro ⟨j, hj, a1, a2⟩
          by_cases z : j = m
          · subst z; exact absurd (same.mpr a1) w
          · exact ⟨j, by omega, a1, a2⟩
end
theorem ys_round {G : GrP} (go : gr_ok G) {r : Nat} (hr : r < 100000) {s0 st : Nat → Int32} {b : Nat} (I : ∀ k, k < 3584 → gr_Dr G r k (s0 k).toInt)
    (P : ys_P s0 st (fun k => ∃ j, j < 3584 ∧ s0 j = nI r ∧ gr_sc G j k) (nI (r + 1)) b) :
    (∀ k, k < 3584 → gr_Dr G (r + 1) k (st k).toInt) ∧ (b = 0 → ∀ k, gr_R G (r + 1) k → gr_R G r k) ∧ (b = 1 → ct_n (gr_R G r) 3584 < ct_n (gr_R G (r + 1)) 3584) := by
  have neg : ∀ k, k < 3584 → (s0 k < 0 ↔ ¬ gr_R G r k) := fun k hk => by
    rw [Int32.lt_iff_toInt_lt, Int32.toInt_zero, ← gr_Dr_R (I k hk)]; omega
  have q1 : ∀ k, (∃ j, j < 3584 ∧ s0 j = nI r ∧ gr_sc G j k) → gr_R G (r + 1) k := fun k ⟨j, hj, e, h⟩ => by
    refine Or.inr ⟨j, ?_, h⟩
    rw [← gr_Dr_R (I j hj), e, nI_toInt (by omega)]; omega
  have q2 : ∀ k, gr_R G (r + 1) k → ¬ gr_R G r k → ∃ j, j < 3584 ∧ s0 j = nI r ∧ gr_sc G j k := fun k h hn => by
    rcases h with h | ⟨j, hj, h⟩
    · exact absurd h hn
    · have jl := gr_R_lt go hj
      refine ⟨j, jl, ?_, h⟩
      rcases I j jl with ⟨_, z⟩ | ⟨n, hn', e, z, _⟩
      · exact absurd hj z
      · have : n = r := by
          rcases Nat.lt_or_ge n r with y | y
          · exact absurd (gr_R_mono (n := n + 1) (Or.inr ⟨j, z, h⟩) y) hn
          · omega
        subst this
        exact (xa_eq rfl (nI_toInt (by omega))).mpr e
  obtain ⟨p1, p2, p3⟩ := P
  refine ⟨fun k hk => ?_, fun hb k h => ?_, fun hb => ?_⟩
  · rcases Classical.em (s0 k < 0 ∧ ∃ j, j < 3584 ∧ s0 j = nI r ∧ gr_sc G j k) with z | z
    · rw [p1 k hk z.1 z.2, nI_toInt (by omega)]
      exact Or.inr ⟨r + 1, Nat.le_refl _, by omega, q1 k z.2, fun m hm w => (neg k hk).mp z.1 (gr_R_mono w (by omega))⟩
    · rw [p2 k hk z]
      rcases I k hk with ⟨e, w⟩ | ⟨n, hn, w⟩
      · refine Or.inl ⟨e, fun y => z ⟨(neg k hk).mpr w, q2 k y w⟩⟩
      · exact Or.inr ⟨n, by omega, w⟩
  · rcases Classical.em (gr_R G r k) with z | z
    · exact z
    · have hk := gr_R_lt go h
      rcases p3 with ⟨_, p⟩ | ⟨e, _⟩
      · exact absurd ⟨(neg k hk).mpr z, q2 k h z⟩ (p k hk)
      · omega
  · rcases p3 with ⟨e, _⟩ | ⟨_, k, hk, a, q⟩
    · omega
    · exact ct_lt (P := gr_R G r) (Q := gr_R G (r + 1)) (a := k) ((neg k hk).mp a) (q1 k q) (fun j _ w => Or.inl w) hk
section
variable {f_edges f_known : Int32} {a_from a_to a_kind a_first a_second a_number a_low a_high a_steps a_held a_bounds : Nat → Int32}
theorem ys_75 {post : SY → Prop} {G : GrP} (hP : xp_P G f_edges a_from a_to a_kind a_first a_second a_low a_high) (hC : xp_C G a_number)
    (H : ∀ st N r, (∀ k, k < 3584 → gr_D G k (st k).toInt) → wY_know_75 post (N + 1) 0 (nI r) f_edges f_known a_from a_to a_kind a_first a_second a_number a_low a_high st a_held a_bounds) :
    ∀ (N r : Nat) (st : Nat → Int32), (∀ k, k < 3584 → gr_Dr G r k (st k).toInt) → r ≤ ct_n (gr_R G r) 3584 → 3585 - ct_n (gr_R G r) 3584 < N → wY_know_75 post N 1 (nI r) f_edges f_known a_from a_to a_kind a_first a_second a_number a_low a_high st a_held a_bounds := by
  intro N
  induction N with
  | zero => intro r st _ _ h; omega
  | succ N ih =>
    intro r st I hr hN
    have cl := ct_le (gr_R G r) 3584
    rw [wY_know_75]
    refine br_f (by decide) ⟨3585, ys_83 hP hC (r := r) (by omega) (s0 := st) (fun b st' P => ?_) 3585 0 0 st (by omega) (by omega) (ys_0 (fun k _ w => by obtain ⟨j, hj, _⟩ := w; omega))⟩
    obtain ⟨I', f, g⟩ := ys_round hP.1 (by omega) I P
    rcases ys_b P with rfl | rfl
    · obtain ⟨N, rfl⟩ : ∃ M, N = M + 1 := ⟨N - 1, by omega⟩
      refine H st' N (r + 1) (fun k hk => gr_Dr_D (r := r + 1) ?_ (I' k hk))
      intro k h
      exact Or.inl (gr_R_all (f rfl) h)
    · have := g rfl
      exact ih (r + 1) st' I' (by omega) (by omega)
end
end
section
/-! the 27 forms of the reference and the 36 differences of the matrices (printed by tools/gen_hull.py) -/
def yf_v (k s : Nat) : Int := (((k % 9 / 3 : Nat) : Int) - 1) * (gr_dg s (k / 18) : Int) + (((k % 3 : Nat) : Int) - 1) * (gr_dg s (1 + (k / 9 + 1) / 2) : Int)
theorem yf_0 (s : Nat) : yf_v 0 s = (-1) * (gr_dg s 0 : Int) + (-1) * (gr_dg s 1 : Int) := rfl
theorem yf_1 (s : Nat) : yf_v 1 s = (-1) * (gr_dg s 0 : Int) + (0) * (gr_dg s 1 : Int) := rfl
theorem yf_2 (s : Nat) : yf_v 2 s = (-1) * (gr_dg s 0 : Int) + (1) * (gr_dg s 1 : Int) := rfl
theorem yf_3 (s : Nat) : yf_v 3 s = (0) * (gr_dg s 0 : Int) + (-1) * (gr_dg s 1 : Int) := rfl
theorem yf_4 (s : Nat) : yf_v 4 s = (0) * (gr_dg s 0 : Int) + (0) * (gr_dg s 1 : Int) := rfl
theorem yf_5 (s : Nat) : yf_v 5 s = (0) * (gr_dg s 0 : Int) + (1) * (gr_dg s 1 : Int) := rfl
theorem yf_6 (s : Nat) : yf_v 6 s = (1) * (gr_dg s 0 : Int) + (-1) * (gr_dg s 1 : Int) := rfl
theorem yf_7 (s : Nat) : yf_v 7 s = (1) * (gr_dg s 0 : Int) + (0) * (gr_dg s 1 : Int) := rfl
theorem yf_8 (s : Nat) : yf_v 8 s = (1) * (gr_dg s 0 : Int) + (1) * (gr_dg s 1 : Int) := rfl
theorem yf_9 (s : Nat) : yf_v 9 s = (-1) * (gr_dg s 0 : Int) + (-1) * (gr_dg s 2 : Int) := rfl
theorem yf_10 (s : Nat) : yf_v 10 s = (-1) * (gr_dg s 0 : Int) + (0) * (gr_dg s 2 : Int) := rfl
theorem yf_11 (s : Nat) : yf_v 11 s = (-1) * (gr_dg s 0 : Int) + (1) * (gr_dg s 2 : Int) := rfl
theorem yf_12 (s : Nat) : yf_v 12 s = (0) * (gr_dg s 0 : Int) + (-1) * (gr_dg s 2 : Int) := rfl
theorem yf_13 (s : Nat) : yf_v 13 s = (0) * (gr_dg s 0 : Int) + (0) * (gr_dg s 2 : Int) := rfl
theorem yf_14 (s : Nat) : yf_v 14 s = (0) * (gr_dg s 0 : Int) + (1) * (gr_dg s 2 : Int) := rfl
theorem yf_15 (s : Nat) : yf_v 15 s = (1) * (gr_dg s 0 : Int) + (-1) * (gr_dg s 2 : Int) := rfl
theorem yf_16 (s : Nat) : yf_v 16 s = (1) * (gr_dg s 0 : Int) + (0) * (gr_dg s 2 : Int) := rfl
theorem yf_17 (s : Nat) : yf_v 17 s = (1) * (gr_dg s 0 : Int) + (1) * (gr_dg s 2 : Int) := rfl
theorem yf_18 (s : Nat) : yf_v 18 s = (-1) * (gr_dg s 1 : Int) + (-1) * (gr_dg s 2 : Int) := rfl
theorem yf_19 (s : Nat) : yf_v 19 s = (-1) * (gr_dg s 1 : Int) + (0) * (gr_dg s 2 : Int) := rfl
theorem yf_20 (s : Nat) : yf_v 20 s = (-1) * (gr_dg s 1 : Int) + (1) * (gr_dg s 2 : Int) := rfl
theorem yf_21 (s : Nat) : yf_v 21 s = (0) * (gr_dg s 1 : Int) + (-1) * (gr_dg s 2 : Int) := rfl
theorem yf_22 (s : Nat) : yf_v 22 s = (0) * (gr_dg s 1 : Int) + (0) * (gr_dg s 2 : Int) := rfl
theorem yf_23 (s : Nat) : yf_v 23 s = (0) * (gr_dg s 1 : Int) + (1) * (gr_dg s 2 : Int) := rfl
theorem yf_24 (s : Nat) : yf_v 24 s = (1) * (gr_dg s 1 : Int) + (-1) * (gr_dg s 2 : Int) := rfl
theorem yf_25 (s : Nat) : yf_v 25 s = (1) * (gr_dg s 1 : Int) + (0) * (gr_dg s 2 : Int) := rfl
theorem yf_26 (s : Nat) : yf_v 26 s = (1) * (gr_dg s 1 : Int) + (1) * (gr_dg s 2 : Int) := rfl
theorem yf_e0 (s : Nat) : oc_ev (gr_vs s) 0 = (gr_dg s 0 : Int) := oc_ev_e _ 0
theorem yf_e1 (s : Nat) : oc_ev (gr_vs s) 1 = - (gr_dg s 0 : Int) := oc_ev_o _ 0
theorem yf_e2 (s : Nat) : oc_ev (gr_vs s) 2 = (gr_dg s 1 : Int) := oc_ev_e _ 1
theorem yf_e3 (s : Nat) : oc_ev (gr_vs s) 3 = - (gr_dg s 1 : Int) := oc_ev_o _ 1
theorem yf_e4 (s : Nat) : oc_ev (gr_vs s) 4 = (gr_dg s 2 : Int) := oc_ev_e _ 2
theorem yf_e5 (s : Nat) : oc_ev (gr_vs s) 5 = - (gr_dg s 2 : Int) := oc_ev_o _ 2
theorem yf_hull1 {P : Nat → Prop} {s : Nat} (h : gr_hull P s) {k : Nat} (hk : k < 27) : ∃ t, t < 512 ∧ P t ∧ yf_v k s ≤ yf_v k t := by
  have cs : k = 0 ∨ k = 1 ∨ k = 2 ∨ k = 3 ∨ k = 4 ∨ k = 5 ∨ k = 6 ∨ k = 7 ∨ k = 8 ∨ k = 9 ∨ k = 10 ∨ k = 11 ∨ k = 12 ∨ k = 13 ∨ k = 14 ∨ k = 15 ∨ k = 16 ∨ k = 17 ∨ k = 18 ∨ k = 19 ∨ k = 20 ∨ k = 21 ∨ k = 22 ∨ k = 23 ∨ k = 24 ∨ k = 25 ∨ k = 26 := by omega
  rcases cs with rfl | rfl | rfl | rfl | rfl | rfl | rfl | rfl | rfl | rfl | rfl | rfl | rfl | rfl | rfl | rfl | rfl | rfl | rfl | rfl | rfl | rfl | rfl | rfl | rfl | rfl | rfl
  · obtain ⟨t, ht, hP, e⟩ := h 1 2 (by omega) (by omega)
    simp only [yf_e1, yf_e2] at e
    exact ⟨t, ht, hP, by rw [yf_0, yf_0]; omega⟩
  · obtain ⟨t, ht, hP, e⟩ := h 1 0 (by omega) (by omega)
    simp only [yf_e1, yf_e0] at e
    exact ⟨t, ht, hP, by rw [yf_1, yf_1]; omega⟩
  · obtain ⟨t, ht, hP, e⟩ := h 1 3 (by omega) (by omega)
    simp only [yf_e1, yf_e3] at e
    exact ⟨t, ht, hP, by rw [yf_2, yf_2]; omega⟩
  · obtain ⟨t, ht, hP, e⟩ := h 3 2 (by omega) (by omega)
    simp only [yf_e3, yf_e2] at e
    exact ⟨t, ht, hP, by rw [yf_3, yf_3]; omega⟩
  · obtain ⟨t, ht, hP, e⟩ := h 0 0 (by omega) (by omega)
    exact ⟨t, ht, hP, by rw [yf_4, yf_4]; omega⟩
  · obtain ⟨t, ht, hP, e⟩ := h 2 3 (by omega) (by omega)
    simp only [yf_e2, yf_e3] at e
    exact ⟨t, ht, hP, by rw [yf_5, yf_5]; omega⟩
  · obtain ⟨t, ht, hP, e⟩ := h 0 2 (by omega) (by omega)
    simp only [yf_e0, yf_e2] at e
    exact ⟨t, ht, hP, by rw [yf_6, yf_6]; omega⟩
  · obtain ⟨t, ht, hP, e⟩ := h 0 1 (by omega) (by omega)
    simp only [yf_e0, yf_e1] at e
    exact ⟨t, ht, hP, by rw [yf_7, yf_7]; omega⟩
  · obtain ⟨t, ht, hP, e⟩ := h 0 3 (by omega) (by omega)
    simp only [yf_e0, yf_e3] at e
    exact ⟨t, ht, hP, by rw [yf_8, yf_8]; omega⟩
  · obtain ⟨t, ht, hP, e⟩ := h 1 4 (by omega) (by omega)
    simp only [yf_e1, yf_e4] at e
    exact ⟨t, ht, hP, by rw [yf_9, yf_9]; omega⟩
  · obtain ⟨t, ht, hP, e⟩ := h 1 0 (by omega) (by omega)
    simp only [yf_e1, yf_e0] at e
    exact ⟨t, ht, hP, by rw [yf_10, yf_10]; omega⟩
  · obtain ⟨t, ht, hP, e⟩ := h 1 5 (by omega) (by omega)
    simp only [yf_e1, yf_e5] at e
    exact ⟨t, ht, hP, by rw [yf_11, yf_11]; omega⟩
  · obtain ⟨t, ht, hP, e⟩ := h 5 4 (by omega) (by omega)
    simp only [yf_e5, yf_e4] at e
    exact ⟨t, ht, hP, by rw [yf_12, yf_12]; omega⟩
  · obtain ⟨t, ht, hP, e⟩ := h 0 0 (by omega) (by omega)
    exact ⟨t, ht, hP, by rw [yf_13, yf_13]; omega⟩
  · obtain ⟨t, ht, hP, e⟩ := h 4 5 (by omega) (by omega)
    simp only [yf_e4, yf_e5] at e
    exact ⟨t, ht, hP, by rw [yf_14, yf_14]; omega⟩
  · obtain ⟨t, ht, hP, e⟩ := h 0 4 (by omega) (by omega)
    simp only [yf_e0, yf_e4] at e
    exact ⟨t, ht, hP, by rw [yf_15, yf_15]; omega⟩
  · obtain ⟨t, ht, hP, e⟩ := h 0 1 (by omega) (by omega)
    simp only [yf_e0, yf_e1] at e
    exact ⟨t, ht, hP, by rw [yf_16, yf_16]; omega⟩
  · obtain ⟨t, ht, hP, e⟩ := h 0 5 (by omega) (by omega)
    simp only [yf_e0, yf_e5] at e
    exact ⟨t, ht, hP, by rw [yf_17, yf_17]; omega⟩
  · obtain ⟨t, ht, hP, e⟩ := h 3 4 (by omega) (by omega)
    simp only [yf_e3, yf_e4] at e
    exact ⟨t, ht, hP, by rw [yf_18, yf_18]; omega⟩
  · obtain ⟨t, ht, hP, e⟩ := h 3 2 (by omega) (by omega)
    simp only [yf_e3, yf_e2] at e
    exact ⟨t, ht, hP, by rw [yf_19, yf_19]; omega⟩
  · obtain ⟨t, ht, hP, e⟩ := h 3 5 (by omega) (by omega)
    simp only [yf_e3, yf_e5] at e
    exact ⟨t, ht, hP, by rw [yf_20, yf_20]; omega⟩
  · obtain ⟨t, ht, hP, e⟩ := h 5 4 (by omega) (by omega)
    simp only [yf_e5, yf_e4] at e
    exact ⟨t, ht, hP, by rw [yf_21, yf_21]; omega⟩
  · obtain ⟨t, ht, hP, e⟩ := h 0 0 (by omega) (by omega)
    exact ⟨t, ht, hP, by rw [yf_22, yf_22]; omega⟩
  · obtain ⟨t, ht, hP, e⟩ := h 4 5 (by omega) (by omega)
    simp only [yf_e4, yf_e5] at e
    exact ⟨t, ht, hP, by rw [yf_23, yf_23]; omega⟩
  · obtain ⟨t, ht, hP, e⟩ := h 2 4 (by omega) (by omega)
    simp only [yf_e2, yf_e4] at e
    exact ⟨t, ht, hP, by rw [yf_24, yf_24]; omega⟩
  · obtain ⟨t, ht, hP, e⟩ := h 2 3 (by omega) (by omega)
    simp only [yf_e2, yf_e3] at e
    exact ⟨t, ht, hP, by rw [yf_25, yf_25]; omega⟩
  · obtain ⟨t, ht, hP, e⟩ := h 2 5 (by omega) (by omega)
    simp only [yf_e2, yf_e5] at e
    exact ⟨t, ht, hP, by rw [yf_26, yf_26]; omega⟩
theorem yf_hull2 {P : Nat → Prop} {s : Nat} (h : ∀ k, k < 27 → ∃ t, t < 512 ∧ P t ∧ yf_v k s ≤ yf_v k t) : gr_hull P s := by
  intro a b ha hb
  have ca : a = 0 ∨ a = 1 ∨ a = 2 ∨ a = 3 ∨ a = 4 ∨ a = 5 := by omega
  have cb : b = 0 ∨ b = 1 ∨ b = 2 ∨ b = 3 ∨ b = 4 ∨ b = 5 := by omega
  rcases ca with rfl | rfl | rfl | rfl | rfl | rfl <;> rcases cb with rfl | rfl | rfl | rfl | rfl | rfl
  · obtain ⟨t, ht, hP, e⟩ := h 4 (by omega)
    rw [yf_4, yf_4] at e
    exact ⟨t, ht, hP, by simp only [yf_e0]; omega⟩
  · obtain ⟨t, ht, hP, e⟩ := h 7 (by omega)
    rw [yf_7, yf_7] at e
    exact ⟨t, ht, hP, by simp only [yf_e0, yf_e1]; omega⟩
  · obtain ⟨t, ht, hP, e⟩ := h 6 (by omega)
    rw [yf_6, yf_6] at e
    exact ⟨t, ht, hP, by simp only [yf_e0, yf_e2]; omega⟩
  · obtain ⟨t, ht, hP, e⟩ := h 8 (by omega)
    rw [yf_8, yf_8] at e
    exact ⟨t, ht, hP, by simp only [yf_e0, yf_e3]; omega⟩
  · obtain ⟨t, ht, hP, e⟩ := h 15 (by omega)
    rw [yf_15, yf_15] at e
    exact ⟨t, ht, hP, by simp only [yf_e0, yf_e4]; omega⟩
  · obtain ⟨t, ht, hP, e⟩ := h 17 (by omega)
    rw [yf_17, yf_17] at e
    exact ⟨t, ht, hP, by simp only [yf_e0, yf_e5]; omega⟩
  · obtain ⟨t, ht, hP, e⟩ := h 1 (by omega)
    rw [yf_1, yf_1] at e
    exact ⟨t, ht, hP, by simp only [yf_e1, yf_e0]; omega⟩
  · obtain ⟨t, ht, hP, e⟩ := h 4 (by omega)
    rw [yf_4, yf_4] at e
    exact ⟨t, ht, hP, by simp only [yf_e1]; omega⟩
  · obtain ⟨t, ht, hP, e⟩ := h 0 (by omega)
    rw [yf_0, yf_0] at e
    exact ⟨t, ht, hP, by simp only [yf_e1, yf_e2]; omega⟩
  · obtain ⟨t, ht, hP, e⟩ := h 2 (by omega)
    rw [yf_2, yf_2] at e
    exact ⟨t, ht, hP, by simp only [yf_e1, yf_e3]; omega⟩
  · obtain ⟨t, ht, hP, e⟩ := h 9 (by omega)
    rw [yf_9, yf_9] at e
    exact ⟨t, ht, hP, by simp only [yf_e1, yf_e4]; omega⟩
  · obtain ⟨t, ht, hP, e⟩ := h 11 (by omega)
    rw [yf_11, yf_11] at e
    exact ⟨t, ht, hP, by simp only [yf_e1, yf_e5]; omega⟩
  · obtain ⟨t, ht, hP, e⟩ := h 2 (by omega)
    rw [yf_2, yf_2] at e
    exact ⟨t, ht, hP, by simp only [yf_e2, yf_e0]; omega⟩
  · obtain ⟨t, ht, hP, e⟩ := h 8 (by omega)
    rw [yf_8, yf_8] at e
    exact ⟨t, ht, hP, by simp only [yf_e2, yf_e1]; omega⟩
  · obtain ⟨t, ht, hP, e⟩ := h 4 (by omega)
    rw [yf_4, yf_4] at e
    exact ⟨t, ht, hP, by simp only [yf_e2]; omega⟩
  · obtain ⟨t, ht, hP, e⟩ := h 5 (by omega)
    rw [yf_5, yf_5] at e
    exact ⟨t, ht, hP, by simp only [yf_e2, yf_e3]; omega⟩
  · obtain ⟨t, ht, hP, e⟩ := h 24 (by omega)
    rw [yf_24, yf_24] at e
    exact ⟨t, ht, hP, by simp only [yf_e2, yf_e4]; omega⟩
  · obtain ⟨t, ht, hP, e⟩ := h 26 (by omega)
    rw [yf_26, yf_26] at e
    exact ⟨t, ht, hP, by simp only [yf_e2, yf_e5]; omega⟩
  · obtain ⟨t, ht, hP, e⟩ := h 0 (by omega)
    rw [yf_0, yf_0] at e
    exact ⟨t, ht, hP, by simp only [yf_e3, yf_e0]; omega⟩
  · obtain ⟨t, ht, hP, e⟩ := h 6 (by omega)
    rw [yf_6, yf_6] at e
    exact ⟨t, ht, hP, by simp only [yf_e3, yf_e1]; omega⟩
  · obtain ⟨t, ht, hP, e⟩ := h 3 (by omega)
    rw [yf_3, yf_3] at e
    exact ⟨t, ht, hP, by simp only [yf_e3, yf_e2]; omega⟩
  · obtain ⟨t, ht, hP, e⟩ := h 4 (by omega)
    rw [yf_4, yf_4] at e
    exact ⟨t, ht, hP, by simp only [yf_e3]; omega⟩
  · obtain ⟨t, ht, hP, e⟩ := h 18 (by omega)
    rw [yf_18, yf_18] at e
    exact ⟨t, ht, hP, by simp only [yf_e3, yf_e4]; omega⟩
  · obtain ⟨t, ht, hP, e⟩ := h 20 (by omega)
    rw [yf_20, yf_20] at e
    exact ⟨t, ht, hP, by simp only [yf_e3, yf_e5]; omega⟩
  · obtain ⟨t, ht, hP, e⟩ := h 11 (by omega)
    rw [yf_11, yf_11] at e
    exact ⟨t, ht, hP, by simp only [yf_e4, yf_e0]; omega⟩
  · obtain ⟨t, ht, hP, e⟩ := h 17 (by omega)
    rw [yf_17, yf_17] at e
    exact ⟨t, ht, hP, by simp only [yf_e4, yf_e1]; omega⟩
  · obtain ⟨t, ht, hP, e⟩ := h 20 (by omega)
    rw [yf_20, yf_20] at e
    exact ⟨t, ht, hP, by simp only [yf_e4, yf_e2]; omega⟩
  · obtain ⟨t, ht, hP, e⟩ := h 26 (by omega)
    rw [yf_26, yf_26] at e
    exact ⟨t, ht, hP, by simp only [yf_e4, yf_e3]; omega⟩
  · obtain ⟨t, ht, hP, e⟩ := h 4 (by omega)
    rw [yf_4, yf_4] at e
    exact ⟨t, ht, hP, by simp only [yf_e4]; omega⟩
  · obtain ⟨t, ht, hP, e⟩ := h 14 (by omega)
    rw [yf_14, yf_14] at e
    exact ⟨t, ht, hP, by simp only [yf_e4, yf_e5]; omega⟩
  · obtain ⟨t, ht, hP, e⟩ := h 9 (by omega)
    rw [yf_9, yf_9] at e
    exact ⟨t, ht, hP, by simp only [yf_e5, yf_e0]; omega⟩
  · obtain ⟨t, ht, hP, e⟩ := h 15 (by omega)
    rw [yf_15, yf_15] at e
    exact ⟨t, ht, hP, by simp only [yf_e5, yf_e1]; omega⟩
  · obtain ⟨t, ht, hP, e⟩ := h 18 (by omega)
    rw [yf_18, yf_18] at e
    exact ⟨t, ht, hP, by simp only [yf_e5, yf_e2]; omega⟩
  · obtain ⟨t, ht, hP, e⟩ := h 24 (by omega)
    rw [yf_24, yf_24] at e
    exact ⟨t, ht, hP, by simp only [yf_e5, yf_e3]; omega⟩
  · obtain ⟨t, ht, hP, e⟩ := h 12 (by omega)
    rw [yf_12, yf_12] at e
    exact ⟨t, ht, hP, by simp only [yf_e5, yf_e4]; omega⟩
  · obtain ⟨t, ht, hP, e⟩ := h 4 (by omega)
    rw [yf_4, yf_4] at e
    exact ⟨t, ht, hP, by simp only [yf_e5]; omega⟩
end
section
/-! the reference's octagons: form, fits, close -/
theorem yf_pr {a b : Int} (h1 : -1 ≤ a) (h2 : a ≤ 1) (h3 : 0 ≤ b) (h4 : b ≤ 7) : -7 ≤ a * b ∧ a * b ≤ 7 := by
  have : a = -1 ∨ a = 0 ∨ a = 1 := by omega
  rcases this with rfl | rfl | rfl <;> omega
theorem yf_bd {k s : Nat} (hk : k < 27) : -14 ≤ yf_v k s ∧ yf_v k s ≤ 14 := by
  have d1 := gr_dg_lt s (k / 18)
  have d2 := gr_dg_lt s (1 + (k / 9 + 1) / 2)
  have x := yf_pr (a := ((k % 9 / 3 : Nat) : Int) - 1) (b := (gr_dg s (k / 18) : Int)) (by omega) (by omega) (by omega) (by omega)
  have y := yf_pr (a := ((k % 3 : Nat) : Int) - 1) (b := (gr_dg s (1 + (k / 9 + 1) / 2) : Int)) (by omega) (by omega) (by omega) (by omega)
  unfold yf_v
  omega
theorem yf_form {post : Int32 → Prop} {k s : Nat} (hk : k < 27) (hs : s < 512) (H : ∀ r : Int32, r.toInt = yf_v k s → post r) : wpY_form post (nI k) (nI s) := by
  have q1 : nI k / 18 = nI (k / 18) := pk_div (d := 18) (by omega) (by omega) (by omega)
  have q2 : nI k - nI k / 9 * 9 = nI (k % 9) := pk_rem (d := 9) (by omega) (by omega) (by omega)
  have q3 : nI (k % 9) / 3 = nI (k % 9 / 3) := pk_div (d := 3) (by omega) (by omega) (by omega)
  have q4 : nI k - nI k / 3 * 3 = nI (k % 3) := pk_rem (d := 3) (by omega) (by omega) (by omega)
  have d1 := gr_dg_lt s (k / 18)
  have t1 : (nI (k % 9 / 3) - 1).toInt = ((k % 9 / 3 : Nat) : Int) - 1 := xa_sub (xa_nI (by omega)) xa_1 (by omega) (by omega)
  have t2 : (nI (k % 3) - 1).toInt = ((k % 3 : Nat) : Int) - 1 := xa_sub (xa_nI (by omega)) xa_1 (by omega) (by omega)
  have x := yf_pr (a := ((k % 9 / 3 : Nat) : Int) - 1) (b := (gr_dg s (k / 18) : Int)) (by omega) (by omega) (by omega) (by omega)
  have t3 : ((nI (k % 9 / 3) - 1) * nI (gr_dg s (k / 18))).toInt = (((k % 9 / 3 : Nat) : Int) - 1) * (gr_dg s (k / 18) : Int) := xa_mul t1 (xa_nI (by omega)) (by omega) (by omega)
  have key : ∀ j : Nat, j < 3 → j = 1 + (k / 9 + 1) / 2 → wY_form_21 post (nI k) (nI (gr_dg s (k / 18))) (nI j) (nI s) := by
    intro j hj ej
    have d2 := gr_dg_lt s j
    have y := yf_pr (a := ((k % 3 : Nat) : Int) - 1) (b := (gr_dg s j : Int)) (by omega) (by omega) (by omega) (by omega)
    have t4 : ((nI (k % 3) - 1) * nI (gr_dg s j)).toInt = (((k % 3 : Nat) : Int) - 1) * (gr_dg s j : Int) := xa_mul t2 (xa_nI (by omega)) (by omega) (by omega)
    have t5 := xa_add t3 t4 (by omega) (by omega)
    unfold wY_form_21
    show ¬ (9 : Int32) = 0 ∧ _
    rw [xg_num hs hj, q2, q3, q4]
    refine ⟨by decide, by decide, by decide, H _ ?_⟩
    rw [t5, ej]
    rfl
  refine ⟨by decide, ?_⟩
  rw [q1]
  show (_ → _) ∧ (_ → _)
  rw [xg_num hs (by omega)]
  exact pk_le 9 k (fun z => key 2 (by omega) (by omega)) (fun z => key 1 (by omega) (by omega))
def yc_B (hd : Nat → Int32) (p m : Nat) (bd : Nat → Int32) (k : Nat) : Prop := (∀ s, s < m → s < 512 → hd (512 * p + s) ≠ 0 → yf_v k s ≤ (bd k).toInt) ∧
  ((bd k).toInt = -1000 ∨ ∃ s, s < m ∧ s < 512 ∧ hd (512 * p + s) ≠ 0 ∧ yf_v k s = (bd k).toInt)
theorem yc_B_skip {hd : Nat → Int32} {p m : Nat} {bd : Nat → Int32} {k : Nat} (B : yc_B hd p m bd k) (h : hd (512 * p + m) = 0) : yc_B hd p (m + 1) bd k := by
  refine ⟨fun s hs h5 hh => ?_, B.2.elim Or.inl (fun ⟨s, hs, w⟩ => Or.inr ⟨s, by omega, w⟩)⟩
  by_cases e : s = m
  · subst e; exact absurd h hh
  · exact B.1 s (by omega) h5 hh
theorem yc_B_keep {hd : Nat → Int32} {p m : Nat} {bd : Nat → Int32} {k : Nat} (B : yc_B hd p m bd k) (h : yf_v k m ≤ (bd k).toInt) : yc_B hd p (m + 1) bd k := by
  refine ⟨fun s hs h5 hh => ?_, B.2.elim Or.inl (fun ⟨s, hs, w⟩ => Or.inr ⟨s, by omega, w⟩)⟩
  by_cases e : s = m
  · subst e; exact h
  · exact B.1 s (by omega) h5 hh
theorem yc_B_new {hd : Nat → Int32} {p m : Nat} {bd bd' : Nat → Int32} {k : Nat} (B : yc_B hd p m bd k) (hm : m < 512) (hh : hd (512 * p + m) ≠ 0) (e : (bd' k).toInt = yf_v k m) (h : (bd k).toInt ≤ yf_v k m) : yc_B hd p (m + 1) bd' k := by
  refine ⟨fun s hs h5 hh' => ?_, Or.inr ⟨m, by omega, hm, hh, e.symm⟩⟩
  by_cases z : s = m
  · subst z; omega
  · have := B.1 s (by omega) h5 hh'
    omega
theorem yc_B_cong {hd : Nat → Int32} {p m : Nat} {bd bd' : Nat → Int32} {k : Nat} (B : yc_B hd p m bd k) (e : bd' k = bd k) : yc_B hd p m bd' k := by
  unfold yc_B; rw [e]; exact B
theorem yc_fit {hd bd : Nat → Int32} {p s : Nat} (B : ∀ k, k < 27 → yc_B hd p 512 bd k) : (∀ k, k < 27 → yf_v k s ≤ (bd k).toInt) ↔ gr_hull (fun t => hd (512 * p + t) ≠ 0) s := by
  constructor
  · intro h
    refine yf_hull2 (fun k hk => ?_)
    have hb := yf_bd (s := s) hk
    have hs := h k hk
    rcases (B k hk).2 with z | ⟨t, _, ht, hh, e⟩
    · omega
    · exact ⟨t, ht, hh, by omega⟩
  · intro h k hk
    obtain ⟨t, ht, hh, e⟩ := yf_hull1 h hk
    have := (B k hk).1 t ht ht hh
    omega
section
variable {f_edges f_known : Int32} {a_from a_to a_kind a_first a_second a_number a_low a_high a_steps a_held a_bounds : Nat → Int32}
theorem yc_fits2 {post : Int32 → Prop} {s : Nat} (hs : s < 512) (H1 : (∀ k, k < 27 → yf_v k s ≤ (a_bounds k).toInt) → post 1) (H0 : ¬ (∀ k, k < 27 → yf_v k s ≤ (a_bounds k).toInt) → post 0) :
    ∀ (n m : Nat), m ≤ 27 → 27 < n + m → (∀ k, k < m → yf_v k s ≤ (a_bounds k).toInt) → wY_fits_2 post (nI s) f_edges f_known a_from a_to a_kind a_first a_second a_number a_low a_high a_steps a_held a_bounds n (nI m) := by
  intro n
  induction n with
  | zero => intro m h1 h2; omega
  | succ n ih =>
    intro m hm hn hb
    rw [wY_fits_2]
    by_cases e : m = 27
    · subst e
      exact br_t (show (27 : Int32) ≤ nI 27 by decide) (H1 hb)
    · have cm : (nI m).toNatClampNeg = m := nI_clamp (by omega)
      refine br_f (nI_ge (b := 27) (by omega) (by omega)) (yf_form (by omega) hs (fun r hr => ⟨vp_in_nI (by omega) (by omega), ?_⟩))
      rw [cm]
      refine br_c (fun w => nm_r (nI_1 m) (ih (m + 1) (by omega) (by omega) (lt_s hb ?_))) (fun w => H0 (fun z => w ?_))
      · rw [xa_le hr rfl] at w; exact w
      · rw [xa_le hr rfl]; exact z m (by omega)
theorem yc_fits {post : Int32 → Prop} {s : Nat} (hs : s < 512) (H1 : (∀ k, k < 27 → yf_v k s ≤ (a_bounds k).toInt) → post 1) (H0 : ¬ (∀ k, k < 27 → yf_v k s ≤ (a_bounds k).toInt) → post 0) :
    wpY_fits post (f_edges, f_known, a_from, a_to, a_kind, a_first, a_second, a_number, a_low, a_high, a_steps, a_held, a_bounds) (nI s) := ⟨28, yc_fits2 hs H1 H0 28 0 (by omega) (by omega) (fun k hk => absurd hk (Nat.not_lt_zero k))⟩
theorem yc_95 {post : SY → Prop} {p : Nat} (hp : p < 7) {hd0 : Nat → Int32} (B : ∀ k, k < 27 → yc_B hd0 p 512 a_bounds k)
    (H : ∀ hd, (∀ k, k / 512 ≠ p → hd k = hd0 k) → (∀ s, s < 512 → (hd (512 * p + s) = 0 ∨ hd (512 * p + s) = 1) ∧ (hd (512 * p + s) ≠ 0 ↔ gr_hull (fun t => hd0 (512 * p + t) ≠ 0) s)) → post (f_edges, f_known, a_from, a_to, a_kind, a_first, a_second, a_number, a_low, a_high, a_steps, hd, a_bounds)) :
    ∀ (n m : Nat) (hd : Nat → Int32), m ≤ 512 → 512 < n + m → (∀ k, k / 512 ≠ p → hd k = hd0 k) → (∀ s, m ≤ s → s < 512 → hd (512 * p + s) = hd0 (512 * p + s)) →
      (∀ s, s < m → (hd (512 * p + s) = 0 ∨ hd (512 * p + s) = 1) ∧ (hd (512 * p + s) ≠ 0 ↔ gr_hull (fun t => hd0 (512 * p + t) ≠ 0) s)) → wY_close_95 post (nI p) f_edges f_known n (nI m) a_from a_to a_kind a_first a_second a_number a_low a_high a_steps hd a_bounds := by
  intro n
  induction n with
  | zero => intro m hd h1 h2; omega
  | succ n ih =>
    intro m hd hm hn k1 k2 k3
    rw [wY_close_95]
    by_cases e : m = 512
    · subst e
      exact br_t (show (512 : Int32) ≤ nI 512 by decide) (H hd k1 k3)
    · have m5 : m < 512 := by omega
      have i1 : (512 * nI p) + nI m = nI (512 * p + m) := by
        show nI 512 * nI p + nI m = _
        rw [pk_mul, nI_add]
      have one : (1 : Int32) ≠ 0 := by decide
      have st : ∀ v : Int32, (v = 0 ∨ v = 1) → (v ≠ 0 ↔ gr_hull (fun t => hd0 (512 * p + t) ≠ 0) m) → wY_close_95 post (nI p) f_edges f_known n (nI (m + 1)) a_from a_to a_kind a_first a_second a_number a_low a_high a_steps (upd hd (512 * p + m) v) a_bounds := by
        intro v hv hv2
        refine ih (m + 1) _ (by omega) (by omega) (fun k hk => ?_) (fun s hs h5 => ?_) (fun s hs => ?_)
        · rw [pk_un (by omega)]; exact k1 k hk
        · rw [pk_un (by omega)]; exact k2 s (by omega) h5
        · by_cases z : s = m
          · subst z; rw [pk_us]; exact ⟨hv, hv2⟩
          · rw [pk_un (by omega)]; exact k3 s (by omega)
      have fit := yc_fit (s := m) B
      refine br_f (nI_ge (b := 512) (by omega) (by omega)) ?_
      rw [pk_cl _ i1, k2 m (Nat.le_refl _) m5, xw_b0, xw_b1]
      refine ⟨pk_in _ 3584 (by omega) i1, br_c (fun w => yc_fits m5 (fun hf => ?_) (fun hf => ?_)) (fun w => ⟨pk_in _ 3584 (by omega) i1, nm_e (nm_r (nI_1 m) (st 1 (Or.inr rfl) ⟨fun _ => gr_hull_self m5 w, fun _ => one⟩))⟩)⟩
      · exact br_f (by decide) ⟨pk_in _ 3584 (by omega) i1, nm_e (nm_r (nI_1 m) (st 1 (Or.inr rfl) ⟨fun _ => fit.mp hf, fun _ => one⟩))⟩
      · exact br_t rfl ⟨pk_in _ 3584 (by omega) i1, nm_e (nm_r (nI_1 m) (st 0 (Or.inl rfl) ⟨fun z => absurd rfl z, fun z => absurd (fit.mpr z) hf⟩))⟩
theorem yc_34 {post : SY → Prop} {J25 : Int32 → (Nat → Int32) → (Nat → Int32) → (Nat → Int32) → (Nat → Int32) → (Nat → Int32) → (Nat → Int32) → (Nat → Int32) → (Nat → Int32) → (Nat → Int32) → (Nat → Int32) → (Nat → Int32) → Prop}
    {p s : Nat} (hp : p < 7) (hs : s < 512) (H : ∀ bd, (∀ k, k < 27 → yc_B a_held p (s + 1) bd k) → J25 (nI (s + 1)) a_from a_to a_kind a_first a_second a_number a_low a_high a_steps a_held bd) :
    ∀ (n m : Nat) (bd : Nat → Int32), m ≤ 27 → 27 < n + m → (∀ k, k < 27 → (k < m → yc_B a_held p (s + 1) bd k) ∧ (m ≤ k → yc_B a_held p s bd k)) → (0 < m → a_held (512 * p + s) ≠ 0) →
      wY_close_34 post J25 (nI p) (nI s) f_edges f_known n (nI m) a_from a_to a_kind a_first a_second a_number a_low a_high a_steps a_held bd := by
  intro n
  induction n with
  | zero => intro m bd h1 h2; omega
  | succ n ih =>
    intro m bd hm hn hb h0
    rw [wY_close_34]
    by_cases e : m = 27
    · subst e
      exact br_t (show (27 : Int32) ≤ nI 27 by decide) (nm_r (nI_1 s) (H bd (fun k hk => (hb k hk).1 hk)))
    · have m27 : m < 27 := by omega
      have cm : (nI m).toNatClampNeg = m := nI_clamp (by omega)
      have i1 : (512 * nI p) + nI s = nI (512 * p + s) := by
        show nI 512 * nI p + nI s = _
        rw [pk_mul, nI_add]
      refine br_f (nI_ge (b := 27) (by omega) (by omega)) ?_
      rw [pk_cl _ i1]
      refine ⟨pk_in _ 3584 (by omega) i1, br_c (fun w => nm_r (nI_1 s) (H bd (fun k hk => ?_))) (fun w => yf_form m27 hs (fun r hr => ⟨vp_in_nI m27 (by omega), ?_⟩))⟩
      · rcases Nat.eq_zero_or_pos m with z | z
        · exact yc_B_skip ((hb k hk).2 (by omega)) w
        · exact absurd w (h0 z)
      · rw [cm]
        refine br_c (fun z => nm_r (nI_1 m) (ih (m + 1) bd (by omega) (by omega) (fun k hk => ⟨fun l => ?_, fun l => (hb k hk).2 (by omega)⟩) (fun _ => w))) (fun z => ⟨vp_in_nI m27 (by omega), nm_e (nm_r (nI_1 m) (ih (m + 1) _ (by omega) (by omega) (fun k hk => ⟨fun l => ?_, fun l => ?_⟩) (fun _ => w)))⟩)
        · rw [xa_le hr rfl] at z
          by_cases y : k = m
          · subst y; exact yc_B_keep ((hb k hk).2 (Nat.le_refl _)) z
          · exact (hb k hk).1 (by omega)
        · rw [xa_le hr rfl] at z
          by_cases y : k = m
          · subst y
            exact yc_B_new ((hb k hk).2 (Nat.le_refl _)) hs w (by rw [pk_us]; exact hr) (by omega)
          · exact yc_B_cong ((hb k hk).1 (by omega)) (pk_un y)
        · exact yc_B_cong ((hb k hk).2 (by omega)) (pk_un (by omega))
theorem yc_25 {post : SY → Prop} {p : Nat} (hp : p < 7)
    (H : ∀ hd bd, (∀ k, k / 512 ≠ p → hd k = a_held k) → (∀ s, s < 512 → (hd (512 * p + s) = 0 ∨ hd (512 * p + s) = 1) ∧ (hd (512 * p + s) ≠ 0 ↔ gr_hull (fun t => a_held (512 * p + t) ≠ 0) s)) → post (f_edges, f_known, a_from, a_to, a_kind, a_first, a_second, a_number, a_low, a_high, a_steps, hd, bd)) :
    ∀ (n m : Nat) (bd : Nat → Int32), m ≤ 512 → 512 < n + m → (∀ k, k < 27 → yc_B a_held p m bd k) → wY_close_25 post (nI p) f_edges f_known n (nI m) a_from a_to a_kind a_first a_second a_number a_low a_high a_steps a_held bd := by
  intro n
  induction n with
  | zero => intro m bd h1 h2; omega
  | succ n ih =>
    intro m bd hm hn hb
    rw [wY_close_25]
    by_cases e : m = 512
    · subst e
      exact br_t (show (512 : Int32) ≤ nI 512 by decide) ⟨513, yc_95 hp hb (fun hd h1 h2 => H hd bd h1 h2) 513 0 a_held (by omega) (by omega) (fun _ _ => rfl) (fun _ _ _ => rfl) (fun s hs => absurd hs (Nat.not_lt_zero s))⟩
    · refine br_f (nI_ge (b := 512) (by omega) (by omega)) ⟨28, yc_34 hp (by omega) (fun bd' h => ih (m + 1) bd' (by omega) (by omega) h) 28 0 bd (by omega) (by omega) (fun k hk => ⟨fun l => absurd l (Nat.not_lt_zero k), fun _ => hb k hk⟩) (fun l => absurd l (Nat.lt_irrefl 0))⟩
theorem yc_2 {post : SY → Prop} {p : Nat} (hp : p < 7)
    (H : ∀ hd bd, (∀ k, k / 512 ≠ p → hd k = a_held k) → (∀ s, s < 512 → (hd (512 * p + s) = 0 ∨ hd (512 * p + s) = 1) ∧ (hd (512 * p + s) ≠ 0 ↔ gr_hull (fun t => a_held (512 * p + t) ≠ 0) s)) → post (f_edges, f_known, a_from, a_to, a_kind, a_first, a_second, a_number, a_low, a_high, a_steps, hd, bd)) :
    ∀ (n m : Nat) (bd : Nat → Int32), m ≤ 27 → 27 < n + m → (∀ k, k < m → (bd k).toInt = -1000) → wY_close_2 post (nI p) f_edges f_known n (nI m) a_from a_to a_kind a_first a_second a_number a_low a_high a_steps a_held bd := by
  intro n
  induction n with
  | zero => intro m bd h1 h2; omega
  | succ n ih =>
    intro m bd hm hn hb
    rw [wY_close_2]
    by_cases e : m = 27
    · subst e
      exact br_t (show (27 : Int32) ≤ nI 27 by decide) ⟨513, yc_25 hp H 513 0 bd (by omega) (by omega) (fun k hk => ⟨fun s hs => absurd hs (Nat.not_lt_zero s), Or.inl (hb k hk)⟩)⟩
    · have cm : (nI m).toNatClampNeg = m := nI_clamp (by omega)
      refine br_f (nI_ge (b := 27) (by omega) (by omega)) ⟨vp_in_nI (by omega) (by omega), ?_⟩
      rw [cm]
      refine nm_e (nm_r (nI_1 m) (ih (m + 1) _ (by omega) (by omega) (fun k hk => ?_)))
      by_cases y : k = m
      · subst y; rw [pk_us]; decide
      · rw [pk_un y]; exact hb k (by omega)
theorem yc_close {post : SY → Prop} {p0 : Int32} {p : Nat} (h0 : p0 = nI p) (hp : p < 7)
    (H : ∀ hd bd, (∀ k, k / 512 ≠ p → hd k = a_held k) → (∀ s, s < 512 → (hd (512 * p + s) = 0 ∨ hd (512 * p + s) = 1) ∧ (hd (512 * p + s) ≠ 0 ↔ gr_hull (fun t => a_held (512 * p + t) ≠ 0) s)) → post (f_edges, f_known, a_from, a_to, a_kind, a_first, a_second, a_number, a_low, a_high, a_steps, hd, bd)) :
    wpY_close post (f_edges, f_known, a_from, a_to, a_kind, a_first, a_second, a_number, a_low, a_high, a_steps, a_held, a_bounds) p0 := by
  subst h0
  exact ⟨28, yc_2 hp H 28 0 a_bounds (by omega) (by omega) (fun k hk => absurd hk (Nat.not_lt_zero k))⟩
end
end
section
/-! the reference's sweeps: over, gather -/
abbrev YoJ : Type := Int32 → Int32 → (Nat → Int32) → (Nat → Int32) → (Nat → Int32) → (Nat → Int32) → (Nat → Int32) → (Nat → Int32) → (Nat → Int32) → (Nat → Int32) → (Nat → Int32) → (Nat → Int32) → (Nat → Int32) → Prop
theorem gr_hull_hull {P : Nat → Prop} {s : Nat} (h : gr_hull (gr_hull P) s) : gr_hull P s := fun a b ha hb => by
  obtain ⟨t, ht, hP, e⟩ := h a b ha hb
  obtain ⟨u, hu, hP', e'⟩ := hP a b ha hb
  exact ⟨u, hu, hP', by omega⟩
/-- held: zeros and ones, within the least set -/
def yo_V (G : GrP) (h : Nat → Int32) : Prop := ∀ k, k < 3584 → (h k = 0 ∨ h k = 1) ∧ (h k ≠ 0 → gr_H G k)
def yo_cl (G : GrP) (h : Nat → Int32) (e : Nat) : Prop := ∀ s t, s < 512 → h (512 * gr_F G e + s) ≠ 0 → gr_te G e s t → h (512 * gr_T G e + t) ≠ 0
/-- a step from h to h': b = 0, nothing is new, and C holds; b = 1, something is new -/
def yo_R (h h' : Nat → Int32) (b : Nat) (C : Prop) : Prop := (∀ k, k < 3584 → h k ≠ 0 → h' k ≠ 0) ∧ ((b = 0 ∧ (∀ k, k < 3584 → h' k = h k) ∧ C) ∨ (b = 1 ∧ ∃ k, k < 3584 ∧ h' k ≠ 0 ∧ h k = 0))
theorem yo_b {h h' : Nat → Int32} {b : Nat} {C : Prop} (R : yo_R h h' b C) : b = 0 ∨ b = 1 := R.2.elim (fun w => Or.inl w.1) (fun w => Or.inr w.1)
theorem yo_imp {h h' : Nat → Int32} {b : Nat} {C C' : Prop} (R : yo_R h h' b C) (i : (∀ k, k < 3584 → h' k = h k) → C → C') : yo_R h h' b C' :=
  ⟨R.1, R.2.elim (fun w => Or.inl ⟨w.1, w.2.1, i w.2.1 w.2.2⟩) Or.inr⟩
theorem yo_comp {h h1 h2 : Nat → Int32} {b1 b2 : Nat} {C1 C2 : Prop} (R1 : yo_R h h1 b1 C1) (R2 : yo_R h1 h2 b2 C2) : yo_R h h2 (max b1 b2) (C1 ∧ C2 ∧ ∀ k, k < 3584 → h1 k = h k) := by
  obtain ⟨m1, r1⟩ := R1
  obtain ⟨m2, r2⟩ := R2
  refine ⟨fun k hk w => m2 k hk (m1 k hk w), ?_⟩
  rcases r1 with ⟨e1, a1, c1⟩ | ⟨e1, k, hk, n1, n2⟩
  · rcases r2 with ⟨e2, a2, c2⟩ | ⟨e2, k, hk, n1, n2⟩
    · exact Or.inl ⟨by omega, fun k hk => (a2 k hk).trans (a1 k hk), c1, c2, a1⟩
    · exact Or.inr ⟨by omega, k, hk, n1, by rw [← a1 k hk]; exact n2⟩
  · have hb2 : b2 = 0 ∨ b2 = 1 := r2.elim (fun w => Or.inl w.1) (fun w => Or.inr w.1)
    exact Or.inr ⟨by omega, k, hk, m2 k hk n1, n2⟩
theorem yo_cl_eq {G : GrP} (go : gr_ok G) {h h1 : Nat → Int32} (a : ∀ k, k < 3584 → h1 k = h k) {e : Nat} (he : e < gr_E G) (c : yo_cl G h1 e) : yo_cl G h e := by
  have e20 : e < 20 := Nat.lt_of_lt_of_le he go.1
  obtain ⟨f7, t7, _⟩ := go.2.1 e e20
  intro s t hs hh ht
  have t5 := gr_te_lt go he hs ht
  have := c s t hs (by rw [a _ (by omega)]; exact hh) ht
  rwa [a _ (by omega)] at this
section
variable {f_edges f_known : Int32} {a_from a_to a_kind a_first a_second a_number a_low a_high a_steps a_held a_bounds : Nat → Int32}
theorem yo_22 {post : Int32 → SY → Prop} {J11 : YoJ} {G : GrP} (hP : xp_P G f_edges a_from a_to a_kind a_first a_second a_low a_high) (hC : xp_C G a_number) {e s : Nat} (he : e < gr_E G) (hs : s < 512) {h0 : Nat → Int32} {C0 : Prop}
    (HJ : ∀ b h, yo_V G h → (∀ k, k / 512 ≠ gr_T G e → h k = h0 k) → yo_R h0 h b (C0 ∧ (h0 (512 * gr_F G e + s) ≠ 0 → ∀ t, gr_te G e s t → h0 (512 * gr_T G e + t) ≠ 0)) → J11 (nI b) (nI (s + 1)) a_from a_to a_kind a_first a_second a_number a_low a_high a_steps h a_bounds) :
    ∀ (n j b : Nat) (h : Nat → Int32), j ≤ (if gr_K G e = 4 then 8 else 1) → (if gr_K G e = 4 then 8 else 1) < n + j → yo_V G h → (∀ k, k / 512 ≠ gr_T G e → h k = h0 k) →
      yo_R h0 h b (C0 ∧ ∀ t, gr_te G e s t → (gr_K G e = 4 → ∃ i, i < j ∧ t = gr_set s (gr_A G e) i) → (gr_K G e ≠ 4 → 0 < j) → h0 (512 * gr_T G e + t) ≠ 0) →
      wY_over_22 post J11 (nI e) (nI (if gr_K G e = 4 then 8 else 1)) (nI s) f_edges f_known n (nI b) (nI j) a_from a_to a_kind a_first a_second a_number a_low a_high a_steps h a_bounds := by
  have hP' := hP
  obtain ⟨go, hE, ha, _⟩ := hP
  have e20 : e < 20 := Nat.lt_of_lt_of_le he go.1
  obtain ⟨f7, t7, k8, a3, b3⟩ := go.2.1 e e20
  obtain ⟨hF, hT, hK, hA, hB⟩ := ha e e20
  have ce : (nI e).toNatClampNeg = e := nI_clamp (by omega)
  have hi : vp_in (nI e) 20 := vp_in_nI e20 (by omega)
  have W8 : (if gr_K G e = 4 then 8 else 1) ≤ 8 := by by_cases z : gr_K G e = 4 <;> simp [z]
  have i0 : (512 * nI (gr_F G e)) + nI s = nI (512 * gr_F G e + s) := by
    show nI 512 * nI (gr_F G e) + nI s = _
    rw [pk_mul, nI_add]
  have one : (1 : Int32) ≠ 0 := by decide
  intro n
  induction n with
  | zero => intro j b h h1 h2; omega
  | succ n ih =>
    intro j b h hj hn V L R
    rw [wY_over_22]
    refine ⟨hi, ?_⟩
    rw [ce, hF, hT, pk_cl _ i0]
    refine ⟨pk_in _ 3584 (by omega) i0, br_c (fun w => nm_r (nI_1 s) (HJ b h V L (yo_imp R (fun a c => ⟨c.1, fun hh => ?_⟩)))) (fun w => pk_le _ j (fun q => nm_r (nI_1 s) (HJ b h V L (yo_imp R (fun a c => ⟨c.1, fun _ t ht => ?_⟩)))) (fun q => ?_) rfl rfl (by omega) (by omega))⟩
    · rw [← a _ (by omega), w] at hh
      exact absurd rfl hh
    · refine c.2 t ht (fun k4 => ?_) (fun k4 => ?_)
      · obtain ⟨z, r, rfl⟩ := ht
        rw [if_pos k4] at q
        unfold gr_rl at r
        exact ⟨z, by omega, rfl⟩
      · rw [if_neg k4] at q; omega
    · have j8 : j < 8 := by omega
      refine yr_result (a_held := h) hP' hC he hs j8 (fun t ht te uq k4 => ?_) (fun no => ?_)
      · have i1 : (512 * nI (gr_T G e)) + nI t = nI (512 * gr_T G e + t) := by
          show nI 512 * nI (gr_T G e) + nI t = _
          rw [pk_mul, nI_add]
        have c5 : 512 * gr_T G e + t < 3584 := by omega
        have hH : gr_H G (512 * gr_T G e + t) := gr_H_e he hs ((V _ (by omega)).2 w) te
        refine br_f (nI_pos (by omega)) ⟨hi, ?_⟩
        rw [pk_cl _ i1, xw_b1]
        refine ⟨pk_in _ 3584 c5 i1, br_c (fun z => ⟨hi, pk_in _ 3584 c5 i1, nm_e (nm_r (nI_1 j) (ih (j + 1) 1 _ (by omega) (by omega) (fun k hk => ?_) (fun k hk => ?_) ⟨fun k hk hh => ?_, Or.inr ⟨rfl, 512 * gr_T G e + t, c5, ?_, ?_⟩⟩))⟩) (fun z => nm_r (nI_1 j) (ih (j + 1) b h (by omega) (by omega) V L (yo_imp R (fun a c => ⟨c.1, fun t' ht' q1 q2 => ?_⟩))))⟩
        · by_cases y : k = 512 * gr_T G e + t
          · subst y; rw [pk_us]; exact ⟨Or.inr rfl, fun _ => hH⟩
          · rw [pk_un y]; exact V k hk
        · rw [pk_un (by omega)]; exact L k hk
        · by_cases y : k = 512 * gr_T G e + t
          · subst y; rw [pk_us]; exact one
          · rw [pk_un y]; exact R.1 k hk hh
        · rw [pk_us]; exact one
        · rcases Classical.em (h0 (512 * gr_T G e + t) = 0) with y | y
          · exact y
          · exact absurd z (R.1 _ c5 y)
        · by_cases w4 : gr_K G e = 4
          · obtain ⟨i, hi', e'⟩ := q1 w4
            by_cases y : i = j
            · subst y
              rw [← k4 w4] at e'
              subst e'
              rw [← a _ c5]; exact z
            · exact c.2 t' ht' (fun _ => ⟨i, by omega, e'⟩) (fun w' => absurd w4 w')
          · have := uq w4 t' ht'
            subst this
            rw [← a _ c5]; exact z
      · exact br_t (by decide) (nm_r (nI_1 j) (ih (j + 1) b h (by omega) (by omega) V L (yo_imp R (fun a c => ⟨c.1, fun t' ht' _ _ => absurd ht' (no t')⟩))))
theorem yo_11 {post : Int32 → SY → Prop} {G : GrP} (hP : xp_P G f_edges a_from a_to a_kind a_first a_second a_low a_high) (hC : xp_C G a_number) {e : Nat} (he : e < gr_E G) {h0 : Nat → Int32}
    (H : ∀ b h, yo_V G h → (∀ k, k / 512 ≠ gr_T G e → h k = h0 k) → yo_R h0 h b (yo_cl G h0 e) → post (nI b) (f_edges, f_known, a_from, a_to, a_kind, a_first, a_second, a_number, a_low, a_high, a_steps, h, a_bounds)) :
    ∀ (n m b : Nat) (h : Nat → Int32), m ≤ 512 → 512 < n + m → yo_V G h → (∀ k, k / 512 ≠ gr_T G e → h k = h0 k) →
      yo_R h0 h b (∀ s t, s < m → h0 (512 * gr_F G e + s) ≠ 0 → gr_te G e s t → h0 (512 * gr_T G e + t) ≠ 0) →
      wY_over_11 post (nI e) (nI (if gr_K G e = 4 then 8 else 1)) f_edges f_known n (nI b) (nI m) a_from a_to a_kind a_first a_second a_number a_low a_high a_steps h a_bounds := by
  intro n
  induction n with
  | zero => intro m b h h1 h2; omega
  | succ n ih =>
    intro m b h hm hn V L R
    rw [wY_over_11]
    by_cases e5 : m = 512
    · subst e5
      exact br_t (show (512 : Int32) ≤ nI 512 by decide) ⟨ys_nb (yo_b R), H b h V L R⟩
    · refine br_f (nI_ge (b := 512) (by omega) (by omega)) ⟨9, yo_22 hP hC he (by omega) (C0 := ∀ s t, s < m → h0 (512 * gr_F G e + s) ≠ 0 → gr_te G e s t → h0 (512 * gr_T G e + t) ≠ 0) (fun b' h' V' L' R' => ih (m + 1) b' h' (by omega) (by omega) V' L' (yo_imp R' (fun _ c s t hs hh ht => ?_))) 9 0 b h (by omega) ?_ V L (yo_imp R (fun _ c => ⟨c, fun t ht q1 q2 => ?_⟩))⟩
      · by_cases z : s = m
        · subst z; exact c.2 hh t ht
        · exact c.1 s t (by omega) hh ht
      · by_cases z : gr_K G e = 4
        · rw [if_pos z]; omega
        · rw [if_neg z]; omega
      · by_cases z : gr_K G e = 4
        · obtain ⟨i, hi, _⟩ := q1 z; omega
        · have := q2 z; omega
theorem yo_over {post : Int32 → SY → Prop} {G : GrP} (hP : xp_P G f_edges a_from a_to a_kind a_first a_second a_low a_high) (hC : xp_C G a_number) {e : Nat} (he : e < gr_E G) (V : yo_V G a_held)
    (H : ∀ b h, yo_V G h → (∀ k, k / 512 ≠ gr_T G e → h k = a_held k) → yo_R a_held h b (yo_cl G a_held e) → post (nI b) (f_edges, f_known, a_from, a_to, a_kind, a_first, a_second, a_number, a_low, a_high, a_steps, h, a_bounds)) : wpY_over post (f_edges, f_known, a_from, a_to, a_kind, a_first, a_second, a_number, a_low, a_high, a_steps, a_held, a_bounds) (nI e) := by
  unfold wpY_over
  refine yr_ways hP he ?_
  refine ⟨513, ?_⟩
  exact yo_11 hP hC he H 513 0 0 a_held (by omega) (by omega) V (fun _ _ => rfl) ⟨fun _ _ w => w, Or.inl ⟨rfl, fun _ _ => rfl, fun s t hs => absurd hs (Nat.not_lt_zero s)⟩⟩
end
def yo_hu (h : Nat → Int32) : Prop := ∀ p s, p < 7 → s < 512 → gr_hull (fun t => h (512 * p + t) ≠ 0) s → h (512 * p + s) ≠ 0
section
variable {f_edges f_known : Int32} {a_from a_to a_kind a_first a_second a_number a_low a_high a_steps a_held a_bounds : Nat → Int32}
theorem yg_4 {post : Int32 → SY → Prop} {G : GrP} (hP : xp_P G f_edges a_from a_to a_kind a_first a_second a_low a_high) (hC : xp_C G a_number) {p : Nat} (hp : p < 7) {h0 : Nat → Int32} (hu : yo_hu h0)
    (H : ∀ b h bd, yo_V G h → yo_hu h → yo_R h0 h b (∀ e, e < gr_E G → gr_T G e = p → yo_cl G h0 e) → post (nI b) (f_edges, f_known, a_from, a_to, a_kind, a_first, a_second, a_number, a_low, a_high, a_steps, h, bd)) :
    ∀ (n m b : Nat) (h : Nat → Int32), m ≤ gr_E G → gr_E G < n + m → yo_V G h → (∀ k, k / 512 ≠ p → h k = h0 k) → yo_R h0 h b (∀ e, e < m → gr_T G e = p → yo_cl G h0 e) →
      wY_gather_4 post (nI p) n (nI b) (nI m) f_edges f_known a_from a_to a_kind a_first a_second a_number a_low a_high a_steps h a_bounds := by
  have hP' := hP
  obtain ⟨go, hE, ha, _⟩ := hP
  have E20 := go.1
  intro n
  induction n with
  | zero => intro m b h h1 h2; omega
  | succ n ih =>
    intro m b h hm hn V L R
    rw [wY_gather_4]
    have hb := yo_b R
    refine pk_le (gr_E G) m (fun q => ?_) (fun q => ⟨vp_in_nI (by omega) (by omega), ?_⟩) hE rfl
    · have em : m = gr_E G := by omega
      subst em
      rcases hb with rfl | rfl
      · have e0 : ∀ k, k < 3584 → h k = h0 k := by
          rcases R.2 with ⟨_, a, _⟩ | ⟨e, _⟩
          · exact a
          · omega
        refine br_t (show nI 0 = 0 from rfl) ⟨rfl, H 0 h a_bounds V (fun p' s hp' hs hh => ?_) R⟩
        rw [e0 _ (by omega)]
        exact hu p' s hp' hs (gr_hull_mono (fun t ht w => by rw [← e0 _ (by omega)]; exact w) hh)
      · refine br_f (show ¬ nI 1 = 0 by decide) (yc_close (a_held := h) rfl hp (fun hd bd c1 c2 => ⟨rfl, H 1 hd bd (fun k hk => ?_) (fun p' s hp' hs hh => ?_) ?_⟩))
        · by_cases z : k / 512 = p
          · have := c2 (k % 512) (by omega)
            rw [show 512 * p + k % 512 = k by omega] at this
            refine ⟨this.1, fun w => ?_⟩
            have := (gr_H_cl G).2.2 p (k % 512) hp (by omega) (gr_hull_mono (fun t ht w => (V _ (by omega)).2 w) (this.2.mp w))
            rwa [show 512 * p + k % 512 = k by omega] at this
          · rw [c1 k z]; exact V k hk
        · by_cases z : p' = p
          · subst z
            refine (c2 s hs).2.mpr (gr_hull_hull (gr_hull_mono (fun t ht w => (c2 t ht).2.mp w) hh))
          · rw [c1 _ (by omega), L _ (by omega)]
            refine hu p' s hp' hs (gr_hull_mono (fun t ht w => ?_) hh)
            rw [c1 _ (by omega), L _ (by omega)] at w
            exact w
        · have mono : ∀ k, k < 3584 → h k ≠ 0 → hd k ≠ 0 := fun k hk w => by
            by_cases z : k / 512 = p
            · have := (c2 (k % 512) (by omega)).2.mpr (gr_hull_self (by omega) (by rw [show 512 * p + k % 512 = k by omega]; exact w))
              rwa [show 512 * p + k % 512 = k by omega] at this
            · rw [c1 k z]; exact w
          refine ⟨fun k hk w => mono k hk (R.1 k hk w), ?_⟩
          rcases R.2 with ⟨e, _⟩ | ⟨_, k, hk, n1, n2⟩
          · omega
          · exact Or.inr ⟨rfl, k, hk, mono k hk n1, n2⟩
    · have m20 : m < 20 := by omega
      obtain ⟨hF, hT, hK, hA, hB⟩ := ha m m20
      have cm : (nI m).toNatClampNeg = m := nI_clamp (by omega)
      have t7 := (go.2.1 m m20).2.1
      rw [cm, hT]
      refine pk_eq (gr_T G m) p (fun z => ?_) (fun z => nm_r (nI_1 m) (ih (m + 1) b h (by omega) (by omega) V L (yo_imp R (fun _ c e he ht => ?_))))
      · refine yo_over (a_held := h) hP' hC q V (fun b2 h2 V2 L2 R2 => nm_r (ys_or hb (yo_b R2)) (nm_r (nI_1 m) (ih (m + 1) _ h2 (by omega) (by omega) V2 (fun k hk => ?_) (yo_imp (yo_comp R R2) (fun _ c e he ht => ?_)))))
        · rw [L2 k (by rw [z]; exact hk)]; exact L k hk
        · by_cases y : e = m
          · subst y; exact yo_cl_eq go c.2.2 q c.2.1
          · exact c.1 e (by omega) ht
      · by_cases y : e = m
        · subst y; exact absurd ht z
        · exact c e (by omega) ht
theorem yg_gather {post : Int32 → SY → Prop} {G : GrP} (hP : xp_P G f_edges a_from a_to a_kind a_first a_second a_low a_high) (hC : xp_C G a_number) {p : Nat} (hp : p < 7) (V : yo_V G a_held) (hu : yo_hu a_held)
    (H : ∀ b h bd, yo_V G h → yo_hu h → yo_R a_held h b (∀ e, e < gr_E G → gr_T G e = p → yo_cl G a_held e) → post (nI b) (f_edges, f_known, a_from, a_to, a_kind, a_first, a_second, a_number, a_low, a_high, a_steps, h, bd)) : wpY_gather post (f_edges, f_known, a_from, a_to, a_kind, a_first, a_second, a_number, a_low, a_high, a_steps, a_held, a_bounds) (nI p) :=
  ⟨gr_E G + 1, yg_4 hP hC hp hu H (gr_E G + 1) 0 0 a_held (by omega) (by omega) V (fun _ _ => rfl) ⟨fun _ _ w => w, Or.inl ⟨rfl, fun _ _ => rfl, fun e he => absurd he (Nat.not_lt_zero e)⟩⟩⟩
theorem yg_147 {post : SY → Prop} {J139 : Int32 → YsJ} {G : GrP} (hP : xp_P G f_edges a_from a_to a_kind a_first a_second a_low a_high) (hC : xp_C G a_number) {h0 : Nat → Int32}
    (HJ : ∀ b h bd, yo_V G h → yo_hu h → yo_R h0 h b (∀ e, e < gr_E G → yo_cl G h0 e) → J139 (nI b) f_edges f_known a_from a_to a_kind a_first a_second a_number a_low a_high a_steps h bd) :
    ∀ (n m b : Nat) (h bd : Nat → Int32), m ≤ 7 → 7 < n + m → yo_V G h → yo_hu h → yo_R h0 h b (∀ e, e < gr_E G → gr_T G e < m → yo_cl G h0 e) →
      wY_know_147 post J139 n (nI b) (nI m) f_edges f_known a_from a_to a_kind a_first a_second a_number a_low a_high a_steps h bd := by
  have go := hP.1
  intro n
  induction n with
  | zero => intro m b h bd h1 h2; omega
  | succ n ih =>
    intro m b h bd hm hn V hu R
    rw [wY_know_147]
    by_cases e7 : m = 7
    · subst e7
      exact br_t (show (7 : Int32) ≤ nI 7 by decide) (HJ b h bd V hu (yo_imp R (fun _ c e he => c e he (go.2.1 e (Nat.lt_of_lt_of_le he go.1)).2.1)))
    · refine br_f (nI_ge (b := 7) (by omega) (by omega)) (yg_gather (a_held := h) (a_bounds := bd) hP hC (by omega) V hu (fun b2 h2 bd2 V2 hu2 R2 => nm_r (ys_or (yo_b R) (yo_b R2)) (nm_r (nI_1 m) (ih (m + 1) _ h2 bd2 (by omega) (by omega) V2 hu2 (yo_imp (yo_comp R R2) (fun _ c e he ht => ?_))))))
      by_cases z : gr_T G e = m
      · exact yo_cl_eq go c.2.2 he (c.2.1 e he z)
      · exact c.1 e he (by omega)
end
theorem yg_fin {G : GrP} (go : gr_ok G) {h : Nat → Int32} (V : yo_V G h) (hu : yo_hu h) (st : ∀ k, gr_st G k → h k ≠ 0) (cl : ∀ e, e < gr_E G → yo_cl G h e) : ∀ k, k < 3584 → (h k = 0 ∨ h k = 1) ∧ (h k ≠ 0 ↔ gr_H G k) := by
  intro k hk
  refine ⟨(V k hk).1, (V k hk).2, fun w => ?_⟩
  refine gr_H_le (S := fun k => h k ≠ 0) ⟨st, fun j j' hj hs => ?_, fun p s hp hs hh => hu p s hp hs hh⟩ w
  obtain ⟨e, s, t, he, hs5, e1, e2, ht⟩ := hs
  subst e1 e2
  exact cl e he s t hs5 hj ht
section
variable {f_edges f_known : Int32} {a_from a_to a_kind a_first a_second a_number a_low a_high a_steps a_held a_bounds : Nat → Int32}
theorem yg_139 {post : SY → Prop} {G : GrP} (hP : xp_P G f_edges a_from a_to a_kind a_first a_second a_low a_high) (hC : xp_C G a_number)
    (H : ∀ h bd, (∀ k, k < 3584 → (h k = 0 ∨ h k = 1) ∧ (h k ≠ 0 ↔ gr_H G k)) → post (f_edges, f_known, a_from, a_to, a_kind, a_first, a_second, a_number, a_low, a_high, a_steps, h, bd)) :
    ∀ (N : Nat) (h bd : Nat → Int32), yo_V G h → yo_hu h → (∀ k, gr_st G k → h k ≠ 0) → 3585 - ct_n (fun k => h k ≠ 0) 3584 < N → wY_know_139 post N 1 f_edges f_known a_from a_to a_kind a_first a_second a_number a_low a_high a_steps h bd := by
  have go := hP.1
  intro N
  induction N with
  | zero => intro h bd _ _ _ w; omega
  | succ N ih =>
    intro h bd V hu st hN
    have cl := ct_le (fun k => h k ≠ 0) 3584
    rw [wY_know_139]
    refine br_f (by decide) ⟨8, yg_147 hP hC (fun b h' bd' V' hu' R => ?_) 8 0 0 h bd (by omega) (by omega) V hu ⟨fun _ _ w => w, Or.inl ⟨rfl, fun _ _ => rfl, fun e _ he => absurd he (Nat.not_lt_zero _)⟩⟩⟩
    have st' : ∀ k, gr_st G k → h' k ≠ 0 := fun k hk => R.1 k (by have := hk.1; omega) (st k hk)
    rcases R.2 with ⟨rfl, a, c⟩ | ⟨rfl, k, hk, n1, n2⟩
    · obtain ⟨N, rfl⟩ : ∃ M, N = M + 1 := ⟨N - 1, by omega⟩
      rw [wY_know_139]
      refine br_t rfl (H h' bd' (yg_fin go V' hu' st' (fun e he => ?_)))
      exact yo_cl_eq go (fun k hk => (a k hk).symm) he (c e he)
    · refine ih h' bd' V' hu' st' ?_
      have := ct_lt (P := fun k => h k ≠ 0) (Q := fun k => h' k ≠ 0) (a := k) (fun w => w n2) n1 (N := 3584) (fun j hj w => R.1 j hj w) hk
      omega
theorem yk_57 {post : SY → Prop} {J15 : Int32 → (Nat → Int32) → (Nat → Int32) → (Nat → Int32) → (Nat → Int32) → (Nat → Int32) → (Nat → Int32) → (Nat → Int32) → (Nat → Int32) → (Nat → Int32) → (Nat → Int32) → (Nat → Int32) → Prop}
    {m : Nat} (hm : m < 3584) {z0 : Int32} (hz : z0 = 0 ∨ z0 = 1)
    (H : J15 (nI (m + 1)) a_from a_to a_kind a_first a_second a_number a_low a_high (upd a_steps m (if z0 = 0 then -1 else 0)) (upd a_held m z0) a_bounds) : wY_know_42 post J15 (nI m) z0 f_edges f_known a_from a_to a_kind a_first a_second a_number a_low a_high a_steps a_held a_bounds := by
  have cm : (nI m).toNatClampNeg = m := nI_clamp (by omega)
  have im : vp_in (nI m) 3584 := vp_in_nI hm (by omega)
  unfold wY_know_42
  rcases hz with rfl | rfl
  · rw [if_pos rfl] at H
    refine br_t rfl ?_
    unfold wY_know_57
    rw [cm, xw_b0]
    exact ⟨im, nm_e ⟨im, nm_e (nm_r (nI_1 m) H)⟩⟩
  · rw [if_neg (by decide)] at H
    refine br_f (by decide) ?_
    unfold wY_know_57
    rw [cm, xw_b1]
    exact ⟨im, nm_e ⟨im, nm_e (nm_r (nI_1 m) H)⟩⟩
theorem yk_15 {post : SY → Prop} {G : GrP} (hP : xp_P G f_edges a_from a_to a_kind a_first a_second a_low a_high) (hC : xp_C G a_number)
    (H : ∀ st h bd, (∀ k, k < 3584 → gr_D G k (st k).toInt) → (∀ k, k < 3584 → (h k = 0 ∨ h k = 1) ∧ (h k ≠ 0 ↔ gr_H G k)) → post (f_edges, f_known, a_from, a_to, a_kind, a_first, a_second, a_number, a_low, a_high, st, h, bd)) :
    ∀ (n m : Nat) (st h : Nat → Int32), m ≤ 3584 → 3584 < n + m → (∀ k, k < m → (gr_st G k → st k = 0 ∧ h k = 1) ∧ (¬ gr_st G k → st k = -1 ∧ h k = 0)) →
      wY_know_15 post f_edges f_known n (nI m) a_from a_to a_kind a_first a_second a_number a_low a_high st h a_bounds := by
  have hP' := hP
  obtain ⟨go, hE, ha, hl⟩ := hP
  have one : (1 : Int32) ≠ 0 := by decide
  intro n
  induction n with
  | zero => intro m st h h1 h2; omega
  | succ n ih =>
    intro m st h hm hn hb
    rw [wY_know_15]
    by_cases e : m = 3584
    · subst e
      have hh : ∀ k, k < 3584 → (h k ≠ 0 ↔ gr_st G k) := fun k hk => by
        rcases Classical.em (gr_st G k) with z | z
        · rw [((hb k hk).1 z).2]; exact ⟨fun _ => z, fun _ => one⟩
        · rw [((hb k hk).2 z).2]; exact ⟨fun w => absurd rfl w, fun w => absurd w z⟩
      refine br_t (show (3584 : Int32) ≤ nI 3584 by decide) ⟨3586, ys_75 (a_held := h) hP' hC (fun st' N r hD => ?_) 3586 0 st (fun k hk => ?_) (Nat.zero_le _) (by omega)⟩
      · rw [wY_know_75]
        refine br_t rfl (yc_close (a_held := h) (a_steps := st') (p := 0) rfl (by omega) (fun hd bd c1 c2 => ?_))
        refine ⟨3587, yg_139 hP' hC (fun h2 bd2 hH => H st' h2 bd2 hD hH) 3587 hd bd (fun k hk => ?_) (fun p s hp hs w => ?_) (fun k hk => ?_) (by omega)⟩
        · by_cases z : k / 512 = 0
          · have := c2 k (by omega)
            rw [show 512 * 0 + k = k by omega] at this
            refine ⟨this.1, fun w => ?_⟩
            have := (gr_H_cl G).2.2 0 k (by omega) (by omega) (gr_hull_mono (fun t ht w => (gr_H_cl G).1 _ ((hh _ (by omega)).mp w)) (this.2.mp w))
            rwa [show 512 * 0 + k = k by omega] at this
          · rw [c1 k z]
            have : ¬ gr_st G k := fun w => by have := w.1; omega
            have := ((hb k hk).2 this).2
            exact ⟨Or.inl this, fun w => absurd this w⟩
        · by_cases z : p = 0
          · subst z
            exact (c2 s hs).2.mpr (gr_hull_hull (gr_hull_mono (fun t ht w => (c2 t ht).2.mp w) w))
          · obtain ⟨t, ht, w, _⟩ := w 0 0 (by omega) (by omega)
            rw [c1 _ (by omega)] at w
            have := ((hh _ (by omega)).mp w).1
            omega
        · have k5 := hk.1
          have := (c2 k k5).2.mpr (gr_hull_self k5 (by rw [show 512 * 0 + k = k by omega]; exact (hh k (by omega)).mpr hk))
          rwa [show 512 * 0 + k = k by omega] at this
      · rcases Classical.em (gr_st G k) with z | z
        · rw [((hb k hk).1 z).1]
          exact Or.inr ⟨0, Nat.le_refl _, by decide, z, fun i hi => absurd hi (Nat.not_lt_zero i)⟩
        · rw [((hb k hk).2 z).1]
          exact Or.inl ⟨by decide, z⟩
    · have m5 : m < 3584 := by omega
      have yes : gr_st G m → wY_know_42 post (wY_know_15 post f_edges f_known n) (nI m) 1 f_edges f_known a_from a_to a_kind a_first a_second a_number a_low a_high st h a_bounds := fun z =>
        yk_57 (a_steps := st) (a_held := h) m5 (Or.inr rfl) (ih (m + 1) _ _ (by omega) (by omega) (fun k hk => by
          by_cases y : k = m
          · subst y; rw [pk_us, pk_us]; exact ⟨fun _ => ⟨if_neg one, rfl⟩, fun w => absurd z w⟩
          · rw [pk_un y, pk_un y]; exact hb k (by omega)))
      have no : ¬ gr_st G m → wY_know_41 post (wY_know_15 post f_edges f_known n) (nI m) f_edges f_known a_from a_to a_kind a_first a_second a_number a_low a_high st h a_bounds := fun z =>
        yk_57 (a_steps := st) (a_held := h) m5 (Or.inl rfl) (ih (m + 1) _ _ (by omega) (by omega) (fun k hk => by
          by_cases y : k = m
          · subst y; rw [pk_us, pk_us]; exact ⟨fun w => absurd w z, fun _ => ⟨if_pos rfl, rfl⟩⟩
          · rw [pk_un y, pk_un y]; exact hb k (by omega)))
      refine br_f (nI_ge (b := 3584) (by omega) (by omega)) (pk_le 512 m (fun q => no (fun w => by have := w.1; omega)) (fun q => yr_begins (a_steps := st) (a_held := h) hP' q (fun z => br_f (by decide) (yes z)) (fun z => br_t rfl (no z))))
theorem yk_know {post : SY → Prop} {G : GrP} (hP : xp_P G f_edges a_from a_to a_kind a_first a_second a_low a_high) (hC : xp_C G a_number) (Hk : f_known ≠ 0 → post (f_edges, f_known, a_from, a_to, a_kind, a_first, a_second, a_number, a_low, a_high, a_steps, a_held, a_bounds))
    (H : f_known = 0 → ∀ st h bd, (∀ k, k < 3584 → gr_D G k (st k).toInt) → (∀ k, k < 3584 → (h k = 0 ∨ h k = 1) ∧ (h k ≠ 0 ↔ gr_H G k)) → post (f_edges, 1, a_from, a_to, a_kind, a_first, a_second, a_number, a_low, a_high, st, h, bd)) : wpY_know post (f_edges, f_known, a_from, a_to, a_kind, a_first, a_second, a_number, a_low, a_high, a_steps, a_held, a_bounds) :=
  br_c (fun z => ⟨3585, yk_15 hP hC (H z) 3585 0 a_steps a_held (by omega) (by omega) (fun k hk => absurd hk (Nat.not_lt_zero k))⟩) Hk
end
end
section
/-! the relation -/
def ir_X (G : GrP) (bo fl : Nat → Int32) (sd rl : Nat → Int64) (fa : Nat → Int32) : Prop := xs_F G bo fl ∧ (∀ k, k < 3584 → (xb_b sd k = true ↔ gr_H G k)) ∧ xh_F G rl fa
def ir_Y (G : GrP) (st hd : Nat → Int32) : Prop := (∀ k, k < 3584 → gr_D G k (st k).toInt) ∧ (∀ k, k < 3584 → (hd k = 0 ∨ hd k = 1) ∧ (hd k ≠ 0 ↔ gr_H G k))
def ir_F (G : GrP) (f_edges f_known : Int32) (a_from a_to a_kind a_first a_second a_constant a_low a_high a_bound a_filled : Nat → Int32) (a_said a_real : Nat → Int64) (a_far a_number a_steps a_held : Nat → Int32) : Prop :=
  xp_P G f_edges a_from a_to a_kind a_first a_second a_low a_high ∧ xp_C G a_constant ∧ xp_C G a_number ∧ (f_known = 0 ∨ f_known = 1) ∧
  (f_known ≠ 0 → ir_X G a_bound a_filled a_said a_real a_far ∧ ir_Y G a_steps a_held)
def i_Rel (k : Nat) (u : SX) (v : SY) : Prop := match u, v with
  | (f_edges, f_known, a_from, a_to, a_kind, a_first, a_second, a_constant, a_low, a_high, a_bound, a_filled, a_waiting, a_waits, a_said, a_real, a_fresh, a_coming, a_far), (g_edges, g_known, b_from, b_to, b_kind, b_first, b_second, a_number, b_low, b_high, a_steps, a_held, a_bounds) =>
    (g_edges = f_edges ∧ g_known = f_known ∧ b_from = a_from ∧ b_to = a_to ∧ b_kind = a_kind ∧ b_first = a_first ∧ b_second = a_second ∧ b_low = a_low ∧ b_high = a_high) ∧
    ∃ G, ir_F G f_edges f_known a_from a_to a_kind a_first a_second a_constant a_low a_high a_bound a_filled a_said a_real a_far a_number a_steps a_held
theorem i_up {k : Nat} {u : SX} {v : SY} (h : i_Rel k u v) : i_Rel (k + 7) u v := h
section
variable {f_edges f_known : Int32} {a_from a_to a_kind a_first a_second a_constant a_low a_high a_bound a_filled a_waiting a_waits a_far : Nat → Int32} {a_said a_real a_fresh a_coming : Nat → Int64} {a_number a_steps a_held a_bounds : Nat → Int32}
theorem ir_in {k : Nat} {G : GrP} (F : ir_F G f_edges f_known a_from a_to a_kind a_first a_second a_constant a_low a_high a_bound a_filled a_said a_real a_far a_number a_steps a_held) :
    i_Rel k (f_edges, f_known, a_from, a_to, a_kind, a_first, a_second, a_constant, a_low, a_high, a_bound, a_filled, a_waiting, a_waits, a_said, a_real, a_fresh, a_coming, a_far) (f_edges, f_known, a_from, a_to, a_kind, a_first, a_second, a_number, a_low, a_high, a_steps, a_held, a_bounds) := ⟨⟨rfl, rfl, rfl, rfl, rfl, rfl, rfl, rfl, rfl⟩, G, F⟩
end
theorem ir_el {k : Nat} {P : SX → SY → Prop} (h : ∀ (f_edges f_known : Int32) (a_from a_to a_kind a_first a_second a_constant a_low a_high a_bound a_filled a_waiting a_waits : Nat → Int32) (a_said a_real a_fresh a_coming : Nat → Int64) (a_far a_number a_steps a_held a_bounds : Nat → Int32) (G : GrP),
      ir_F G f_edges f_known a_from a_to a_kind a_first a_second a_constant a_low a_high a_bound a_filled a_said a_real a_far a_number a_steps a_held → P (f_edges, f_known, a_from, a_to, a_kind, a_first, a_second, a_constant, a_low, a_high, a_bound, a_filled, a_waiting, a_waits, a_said, a_real, a_fresh, a_coming, a_far) (f_edges, f_known, a_from, a_to, a_kind, a_first, a_second, a_number, a_low, a_high, a_steps, a_held, a_bounds)) {u : SX} {v : SY} (I : i_Rel k u v) : P u v := by
  match u, v, I with
  | (f_edges, f_known, a_from, a_to, a_kind, a_first, a_second, a_constant, a_low, a_high, a_bound, a_filled, a_waiting, a_waits, a_said, a_real, a_fresh, a_coming, a_far), (g_edges, g_known, b_from, b_to, b_kind, b_first, b_second, a_number, b_low, b_high, a_steps, a_held, a_bounds), ⟨⟨h1, h2, h3, h4, h5, h6, h7, h8, h9⟩, G, F⟩ =>
    subst h1 h2 h3 h4 h5 h6 h7 h8 h9
    exact h _ _ _ _ _ _ _ _ _ _ _ _ _ _ _ _ _ _ _ _ _ _ _ G F
theorem i_vc0 : wpX_init (fun u => wpY_init (fun v => i_Rel 0 u v)) := by
  show i_Rel 0 (0, 0, (fun _ => 0), (fun _ => 0), (fun _ => 0), (fun _ => 0), (fun _ => 0), (fun _ => 0), (fun _ => 0), (fun _ => 0), (fun _ => 0), (fun _ => 0), (fun _ => 0), (fun _ => 0), (fun _ => 0), (fun _ => 0), (fun _ => 0), (fun _ => 0), (fun _ => 0)) (0, 0, (fun _ => 0), (fun _ => 0), (fun _ => 0), (fun _ => 0), (fun _ => 0), (fun _ => 0), (fun _ => 0), (fun _ => 0), (fun _ => 0), (fun _ => 0), (fun _ => 0))
  refine ir_in (G := (0, fun _ => 0, fun _ => 0, fun _ => 0, fun _ => 0, fun _ => 0, fun _ => 0, fun _ => 0, fun _ => 0)) ⟨⟨⟨?_, ?_, ?_, ?_⟩, rfl, ?_, ?_⟩, ?_, ?_, Or.inl rfl, fun h => absurd rfl h⟩
  · show 0 ≤ 20; omega
  · intro e _
    show 0 < 7 ∧ 0 < 7 ∧ 0 < 8 ∧ 0 < 3 ∧ 0 < 3
    omega
  · intro e he
    exact absurd he (Nat.not_lt_zero e)
  · intro i _
    show 0 ≤ 0 ∧ 0 ≤ 7
    omega
  · intro e _
    exact ⟨rfl, rfl, rfl, rfl, rfl⟩
  · intro i _
    exact ⟨rfl, rfl⟩
  · intro e he
    exact absurd he (Nat.not_lt_zero e)
  · intro e he
    exact absurd he (Nat.not_lt_zero e)
end
section
/-! edge, lead, drop, begin -/
theorem xe_byte {x : Int32} (h1 : -128 ≤ x.toInt) (h2 : x.toInt < 128) : vp_nar .byte x.toInt8.toInt32 = x := by
  rw [pk_vb]
  apply Int32.toInt_inj.mp
  rw [Int8.toInt_toInt32, Int32.toInt_toInt8]
  exact Int.bmod_eq_of_le (by omega) (by omega)
theorem xe_byN {n : Nat} (h : n < 128) : vp_nar .byte (nI n).toInt8.toInt32 = nI n := xe_byte (by rw [nI_toInt (by omega)]; omega) (by rw [nI_toInt (by omega)]; omega)
/-- the call is taken -/
def ie_good (E : Nat) (p0 p1 p2 p3 p4 p5 : Int) : Prop := E < 20 ∧ (0 ≤ p0 ∧ p0 ≤ 6) ∧ (0 ≤ p1 ∧ p1 ≤ 6) ∧ (0 ≤ p2 ∧ p2 ≤ 7) ∧ (p2 ≠ 0 → 0 ≤ p3 ∧ p3 ≤ 2) ∧ (1 < p2 → p2 ≠ 4 → 0 ≤ p4 ∧ p4 ≤ 2) ∧
  (p2 = 1 → 0 ≤ p5 ∧ p5 ≤ 7) ∧ (p2 = 2 → -7 ≤ p5 ∧ p5 ≤ 7) ∧ (p2 = 3 → 0 ≤ p5 ∧ p5 ≤ 14) ∧ (5 ≤ p2 → -20 ≤ p5 ∧ p5 ≤ 20)
theorem ie_of {x : Int32} {n : Nat} (h1 : 0 ≤ x.toInt) (h2 : x.toInt ≤ n) : ∃ j : Nat, j ≤ n ∧ x = nI j := by
  refine ⟨x.toInt.toNat, by omega, ?_⟩
  have := x.toInt_lt
  apply Int32.toInt_inj.mp
  rw [nI_toInt (by omega)]
  omega
section
variable {f_edges f_known : Int32} {a_from a_to a_kind a_first a_second a_constant a_low a_high a_bound a_filled a_waiting a_waits a_far : Nat → Int32} {a_said a_real a_fresh a_coming : Nat → Int64}
theorem xe_271 {post : Int32 → SX → Prop} {E : Nat} (hE : E < 20) {z0 : Int32} {c : Int} (hc : z0.toInt = c) (c1 : -20 ≤ c) (c2 : c ≤ 20)
    (H : ∀ x : Int32, x.toInt = c → post (nI E) (nI (E + 1), 0, a_from, a_to, a_kind, a_first, a_second, upd a_constant E x, a_low, a_high, a_bound, a_filled, a_waiting, a_waits, a_said, a_real, a_fresh, a_coming, a_far)) : wX_edge_271 post z0 (nI E) (nI E) f_known a_from a_to a_kind a_first a_second a_constant a_low a_high a_bound a_filled a_waiting a_waits a_said a_real a_fresh a_coming a_far := by
  unfold wX_edge_271
  rw [nI_clamp (by omega), xe_byte (by omega) (by omega)]
  exact ⟨vp_in_nI hE (by omega), nm_e (nm_r (nI_1 E) (H z0 hc))⟩
theorem xe_245 {post : Int32 → SX → Prop} {E K B : Nat} (hE : E < 20) (hK : K < 8) (hB : B < 3) {x6 x7 : Int32} (h7 : (K = 0 ∧ x7 = 0) ∨ (K ≠ 0 ∧ x7 = 1)) (hc : K ≠ 0 → K ≠ 4 → -20 ≤ x6.toInt ∧ x6.toInt ≤ 20)
    (H : ∀ x : Int32, (K ≠ 0 → K ≠ 4 → x.toInt = x6.toInt) → post (nI E) (nI (E + 1), 0, a_from, a_to, a_kind, a_first, upd a_second E (nI B), upd a_constant E x, a_low, a_high, a_bound, a_filled, a_waiting, a_waits, a_said, a_real, a_fresh, a_coming, a_far)) :
    wX_edge_245 post (nI K) x6 x7 (nI B) (nI E) (nI E) f_known a_from a_to a_kind a_first a_second a_constant a_low a_high a_bound a_filled a_waiting a_waits a_said a_real a_fresh a_coming a_far := by
  unfold wX_edge_245
  rw [nI_clamp (by omega), xe_byN (by omega)]
  refine ⟨vp_in_nI hE (by omega), nm_e ?_⟩
  rcases h7 with ⟨k, rfl⟩ | ⟨k, rfl⟩
  · exact br_t rfl (xe_271 hE xa_0 (by omega) (by omega) (fun x _ => H x (fun w => absurd k w)))
  · refine br_f (by decide) (pk_eq K 4 (fun z => xe_271 hE xa_0 (by omega) (by omega) (fun x _ => H x (fun _ w => absurd z w))) (fun z => ?_))
    have := hc k z
    exact xe_271 hE rfl this.1 this.2 (fun x hx => H x (fun _ _ => hx))
theorem xe_172 {post : Int32 → SX → Prop} {E F T K A B : Nat} (hE : E < 20) (hF : F < 7) (hT : T < 7) (hK : K < 8) (hA : A < 3) (hB : B < 3) {x4 x5 x6 x7 x8 : Int32}
    (h7 : (K = 0 ∧ x7 = 0 ∧ A = 0) ∨ (K ≠ 0 ∧ x7 = 1 ∧ x4 = nI A)) (h8 : (x8 = 0 ∧ B = 0) ∨ (x8 = 1 ∧ x5 = nI B)) (hc : K ≠ 0 → K ≠ 4 → -20 ≤ x6.toInt ∧ x6.toInt ≤ 20)
    (H : ∀ x : Int32, (K ≠ 0 → K ≠ 4 → x.toInt = x6.toInt) → post (nI E) (nI (E + 1), 0, upd a_from E (nI F), upd a_to E (nI T), upd a_kind E (nI K), upd a_first E (nI A), upd a_second E (nI B), upd a_constant E x, a_low, a_high, a_bound, a_filled, a_waiting, a_waits, a_said, a_real, a_fresh, a_coming, a_far)) :
    wX_edge_172 post (nI F) (nI T) (nI K) x4 x5 x6 x7 x8 (nI E) f_known a_from a_to a_kind a_first a_second a_constant a_low a_high a_bound a_filled a_waiting a_waits a_said a_real a_fresh a_coming a_far := by
  have ie : vp_in (nI E) 20 := vp_in_nI hE (by omega)
  have ce : (nI E).toNatClampNeg = E := nI_clamp (by omega)
  have t224 : ∀ z0 : Int32, z0 = nI A → wX_edge_224 post (nI K) x5 x6 x7 x8 z0 (nI E) (nI E) f_known (upd a_from E (nI F)) (upd a_to E (nI T)) (upd a_kind E (nI K)) a_first a_second a_constant a_low a_high a_bound a_filled a_waiting a_waits a_said a_real a_fresh a_coming a_far := by
    intro z0 hz
    subst hz
    unfold wX_edge_224
    rw [ce, xe_byN (by omega)]
    refine ⟨ie, nm_e ?_⟩
    have h7' : (K = 0 ∧ x7 = 0) ∨ (K ≠ 0 ∧ x7 = 1) := h7.elim (fun w => Or.inl ⟨w.1, w.2.1⟩) (fun w => Or.inr ⟨w.1, w.2.1⟩)
    rcases h8 with ⟨rfl, rfl⟩ | ⟨rfl, rfl⟩
    · exact br_t rfl (xe_245 hE hK hB h7' hc H)
    · exact br_f (by decide) (xe_245 hE hK hB h7' hc H)
  unfold wX_edge_172
  rw [ce, xe_byN (by omega), xe_byN (by omega), xe_byN (by omega)]
  refine ⟨ie, nm_e ⟨ie, nm_e ⟨ie, nm_e ?_⟩⟩⟩
  rcases h7 with ⟨_, rfl, rfl⟩ | ⟨_, rfl, rfl⟩
  · exact br_t rfl (t224 _ rfl)
  · exact br_f (by decide) (t224 _ rfl)
theorem xe_146 {post : Int32 → SX → Prop} {E F T K A B : Nat} (hE : E < 20) (hF : F < 7) (hT : T < 7) (hK : K < 8) (hA : A < 3) (hB : B < 3) {x4 x5 x6 x7 x8 x9 z0 : Int32} {lo hi : Int}
    (h7 : (K = 0 ∧ x7 = 0 ∧ A = 0) ∨ (K ≠ 0 ∧ x7 = 1 ∧ x4 = nI A)) (h8 : (x8 = 0 ∧ B = 0) ∨ (x8 = 1 ∧ x5 = nI B)) (h9 : x9.toInt = lo) (hz : z0.toInt = hi) (hlo : -20 ≤ lo) (hhi : hi ≤ 20)
    (H : (K ≠ 0 → K ≠ 4 → lo ≤ x6.toInt ∧ x6.toInt ≤ hi) → ∀ x : Int32, (K ≠ 0 → K ≠ 4 → x.toInt = x6.toInt) → post (nI E) (nI (E + 1), 0, upd a_from E (nI F), upd a_to E (nI T), upd a_kind E (nI K), upd a_first E (nI A), upd a_second E (nI B), upd a_constant E x, a_low, a_high, a_bound, a_filled, a_waiting, a_waits, a_said, a_real, a_fresh, a_coming, a_far))
    (H0 : ¬ (K ≠ 0 → K ≠ 4 → lo ≤ x6.toInt ∧ x6.toInt ≤ hi) → post (-1) (nI E, f_known, a_from, a_to, a_kind, a_first, a_second, a_constant, a_low, a_high, a_bound, a_filled, a_waiting, a_waits, a_said, a_real, a_fresh, a_coming, a_far)) :
    wX_edge_146 post (nI F) (nI T) (nI K) x4 x5 x6 x7 x8 x9 z0 (nI E) f_known a_from a_to a_kind a_first a_second a_constant a_low a_high a_bound a_filled a_waiting a_waits a_said a_real a_fresh a_coming a_far := by
  unfold wX_edge_146
  have h7' := h7
  rcases h7 with ⟨k, rfl, _⟩ | ⟨k, rfl, _⟩
  · exact br_t rfl (xe_172 hE hF hT hK hA hB h7' h8 (fun w => absurd k w) (H (fun w => absurd k w)))
  · refine br_f (by decide) (pk_eq K 4 (fun z => xe_172 hE hF hT hK hA hB h7' h8 (fun _ w => absurd z w) (H (fun _ w => absurd z w))) (fun z => xg_outN rfl h9 hz (fun a b => br_t rfl (xe_172 hE hF hT hK hA hB h7' h8 (fun _ _ => ⟨by omega, by omega⟩) (H (fun _ _ => ⟨a, b⟩)))) (fun w => br_f (by decide) (H0 (fun q => w (q k z))))))
theorem xe_101 {post : Int32 → SX → Prop} {E F T K A B : Nat} (hE : E < 20) (hF : F < 7) (hT : T < 7) (hK : K < 8) (hA : A < 3) (hB : B < 3) {x4 x5 x6 x7 x8 : Int32}
    (h7 : (K = 0 ∧ x7 = 0 ∧ A = 0) ∨ (K ≠ 0 ∧ x7 = 1 ∧ x4 = nI A)) (h8 : (x8 = 0 ∧ B = 0) ∨ (x8 = 1 ∧ x5 = nI B))
    (H : gr_cr K x6.toInt → ∀ x : Int32, (K ≠ 0 → K ≠ 4 → x.toInt = x6.toInt) → post (nI E) (nI (E + 1), 0, upd a_from E (nI F), upd a_to E (nI T), upd a_kind E (nI K), upd a_first E (nI A), upd a_second E (nI B), upd a_constant E x, a_low, a_high, a_bound, a_filled, a_waiting, a_waits, a_said, a_real, a_fresh, a_coming, a_far))
    (H0 : ¬ gr_cr K x6.toInt → post (-1) (nI E, f_known, a_from, a_to, a_kind, a_first, a_second, a_constant, a_low, a_high, a_bound, a_filled, a_waiting, a_waits, a_said, a_real, a_fresh, a_coming, a_far)) :
    wX_edge_101 post (nI F) (nI T) (nI K) x4 x5 x6 x7 x8 (nI E) f_known a_from a_to a_kind a_first a_second a_constant a_low a_high a_bound a_filled a_waiting a_waits a_said a_real a_fresh a_coming a_far := by
  have t : ∀ (z9 z0 : Int32) (lo hi : Int), z9.toInt = lo → z0.toInt = hi → -20 ≤ lo → hi ≤ 20 → ((K ≠ 0 → K ≠ 4 → lo ≤ x6.toInt ∧ x6.toInt ≤ hi) ↔ gr_cr K x6.toInt) → wX_edge_146 post (nI F) (nI T) (nI K) x4 x5 x6 x7 x8 z9 z0 (nI E) f_known a_from a_to a_kind a_first a_second a_constant a_low a_high a_bound a_filled a_waiting a_waits a_said a_real a_fresh a_coming a_far := by
    intro z9 z0 lo hi e1 e2 l1 l2 q
    exact xe_146 hE hF hT hK hA hB h7 h8 e1 e2 l1 l2 (fun w => H (q.mp w)) (fun w => H0 (fun z => w (q.mpr z)))
  have e7 : (7 : Int32).toInt = 7 := by decide
  have e14 : (14 : Int32).toInt = 14 := by decide
  have e20 : (20 : Int32).toInt = 20 := by decide
  have em7 : (-7 : Int32).toInt = -7 := by decide
  have em20 : (-20 : Int32).toInt = -20 := by decide
  have t122 : ∀ (z9 : Int32) (lo : Int), z9.toInt = lo → -20 ≤ lo → (K < 3 → ((K ≠ 0 → K ≠ 4 → lo ≤ x6.toInt ∧ x6.toInt ≤ 7) ↔ gr_cr K x6.toInt)) → (K = 3 → ((K ≠ 0 → K ≠ 4 → lo ≤ x6.toInt ∧ x6.toInt ≤ 14) ↔ gr_cr K x6.toInt)) →
      (3 < K → ((K ≠ 0 → K ≠ 4 → lo ≤ x6.toInt ∧ x6.toInt ≤ 20) ↔ gr_cr K x6.toInt)) → wX_edge_122 post (nI F) (nI T) (nI K) x4 x5 x6 x7 x8 z9 (nI E) f_known a_from a_to a_kind a_first a_second a_constant a_low a_high a_bound a_filled a_waiting a_waits a_said a_real a_fresh a_coming a_far := by
    intro z9 lo e1 l1 q1 q2 q3
    unfold wX_edge_122
    exact pk_le 3 K (fun w => pk_eq K 3 (fun z => t _ _ _ _ e1 e14 l1 (by omega) (q2 z)) (fun z => t _ _ _ _ e1 e20 l1 (by omega) (q3 (by omega)))) (fun w => t _ _ _ _ e1 e7 l1 (by omega) (q1 w))
  unfold gr_cr at t122
  unfold wX_edge_101
  exact pk_eq K 2 (fun z => t122 _ _ em7 (by omega) (by omega) (by omega) (by omega))
    (fun z => pk_le K 4 (fun w => t122 _ _ xa_0 (by omega) (by omega) (by omega) (by omega)) (fun w => t122 _ _ em20 (by omega) (by omega) (by omega) (by omega)))
theorem xe_67 {post : Int32 → SX → Prop} {E F T K : Nat} (hE : E < 20) (hF : F < 7) (hT : T < 7) (hK : K < 8) {x4 x5 x6 x7 x8 : Int32}
    (h7 : (K = 0 ∧ x7 = 0) ∨ (K ≠ 0 ∧ x7 = 1)) (h8 : ((K ≤ 1 ∨ K = 4) ∧ x8 = 0) ∨ ((1 < K ∧ K ≠ 4) ∧ x8 = 1))
    (H : ∀ A B : Nat, A < 3 → B < 3 → (K = 0 → A = 0) → (K ≠ 0 → x4 = nI A) → (K ≤ 1 ∨ K = 4 → B = 0) → (1 < K → K ≠ 4 → x5 = nI B) → gr_cr K x6.toInt → ∀ x : Int32, (K ≠ 0 → K ≠ 4 → x.toInt = x6.toInt) →
      post (nI E) (nI (E + 1), 0, upd a_from E (nI F), upd a_to E (nI T), upd a_kind E (nI K), upd a_first E (nI A), upd a_second E (nI B), upd a_constant E x, a_low, a_high, a_bound, a_filled, a_waiting, a_waits, a_said, a_real, a_fresh, a_coming, a_far))
    (H0 : ¬ ((K ≠ 0 → 0 ≤ x4.toInt ∧ x4.toInt ≤ 2) ∧ (1 < K → K ≠ 4 → 0 ≤ x5.toInt ∧ x5.toInt ≤ 2) ∧ gr_cr K x6.toInt) → post (-1) (nI E, f_known, a_from, a_to, a_kind, a_first, a_second, a_constant, a_low, a_high, a_bound, a_filled, a_waiting, a_waits, a_said, a_real, a_fresh, a_coming, a_far)) :
    wX_edge_67 post (nI F) (nI T) (nI K) x4 x5 x6 x7 x8 (nI E) f_known a_from a_to a_kind a_first a_second a_constant a_low a_high a_bound a_filled a_waiting a_waits a_said a_real a_fresh a_coming a_far := by
  have e2 : (2 : Int32).toInt = 2 := by decide
  have t84 : ∀ A : Nat, A < 3 → (K = 0 → A = 0) → (K ≠ 0 → x4 = nI A) → wX_edge_84 post (nI F) (nI T) (nI K) x4 x5 x6 x7 x8 (nI E) f_known a_from a_to a_kind a_first a_second a_constant a_low a_high a_bound a_filled a_waiting a_waits a_said a_real a_fresh a_coming a_far := by
    intro A hA a1 a2
    have h7' : (K = 0 ∧ x7 = 0 ∧ A = 0) ∨ (K ≠ 0 ∧ x7 = 1 ∧ x4 = nI A) := h7.elim (fun w => Or.inl ⟨w.1, w.2, a1 w.1⟩) (fun w => Or.inr ⟨w.1, w.2, a2 w.1⟩)
    unfold wX_edge_84
    rcases h8 with ⟨k, rfl⟩ | ⟨k, rfl⟩
    · exact br_t rfl (xe_101 (B := 0) hE hF hT hK hA (by omega) h7' (Or.inl ⟨rfl, rfl⟩) (fun q => H A 0 hA (by omega) a1 a2 (fun _ => rfl) (fun w1 w2 => by omega) q) (fun q => H0 (fun w => q w.2.2)))
    · refine br_f (by decide) (xg_outN rfl xa_0 e2 (fun a b => br_t rfl ?_) (fun w => br_f (by decide) (H0 (fun z => w (z.2.1 k.1 k.2)))))
      obtain ⟨B, hB, eB⟩ := ie_of (n := 2) a (by omega)
      exact xe_101 (B := B) hE hF hT hK hA (by omega) h7' (Or.inr ⟨rfl, eB⟩) (fun q => H A B hA (by omega) a1 a2 (fun w => by omega) (fun _ _ => eB) q) (fun q => H0 (fun w => q w.2.2))
  unfold wX_edge_67
  rcases h7 with ⟨k, rfl⟩ | ⟨k, rfl⟩
  · exact br_t rfl (t84 0 (by omega) (fun _ => rfl) (fun w => absurd k w))
  · refine br_f (by decide) (xg_outN rfl xa_0 e2 (fun a b => br_t rfl ?_) (fun w => br_f (by decide) (H0 (fun z => w (z.1 k)))))
    obtain ⟨A, hA, eA⟩ := ie_of (n := 2) a (by omega)
    exact t84 A (by omega) (fun w => absurd w k) (fun _ => eA)
theorem xe_edge {post : Int32 → SX → Prop} {E : Nat} (hE : E ≤ 20) {p0 p1 p2 p3 p4 p5 : Int32}
    (H : ∀ F T K A B : Nat, E < 20 → F < 7 → T < 7 → K < 8 → A < 3 → B < 3 → p0 = nI F → p1 = nI T → p2 = nI K → (K = 0 → A = 0) → (K ≠ 0 → p3 = nI A) → (K ≤ 1 ∨ K = 4 → B = 0) → (1 < K → K ≠ 4 → p4 = nI B) → gr_cr K p5.toInt → ∀ x : Int32, (K ≠ 0 → K ≠ 4 → x.toInt = p5.toInt) →
      post (nI E) (nI (E + 1), 0, upd a_from E (nI F), upd a_to E (nI T), upd a_kind E (nI K), upd a_first E (nI A), upd a_second E (nI B), upd a_constant E x, a_low, a_high, a_bound, a_filled, a_waiting, a_waits, a_said, a_real, a_fresh, a_coming, a_far))
    (H0 : ¬ ie_good E p0.toInt p1.toInt p2.toInt p3.toInt p4.toInt p5.toInt → post (-1) (nI E, f_known, a_from, a_to, a_kind, a_first, a_second, a_constant, a_low, a_high, a_bound, a_filled, a_waiting, a_waits, a_said, a_real, a_fresh, a_coming, a_far)) : wpX_edge post (nI E, f_known, a_from, a_to, a_kind, a_first, a_second, a_constant, a_low, a_high, a_bound, a_filled, a_waiting, a_waits, a_said, a_real, a_fresh, a_coming, a_far) p0 p1 p2 p3 p4 p5 := by
  have e6 : (6 : Int32).toInt = 6 := by decide
  have e7 : (7 : Int32).toInt = 7 := by decide
  refine pk_eq E 20 (fun z => H0 (fun w => by have := w.1; omega)) (fun z => ?_)
  refine xg_outN rfl xa_0 e6 (fun a0 b0 => br_t rfl ?_) (fun w => br_f (by decide) (H0 (fun q => w q.2.1)))
  refine xg_outN rfl xa_0 e6 (fun a1 b1 => br_t rfl ?_) (fun w => br_f (by decide) (H0 (fun q => w q.2.2.1)))
  refine xg_outN rfl xa_0 e7 (fun a2 b2 => br_t rfl ?_) (fun w => br_f (by decide) (H0 (fun q => w q.2.2.2.1)))
  obtain ⟨F, hF, eF⟩ := ie_of (n := 6) a0 (by omega)
  obtain ⟨T, hT, eT⟩ := ie_of (n := 6) a1 (by omega)
  obtain ⟨K, hK, eK⟩ := ie_of (n := 7) a2 (by omega)
  have k2 : p2.toInt = (K : Int) := by rw [eK, nI_toInt (by omega)]
  have bad : ¬ ((K ≠ 0 → 0 ≤ p3.toInt ∧ p3.toInt ≤ 2) ∧ (1 < K → K ≠ 4 → 0 ≤ p4.toInt ∧ p4.toInt ≤ 2) ∧ gr_cr K p5.toInt) → post (-1) (nI E, f_known, a_from, a_to, a_kind, a_first, a_second, a_constant, a_low, a_high, a_bound, a_filled, a_waiting, a_waits, a_said, a_real, a_fresh, a_coming, a_far) := fun w => H0 (fun q => w ?_)
  · have good := fun (A B : Nat) (hA : A < 3) (hB : B < 3) => H F T K A B (by omega) (by omega) (by omega) (by omega) hA hB eF eT eK
    have t50 : ∀ z0 : Int32, (K = 0 ∧ z0 = 0) ∨ (K ≠ 0 ∧ z0 = 1) → wX_edge_50 post p0 p1 p2 p3 p4 p5 z0 (nI E) f_known a_from a_to a_kind a_first a_second a_constant a_low a_high a_bound a_filled a_waiting a_waits a_said a_real a_fresh a_coming a_far := by
      intro z0 h7
      subst eF eT eK
      unfold wX_edge_50
      refine pk_le K 1 (fun w => xe_67 (by omega) (by omega) (by omega) (by omega) h7 (Or.inl ⟨Or.inl w, rfl⟩) good bad) (fun w => pk_eq K 4 (fun y => xe_67 (by omega) (by omega) (by omega) (by omega) h7 (Or.inl ⟨Or.inr y, rfl⟩) good bad) (fun y => xe_67 (by omega) (by omega) (by omega) (by omega) h7 (Or.inr ⟨⟨w, y⟩, rfl⟩) good bad))
    exact pk_le K 0 (fun w => t50 0 (Or.inl ⟨by omega, rfl⟩)) (fun w => t50 1 (Or.inr ⟨by omega, rfl⟩)) eK
  · obtain ⟨_, _, _, _, q3, q4, q5, q6, q7, q8⟩ := q
    rw [k2] at q3 q4 q5 q6 q7 q8
    refine ⟨fun w => q3 (by omega), fun w1 w2 => q4 (by omega) (by omega), fun w => q5 (by omega), fun w => q6 (by omega), fun w => q7 (by omega), fun w => q8 (by omega)⟩
end
section
variable {f_edges f_known : Int32} {a_from a_to a_kind a_first a_second a_number a_low a_high a_steps a_held a_bounds : Nat → Int32}
theorem ye_132_0 {post : Int32 → SY → Prop} {x1 x2 x3 x4 x5 x6 : Int32} (H0 : post (-1) (f_edges, f_known, a_from, a_to, a_kind, a_first, a_second, a_number, a_low, a_high, a_steps, a_held, a_bounds)) : wY_edge_132 post x1 x2 x3 x4 x5 x6 0 f_edges f_known a_from a_to a_kind a_first a_second a_number a_low a_high a_steps a_held a_bounds :=
  br_c (fun _ => br_t rfl H0) (fun _ => yw_in (fun _ _ => br_f (by decide) (br_t rfl H0)) (fun _ => br_t rfl (br_t rfl H0)))
theorem ye_116_0 {post : Int32 → SY → Prop} {x1 x2 x3 x4 x5 x6 : Int32} (H0 : post (-1) (f_edges, f_known, a_from, a_to, a_kind, a_first, a_second, a_number, a_low, a_high, a_steps, a_held, a_bounds)) : wY_edge_116 post x1 x2 x3 x4 x5 x6 0 f_edges f_known a_from a_to a_kind a_first a_second a_number a_low a_high a_steps a_held a_bounds :=
  br_c (fun _ => yw_in (fun _ _ => br_f (by decide) (ye_132_0 H0)) (fun _ => br_t rfl (br_t rfl H0))) (fun _ => ye_132_0 H0)
theorem ye_99_0 {post : Int32 → SY → Prop} {x1 x2 x3 x4 x5 x6 : Int32} (H0 : post (-1) (f_edges, f_known, a_from, a_to, a_kind, a_first, a_second, a_number, a_low, a_high, a_steps, a_held, a_bounds)) : wY_edge_99 post x1 x2 x3 x4 x5 x6 0 f_edges f_known a_from a_to a_kind a_first a_second a_number a_low a_high a_steps a_held a_bounds :=
  br_c (fun _ => yw_in (fun _ _ => br_f (by decide) (ye_116_0 H0)) (fun _ => br_t rfl (br_t rfl H0))) (fun _ => ye_116_0 H0)
theorem ye_83_0 {post : Int32 → SY → Prop} {x1 x2 x3 x4 x5 x6 : Int32} (H0 : post (-1) (f_edges, f_known, a_from, a_to, a_kind, a_first, a_second, a_number, a_low, a_high, a_steps, a_held, a_bounds)) : wY_edge_83 post x1 x2 x3 x4 x5 x6 0 f_edges f_known a_from a_to a_kind a_first a_second a_number a_low a_high a_steps a_held a_bounds :=
  br_c (fun _ => yw_in (fun _ _ => br_f (by decide) (ye_99_0 H0)) (fun _ => br_t rfl (br_t rfl H0))) (fun _ => ye_99_0 H0)
theorem ye_58_0 {post : Int32 → SY → Prop} {x1 x2 x3 x4 x5 x6 : Int32} (H0 : post (-1) (f_edges, f_known, a_from, a_to, a_kind, a_first, a_second, a_number, a_low, a_high, a_steps, a_held, a_bounds)) : wY_edge_58 post x1 x2 x3 x4 x5 x6 0 f_edges f_known a_from a_to a_kind a_first a_second a_number a_low a_high a_steps a_held a_bounds :=
  br_c (fun _ => ye_83_0 H0) (fun _ => br_c (fun _ => ye_83_0 H0) (fun _ => yw_in (fun _ _ => br_f (by decide) (ye_83_0 H0)) (fun _ => br_t rfl (ye_83_0 H0))))
theorem ye_152 {post : Int32 → SY → Prop} {E F T K A B : Nat} (hE : E < 20) {x4 x5 x6 : Int32} (hK : K < 8) (a1 : K = 0 → A = 0) (a2 : K ≠ 0 → x4 = nI A) (b1 : K ≤ 1 ∨ K = 4 → B = 0) (b2 : 1 < K → K ≠ 4 → x5 = nI B)
    (H : post (nI E) (nI (E + 1), 0, upd a_from E (nI F), upd a_to E (nI T), upd a_kind E (nI K), upd a_first E (nI A), upd a_second E (nI B), upd a_number E x6, a_low, a_high, a_steps, a_held, a_bounds)) :
    wY_edge_152 post (nI F) (nI T) (nI K) x4 x5 x6 1 (nI E) f_known a_from a_to a_kind a_first a_second a_number a_low a_high a_steps a_held a_bounds := by
  have ie : vp_in (nI E) 20 := vp_in_nI hE (by omega)
  have ce : (nI E).toNatClampNeg = E := nI_clamp (by omega)
  have t232 : ∀ z0 : Int32, z0 = nI B → wY_edge_232 post x6 z0 (nI E) (nI E) f_known (upd a_from E (nI F)) (upd a_to E (nI T)) (upd a_kind E (nI K)) (upd a_first E (nI A)) a_second a_number a_low a_high a_steps a_held a_bounds := by
    intro z0 hz
    subst hz
    unfold wY_edge_232
    rw [ce]
    exact ⟨ie, nm_e ⟨ie, nm_e (nm_r (nI_1 E) H)⟩⟩
  have t207 : ∀ z0 : Int32, z0 = nI A → wY_edge_207 post (nI K) x5 x6 z0 (nI E) (nI E) f_known (upd a_from E (nI F)) (upd a_to E (nI T)) (upd a_kind E (nI K)) a_first a_second a_number a_low a_high a_steps a_held a_bounds := by
    intro z0 hz
    subst hz
    unfold wY_edge_207
    rw [ce]
    refine ⟨ie, nm_e (pk_lt K 2 (fun w => t232 _ ?_) (fun w => pk_eq K 4 (fun z => t232 _ ?_) (fun z => t232 _ (b2 (by omega) z))))⟩
    · rw [b1 (Or.inl (by omega))]; rfl
    · rw [b1 (Or.inr z)]; rfl
  unfold wY_edge_152
  refine br_f (by decide) ?_
  rw [ce]
  refine ⟨ie, nm_e ⟨ie, nm_e ⟨ie, nm_e (pk_eq K 0 (fun z => t207 _ ?_) (fun z => t207 _ (a2 z)))⟩⟩⟩
  rw [a1 z]; rfl
theorem ye_83 {post : Int32 → SY → Prop} {E F T K A B : Nat} (hE : E < 20) {x4 x5 x6 : Int32} (hK : K < 8) (a1 : K = 0 → A = 0) (a2 : K ≠ 0 → x4 = nI A) (b1 : K ≤ 1 ∨ K = 4 → B = 0) (b2 : 1 < K → K ≠ 4 → x5 = nI B)
    (H : gr_cr K x6.toInt → post (nI E) (nI (E + 1), 0, upd a_from E (nI F), upd a_to E (nI T), upd a_kind E (nI K), upd a_first E (nI A), upd a_second E (nI B), upd a_number E x6, a_low, a_high, a_steps, a_held, a_bounds))
    (H0 : ¬ gr_cr K x6.toInt → post (-1) (nI E, f_known, a_from, a_to, a_kind, a_first, a_second, a_number, a_low, a_high, a_steps, a_held, a_bounds)) :
    wY_edge_83 post (nI F) (nI T) (nI K) x4 x5 x6 1 (nI E) f_known a_from a_to a_kind a_first a_second a_number a_low a_high a_steps a_held a_bounds := by
  have e7 : (7 : Int32).toInt = 7 := by decide
  have e14 : (14 : Int32).toInt = 14 := by decide
  have e20 : (20 : Int32).toInt = 20 := by decide
  have em7 : (-7 : Int32).toInt = -7 := by decide
  have em20 : (-20 : Int32).toInt = -20 := by decide
  unfold gr_cr at H H0
  have t152 := fun q => ye_152 (f_known := f_known) (F := F) (T := T) hE hK a1 a2 b1 b2 (H q)
  have t132 : K ≠ 1 ∧ K ≠ 2 ∧ K ≠ 3 ∨ (K < 4 ∧ (K = 1 → 0 ≤ x6.toInt ∧ x6.toInt ≤ 7) ∧ (K = 2 → -7 ≤ x6.toInt ∧ x6.toInt ≤ 7) ∧ (K = 3 → 0 ≤ x6.toInt ∧ x6.toInt ≤ 14)) → wY_edge_132 post (nI F) (nI T) (nI K) x4 x5 x6 1 (nI E) f_known a_from a_to a_kind a_first a_second a_number a_low a_high a_steps a_held a_bounds := by
    intro q
    refine pk_le K 4 (fun w => t152 (by omega)) (fun w => yw_inN rfl em20 e20 (fun a b => br_f (by decide) (t152 (by omega))) (fun y => br_t rfl (br_t rfl (H0 (by omega)))))
  have t116 : K ≠ 1 ∧ K ≠ 2 ∨ (K < 3 ∧ (K = 1 → 0 ≤ x6.toInt ∧ x6.toInt ≤ 7) ∧ (K = 2 → -7 ≤ x6.toInt ∧ x6.toInt ≤ 7)) → wY_edge_116 post (nI F) (nI T) (nI K) x4 x5 x6 1 (nI E) f_known a_from a_to a_kind a_first a_second a_number a_low a_high a_steps a_held a_bounds := by
    intro q
    refine pk_eq K 3 (fun w => yw_inN rfl xa_0 e14 (fun a b => br_f (by decide) (t132 (by omega))) (fun y => br_t rfl (br_t rfl (H0 (by omega))))) (fun w => t132 (by omega))
  have t99 : K ≠ 1 ∨ (K = 1 → 0 ≤ x6.toInt ∧ x6.toInt ≤ 7) → wY_edge_99 post (nI F) (nI T) (nI K) x4 x5 x6 1 (nI E) f_known a_from a_to a_kind a_first a_second a_number a_low a_high a_steps a_held a_bounds := by
    intro q
    refine pk_eq K 2 (fun w => yw_inN rfl em7 e7 (fun a b => br_f (by decide) (t116 (by omega))) (fun y => br_t rfl (br_t rfl (H0 (by omega))))) (fun w => t116 (by omega))
  refine pk_eq K 1 (fun w => yw_inN rfl xa_0 e7 (fun a b => br_f (by decide) (t99 (by omega))) (fun y => br_t rfl (br_t rfl (H0 (by omega))))) (fun w => t99 (by omega))
theorem ye_good {post : Int32 → SY → Prop} {E F T K A B : Nat} (hE : E < 20) (hF : F < 7) (hT : T < 7) (hK : K < 8) (hA : A < 3) (hB : B < 3) {p3 p4 p5 : Int32} (a1 : K = 0 → A = 0) (a2 : K ≠ 0 → p3 = nI A) (b1 : K ≤ 1 ∨ K = 4 → B = 0) (b2 : 1 < K → K ≠ 4 → p4 = nI B)
    (hc : gr_cr K p5.toInt)
    (H : post (nI E) (nI (E + 1), 0, upd a_from E (nI F), upd a_to E (nI T), upd a_kind E (nI K), upd a_first E (nI A), upd a_second E (nI B), upd a_number E p5, a_low, a_high, a_steps, a_held, a_bounds)) :
    wpY_edge post (nI E, f_known, a_from, a_to, a_kind, a_first, a_second, a_number, a_low, a_high, a_steps, a_held, a_bounds) (nI F) (nI T) (nI K) p3 p4 p5 := by
  have e2 : (2 : Int32).toInt = 2 := by decide
  have e6 : (6 : Int32).toInt = 6 := by decide
  have e7 : (7 : Int32).toInt = 7 := by decide
  have t83 := ye_83 (f_known := f_known) (post := post) (F := F) (T := T) hE hK a1 a2 b1 b2 (fun _ => H) (fun q => absurd hc q)
  have t53 : wY_edge_53 post (nI F) (nI T) (nI K) p3 p4 p5 (nI E) f_known a_from a_to a_kind a_first a_second a_number a_low a_high a_steps a_held a_bounds := by
    refine pk_le K 1 (fun _ => t83) (fun w => pk_eq K 4 (fun _ => t83) (fun z => ?_))
    have := b2 w z
    exact yw_inN (v := B) (by rw [this]; exact xa_nI (by omega)) xa_0 e2 (fun _ _ => br_f (by decide) t83) (fun q => absurd ⟨by omega, by omega⟩ q)
  refine pk_le 20 E (fun q => by omega) (fun _ => ?_)
  refine yw_inN (xa_nI (by omega)) xa_0 e6 (fun _ _ => br_f (by decide) ?_) (fun q => absurd ⟨by omega, by omega⟩ q)
  refine yw_inN (xa_nI (by omega)) xa_0 e6 (fun _ _ => br_f (by decide) ?_) (fun q => absurd ⟨by omega, by omega⟩ q)
  refine yw_inN (xa_nI (by omega)) xa_0 e7 (fun _ _ => br_f (by decide) ?_) (fun q => absurd ⟨by omega, by omega⟩ q)
  refine pk_eq K 0 (fun _ => t53) (fun z => ?_)
  have := a2 z
  exact yw_inN (v := A) (by rw [this]; exact xa_nI (by omega)) xa_0 e2 (fun _ _ => br_f (by decide) t53) (fun q => absurd ⟨by omega, by omega⟩ q)
theorem ye_bad {post : Int32 → SY → Prop} {E : Nat} (hE : E ≤ 20) {p0 p1 p2 p3 p4 p5 : Int32} (hb : ¬ ie_good E p0.toInt p1.toInt p2.toInt p3.toInt p4.toInt p5.toInt) (H0 : post (-1) (nI E, f_known, a_from, a_to, a_kind, a_first, a_second, a_number, a_low, a_high, a_steps, a_held, a_bounds)) :
    wpY_edge post (nI E, f_known, a_from, a_to, a_kind, a_first, a_second, a_number, a_low, a_high, a_steps, a_held, a_bounds) p0 p1 p2 p3 p4 p5 := by
  have e2 : (2 : Int32).toInt = 2 := by decide
  have e6 : (6 : Int32).toInt = 6 := by decide
  have e7 : (7 : Int32).toInt = 7 := by decide
  have t57 : wY_edge_57 post p0 p1 p2 p3 p4 p5 (nI E) f_known a_from a_to a_kind a_first a_second a_number a_low a_high a_steps a_held a_bounds := ye_58_0 H0
  refine pk_le 20 E (fun q => t57) (fun hE' => ?_)
  refine yw_inN rfl xa_0 e6 (fun a0 b0 => br_f (by decide) ?_) (fun q => br_t rfl t57)
  refine yw_inN rfl xa_0 e6 (fun a1 b1 => br_f (by decide) ?_) (fun q => br_t rfl t57)
  refine yw_inN rfl xa_0 e7 (fun a2 b2 => br_f (by decide) ?_) (fun q => br_t rfl t57)
  obtain ⟨F, hF, eF⟩ := ie_of (n := 6) a0 (by omega)
  obtain ⟨T, hT, eT⟩ := ie_of (n := 6) a1 (by omega)
  obtain ⟨K, hK, eK⟩ := ie_of (n := 7) a2 (by omega)
  have k2 : p2.toInt = (K : Int) := by rw [eK, nI_toInt (by omega)]
  have fin : ∀ A B : Nat, A < 3 → B < 3 → (K = 0 → A = 0) → (K ≠ 0 → p3 = nI A) → (K ≤ 1 ∨ K = 4 → B = 0) → (1 < K → K ≠ 4 → p4 = nI B) → wY_edge_83 post p0 p1 p2 p3 p4 p5 1 (nI E) f_known a_from a_to a_kind a_first a_second a_number a_low a_high a_steps a_held a_bounds := by
    intro A B hA hB q1 q2 q3 q4
    have nc : ¬ gr_cr K p5.toInt := fun c => hb ⟨hE', ⟨a0, b0⟩, ⟨a1, b1⟩, ⟨a2, b2⟩, fun w => by have := q2 (by omega); rw [this, nI_toInt (by omega)]; omega, fun w1 w2 => by have := q4 (by omega) (by omega); rw [this, nI_toInt (by omega)]; omega, fun w => c.1 (by omega), fun w => c.2.1 (by omega), fun w => c.2.2.1 (by omega), fun w => c.2.2.2 (by omega)⟩
    subst eF eT eK
    exact ye_83 hE' (by omega) q1 q2 q3 q4 (fun c => absurd c nc) (fun _ => H0)
  have t53 : ∀ A : Nat, A < 3 → (K = 0 → A = 0) → (K ≠ 0 → p3 = nI A) → wY_edge_53 post p0 p1 p2 p3 p4 p5 (nI E) f_known a_from a_to a_kind a_first a_second a_number a_low a_high a_steps a_held a_bounds := by
    intro A hA q1 q2
    refine pk_le K 1 (fun w => fin A 0 hA (by omega) q1 q2 (fun _ => rfl) (fun w1 _ => by omega)) (fun w => pk_eq K 4 (fun z => fin A 0 hA (by omega) q1 q2 (fun _ => rfl) (fun _ w2 => absurd z w2)) (fun z => ?_) eK) eK
    refine yw_inN rfl xa_0 e2 (fun a b => br_f (by decide) ?_) (fun q => br_t rfl (ye_83_0 H0))
    obtain ⟨B, hB, eB⟩ := ie_of (n := 2) a (by omega)
    exact fin A B hA (by omega) q1 q2 (fun w => by omega) (fun _ _ => eB)
  refine pk_eq K 0 (fun z => t53 0 (by omega) (fun _ => rfl) (fun w => absurd z w)) (fun z => ?_) eK
  refine yw_inN rfl xa_0 e2 (fun a b => br_f (by decide) ?_) (fun q => br_t rfl t57)
  obtain ⟨A, hA, eA⟩ := ie_of (n := 2) a (by omega)
  exact t53 A (by omega) (fun w => absurd w z) (fun _ => eA)
end
end
section
/-! the owed statements of edge, lead, drop, begin -/
def ip_u {α : Type} (f : Nat → α) (i : Nat) (v : α) : Nat → α := fun j => if j = i then v else f j
theorem ip_us {α : Type} (f : Nat → α) (i : Nat) (v : α) : ip_u f i v i = v := if_pos rfl
theorem ip_un {α : Type} {f : Nat → α} {i j : Nat} {v : α} (h : j ≠ i) : ip_u f i v j = f j := if_neg h
theorem ip_P {f : Nat → Int32} {N : Nat → Nat} {i v e : Nat} (h : f e = nI (N e)) : upd f i (nI v) e = nI (ip_u N i v e) := by
  by_cases z : e = i
  · subst z; rw [pk_us, ip_us]
  · rw [pk_un z, ip_un z, h]
theorem ip_lt {N : Nat → Nat} {i v e b : Nat} (h : N e < b) (hv : v < b) : ip_u N i v e < b := by
  by_cases z : e = i
  · subst z; rw [ip_us]; exact hv
  · rw [ip_un z]; exact h
theorem i_vc_edge {k : Nat} {u : SX} {v : SY} (I : i_Rel k u v) (hk : k + 7 ≤ 3584) (v1 : Int32) (v2 : Int32) (v3 : Int32) (v4 : Int32) (v5 : Int32) (v6 : Int32) : wpX_edge (fun r u' => wpY_edge (fun r' v' => r' = r ∧ i_Rel (k + 7) u' v') v v1 v2 v3 v4 v5 v6) u v1 v2 v3 v4 v5 v6 := by
  refine ir_el (P := fun u v => wpX_edge (fun r u' => wpY_edge (fun r' v' => r' = r ∧ i_Rel (k + 7) u' v') v v1 v2 v3 v4 v5 v6) u v1 v2 v3 v4 v5 v6) ?_ I
  intro f_edges f_known a_from a_to a_kind a_first a_second a_constant a_low a_high a_bound a_filled a_waiting a_waits a_said a_real a_fresh a_coming a_far a_number a_steps a_held a_bounds G F0
  obtain ⟨⟨go, hE, ha, hl⟩, hC, hN, hk1, hK1⟩ := F0
  subst hE
  refine xe_edge go.1 (fun F T K A B hE hF hT hK hA hB e0 e1 e2 a1 a2 b1 b2 hc x hx => ?_) (fun bad => ye_bad go.1 bad ⟨rfl, ir_in (G := G) ⟨⟨go, rfl, ha, hl⟩, hC, hN, hk1, hK1⟩⟩)
  subst e0 e1 e2
  refine ye_good hE hF hT hK hA hB a1 a2 b1 b2 hc ⟨rfl, ?_⟩
  refine ir_in (G := (gr_E G + 1, ip_u (gr_F G) (gr_E G) F, ip_u (gr_T G) (gr_E G) T, ip_u (gr_K G) (gr_E G) K, ip_u (gr_A G) (gr_E G) A, ip_u (gr_B G) (gr_E G) B, ip_u (gr_C G) (gr_E G) v6.toInt, gr_lo G, gr_hi G))
    ⟨⟨⟨?_, ?_, ?_, ?_⟩, rfl, ?_, ?_⟩, ?_, ?_, Or.inl rfl, fun h => absurd rfl h⟩
  · show gr_E G + 1 ≤ 20; omega
  · intro e he
    obtain ⟨q1, q2, q3, q4, q5⟩ := go.2.1 e he
    exact ⟨ip_lt q1 hF, ip_lt q2 hT, ip_lt q3 hK, ip_lt q4 hA, ip_lt q5 hB⟩
  · intro e he
    have he' : e < gr_E G + 1 := he
    show gr_cr (ip_u (gr_K G) (gr_E G) K e) (ip_u (gr_C G) (gr_E G) v6.toInt e)
    by_cases z : e = gr_E G
    · subst z; rw [ip_us, ip_us]; exact hc
    · rw [ip_un z, ip_un z]; exact go.2.2.1 e (by omega)
  · exact go.2.2.2
  · intro e he
    obtain ⟨q1, q2, q3, q4, q5⟩ := ha e he
    exact ⟨ip_P q1, ip_P q2, ip_P q3, ip_P q4, ip_P q5⟩
  · exact hl
  · intro e he
    have he' : e < gr_E G + 1 := he
    show ip_u (gr_K G) (gr_E G) K e ≠ 0 → ip_u (gr_K G) (gr_E G) K e ≠ 4 → (upd a_constant (gr_E G) x e).toInt = ip_u (gr_C G) (gr_E G) v6.toInt e
    by_cases z : e = gr_E G
    · subst z; rw [ip_us, ip_us, pk_us]; exact hx
    · rw [ip_un z, ip_un z, pk_un z]; exact hC e (by omega)
  · intro e he
    have he' : e < gr_E G + 1 := he
    show ip_u (gr_K G) (gr_E G) K e ≠ 0 → ip_u (gr_K G) (gr_E G) K e ≠ 4 → (upd a_number (gr_E G) v6 e).toInt = ip_u (gr_C G) (gr_E G) v6.toInt e
    by_cases z : e = gr_E G
    · subst z; rw [ip_us, ip_us, pk_us]; exact fun _ _ => rfl
    · rw [ip_un z, ip_un z, pk_un z]; exact hN e (by omega)
theorem i_vc_lead {k : Nat} {u : SX} {v : SY} (I : i_Rel k u v) (hk : k + 7 ≤ 3584) (v1 : Int32) (v2 : Int32) : wpX_lead (fun r u' => wpY_lead (fun r' v' => r' = r ∧ i_Rel (k + 7) u' v') v v1 v2) u v1 v2 := by
  refine ir_el (P := fun u v => wpX_lead (fun r u' => wpY_lead (fun r' v' => r' = r ∧ i_Rel (k + 7) u' v') v v1 v2) u v1 v2) ?_ I
  intro f_edges f_known a_from a_to a_kind a_first a_second a_constant a_low a_high a_bound a_filled a_waiting a_waits a_said a_real a_fresh a_coming a_far a_number a_steps a_held a_bounds G F0
  obtain ⟨⟨go, hE, ha, hl⟩, hC, hN, hk1, hK1⟩ := F0
  subst hE
  have E20 := go.1
  have e6 : (6 : Int32).toInt = 6 := by decide
  have tE : (nI (gr_E G)).toInt = (gr_E G : Int) := xa_nI (by omega)
  have same : i_Rel (k + 7) (nI (gr_E G), f_known, a_from, a_to, a_kind, a_first, a_second, a_constant, a_low, a_high, a_bound, a_filled, a_waiting, a_waits, a_said, a_real, a_fresh, a_coming, a_far) (nI (gr_E G), f_known, a_from, a_to, a_kind, a_first, a_second, a_number, a_low, a_high, a_steps, a_held, a_bounds) := ir_in (G := G) ⟨⟨go, rfl, ha, hl⟩, hC, hN, hk1, hK1⟩
  -- the reference, if the call is refused
  have bad : ¬ ((0 ≤ v1.toInt ∧ v1.toInt ≤ (gr_E G : Int) - 1) ∧ (0 ≤ v2.toInt ∧ v2.toInt ≤ 6)) → wpY_lead (fun r' v' => r' = -1 ∧ i_Rel (k + 7) (nI (gr_E G), f_known, a_from, a_to, a_kind, a_first, a_second, a_constant, a_low, a_high, a_bound, a_filled, a_waiting, a_waits, a_said, a_real, a_fresh, a_coming, a_far) v') (nI (gr_E G), f_known, a_from, a_to, a_kind, a_first, a_second, a_number, a_low, a_high, a_steps, a_held, a_bounds) v1 v2 := by
    intro w
    refine br_c (fun _ => ⟨rfl, same⟩) (fun q => br_c (fun _ => ⟨rfl, same⟩) (fun q2 => yw_inN rfl xa_0 e6 (fun a b => absurd ⟨⟨?_, ?_⟩, a, b⟩ w) (fun _ => br_t rfl ⟨rfl, same⟩)))
    · rw [xa_lt rfl xa_0] at q; omega
    · rw [xa_le tE rfl] at q2; omega
  refine xg_outN rfl xa_0 (xa_sub tE xa_1 (by omega) (by omega)) (fun a b => br_t rfl ?_) (fun w => br_f (by decide) (bad (fun z => w z.1)))
  refine xg_outN rfl xa_0 e6 (fun a2 b2 => br_t rfl ?_) (fun w => br_f (by decide) (bad (fun z => w z.2)))
  obtain ⟨e, he, ee⟩ := ie_of (n := 19) a (by omega)
  obtain ⟨T, hT, eT⟩ := ie_of (n := 6) a2 (by omega)
  subst ee eT
  rw [xa_nI (by omega)] at b
  have eE : e < gr_E G := by omega
  have ie : vp_in (nI e) 20 := vp_in_nI (by omega) (by omega)
  have ce : (nI e).toNatClampNeg = e := nI_clamp (by omega)
  rw [ce, xe_byN (by omega)]
  refine ⟨ie, nm_e ⟨ie, nm_e ?_⟩⟩
  refine br_f (nI_pos (by omega)) (br_f (nI_ge eE (by omega)) (yw_inN (xa_nI (by omega)) xa_0 e6 (fun _ _ => br_f (by decide) ?_) (fun w => absurd ⟨by omega, by omega⟩ w)))
  rw [ce]
  refine ⟨ie, nm_e ⟨ie, nm_e ⟨rfl, ?_⟩⟩⟩
  refine ir_in (G := (gr_E G, gr_F G, ip_u (gr_T G) e T, gr_K G, gr_A G, gr_B G, gr_C G, gr_lo G, gr_hi G)) ⟨⟨⟨go.1, ?_, go.2.2.1, go.2.2.2⟩, rfl, ?_, hl⟩, hC, hN, Or.inl rfl, fun h => absurd rfl h⟩
  · intro e' he'
    obtain ⟨q1, q2, q3⟩ := go.2.1 e' he'
    exact ⟨q1, ip_lt q2 (by omega), q3⟩
  · intro e' he'
    obtain ⟨q1, q2, q3⟩ := ha e' he'
    exact ⟨q1, ip_P q2, q3⟩
theorem i_vc_drop {k : Nat} {u : SX} {v : SY} (I : i_Rel k u v) (hk : k + 7 ≤ 3584) : wpX_drop (fun r u' => wpY_drop (fun r' v' => r' = r ∧ i_Rel (k + 7) u' v') v) u := by
  refine ir_el (P := fun u v => wpX_drop (fun r u' => wpY_drop (fun r' v' => r' = r ∧ i_Rel (k + 7) u' v') v) u) ?_ I
  intro f_edges f_known a_from a_to a_kind a_first a_second a_constant a_low a_high a_bound a_filled a_waiting a_waits a_said a_real a_fresh a_coming a_far a_number a_steps a_held a_bounds G F0
  obtain ⟨⟨go, hE, ha, hl⟩, hC, hN, hk1, hK1⟩ := F0
  subst hE
  have E20 := go.1
  refine pk_eq (gr_E G) 0 (fun z => ?_) (fun z => ?_)
  · have z' : nI (gr_E G) = 0 := by rw [z]; rfl
    exact br_t z' ⟨rfl, ir_in (G := G) ⟨⟨go, rfl, ha, hl⟩, hC, hN, hk1, hK1⟩⟩
  · have z' : ¬ nI (gr_E G) = 0 := nI_ne0 (by omega) (by omega)
    have p : nI (gr_E G) - 1 = nI (gr_E G - 1) := pk_sub (b := 1) (by omega)
    refine nm_r p (br_f z' (nm_r p ⟨rfl, ?_⟩))
    refine ir_in (G := (gr_E G - 1, gr_F G, gr_T G, gr_K G, gr_A G, gr_B G, gr_C G, gr_lo G, gr_hi G)) ⟨⟨⟨?_, go.2.1, ?_, go.2.2.2⟩, rfl, ha, hl⟩, ?_, ?_, Or.inl rfl, fun h => absurd rfl h⟩
    · show gr_E G - 1 ≤ 20; omega
    · intro e he
      have he' : e < gr_E G - 1 := he
      exact go.2.2.1 e (by omega)
    · intro e he
      have he' : e < gr_E G - 1 := he
      exact hC e (by omega)
    · intro e he
      have he' : e < gr_E G - 1 := he
      exact hN e (by omega)
theorem i_vc_begin {k : Nat} {u : SX} {v : SY} (I : i_Rel k u v) (hk : k + 7 ≤ 3584) (v1 : Int32) (v2 : Int32) (v3 : Int32) : wpX_begin (fun r u' => wpY_begin (fun r' v' => r' = r ∧ i_Rel (k + 7) u' v') v v1 v2 v3) u v1 v2 v3 := by
  refine ir_el (P := fun u v => wpX_begin (fun r u' => wpY_begin (fun r' v' => r' = r ∧ i_Rel (k + 7) u' v') v v1 v2 v3) u v1 v2 v3) ?_ I
  intro f_edges f_known a_from a_to a_kind a_first a_second a_constant a_low a_high a_bound a_filled a_waiting a_waits a_said a_real a_fresh a_coming a_far a_number a_steps a_held a_bounds G F0
  obtain ⟨⟨go, hE, ha, hl⟩, hC, hN, hk1, hK1⟩ := F0
  have e2 : (2 : Int32).toInt = 2 := by decide
  have e7 : (7 : Int32).toInt = 7 := by decide
  have same : i_Rel (k + 7) (f_edges, f_known, a_from, a_to, a_kind, a_first, a_second, a_constant, a_low, a_high, a_bound, a_filled, a_waiting, a_waits, a_said, a_real, a_fresh, a_coming, a_far) (f_edges, f_known, a_from, a_to, a_kind, a_first, a_second, a_number, a_low, a_high, a_steps, a_held, a_bounds) := ir_in (G := G) ⟨⟨go, hE, ha, hl⟩, hC, hN, hk1, hK1⟩
  have bad : ¬ ((0 ≤ v1.toInt ∧ v1.toInt ≤ 2) ∧ (0 ≤ v3.toInt ∧ v3.toInt ≤ 7) ∧ (0 ≤ v2.toInt ∧ v2.toInt ≤ v3.toInt)) → wpY_begin (fun r' v' => r' = 0 ∧ i_Rel (k + 7) (f_edges, f_known, a_from, a_to, a_kind, a_first, a_second, a_constant, a_low, a_high, a_bound, a_filled, a_waiting, a_waits, a_said, a_real, a_fresh, a_coming, a_far) v') (f_edges, f_known, a_from, a_to, a_kind, a_first, a_second, a_number, a_low, a_high, a_steps, a_held, a_bounds) v1 v2 v3 := by
    intro w
    unfold wpY_begin
    refine yw_inN rfl xa_0 e2 (fun a b => br_f (by decide) (br_c (fun _ => ⟨rfl, same⟩) (fun q => br_c (fun _ => ⟨rfl, same⟩) (fun q2 => br_c (fun q3 => absurd ⟨⟨a, b⟩, ⟨?_, ?_⟩, ?_, ?_⟩ w) (fun _ => ⟨rfl, same⟩))))) (fun _ => br_t rfl ⟨rfl, same⟩)
    all_goals (rw [xa_lt rfl xa_0] at q; rw [xa_lt rfl rfl] at q2; rw [xa_le rfl e7] at q3; omega)
  refine xg_outN rfl xa_0 e2 (fun a1 b1 => br_t rfl ?_) (fun w => br_f (by decide) (bad (fun z => w z.1)))
  refine xg_outN rfl xa_0 e7 (fun a3 b3 => br_t rfl ?_) (fun w => br_f (by decide) (bad (fun z => w z.2.1)))
  refine xg_outN rfl xa_0 rfl (fun a2 b2 => br_t rfl ?_) (fun w => br_f (by decide) (bad (fun z => w z.2.2)))
  obtain ⟨x, hx, ex⟩ := ie_of (n := 2) a1 (by omega)
  obtain ⟨h, hh, eh⟩ := ie_of (n := 7) a3 (by omega)
  obtain ⟨l, hl7, el⟩ := ie_of (n := 7) a2 (by omega)
  subst ex eh el
  rw [xa_nI (by omega), xa_nI (by omega)] at b2
  have ix : vp_in (nI x) 3 := vp_in_nI (by omega) (by omega)
  have cx : (nI x).toNatClampNeg = x := nI_clamp (by omega)
  rw [cx, xe_byN (by omega), xe_byN (by omega)]
  refine ⟨ix, nm_e ⟨ix, nm_e ?_⟩⟩
  show wpY_begin _ _ _ _ _
  unfold wpY_begin
  refine yw_inN (xa_nI (n := x) (by omega)) xa_0 e2 (fun _ _ => br_f (by decide) (br_f (nI_pos (by omega)) (br_f (nI_nlt (by omega) (by omega)) (br_t ?_ ?_)))) (fun w => absurd ⟨by omega, by omega⟩ w)
  · rw [xa_le (xa_nI (by omega)) e7]; omega
  · rw [cx]
    refine ⟨ix, nm_e ⟨ix, nm_e ⟨rfl, ?_⟩⟩⟩
    refine ir_in (G := (gr_E G, gr_F G, gr_T G, gr_K G, gr_A G, gr_B G, gr_C G, ip_u (gr_lo G) x l, ip_u (gr_hi G) x h)) ⟨⟨⟨go.1, go.2.1, go.2.2.1, ?_⟩, hE, ha, ?_⟩, hC, hN, Or.inl rfl, fun h => absurd rfl h⟩
    · intro i hi
      show ip_u (gr_lo G) x l i ≤ ip_u (gr_hi G) x h i ∧ ip_u (gr_hi G) x h i ≤ 7
      by_cases z : i = x
      · subst z; rw [ip_us, ip_us]; omega
      · rw [ip_un z, ip_un z]; exact go.2.2.2 i hi
    · intro i hi
      obtain ⟨q1, q2⟩ := hl i hi
      exact ⟨ip_P q1, ip_P q2⟩
end
section
/-! counts and membership (printed by tools/gen_q.py) -/
theorem xq_count {post : Int32 → Prop} {x : Int64} (H : post (nI (ct_n (fun t => xb_w x t = true) 64))) : wpX_count post x := by
  refine ⟨65, xb_loop (fun n l (c : Nat) => wX_count_4 post n (nI c) l) x (fun i c => c = ct_n (fun t => xb_w x t = true) i) ?_ ?_ ?_ 0 rfl⟩
  · rintro i c hi hb rfl
    show _ = ct_n _ i + ct_b (xb_w x i = true)
    rw [ct_bf (by rw [hb]; decide)]; rfl
  · rintro n c rfl
    show wX_count_4 post (n + 1) _ 0
    rw [wX_count_4]
    exact br_t rfl H
  · rintro n j l c hj hb hl low rfl ih
    show wX_count_4 post (n + 1) _ l
    rw [wX_count_4]
    refine br_f hl (nm_r (nI_1 _) (nm_e (ih _ ?_)))
    show _ = ct_n _ j + ct_b (xb_w x j = true)
    rw [ct_bt hb]
section
variable {f_edges f_known : Int32} {a_from a_to a_kind a_first a_second a_constant a_low a_high a_bound a_filled a_waiting a_waits a_far : Nat → Int32} {a_said a_real a_fresh a_coming : Nat → Int64}
theorem xq_24_real {post : Int32 → SX → Prop} {p : Nat} (hp : p < 7) (H : post (nI (ct_n (fun s => xb_b a_real (512 * p + s) = true) 512)) (f_edges, f_known, a_from, a_to, a_kind, a_first, a_second, a_constant, a_low, a_high, a_bound, a_filled, a_waiting, a_waits, a_said, a_real, a_fresh, a_coming, a_far)) :
    ∀ (n m : Nat), m ≤ 8 → 8 < n + m → wX_size__real_24 post (nI p) f_edges f_known a_from a_to a_kind a_first a_second a_constant a_low a_high a_bound a_filled a_waiting a_waits a_said a_real a_fresh a_coming a_far n (nI (ct_n (fun s => xb_b a_real (512 * p + s) = true) (64 * m))) (nI (8 * p + m)) := by
  have i1 : (8 * nI p) + 8 = nI (8 * p + 8) := by
    show nI 8 * nI p + nI 8 = _
    rw [pk_mul, nI_add]
  intro n
  induction n with
  | zero => intro m h1 h2; omega
  | succ n ih =>
    intro m hm hn
    rw [wX_size__real_24]
    dsimp only
    rw [i1]
    refine pk_le (8 * p + 8) (8 * p + m) (fun q => ?_) (fun q => ⟨vp_in_nI (by omega) (by omega), ?_⟩)
    · have : m = 8 := by omega
      subst this
      exact H
    · rw [nI_clamp (by omega)]
      refine xq_count (nm_r ?_ (nm_r (nI_1 _) (ih (m + 1) (by omega) (by omega))))
      rw [nI_add, show 64 * (m + 1) = 64 * m + 64 by omega, ct_add]
      refine congrArg nI (congrArg _ (ct_eq (fun t ht => ?_)))
      show xb_w (a_real (8 * p + m)) t = true ↔ xb_b a_real (512 * p + (64 * m + t)) = true
      unfold xb_b
      rw [show (512 * p + (64 * m + t)) / 64 = 8 * p + m by omega, show (512 * p + (64 * m + t)) % 64 = t by omega]
theorem xq_in_real {post : Int32 → Prop} {p s : Nat} (hp : p < 7) (hs : s < 512) (H1 : xb_b a_real (512 * p + s) = true → post 1) (H0 : xb_b a_real (512 * p + s) = false → post 0) : wpX_in__real post (f_edges, f_known, a_from, a_to, a_kind, a_first, a_second, a_constant, a_low, a_high, a_bound, a_filled, a_waiting, a_waits, a_said, a_real, a_fresh, a_coming, a_far) (nI p) (nI s) := by
  have s1 : nI s >>> ((6 : Int32) &&& 31) = nI (s / 64) := pk_shrN (by omega) _ 6 (by decide)
  have s2 : nI s &&& 63 = nI (s % 64) := pk_andN (by omega) 6 (by decide)
  have i1 : (8 * nI p) + (nI s >>> ((6 : Int32) &&& 31)) = nI (8 * p + s / 64) := by
    rw [s1]
    show nI 8 * nI p + _ = _
    rw [pk_mul, nI_add]
  have e : xb_b a_real (512 * p + s) = (a_real (8 * p + s / 64)).toBitVec.getLsbD (s % 64) := by
    unfold xb_b xb_w
    rw [show (512 * p + s) / 64 = 8 * p + s / 64 by omega, show (512 * p + s) % 64 = s % 64 by omega]
  unfold wpX_in__real
  dsimp only
  rw [pk_cl _ i1, s2, wb_cu _ (Nat.mod_lt _ (by decide))]
  have tb := ts_bit (w := a_real (8 * p + s / 64)) (s := UInt64.ofNat (s % 64)) (j := s % 64) (Nat.mod_lt _ (by decide)) (u_tn (by have := Nat.mod_lt s (show 0 < 64 by decide); omega))
  refine ⟨pk_in _ 56 (by omega) i1, br_c (fun w => H0 ?_) (fun w => H1 ?_)⟩
  · rw [e]; exact tb.mp w
  · rw [e]; exact ts_nf (fun z => w (tb.mpr z))
theorem xq_24_said {post : Int32 → SX → Prop} {p : Nat} (hp : p < 7) (H : post (nI (ct_n (fun s => xb_b a_said (512 * p + s) = true) 512)) (f_edges, f_known, a_from, a_to, a_kind, a_first, a_second, a_constant, a_low, a_high, a_bound, a_filled, a_waiting, a_waits, a_said, a_real, a_fresh, a_coming, a_far)) :
    ∀ (n m : Nat), m ≤ 8 → 8 < n + m → wX_size__said_24 post (nI p) f_edges f_known a_from a_to a_kind a_first a_second a_constant a_low a_high a_bound a_filled a_waiting a_waits a_said a_real a_fresh a_coming a_far n (nI (ct_n (fun s => xb_b a_said (512 * p + s) = true) (64 * m))) (nI (8 * p + m)) := by
  have i1 : (8 * nI p) + 8 = nI (8 * p + 8) := by
    show nI 8 * nI p + nI 8 = _
    rw [pk_mul, nI_add]
  intro n
  induction n with
  | zero => intro m h1 h2; omega
  | succ n ih =>
    intro m hm hn
    rw [wX_size__said_24]
    dsimp only
    rw [i1]
    refine pk_le (8 * p + 8) (8 * p + m) (fun q => ?_) (fun q => ⟨vp_in_nI (by omega) (by omega), ?_⟩)
    · have : m = 8 := by omega
      subst this
      exact H
    · rw [nI_clamp (by omega)]
      refine xq_count (nm_r ?_ (nm_r (nI_1 _) (ih (m + 1) (by omega) (by omega))))
      rw [nI_add, show 64 * (m + 1) = 64 * m + 64 by omega, ct_add]
      refine congrArg nI (congrArg _ (ct_eq (fun t ht => ?_)))
      show xb_w (a_said (8 * p + m)) t = true ↔ xb_b a_said (512 * p + (64 * m + t)) = true
      unfold xb_b
      rw [show (512 * p + (64 * m + t)) / 64 = 8 * p + m by omega, show (512 * p + (64 * m + t)) % 64 = t by omega]
theorem xq_in_said {post : Int32 → Prop} {p s : Nat} (hp : p < 7) (hs : s < 512) (H1 : xb_b a_said (512 * p + s) = true → post 1) (H0 : xb_b a_said (512 * p + s) = false → post 0) : wpX_in__said post (f_edges, f_known, a_from, a_to, a_kind, a_first, a_second, a_constant, a_low, a_high, a_bound, a_filled, a_waiting, a_waits, a_said, a_real, a_fresh, a_coming, a_far) (nI p) (nI s) := by
  have s1 : nI s >>> ((6 : Int32) &&& 31) = nI (s / 64) := pk_shrN (by omega) _ 6 (by decide)
  have s2 : nI s &&& 63 = nI (s % 64) := pk_andN (by omega) 6 (by decide)
  have i1 : (8 * nI p) + (nI s >>> ((6 : Int32) &&& 31)) = nI (8 * p + s / 64) := by
    rw [s1]
    show nI 8 * nI p + _ = _
    rw [pk_mul, nI_add]
  have e : xb_b a_said (512 * p + s) = (a_said (8 * p + s / 64)).toBitVec.getLsbD (s % 64) := by
    unfold xb_b xb_w
    rw [show (512 * p + s) / 64 = 8 * p + s / 64 by omega, show (512 * p + s) % 64 = s % 64 by omega]
  unfold wpX_in__said
  dsimp only
  rw [pk_cl _ i1, s2, wb_cu _ (Nat.mod_lt _ (by decide))]
  have tb := ts_bit (w := a_said (8 * p + s / 64)) (s := UInt64.ofNat (s % 64)) (j := s % 64) (Nat.mod_lt _ (by decide)) (u_tn (by have := Nat.mod_lt s (show 0 < 64 by decide); omega))
  refine ⟨pk_in _ 56 (by omega) i1, br_c (fun w => H0 ?_) (fun w => H1 ?_)⟩
  · rw [e]; exact tb.mp w
  · rw [e]; exact ts_nf (fun z => w (tb.mpr z))
end
end
section
/-! real, said, distance, has, state -/
def gr_Rc (G : GrP) (k : Nat) : Prop := ∃ n, gr_R G n k
theorem gr_D_Rc {G : GrP} {k : Nat} {d : Int} (h : gr_D G k d) : 0 ≤ d ↔ gr_Rc G k := by
  rcases h with ⟨e, h⟩ | ⟨n, e, h, _⟩
  · exact ⟨fun w => by omega, fun ⟨n, w⟩ => absurd w (h n)⟩
  · exact ⟨fun _ => ⟨n, h⟩, fun _ => by omega⟩
theorem xq_Rc {G : GrP} {bo fl : Nat → Int32} {sd rl : Nat → Int64} {fa : Nat → Int32} (h : ir_X G bo fl sd rl fa) {k : Nat} (hk : k < 3584) : xb_b rl k = true ↔ gr_Rc G k := by
  obtain ⟨d, hd, e, _⟩ := h.2.2 k hk
  exact e.trans (gr_D_Rc hd)
theorem yq_Rc {G : GrP} {st hd : Nat → Int32} (h : ir_Y G st hd) {k : Nat} (hk : k < 3584) : st k < 0 ↔ ¬ gr_Rc G k := by
  rw [Int32.lt_iff_toInt_lt, Int32.toInt_zero, ← gr_D_Rc (h.1 k hk)]
  omega
section
variable {f_edges f_known : Int32} {a_from a_to a_kind a_first a_second a_constant a_low a_high a_bound a_filled a_waiting a_waits a_far : Nat → Int32} {a_said a_real a_fresh a_coming : Nat → Int64} {a_number a_steps a_held a_bounds : Nat → Int32}
/-- what is known of a state of the component, of the reference -/
def iq_X (G : GrP) (f_edges f_known : Int32) (a_from a_to a_kind a_first a_second a_constant a_low a_high a_bound a_filled : Nat → Int32) (a_said a_real : Nat → Int64) (a_far : Nat → Int32) : Prop :=
  xp_P G f_edges a_from a_to a_kind a_first a_second a_low a_high ∧ xp_C G a_constant ∧ (f_known = 0 ∨ f_known = 1) ∧ (f_known ≠ 0 → ir_X G a_bound a_filled a_said a_real a_far)
def iq_Y (G : GrP) (f_edges f_known : Int32) (a_from a_to a_kind a_first a_second a_number a_low a_high a_steps a_held : Nat → Int32) : Prop :=
  xp_P G f_edges a_from a_to a_kind a_first a_second a_low a_high ∧ xp_C G a_number ∧ (f_known = 0 ∨ f_known = 1) ∧ (f_known ≠ 0 → ir_Y G a_steps a_held)
theorem iq_xk {post : SX → Prop} {G : GrP} (Q : iq_X G f_edges f_known a_from a_to a_kind a_first a_second a_constant a_low a_high a_bound a_filled a_said a_real a_far)
    (H : ∀ bo fl wg wt sd rl fr cm fa, ir_X G bo fl sd rl fa → post (f_edges, 1, a_from, a_to, a_kind, a_first, a_second, a_constant, a_low, a_high, bo, fl, wg, wt, sd, rl, fr, cm, fa)) : wpX_know post (f_edges, f_known, a_from, a_to, a_kind, a_first, a_second, a_constant, a_low, a_high, a_bound, a_filled, a_waiting, a_waits, a_said, a_real, a_fresh, a_coming, a_far) := by
  obtain ⟨hP, hC, hk, hX⟩ := Q
  refine xk_know hP hC (fun z => ?_) (fun z g fl wg wt sd rl fr cm fa h1 h2 h3 => H g fl wg wt sd rl fr cm fa ⟨h1, h2, h3⟩)
  have e : f_known = 1 := hk.resolve_left z
  have := hX z
  subst e
  exact H _ _ _ _ _ _ _ _ _ this
theorem iq_yk {post : SY → Prop} {G : GrP} (Q : iq_Y G f_edges f_known a_from a_to a_kind a_first a_second a_number a_low a_high a_steps a_held)
    (H : ∀ st hd bd, ir_Y G st hd → post (f_edges, 1, a_from, a_to, a_kind, a_first, a_second, a_number, a_low, a_high, st, hd, bd)) : wpY_know post (f_edges, f_known, a_from, a_to, a_kind, a_first, a_second, a_number, a_low, a_high, a_steps, a_held, a_bounds) := by
  obtain ⟨hP, hC, hk, hY⟩ := Q
  refine yk_know hP hC (fun z => ?_) (fun z st hd bd h1 h2 => H st hd bd ⟨h1, h2⟩)
  have e : f_known = 1 := hk.resolve_left z
  have := hY z
  subst e
  exact H _ _ _ this
theorem iq_sx {G : GrP} (F : ir_F G f_edges f_known a_from a_to a_kind a_first a_second a_constant a_low a_high a_bound a_filled a_said a_real a_far a_number a_steps a_held) :
    iq_X G f_edges f_known a_from a_to a_kind a_first a_second a_constant a_low a_high a_bound a_filled a_said a_real a_far := ⟨F.1, F.2.1, F.2.2.2.1, fun z => (F.2.2.2.2 z).1⟩
theorem iq_sy {G : GrP} (F : ir_F G f_edges f_known a_from a_to a_kind a_first a_second a_constant a_low a_high a_bound a_filled a_said a_real a_far a_number a_steps a_held) :
    iq_Y G f_edges f_known a_from a_to a_kind a_first a_second a_number a_low a_high a_steps a_held := ⟨F.1, F.2.2.1, F.2.2.2.1, fun z => (F.2.2.2.2 z).2⟩
theorem iq_join {G : GrP} {f_known : Int32} {a_bound a_filled a_far a_steps a_held : Nat → Int32} {a_said a_real : Nat → Int64} (F : ir_F G f_edges f_known a_from a_to a_kind a_first a_second a_constant a_low a_high a_bound a_filled a_said a_real a_far a_number a_steps a_held)
    {k : Nat} {bo fl wg wt fa st hd bd : Nat → Int32} {sd rl fr cm : Nat → Int64} (hX : ir_X G bo fl sd rl fa) (hY : ir_Y G st hd) :
    i_Rel k (f_edges, 1, a_from, a_to, a_kind, a_first, a_second, a_constant, a_low, a_high, bo, fl, wg, wt, sd, rl, fr, cm, fa) (f_edges, 1, a_from, a_to, a_kind, a_first, a_second, a_number, a_low, a_high, st, hd, bd) :=
  ir_in (G := G) ⟨F.1, F.2.1, F.2.2.1, Or.inr rfl, fun _ => ⟨hX, hY⟩⟩
theorem yq_place {post : Int32 → Prop} {p0 : Int32} (H1 : ∀ p : Nat, p < 7 → p0 = nI p → post 1) (H0 : ¬ (0 ≤ p0.toInt ∧ p0.toInt ≤ 6) → post 0) : wpY_isPlace post p0 := by
  have e7 : (7 : Int32).toInt = 7 := by decide
  refine br_c (fun w => H0 (fun z => ?_)) (fun w => br_c (fun w2 => H0 (fun z => ?_)) (fun w2 => ?_))
  · rw [xa_lt rfl xa_0] at w; omega
  · rw [xa_le e7 rfl] at w2; omega
  · rw [xa_lt rfl xa_0] at w
    rw [xa_le e7 rfl] at w2
    obtain ⟨p, hp, e⟩ := ie_of (x := p0) (n := 6) (by omega) (by omega)
    exact H1 p (by omega) e
theorem xq_place {post : Int32 → Prop} {p0 : Int32} (H1 : ∀ p : Nat, p < 7 → p0 = nI p → post 0) (H0 : ¬ (0 ≤ p0.toInt ∧ p0.toInt ≤ 6) → post 1) : wpX_outside post p0 0 6 :=
  xg_outN rfl xa_0 (show (6 : Int32).toInt = 6 by decide) (fun a b => by
    obtain ⟨p, hp, e⟩ := ie_of (x := p0) (n := 6) a (by omega)
    exact H1 p (by omega) e) H0
theorem xq_real {post : Int32 → SX → Prop} {G : GrP} (Q : iq_X G f_edges f_known a_from a_to a_kind a_first a_second a_constant a_low a_high a_bound a_filled a_said a_real a_far) {p0 : Int32}
    (H1 : ∀ p : Nat, p < 7 → p0 = nI p → ∀ bo fl wg wt sd rl fr cm fa, ir_X G bo fl sd rl fa → post (nI (ct_n (fun s => gr_Rc G (512 * p + s)) 512)) (f_edges, 1, a_from, a_to, a_kind, a_first, a_second, a_constant, a_low, a_high, bo, fl, wg, wt, sd, rl, fr, cm, fa))
    (H0 : ¬ (0 ≤ p0.toInt ∧ p0.toInt ≤ 6) → post (-1) (f_edges, f_known, a_from, a_to, a_kind, a_first, a_second, a_constant, a_low, a_high, a_bound, a_filled, a_waiting, a_waits, a_said, a_real, a_fresh, a_coming, a_far)) : wpX_real post (f_edges, f_known, a_from, a_to, a_kind, a_first, a_second, a_constant, a_low, a_high, a_bound, a_filled, a_waiting, a_waits, a_said, a_real, a_fresh, a_coming, a_far) p0 := by
  unfold wpX_real wpX_size__real
  dsimp only
  refine xq_place (fun p hp e => br_t rfl (iq_xk Q (fun bo fl wg wt sd rl fr cm fa hX => ?_))) (fun w => br_f (by decide) (H0 w))
  have h := H1 p hp e bo fl wg wt sd rl fr cm fa hX
  subst e
  refine nm_r (pk_mul 8 p) ⟨9, ?_⟩
  refine xq_24_real (post := fun r u => match u with | (f_edges, f_known, a_from, a_to, a_kind, a_first, a_second, a_constant, a_low, a_high, a_bound, a_filled, a_waiting, a_waits, a_said, a_real, a_fresh, a_coming, a_far) => post r (f_edges, f_known, a_from, a_to, a_kind, a_first, a_second, a_constant, a_low, a_high, a_bound, a_filled, a_waiting, a_waits, a_said, a_real, a_fresh, a_coming, a_far)) hp ?_ 9 0 (by omega) (by omega)
  rw [ct_eq (fun s hs => xq_Rc hX (k := 512 * p + s) (by omega))]
  exact h
theorem xq_said {post : Int32 → SX → Prop} {G : GrP} (Q : iq_X G f_edges f_known a_from a_to a_kind a_first a_second a_constant a_low a_high a_bound a_filled a_said a_real a_far) {p0 : Int32}
    (H1 : ∀ p : Nat, p < 7 → p0 = nI p → ∀ bo fl wg wt sd rl fr cm fa, ir_X G bo fl sd rl fa → post (nI (ct_n (fun s => gr_H G (512 * p + s)) 512)) (f_edges, 1, a_from, a_to, a_kind, a_first, a_second, a_constant, a_low, a_high, bo, fl, wg, wt, sd, rl, fr, cm, fa))
    (H0 : ¬ (0 ≤ p0.toInt ∧ p0.toInt ≤ 6) → post (-1) (f_edges, f_known, a_from, a_to, a_kind, a_first, a_second, a_constant, a_low, a_high, a_bound, a_filled, a_waiting, a_waits, a_said, a_real, a_fresh, a_coming, a_far)) : wpX_said post (f_edges, f_known, a_from, a_to, a_kind, a_first, a_second, a_constant, a_low, a_high, a_bound, a_filled, a_waiting, a_waits, a_said, a_real, a_fresh, a_coming, a_far) p0 := by
  unfold wpX_said wpX_size__said
  dsimp only
  refine xq_place (fun p hp e => br_t rfl (iq_xk Q (fun bo fl wg wt sd rl fr cm fa hX => ?_))) (fun w => br_f (by decide) (H0 w))
  have h := H1 p hp e bo fl wg wt sd rl fr cm fa hX
  subst e
  refine nm_r (pk_mul 8 p) ⟨9, ?_⟩
  refine xq_24_said (post := fun r u => match u with | (f_edges, f_known, a_from, a_to, a_kind, a_first, a_second, a_constant, a_low, a_high, a_bound, a_filled, a_waiting, a_waits, a_said, a_real, a_fresh, a_coming, a_far) => post r (f_edges, f_known, a_from, a_to, a_kind, a_first, a_second, a_constant, a_low, a_high, a_bound, a_filled, a_waiting, a_waits, a_said, a_real, a_fresh, a_coming, a_far)) hp ?_ 9 0 (by omega) (by omega)
  rw [ct_eq (fun s hs => hX.2.1 (512 * p + s) (by omega))]
  exact h
theorem yq_21r {post : Int32 → SY → Prop} {G : GrP} (hY : ir_Y G a_steps a_held) {p : Nat} (hp : p < 7) (H : post (nI (ct_n (fun s => gr_Rc G (512 * p + s)) 512)) (f_edges, f_known, a_from, a_to, a_kind, a_first, a_second, a_number, a_low, a_high, a_steps, a_held, a_bounds)) :
    ∀ (n m : Nat), m ≤ 512 → 512 < n + m → wY_real_21 post (nI p) f_edges f_known a_from a_to a_kind a_first a_second a_number a_low a_high a_steps a_held a_bounds n (nI (ct_n (fun s => gr_Rc G (512 * p + s)) m)) (nI (512 * p + m)) := by
  have i1 : (512 * nI p) + 512 = nI (512 * p + 512) := by
    show nI 512 * nI p + nI 512 = _
    rw [pk_mul, nI_add]
  intro n
  induction n with
  | zero => intro m h1 h2; omega
  | succ n ih =>
    intro m hm hn
    rw [wY_real_21]
    dsimp only
    rw [i1]
    refine pk_le (512 * p + 512) (512 * p + m) (fun q => ?_) (fun q => ⟨vp_in_nI (by omega) (by omega), ?_⟩)
    · have : m = 512 := by omega
      subst this
      exact H
    · rw [nI_clamp (by omega)]
      refine br_c (fun w => br_t rfl (nm_r (nI_1 _) ?_)) (fun w => br_f (by decide) (nm_r (nI_1 _) (nm_r (nI_1 _) ?_)))
      · have := ih (m + 1) (by omega) (by omega)
        have e : ct_n (fun s => gr_Rc G (512 * p + s)) (m + 1) = ct_n (fun s => gr_Rc G (512 * p + s)) m := by
          show _ + ct_b (gr_Rc G (512 * p + m)) = _
          rw [ct_bf ((yq_Rc hY (by omega)).mp w)]; rfl
        rw [e] at this
        exact this
      · have := ih (m + 1) (by omega) (by omega)
        have e : ct_n (fun s => gr_Rc G (512 * p + s)) (m + 1) = ct_n (fun s => gr_Rc G (512 * p + s)) m + 1 := by
          show _ + ct_b (gr_Rc G (512 * p + m)) = _
          rw [ct_bt (Classical.byContradiction (fun z => w ((yq_Rc hY (by omega)).mpr z)))]
        rw [e] at this
        exact this
theorem yq_21s {post : Int32 → SY → Prop} {G : GrP} (hY : ir_Y G a_steps a_held) {p : Nat} (hp : p < 7) (H : post (nI (ct_n (fun s => gr_H G (512 * p + s)) 512)) (f_edges, f_known, a_from, a_to, a_kind, a_first, a_second, a_number, a_low, a_high, a_steps, a_held, a_bounds)) :
    ∀ (n m : Nat), m ≤ 512 → 512 < n + m → wY_said_21 post (nI p) f_edges f_known a_from a_to a_kind a_first a_second a_number a_low a_high a_steps a_held a_bounds n (nI (ct_n (fun s => gr_H G (512 * p + s)) m)) (nI (512 * p + m)) := by
  have i1 : (512 * nI p) + 512 = nI (512 * p + 512) := by
    show nI 512 * nI p + nI 512 = _
    rw [pk_mul, nI_add]
  intro n
  induction n with
  | zero => intro m h1 h2; omega
  | succ n ih =>
    intro m hm hn
    rw [wY_said_21]
    dsimp only
    rw [i1]
    refine pk_le (512 * p + 512) (512 * p + m) (fun q => ?_) (fun q => ⟨vp_in_nI (by omega) (by omega), ?_⟩)
    · have : m = 512 := by omega
      subst this
      exact H
    · rw [nI_clamp (by omega)]
      have hh := (hY.2 (512 * p + m) (by omega)).2
      refine br_c (fun w => nm_r (nI_1 _) ?_) (fun w => nm_r (nI_1 _) (nm_r (nI_1 _) ?_))
      · have := ih (m + 1) (by omega) (by omega)
        have e : ct_n (fun s => gr_H G (512 * p + s)) (m + 1) = ct_n (fun s => gr_H G (512 * p + s)) m := by
          show _ + ct_b (gr_H G (512 * p + m)) = _
          rw [ct_bf (fun z => hh.mpr z w)]; rfl
        rw [e] at this
        exact this
      · have := ih (m + 1) (by omega) (by omega)
        have e : ct_n (fun s => gr_H G (512 * p + s)) (m + 1) = ct_n (fun s => gr_H G (512 * p + s)) m + 1 := by
          show _ + ct_b (gr_H G (512 * p + m)) = _
          rw [ct_bt (hh.mp w)]
        rw [e] at this
        exact this
theorem yq_real {post : Int32 → SY → Prop} {G : GrP} (Q : iq_Y G f_edges f_known a_from a_to a_kind a_first a_second a_number a_low a_high a_steps a_held) {p : Nat} (hp : p < 7)
    (H : ∀ st hd bd, ir_Y G st hd → post (nI (ct_n (fun s => gr_Rc G (512 * p + s)) 512)) (f_edges, 1, a_from, a_to, a_kind, a_first, a_second, a_number, a_low, a_high, st, hd, bd)) : wpY_real post (f_edges, f_known, a_from, a_to, a_kind, a_first, a_second, a_number, a_low, a_high, a_steps, a_held, a_bounds) (nI p) := by
  unfold wpY_real
  dsimp only
  refine yq_place (fun _ _ _ => br_f (by decide) (iq_yk Q (fun st hd bd hY => ?_))) (fun w => absurd (by rw [nI_toInt (by omega)]; omega) w)
  exact nm_r (pk_mul 512 p) ⟨513, yq_21r hY hp (H st hd bd hY) 513 0 (by omega) (by omega)⟩
theorem yq_said {post : Int32 → SY → Prop} {G : GrP} (Q : iq_Y G f_edges f_known a_from a_to a_kind a_first a_second a_number a_low a_high a_steps a_held) {p : Nat} (hp : p < 7)
    (H : ∀ st hd bd, ir_Y G st hd → post (nI (ct_n (fun s => gr_H G (512 * p + s)) 512)) (f_edges, 1, a_from, a_to, a_kind, a_first, a_second, a_number, a_low, a_high, st, hd, bd)) : wpY_said post (f_edges, f_known, a_from, a_to, a_kind, a_first, a_second, a_number, a_low, a_high, a_steps, a_held, a_bounds) (nI p) := by
  unfold wpY_said
  dsimp only
  refine yq_place (fun _ _ _ => br_f (by decide) (iq_yk Q (fun st hd bd hY => ?_))) (fun w => absurd (by rw [nI_toInt (by omega)]; omega) w)
  exact nm_r (pk_mul 512 p) ⟨513, yq_21s hY hp (H st hd bd hY) 513 0 (by omega) (by omega)⟩
end
theorem i_vc_real {k : Nat} {u : SX} {v : SY} (I : i_Rel k u v) (hk : k + 7 ≤ 3584) (v1 : Int32) : wpX_real (fun r u' => wpY_real (fun r' v' => r' = r ∧ i_Rel (k + 7) u' v') v v1) u v1 := by
  refine ir_el (P := fun u v => wpX_real (fun r u' => wpY_real (fun r' v' => r' = r ∧ i_Rel (k + 7) u' v') v v1) u v1) ?_ I
  intro f_edges f_known a_from a_to a_kind a_first a_second a_constant a_low a_high a_bound a_filled a_waiting a_waits a_said a_real a_fresh a_coming a_far a_number a_steps a_held a_bounds G F0
  refine xq_real (iq_sx F0) (fun p hp e bo fl wg wt sd rl fr cm fa hX => ?_) (fun w => ?_)
  · subst e
    exact yq_real (iq_sy F0) hp (fun st hd bd hY => ⟨rfl, iq_join F0 hX hY⟩)
  · unfold wpY_real
    exact yq_place (fun p hp e => absurd (by rw [e, nI_toInt (by omega)]; omega) w) (fun _ => br_t rfl ⟨rfl, ir_in F0⟩)
theorem i_vc_said {k : Nat} {u : SX} {v : SY} (I : i_Rel k u v) (hk : k + 7 ≤ 3584) (v1 : Int32) : wpX_said (fun r u' => wpY_said (fun r' v' => r' = r ∧ i_Rel (k + 7) u' v') v v1) u v1 := by
  refine ir_el (P := fun u v => wpX_said (fun r u' => wpY_said (fun r' v' => r' = r ∧ i_Rel (k + 7) u' v') v v1) u v1) ?_ I
  intro f_edges f_known a_from a_to a_kind a_first a_second a_constant a_low a_high a_bound a_filled a_waiting a_waits a_said a_real a_fresh a_coming a_far a_number a_steps a_held a_bounds G F0
  refine xq_said (iq_sx F0) (fun p hp e bo fl wg wt sd rl fr cm fa hX => ?_) (fun w => ?_)
  · subst e
    exact yq_said (iq_sy F0) hp (fun st hd bd hY => ⟨rfl, iq_join F0 hX hY⟩)
  · unfold wpY_said
    exact yq_place (fun p hp e => absurd (by rw [e, nI_toInt (by omega)]; omega) w) (fun _ => br_t rfl ⟨rfl, ir_in F0⟩)
end
section
/-! distance, has, state -/
theorem iq_dist {G : GrP} {bo fl : Nat → Int32} {sd rl : Nat → Int64} {fa st hd : Nat → Int32} (hX : ir_X G bo fl sd rl fa) (hY : ir_Y G st hd) {k : Nat} (hk : k < 3584) :
    (xb_b rl k = true → st k = fa k) ∧ (xb_b rl k = false → st k = -1) := by
  obtain ⟨d, hd', e, ef⟩ := hX.2.2 k hk
  have u := gr_D_uniq (hY.1 k hk) hd'
  constructor
  · intro w
    apply Int32.toInt_inj.mp
    rw [u, ef (e.mp w)]
  · intro w
    have nd : ¬ 0 ≤ d := fun z => by rw [e.mpr z] at w; exact absurd w (by decide)
    have : d = -1 := by
      rcases hd' with ⟨q, _⟩ | ⟨n, q, _⟩
      · exact q
      · omega
    apply Int32.toInt_inj.mp
    rw [u, this]
    decide
theorem i_vc_distance {k : Nat} {u : SX} {v : SY} (I : i_Rel k u v) (hk : k + 7 ≤ 3584) (v1 : Int32) (v2 : Int32) : wpX_distance (fun r u' => wpY_distance (fun r' v' => r' = r ∧ i_Rel (k + 7) u' v') v v1 v2) u v1 v2 := by
  refine ir_el (P := fun u v => wpX_distance (fun r u' => wpY_distance (fun r' v' => r' = r ∧ i_Rel (k + 7) u' v') v v1 v2) u v1 v2) ?_ I
  intro f_edges f_known a_from a_to a_kind a_first a_second a_constant a_low a_high a_bound a_filled a_waiting a_waits a_said a_real a_fresh a_coming a_far a_number a_steps a_held a_bounds G F0
  have e511 : (511 : Int32).toInt = 511 := by decide
  have bad : ¬ ((0 ≤ v1.toInt ∧ v1.toInt ≤ 6) ∧ (0 ≤ v2.toInt ∧ v2.toInt ≤ 511)) → wpY_distance (fun r' v' => r' = -1 ∧ i_Rel (k + 7) (f_edges, f_known, a_from, a_to, a_kind, a_first, a_second, a_constant, a_low, a_high, a_bound, a_filled, a_waiting, a_waits, a_said, a_real, a_fresh, a_coming, a_far) v') (f_edges, f_known, a_from, a_to, a_kind, a_first, a_second, a_number, a_low, a_high, a_steps, a_held, a_bounds) v1 v2 := by
    intro w
    unfold wpY_distance
    refine yq_place (fun p hp e => br_f (by decide) (yw_inN rfl xa_0 e511 (fun a b => absurd ⟨by rw [e, nI_toInt (by omega)]; omega, a, b⟩ w) (fun _ => br_t rfl ⟨rfl, ir_in F0⟩))) (fun _ => br_t rfl ⟨rfl, ir_in F0⟩)
  unfold wpX_distance
  dsimp only
  refine xq_place (fun p hp e => br_t rfl ?_) (fun w => br_f (by decide) (bad (fun z => w z.1)))
  refine xg_outN rfl xa_0 e511 (fun a b => br_t rfl ?_) (fun w => br_f (by decide) (bad (fun z => w z.2)))
  obtain ⟨s, hs, es⟩ := ie_of (x := v2) (n := 511) a (by omega)
  subst e es
  refine iq_xk (iq_sx F0) (fun bo fl wg wt sd rl fr cm fa hX => ?_)
  have i1 : (512 * nI p) + nI s = nI (512 * p + s) := by
    show nI 512 * nI p + nI s = _
    rw [pk_mul, nI_add]
  have c5 : 512 * p + s < 3584 := by omega
  have Y : ∀ r, (∀ st hd, ir_Y G st hd → st (512 * p + s) = r) → wpY_distance (fun r' v' => r' = r ∧ i_Rel (k + 7) (f_edges, 1, a_from, a_to, a_kind, a_first, a_second, a_constant, a_low, a_high, bo, fl, wg, wt, sd, rl, fr, cm, fa) v') (f_edges, f_known, a_from, a_to, a_kind, a_first, a_second, a_number, a_low, a_high, a_steps, a_held, a_bounds) (nI p) (nI s) := by
    intro r hr
    unfold wpY_distance
    dsimp only
    refine yq_place (fun _ _ _ => br_f (by decide) (yw_inN (xa_nI (n := s) (by omega)) xa_0 e511 (fun _ _ => br_f (by decide) (iq_yk (iq_sy F0) (fun st hd bd hY => ?_))) (fun w => absurd ⟨by omega, by omega⟩ w))) (fun w => absurd (by rw [nI_toInt (by omega)]; omega) w)
    show vp_in _ _ ∧ _
    rw [pk_cl _ i1]
    exact ⟨pk_in _ 3584 c5 i1, hr st hd hY, iq_join F0 hX hY⟩
  refine xq_in_real hp (by omega) (fun w => br_f (by decide) ⟨pk_in _ 3584 c5 i1, ?_⟩) (fun w => br_t rfl (Y _ (fun st hd hY => (iq_dist hX hY c5).2 w)))
  rw [pk_cl _ i1]
  exact Y _ (fun st hd hY => (iq_dist hX hY c5).1 w)
theorem i_vc_has {k : Nat} {u : SX} {v : SY} (I : i_Rel k u v) (hk : k + 7 ≤ 3584) (v1 : Int32) (v2 : Int32) : wpX_has (fun r u' => wpY_has (fun r' v' => r' = r ∧ i_Rel (k + 7) u' v') v v1 v2) u v1 v2 := by
  refine ir_el (P := fun u v => wpX_has (fun r u' => wpY_has (fun r' v' => r' = r ∧ i_Rel (k + 7) u' v') v v1 v2) u v1 v2) ?_ I
  intro f_edges f_known a_from a_to a_kind a_first a_second a_constant a_low a_high a_bound a_filled a_waiting a_waits a_said a_real a_fresh a_coming a_far a_number a_steps a_held a_bounds G F0
  have e511 : (511 : Int32).toInt = 511 := by decide
  have bad : ¬ ((0 ≤ v1.toInt ∧ v1.toInt ≤ 6) ∧ (0 ≤ v2.toInt ∧ v2.toInt ≤ 511)) → wpY_has (fun r' v' => r' = 0 ∧ i_Rel (k + 7) (f_edges, f_known, a_from, a_to, a_kind, a_first, a_second, a_constant, a_low, a_high, a_bound, a_filled, a_waiting, a_waits, a_said, a_real, a_fresh, a_coming, a_far) v') (f_edges, f_known, a_from, a_to, a_kind, a_first, a_second, a_number, a_low, a_high, a_steps, a_held, a_bounds) v1 v2 := by
    intro w
    unfold wpY_has
    refine yq_place (fun p hp e => br_f (by decide) (yw_inN rfl xa_0 e511 (fun a b => absurd ⟨by rw [e, nI_toInt (by omega)]; omega, a, b⟩ w) (fun _ => br_t rfl ⟨rfl, ir_in F0⟩))) (fun _ => br_t rfl ⟨rfl, ir_in F0⟩)
  unfold wpX_has
  dsimp only
  refine xq_place (fun p hp e => br_t rfl ?_) (fun w => br_f (by decide) (bad (fun z => w z.1)))
  refine xg_outN rfl xa_0 e511 (fun a b => br_t rfl ?_) (fun w => br_f (by decide) (bad (fun z => w z.2)))
  obtain ⟨s, hs, es⟩ := ie_of (x := v2) (n := 511) a (by omega)
  subst e es
  refine iq_xk (iq_sx F0) (fun bo fl wg wt sd rl fr cm fa hX => ?_)
  have i1 : (512 * nI p) + nI s = nI (512 * p + s) := by
    show nI 512 * nI p + nI s = _
    rw [pk_mul, nI_add]
  have c5 : 512 * p + s < 3584 := by omega
  have Y : ∀ r : Int32, (r = 0 ∨ r = 1) → (∀ st hd, ir_Y G st hd → hd (512 * p + s) = r) → wpY_has (fun r' v' => r' = r ∧ i_Rel (k + 7) (f_edges, 1, a_from, a_to, a_kind, a_first, a_second, a_constant, a_low, a_high, bo, fl, wg, wt, sd, rl, fr, cm, fa) v') (f_edges, f_known, a_from, a_to, a_kind, a_first, a_second, a_number, a_low, a_high, a_steps, a_held, a_bounds) (nI p) (nI s) := by
    intro r hr01 hr
    unfold wpY_has
    dsimp only
    refine yq_place (fun _ _ _ => br_f (by decide) (yw_inN (xa_nI (n := s) (by omega)) xa_0 e511 (fun _ _ => br_f (by decide) (iq_yk (iq_sy F0) (fun st hd bd hY => ?_))) (fun w => absurd ⟨by omega, by omega⟩ w))) (fun w => absurd (by rw [nI_toInt (by omega)]; omega) w)
    show vp_in _ _ ∧ _
    dsimp only
    rw [pk_cl _ i1, hr st hd hY]
    refine ⟨pk_in _ 3584 c5 i1, ?_, rfl, iq_join F0 hX hY⟩
    rcases hr01 with rfl | rfl <;> rfl
  have hs1 := hX.2.1 (512 * p + s) c5
  refine xq_in_said hp (by omega) (fun w => ⟨rfl, Y _ (Or.inr rfl) (fun st hd hY => ?_)⟩) (fun w => ⟨rfl, Y _ (Or.inl rfl) (fun st hd hY => ?_)⟩)
  · have q := hY.2 (512 * p + s) c5
    exact q.1.resolve_left (q.2.mpr (hs1.mp w))
  · have q := hY.2 (512 * p + s) c5
    rcases q.1 with z | z
    · exact z
    · have := hs1.mpr (q.2.mp (by rw [z]; decide))
      rw [this] at w
      exact absurd w (by decide)
/-- the least state from a number on -/
def iq_st (G : GrP) (p : Nat) (f : Int) (r : Int32) : Prop := (r = -1 ∧ ∀ s : Nat, s < 512 → f ≤ (s : Int) → ¬ gr_Rc G (512 * p + s)) ∨
  ∃ s : Nat, s < 512 ∧ r = nI s ∧ f ≤ (s : Int) ∧ gr_Rc G (512 * p + s) ∧ ∀ t : Nat, t < s → f ≤ (t : Int) → ¬ gr_Rc G (512 * p + t)
section
variable {f_edges f_known : Int32} {a_from a_to a_kind a_first a_second a_constant a_low a_high a_bound a_filled a_waiting a_waits a_far : Nat → Int32} {a_said a_real a_fresh a_coming : Nat → Int64} {a_number a_steps a_held a_bounds : Nat → Int32}
theorem xq_26 {post : Int32 → SX → Prop} {G : GrP} (hX : ir_X G a_bound a_filled a_said a_real a_far) {p : Nat} (hp : p < 7) {f : Int} (H : ∀ r, iq_st G p f r → post r (f_edges, f_known, a_from, a_to, a_kind, a_first, a_second, a_constant, a_low, a_high, a_bound, a_filled, a_waiting, a_waits, a_said, a_real, a_fresh, a_coming, a_far)) :
    ∀ (n m : Nat), m ≤ 512 → 512 < n + m → f ≤ (m : Int) → (∀ s, s < m → f ≤ (s : Int) → ¬ gr_Rc G (512 * p + s)) → wX_state_26 post (nI p) f_edges f_known a_from a_to a_kind a_first a_second a_constant a_low a_high a_bound a_filled a_waiting a_waits a_said a_real a_fresh a_coming a_far n (nI m) := by
  intro n
  induction n with
  | zero => intro m h1 h2; omega
  | succ n ih =>
    intro m hm hn hf hb
    rw [wX_state_26]
    by_cases e : m = 512
    · subst e
      exact br_t (show (512 : Int32) ≤ nI 512 by decide) (br_f (show ¬ nI 512 < 512 by decide) (H _ (Or.inl ⟨rfl, hb⟩)))
    · refine br_f (nI_ge (b := 512) (by omega) (by omega)) (xq_in_real hp (by omega) (fun w => br_f (by decide) (br_t (nI_lt (b := 512) (by omega) (by omega)) (H _ (Or.inr ⟨m, by omega, rfl, hf, (xq_Rc hX (by omega)).mp w, hb⟩)))) (fun w => br_t rfl (nm_r (nI_1 m) (ih (m + 1) (by omega) (by omega) (by omega) (fun s hs hfs => ?_)))))
      by_cases z : s = m
      · subst z
        intro q
        rw [(xq_Rc hX (by omega)).mpr q] at w
        exact absurd w (by decide)
      · exact hb s (by omega) hfs
theorem yq_15 {post : Int32 → SY → Prop} {G : GrP} (hY : ir_Y G a_steps a_held) {p : Nat} (hp : p < 7) {p1 r : Int32} (A : iq_st G p p1.toInt r) (H : post r (f_edges, f_known, a_from, a_to, a_kind, a_first, a_second, a_number, a_low, a_high, a_steps, a_held, a_bounds)) :
    ∀ (n m : Nat), m ≤ 512 → 512 < n + m → (∀ s, s < m → p1.toInt ≤ (s : Int) → ¬ gr_Rc G (512 * p + s)) → wY_state_15 post (nI p) p1 f_edges f_known a_from a_to a_kind a_first a_second a_number a_low a_high a_steps a_held a_bounds n (nI m) := by
  intro n
  induction n with
  | zero => intro m h1 h2; omega
  | succ n ih =>
    intro m hm hn hb
    rw [wY_state_15]
    by_cases e : m = 512
    · subst e
      refine br_t (show (512 : Int32) ≤ nI 512 by decide) ?_
      rcases A with ⟨rfl, _⟩ | ⟨s, hs, _, hf, hR, _⟩
      · exact H
      · exact absurd hR (hb s hs hf)
    · have tm : (nI m).toInt = (m : Int) := xa_nI (by omega)
      have i1 : (512 * nI p) + nI m = nI (512 * p + m) := by
        show nI 512 * nI p + nI m = _
        rw [pk_mul, nI_add]
      have skip : (p1.toInt ≤ (m : Int) → ¬ gr_Rc G (512 * p + m)) → wY_state_15 post (nI p) p1 f_edges f_known a_from a_to a_kind a_first a_second a_number a_low a_high a_steps a_held a_bounds n (nI (m + 1)) := fun q =>
        ih (m + 1) (by omega) (by omega) (fun s hs hf => by
          by_cases z : s = m
          · subst z; exact q hf
          · exact hb s (by omega) hf)
      refine br_f (nI_ge (b := 512) (by omega) (by omega)) (br_c (fun w => nm_r (nI_1 m) (skip (fun q => ?_))) (fun w => ⟨pk_in _ 3584 (by omega) i1, ?_⟩))
      · rw [xa_lt tm rfl] at w; omega
      · rw [xa_lt tm rfl] at w
        rw [pk_cl _ i1]
        refine br_c (fun y => br_t rfl (nm_r (nI_1 m) (skip (fun _ => (yq_Rc hY (by omega)).mp y)))) (fun y => br_f (by decide) ?_)
        have hR : gr_Rc G (512 * p + m) := Classical.byContradiction (fun z => y ((yq_Rc hY (by omega)).mpr z))
        rcases A with ⟨_, q⟩ | ⟨s, hs, rfl, hf, hRs, q⟩
        · exact absurd hR (q m (by omega) (by omega))
        · have : s = m := by
            rcases Nat.lt_trichotomy s m with z | z | z
            · exact absurd hRs (hb s z hf)
            · exact z
            · exact absurd hR (q m z (by omega))
          subst this
          exact H
end
theorem i_vc_state {k : Nat} {u : SX} {v : SY} (I : i_Rel k u v) (hk : k + 7 ≤ 3584) (v1 : Int32) (v2 : Int32) : wpX_state (fun r u' => wpY_state (fun r' v' => r' = r ∧ i_Rel (k + 7) u' v') v v1 v2) u v1 v2 := by
  refine ir_el (P := fun u v => wpX_state (fun r u' => wpY_state (fun r' v' => r' = r ∧ i_Rel (k + 7) u' v') v v1 v2) u v1 v2) ?_ I
  intro f_edges f_known a_from a_to a_kind a_first a_second a_constant a_low a_high a_bound a_filled a_waiting a_waits a_said a_real a_fresh a_coming a_far a_number a_steps a_held a_bounds G F0
  unfold wpX_state
  dsimp only
  refine xq_place (fun p hp e => br_t rfl (iq_xk (iq_sx F0) (fun bo fl wg wt sd rl fr cm fa hX => ?_))) (fun w => br_f (by decide) ?_)
  · subst e
    have Y : ∀ r, iq_st G p v2.toInt r → wpY_state (fun r' v' => r' = r ∧ i_Rel (k + 7) (f_edges, 1, a_from, a_to, a_kind, a_first, a_second, a_constant, a_low, a_high, bo, fl, wg, wt, sd, rl, fr, cm, fa) v') (f_edges, f_known, a_from, a_to, a_kind, a_first, a_second, a_number, a_low, a_high, a_steps, a_held, a_bounds) (nI p) v2 := by
      intro r A
      unfold wpY_state
      dsimp only
      refine yq_place (fun _ _ _ => br_f (by decide) (iq_yk (iq_sy F0) (fun st hd bd hY => ?_))) (fun w => absurd (by rw [nI_toInt (by omega)]; omega) w)
      exact ⟨513, yq_15 hY hp A ⟨rfl, iq_join F0 hX hY⟩ 513 0 (by omega) (by omega) (fun s hs => absurd hs (Nat.not_lt_zero s))⟩
    refine br_c (fun w => ?_) (fun w => ?_)
    · rw [xa_le xa_0 rfl] at w
      obtain ⟨j, hj, ej⟩ := nI_of (x := v2) (by rw [xa_lt rfl xa_0]; omega)
      have tj : v2.toInt = (j : Int) := by rw [ej, nI_toInt hj]
      rcases Nat.lt_or_ge j 513 with q | q
      · rw [ej]
        refine ⟨513, xq_26 hX hp (f := v2.toInt) (fun r A => Y r A |> fun z => by rw [← ej]; exact z) 513 j (by omega) (by omega) (by omega) (fun s hs hf => by omega)⟩
      · refine ⟨1, ?_⟩
        rw [wX_state_26, ej]
        refine br_t (nI_le (a := 512) (by omega) hj) (br_f (nI_nlt (b := 512) (by omega) hj) ?_)
        rw [← ej]
        exact Y (-1) (Or.inl ⟨rfl, fun s hs hf => by omega⟩)
    · rw [xa_le xa_0 rfl] at w
      exact ⟨513, xq_26 hX hp (f := v2.toInt) (fun r A => Y r A) 513 0 (by omega) (by omega) (by omega) (fun s hs => absurd hs (Nat.not_lt_zero s))⟩
  · unfold wpY_state
    exact yq_place (fun p hp e => absurd (by rw [e, nI_toInt (by omega)]; omega) w) (fun _ => br_t rfl ⟨rfl, ir_in F0⟩)
end
section
/-! forms: greatest, really, check -/
def iq_mm (P : Nat → Prop) (w : Nat → Int) (m : Nat) (r : Int) : Prop := (r = -1000 ∧ ∀ s, s < m → ¬ P s) ∨ ∃ s, s < m ∧ P s ∧ w s = r ∧ ∀ t, t < m → P t → w t ≤ r
theorem iq_uniq {P : Nat → Prop} {w : Nat → Int} {m : Nat} {r r' : Int} (h : iq_mm P w m r) (h' : iq_mm P w m r') : r = r' := by
  rcases h with ⟨e, n⟩ | ⟨s, hs, hP, e, l⟩ <;> rcases h' with ⟨e', n'⟩ | ⟨s', hs', hP', e', l'⟩
  · omega
  · exact absurd hP' (n s' hs')
  · exact absurd hP (n' s hs)
  · have a := l s' hs' hP'
    have b := l' s hs hP
    omega
theorem iq_cong {P P' : Nat → Prop} {w w' : Nat → Int} {m : Nat} {r : Int} (e : ∀ s, s < m → (P s ↔ P' s)) (f : ∀ s, s < m → w s = w' s) (h : iq_mm P w m r) : iq_mm P' w' m r := by
  rcases h with ⟨e', n⟩ | ⟨s, hs, hP, e', l⟩
  · exact Or.inl ⟨e', fun s hs z => n s hs ((e s hs).mpr z)⟩
  · exact Or.inr ⟨s, hs, (e s hs).mp hP, by rw [← f s hs]; exact e', fun t ht z => by rw [← f t ht]; exact l t ht ((e t ht).mpr z)⟩
theorem iq_skip {P : Nat → Prop} {w : Nat → Int} {m : Nat} {r : Int} (h : iq_mm P w m r) (n : ¬ P m) : iq_mm P w (m + 1) r := by
  rcases h with ⟨e, k⟩ | ⟨s, hs, hP, e, l⟩
  · exact Or.inl ⟨e, lt_s k n⟩
  · refine Or.inr ⟨s, by omega, hP, e, fun t ht z => ?_⟩
    by_cases q : t = m
    · subst q; exact absurd z n
    · exact l t (by omega) z
theorem iq_keep {P : Nat → Prop} {w : Nat → Int} {m : Nat} {r : Int} (h : iq_mm P w m r) (hP : P m) (hw : -1000 < w m) (k : w m ≤ r) : iq_mm P w (m + 1) r := by
  rcases h with ⟨e, n⟩ | ⟨s, hs, hPs, e, l⟩
  · omega
  · refine Or.inr ⟨s, by omega, hPs, e, fun t ht z => ?_⟩
    by_cases q : t = m
    · subst q; exact k
    · exact l t (by omega) z
theorem iq_new {P : Nat → Prop} {w : Nat → Int} {m : Nat} {r : Int} (h : iq_mm P w m r) (hP : P m) (k : r ≤ w m) : iq_mm P w (m + 1) (w m) := by
  refine Or.inr ⟨m, by omega, hP, rfl, fun t ht z => ?_⟩
  by_cases q : t = m
  · subst q; exact Int.le_refl _
  · rcases h with ⟨e, n⟩ | ⟨s, hs, hPs, e, l⟩
    · exact absurd z (n t (by omega))
    · have := l t (by omega) z
      omega
def iq_w (A B : Int) (X Y s : Nat) : Int := A * (gr_dg s X : Int) + B * (gr_dg s Y : Int)
theorem iq_wb {A B : Int} (a1 : -1 ≤ A) (a2 : A ≤ 1) (b1 : -1 ≤ B) (b2 : B ≤ 1) (X Y s : Nat) : -14 ≤ iq_w A B X Y s ∧ iq_w A B X Y s ≤ 14 := by
  have d1 := gr_dg_lt s X
  have d2 := gr_dg_lt s Y
  have x := yf_pr (b := (gr_dg s X : Int)) a1 a2 (by omega) (by omega)
  have y := yf_pr (b := (gr_dg s Y : Int)) b1 b2 (by omega) (by omega)
  unfold iq_w
  omega
theorem iq_val {p1 p3 : Int32} {A B : Int} (e1 : p1.toInt = A) (e3 : p3.toInt = B) (a1 : -1 ≤ A) (a2 : A ≤ 1) (b1 : -1 ≤ B) (b2 : B ≤ 1) (X Y s : Nat) :
    ((p1 * nI (gr_dg s X)) + (p3 * nI (gr_dg s Y))).toInt = iq_w A B X Y s := by
  have d1 := gr_dg_lt s X
  have d2 := gr_dg_lt s Y
  have x := yf_pr (b := (gr_dg s X : Int)) a1 a2 (by omega) (by omega)
  have y := yf_pr (b := (gr_dg s Y : Int)) b1 b2 (by omega) (by omega)
  exact xa_add (xa_mul e1 (xa_nI (by omega)) (by omega) (by omega)) (xa_mul e3 (xa_nI (by omega)) (by omega) (by omega)) (by omega) (by omega)
def iq_good (p0 p1 p2 p3 p4 : Int) : Prop := (0 ≤ p0 ∧ p0 ≤ 6) ∧ (-1 ≤ p1 ∧ p1 ≤ 1) ∧ (-1 ≤ p3 ∧ p3 ≤ 1) ∧ (0 ≤ p2 ∧ p2 ≤ 2) ∧ (0 ≤ p4 ∧ p4 ≤ 2)
theorem iq_m1 : (-1 : Int32).toInt = -1 := by decide
theorem iq_2 : (2 : Int32).toInt = 2 := by decide
theorem xq_isForm {post : Int32 → Prop} {p0 p1 p2 p3 p4 : Int32}
    (H1 : ∀ p X Y : Nat, p < 7 → X < 3 → Y < 3 → p0 = nI p → p2 = nI X → p4 = nI Y → -1 ≤ p1.toInt → p1.toInt ≤ 1 → -1 ≤ p3.toInt → p3.toInt ≤ 1 → post 1)
    (H0 : ¬ iq_good p0.toInt p1.toInt p2.toInt p3.toInt p4.toInt → post 0) : wpX_isForm post p0 p1 p2 p3 p4 := by
  unfold wpX_isForm
  refine xq_place (fun p hp e0 => br_t rfl ?_) (fun w => br_f (by decide) (H0 (fun z => w z.1)))
  refine xg_outN rfl iq_m1 xa_1 (fun a1 b1 => br_t rfl ?_) (fun w => br_f (by decide) (H0 (fun z => w z.2.1)))
  refine xg_outN rfl iq_m1 xa_1 (fun a3 b3 => br_t rfl ?_) (fun w => br_f (by decide) (H0 (fun z => w z.2.2.1)))
  refine xg_outN rfl xa_0 iq_2 (fun a2 b2 => br_t rfl ?_) (fun w => br_f (by decide) (H0 (fun z => w z.2.2.2.1)))
  refine xg_outN rfl xa_0 iq_2 (fun a4 b4 => br_t rfl ?_) (fun w => br_f (by decide) (H0 (fun z => w z.2.2.2.2)))
  obtain ⟨X, hX, eX⟩ := ie_of (x := p2) (n := 2) a2 (by omega)
  obtain ⟨Y, hY, eY⟩ := ie_of (x := p4) (n := 2) a4 (by omega)
  exact H1 p X Y hp (by omega) (by omega) e0 eX eY a1 b1 a3 b3
theorem yq_isForm {post : Int32 → Prop} {p1 p2 p3 p4 : Int32}
    (H1 : (-1 ≤ p1.toInt ∧ p1.toInt ≤ 1) ∧ (-1 ≤ p3.toInt ∧ p3.toInt ≤ 1) ∧ (0 ≤ p2.toInt ∧ p2.toInt ≤ 2) ∧ (0 ≤ p4.toInt ∧ p4.toInt ≤ 2) → post 1)
    (H0 : ¬ ((-1 ≤ p1.toInt ∧ p1.toInt ≤ 1) ∧ (-1 ≤ p3.toInt ∧ p3.toInt ≤ 1) ∧ (0 ≤ p2.toInt ∧ p2.toInt ≤ 2) ∧ (0 ≤ p4.toInt ∧ p4.toInt ≤ 2)) → post 0) : wpY_isForm post p1 p2 p3 p4 := by
  unfold wpY_isForm
  refine yw_inN rfl iq_m1 xa_1 (fun a1 b1 => br_f (by decide) ?_) (fun w => br_t rfl (H0 (fun z => w z.1)))
  refine yw_inN rfl iq_m1 xa_1 (fun a3 b3 => br_f (by decide) ?_) (fun w => br_t rfl (H0 (fun z => w z.2.1)))
  refine yw_inN rfl xa_0 iq_2 (fun a2 b2 => br_f (by decide) ?_) (fun w => br_t rfl (H0 (fun z => w z.2.2.1)))
  refine yw_inN rfl xa_0 iq_2 (fun a4 b4 => br_f (by decide) ?_) (fun w => br_t rfl (H0 (fun z => w z.2.2.2)))
  exact H1 ⟨⟨a1, b1⟩, ⟨a3, b3⟩, ⟨a2, b2⟩, a4, b4⟩
section
variable {f_edges f_known : Int32} {a_from a_to a_kind a_first a_second a_constant a_low a_high a_bound a_filled a_waiting a_waits a_far : Nat → Int32} {a_said a_real a_fresh a_coming : Nat → Int64} {a_number a_steps a_held a_bounds : Nat → Int32}
theorem yq_35 {post : Int32 → SY → Prop} {G : GrP} (hY : ir_Y G a_steps a_held) {p X Y : Nat} (hp : p < 7) (hX : X < 3) (hYY : Y < 3) {p1 p3 p5 : Int32} {A B : Int} (e1 : p1.toInt = A) (e3 : p3.toInt = B)
    (a1 : -1 ≤ A) (a2 : A ≤ 1) (b1 : -1 ≤ B) (b2 : B ≤ 1) {P : Nat → Prop} (h5 : (p5 = 0 ∧ ∀ s, P s ↔ gr_H G (512 * p + s)) ∨ (p5 = 1 ∧ ∀ s, P s ↔ gr_Rc G (512 * p + s)))
    (H : ∀ r : Int32, iq_mm P (iq_w A B X Y) 512 r.toInt → post r (f_edges, f_known, a_from, a_to, a_kind, a_first, a_second, a_number, a_low, a_high, a_steps, a_held, a_bounds)) :
    ∀ (n m : Nat) (b : Int32), m ≤ 512 → 512 < n + m → iq_mm P (iq_w A B X Y) m b.toInt → wY_most_35 post (nI p) p1 (nI X) p3 (nI Y) p5 f_edges f_known a_from a_to a_kind a_first a_second a_number a_low a_high a_steps a_held a_bounds n b (nI m) := by
  intro n
  induction n with
  | zero => intro m b h1 h2; omega
  | succ n ih =>
    intro m b hm hn hb
    rw [wY_most_35]
    by_cases e : m = 512
    · subst e
      exact br_t (show (512 : Int32) ≤ nI 512 by decide) (H b hb)
    · have m5 : m < 512 := by omega
      have i1 : (512 * nI p) + nI m = nI (512 * p + m) := by
        show nI 512 * nI p + nI m = _
        rw [pk_mul, nI_add]
      have c5 : 512 * p + m < 3584 := by omega
      have ci : (nI (512 * p + m)).toNatClampNeg = 512 * p + m := nI_clamp (by omega)
      have ii : vp_in (nI (512 * p + m)) 3584 := vp_in_nI c5 (by omega)
      have v := iq_val e1 e3 a1 a2 b1 b2 X Y m
      have wb := iq_wb a1 a2 b1 b2 X Y m
      refine br_f (nI_ge (b := 512) (by omega) (by omega)) (nm_r i1 ?_)
      unfold wpY_of
      dsimp only
      rw [xg_num m5 hX, xg_num m5 hYY]
      refine nm_e ?_
      have no : ¬ P m → wY_most_35 post (nI p) p1 (nI X) p3 (nI Y) p5 f_edges f_known a_from a_to a_kind a_first a_second a_number a_low a_high a_steps a_held a_bounds n b (nI (m + 1)) := fun z => ih (m + 1) b (by omega) (by omega) (iq_skip hb z)
      have yes : P m → wY_most_101 post (wY_most_35 post (nI p) p1 (nI X) p3 (nI Y) p5 f_edges f_known a_from a_to a_kind a_first a_second a_number a_low a_high a_steps a_held a_bounds n) (nI p) p1 (nI X) p3 (nI Y) p5 b (nI m) ((p1 * nI (gr_dg m X)) + (p3 * nI (gr_dg m Y))) f_edges f_known a_from a_to a_kind a_first a_second a_number a_low a_high a_steps a_held a_bounds := fun z => by
        unfold wY_most_101
        refine br_c (fun w => nm_r (nI_1 m) (ih (m + 1) b (by omega) (by omega) ?_)) (fun w => nm_r (nI_1 m) (ih (m + 1) _ (by omega) (by omega) ?_))
        · rw [xa_le v rfl] at w
          exact iq_keep hb z (by omega) w
        · rw [xa_le v rfl] at w
          rw [v]
          exact iq_new hb z (by omega)
      rcases h5 with ⟨rfl, hP⟩ | ⟨rfl, hP⟩
      · refine br_t rfl ⟨ii, ?_⟩
        rw [ci]
        have hh := (hY.2 _ c5).2
        exact br_c (fun w => nm_r (nI_1 m) (no (fun z => hh.mpr ((hP m).mp z) w))) (fun w => yes ((hP m).mpr (hh.mp w)))
      · refine br_f (by decide) ⟨ii, ?_⟩
        rw [ci]
        have hh := yq_Rc hY c5
        exact br_c (fun w => br_t rfl (nm_r (nI_1 m) (no (fun z => hh.mp w ((hP m).mp z))))) (fun w => br_f (by decide) (yes ((hP m).mpr (Classical.byContradiction (fun z => w (hh.mpr z))))))
theorem yq_most {post : Int32 → SY → Prop} {G : GrP} (Q : iq_Y G f_edges f_known a_from a_to a_kind a_first a_second a_number a_low a_high a_steps a_held) {p X Y : Nat} (hp : p < 7) (hX : X < 3) (hYY : Y < 3) {p1 p3 p5 : Int32}
    (a1 : -1 ≤ p1.toInt) (a2 : p1.toInt ≤ 1) (b1 : -1 ≤ p3.toInt) (b2 : p3.toInt ≤ 1) {P : Nat → Prop} (h5 : (p5 = 0 ∧ ∀ s, P s ↔ gr_H G (512 * p + s)) ∨ (p5 = 1 ∧ ∀ s, P s ↔ gr_Rc G (512 * p + s)))
    (H : ∀ (r : Int32) st hd bd, ir_Y G st hd → iq_mm P (iq_w p1.toInt p3.toInt X Y) 512 r.toInt → post r (f_edges, 1, a_from, a_to, a_kind, a_first, a_second, a_number, a_low, a_high, st, hd, bd)) : wpY_most post (f_edges, f_known, a_from, a_to, a_kind, a_first, a_second, a_number, a_low, a_high, a_steps, a_held, a_bounds) (nI p) p1 (nI X) p3 (nI Y) p5 := by
  unfold wpY_most
  dsimp only
  refine yq_place (fun _ _ _ => br_f (by decide) (yq_isForm (fun _ => br_f (by decide) (iq_yk Q (fun st hd bd hY => ?_))) (fun w => absurd ⟨⟨a1, a2⟩, ⟨b1, b2⟩, ⟨by rw [nI_toInt (by omega)]; omega, by rw [nI_toInt (by omega)]; omega⟩, by rw [nI_toInt (by omega)]; omega, by rw [nI_toInt (by omega)]; omega⟩ w))) (fun w => absurd (by rw [nI_toInt (by omega)]; omega) w)
  exact ⟨513, yq_35 hY hp hX hYY rfl rfl a1 a2 b1 b2 h5 (fun r hr => H r st hd bd hY hr) 513 0 (-1000) (by omega) (by omega) (Or.inl ⟨by decide, fun s hs => absurd hs (Nat.not_lt_zero s)⟩)⟩
theorem yq_mostN {post : Int32 → SY → Prop} {p0 p1 p2 p3 p4 p5 : Int32} (w : ¬ iq_good p0.toInt p1.toInt p2.toInt p3.toInt p4.toInt) (H : post (-1000) (f_edges, f_known, a_from, a_to, a_kind, a_first, a_second, a_number, a_low, a_high, a_steps, a_held, a_bounds)) : wpY_most post (f_edges, f_known, a_from, a_to, a_kind, a_first, a_second, a_number, a_low, a_high, a_steps, a_held, a_bounds) p0 p1 p2 p3 p4 p5 := by
  unfold wpY_most
  dsimp only
  refine yq_place (fun p hp e => br_f (by decide) (yq_isForm (fun z => absurd ⟨by rw [e, nI_toInt (by omega)]; omega, z.1, z.2.1, z.2.2.1, z.2.2.2⟩ w) (fun _ => br_t rfl H))) (fun _ => br_t rfl H)
theorem xq_54 {post : Int32 → SX → Prop} {J33 : Int32 → Int32 → Prop} {p X Y z : Nat} (hp : p < 7) (hX : X < 3) (hYY : Y < 3) (hz : z < 8) {p1 p3 : Int32} (a1 : -1 ≤ p1.toInt) (a2 : p1.toInt ≤ 1) (b1 : -1 ≤ p3.toInt) (b2 : p3.toInt ≤ 1)
    (H : ∀ b : Int32, iq_mm (fun s => xb_b a_real (512 * p + s) = true) (iq_w p1.toInt p3.toInt X Y) (64 * (z + 1)) b.toInt → J33 b (nI (z + 1)))
    {b0 : Int32} (h0 : iq_mm (fun s => xb_b a_real (512 * p + s) = true) (iq_w p1.toInt p3.toInt X Y) (64 * z) b0.toInt) :
    wX_really_54 post J33 (nI p) p1 (nI X) p3 (nI Y) (nI z) f_edges f_known a_from a_to a_kind a_first a_second a_constant a_low a_high a_bound a_filled a_waiting a_waits a_said a_real a_fresh a_coming a_far 65 b0 (a_real (8 * p + z)) := by
  have bit : ∀ j, j < 64 → xb_b a_real (512 * p + (64 * z + j)) = xb_w (a_real (8 * p + z)) j := fun j hj => by
    unfold xb_b
    rw [show (512 * p + (64 * z + j)) / 64 = 8 * p + z by omega, show (512 * p + (64 * z + j)) % 64 = j by omega]
  refine xb_loop (fun n l b => wX_really_54 post J33 (nI p) p1 (nI X) p3 (nI Y) (nI z) f_edges f_known a_from a_to a_kind a_first a_second a_constant a_low a_high a_bound a_filled a_waiting a_waits a_said a_real a_fresh a_coming a_far n b l) _
    (fun i (b : Int32) => iq_mm (fun s => xb_b a_real (512 * p + s) = true) (iq_w p1.toInt p3.toInt X Y) (64 * z + i) b.toInt) ?_ ?_ ?_ b0 h0
  · intro i b hi hb h
    refine iq_skip h ?_
    show ¬ xb_b a_real (512 * p + (64 * z + i)) = true
    rw [bit i hi, hb]; decide
  · intro n b h
    show wX_really_54 post J33 (nI p) p1 (nI X) p3 (nI Y) (nI z) f_edges f_known a_from a_to a_kind a_first a_second a_constant a_low a_high a_bound a_filled a_waiting a_waits a_said a_real a_fresh a_coming a_far (n + 1) b 0
    rw [wX_really_54]
    exact br_t rfl (nm_r (nI_1 z) (H b (by rw [show 64 * (z + 1) = 64 * z + 64 by omega]; exact h)))
  · intro n j l b hj hb hl low h ih
    show wX_really_54 post J33 (nI p) p1 (nI X) p3 (nI Y) (nI z) f_edges f_known a_from a_to a_kind a_first a_second a_constant a_low a_high a_bound a_filled a_waiting a_waits a_said a_real a_fresh a_coming a_far (n + 1) b l
    rw [wX_really_54]
    have i1 : (64 * nI z) + nI j = nI (64 * z + j) := by
      show nI 64 * nI z + nI j = _
      rw [pk_mul, nI_add]
    have s5 : 64 * z + j < 512 := by omega
    have hP : xb_b a_real (512 * p + (64 * z + j)) = true := by rw [bit j hj, hb]
    have v := iq_val (p1 := p1) (p3 := p3) rfl rfl a1 a2 b1 b2 X Y (64 * z + j)
    have wb := iq_wb a1 a2 b1 b2 X Y (64 * z + j)
    refine br_f hl (low _ (nm_r i1 ?_))
    unfold wpX_number
    dsimp only
    rw [xg_num s5 hX, xg_num s5 hYY]
    refine nm_e (br_c (fun w => nm_e (ih b ?_)) (fun w => nm_e (ih _ ?_)))
    · rw [xa_le v rfl] at w
      exact iq_keep (m := 64 * z + j) h hP (by omega) w
    · rw [xa_le v rfl] at w
      show iq_mm _ _ _ _
      rw [v]
      exact iq_new (m := 64 * z + j) h hP (by omega)
theorem xq_33 {post : Int32 → SX → Prop} {p X Y : Nat} (hp : p < 7) (hX : X < 3) (hYY : Y < 3) {p1 p3 : Int32} (a1 : -1 ≤ p1.toInt) (a2 : p1.toInt ≤ 1) (b1 : -1 ≤ p3.toInt) (b2 : p3.toInt ≤ 1)
    (H : ∀ b : Int32, iq_mm (fun s => xb_b a_real (512 * p + s) = true) (iq_w p1.toInt p3.toInt X Y) 512 b.toInt → post b (f_edges, f_known, a_from, a_to, a_kind, a_first, a_second, a_constant, a_low, a_high, a_bound, a_filled, a_waiting, a_waits, a_said, a_real, a_fresh, a_coming, a_far)) :
    ∀ (n m : Nat) (b : Int32), m ≤ 8 → 8 < n + m → iq_mm (fun s => xb_b a_real (512 * p + s) = true) (iq_w p1.toInt p3.toInt X Y) (64 * m) b.toInt → wX_really_33 post (nI p) p1 (nI X) p3 (nI Y) f_edges f_known a_from a_to a_kind a_first a_second a_constant a_low a_high a_bound a_filled a_waiting a_waits a_said a_real a_fresh a_coming a_far n b (nI m) := by
  intro n
  induction n with
  | zero => intro m b h1 h2; omega
  | succ n ih =>
    intro m b hm hn hb
    rw [wX_really_33]
    by_cases e : m = 8
    · subst e
      exact br_t (show (8 : Int32) ≤ nI 8 by decide) (H b hb)
    · have i1 : (8 * nI p) + nI m = nI (8 * p + m) := by
        show nI 8 * nI p + nI m = _
        rw [pk_mul, nI_add]
      refine br_f (nI_ge (b := 8) (by omega) (by omega)) ⟨pk_in _ 56 (by omega) i1, nm_r (e' := a_real (8 * p + m)) (by rw [pk_cl _ i1]) ⟨65, ?_⟩⟩
      exact xq_54 hp hX hYY (by omega) a1 a2 b1 b2 (fun b' h => ih (m + 1) b' (by omega) (by omega) h) hb
theorem xq_really {post : Int32 → SX → Prop} {G : GrP} (Q : iq_X G f_edges f_known a_from a_to a_kind a_first a_second a_constant a_low a_high a_bound a_filled a_said a_real a_far) {p0 p1 p2 p3 p4 : Int32}
    (H1 : ∀ p X Y : Nat, p < 7 → X < 3 → Y < 3 → p0 = nI p → p2 = nI X → p4 = nI Y → -1 ≤ p1.toInt → p1.toInt ≤ 1 → -1 ≤ p3.toInt → p3.toInt ≤ 1 → ∀ bo fl wg wt sd rl fr cm fa, ir_X G bo fl sd rl fa →
      ∀ r : Int32, iq_mm (fun s => gr_Rc G (512 * p + s)) (iq_w p1.toInt p3.toInt X Y) 512 r.toInt → post r (f_edges, 1, a_from, a_to, a_kind, a_first, a_second, a_constant, a_low, a_high, bo, fl, wg, wt, sd, rl, fr, cm, fa))
    (H0 : ¬ iq_good p0.toInt p1.toInt p2.toInt p3.toInt p4.toInt → post (-1000) (f_edges, f_known, a_from, a_to, a_kind, a_first, a_second, a_constant, a_low, a_high, a_bound, a_filled, a_waiting, a_waits, a_said, a_real, a_fresh, a_coming, a_far)) : wpX_really post (f_edges, f_known, a_from, a_to, a_kind, a_first, a_second, a_constant, a_low, a_high, a_bound, a_filled, a_waiting, a_waits, a_said, a_real, a_fresh, a_coming, a_far) p0 p1 p2 p3 p4 := by
  unfold wpX_really
  dsimp only
  refine xq_isForm (fun p X Y hp hX hYY e0 e2 e4 a1 a2 b1 b2 => br_f (by decide) (iq_xk Q (fun bo fl wg wt sd rl fr cm fa hx => ?_))) (fun w => br_t rfl (H0 w))
  have h := H1 p X Y hp hX hYY e0 e2 e4 a1 a2 b1 b2 bo fl wg wt sd rl fr cm fa hx
  subst e0 e2 e4
  refine ⟨9, xq_33 hp hX hYY a1 a2 b1 b2 (fun b hb => h b (iq_cong (fun s hs => xq_Rc hx (by omega)) (fun _ _ => rfl) hb)) 9 0 (-1000) (by omega) (by omega) (Or.inl ⟨by decide, fun s hs => absurd hs (Nat.not_lt_zero s)⟩)⟩
theorem xq_alone {post : Int32 → Prop} {p X : Nat} (hp : p < 7) (hX : X < 3) {S : Nat → Prop} (O : gr_Oct (xs_M a_bound p) S) {p2 : Int32} {t : Int} (h2 : p2.toInt = t) (t1 : -2 ≤ t) (t2 : t ≤ 2)
    (H : ∀ r : Int32, iq_mm S (fun s => t * (gr_dg s X : Int)) 512 r.toInt → post r) : wpX_alone post (f_edges, f_known, a_from, a_to, a_kind, a_first, a_second, a_constant, a_low, a_high, a_bound, a_filled, a_waiting, a_waits, a_said, a_real, a_fresh, a_coming, a_far) (nI (36 * p)) (nI X) p2 := by
  have i6 : (nI (36 * p) + (14 * nI X)) + 6 = nI (36 * p + 6 * (2 * X + 1) + 2 * X) := by
    show (nI (36 * p) + nI 14 * nI X) + nI 6 = _
    rw [pk_mul, nI_add, nI_add, show 36 * p + 14 * X + 6 = 36 * p + 6 * (2 * X + 1) + 2 * X by omega]
  have i1 : (nI (36 * p) + (14 * nI X)) + 1 = nI (36 * p + 6 * (2 * X) + (2 * X + 1)) := by
    show (nI (36 * p) + nI 14 * nI X) + nI 1 = _
    rw [pk_mul, nI_add, nI_add, show 36 * p + 14 * X + 1 = 36 * p + 6 * (2 * X) + (2 * X + 1) by omega]
  have em2 : (-2 : Int32).toInt = -2 := by decide
  -- a value z, twice the greatest of sg times the number
  have key : ∀ (z : Int32) (sg : Int), (sg = 1 ∧ 0 < t ∨ sg = -1 ∧ t ≤ 0) → (∃ s, s < 512 ∧ S s ∧ 2 * (sg * (gr_dg s X : Int)) = z.toInt) → (∀ s, s < 512 → S s → 2 * (sg * (gr_dg s X : Int)) ≤ z.toInt) →
      wX_alone_34 post p2 z f_edges f_known a_from a_to a_kind a_first a_second a_constant a_low a_high a_bound a_filled a_waiting a_waits a_said a_real a_fresh a_coming a_far := by
    intro z sg hsg ⟨s, hs, hS, e⟩ hl
    have d := gr_dg_lt s X
    unfold wX_alone_34
    refine br_c (fun w => H 0 ?_) (fun w => br_c (fun w2 => H z ?_) (fun w2 => br_c (fun w3 => H z ?_) (fun w3 => H _ ?_)))
    · rw [xa_eq h2 xa_0] at w
      exact Or.inr ⟨s, hs, hS, by rw [w]; show 0 * _ = _; rw [Int.zero_mul]; rfl, fun u _ _ => by rw [w]; show 0 * _ ≤ _; rw [Int.zero_mul]; decide⟩
    · rw [xa_eq h2 iq_2] at w2
      have : sg = 1 := by omega
      subst this
      exact Or.inr ⟨s, hs, hS, by rw [w2]; show 2 * _ = _; omega, fun u hu hSu => by rw [w2]; show 2 * _ ≤ _; have := hl u hu hSu; omega⟩
    · rw [xa_eq h2 em2] at w3
      have : sg = -1 := by omega
      subst this
      exact Or.inr ⟨s, hs, hS, by rw [w3]; show -2 * _ = _; omega, fun u hu hSu => by rw [w3]; show -2 * _ ≤ _; have := hl u hu hSu; omega⟩
    · rw [xa_eq h2 xa_0] at w
      rw [xa_eq h2 iq_2] at w2
      rw [xa_eq h2 em2] at w3
      have hsh := xa_shr (x := z) rfl
      rcases hsg with ⟨rfl, q⟩ | ⟨rfl, q⟩
      · have : t = 1 := by omega
        exact Or.inr ⟨s, hs, hS, by rw [this, hsh]; show 1 * _ = _; omega, fun u hu hSu => by rw [this, hsh]; show 1 * _ ≤ _; have := hl u hu hSu; omega⟩
      · have : t = -1 := by omega
        exact Or.inr ⟨s, hs, hS, by rw [this, hsh]; show -1 * _ = _; omega, fun u hu hSu => by rw [this, hsh]; show -1 * _ ≤ _; have := hl u hu hSu; omega⟩
  have ev0 : ∀ s, oc_ev (gr_vs s) (2 * X) = (gr_dg s X : Int) := fun s => oc_ev_e _ X
  have ev1 : ∀ s, oc_ev (gr_vs s) (2 * X + 1) = - (gr_dg s X : Int) := fun s => oc_ev_o _ X
  unfold wpX_alone
  dsimp only
  rw [pk_cl _ i6, pk_cl _ i1]
  refine br_c (fun w => ⟨pk_in _ 288 (by omega) i6, key _ (-1) (Or.inr ⟨rfl, ?_⟩) ?_ ?_⟩) (fun w => ⟨pk_in _ 288 (by omega) i1, key _ 1 (Or.inl ⟨rfl, ?_⟩) ?_ ?_⟩)
  · rw [xa_le h2 xa_0] at w; exact w
  · obtain ⟨s, hs, hS, e⟩ := O.2 (2 * X + 1) (2 * X) (by omega) (by omega)
    rw [ev0, ev1] at e
    refine ⟨s, hs, hS, ?_⟩
    unfold xs_M at e
    omega
  · intro s hs hS
    have := (O.1 s hs).mp hS (2 * X + 1) (2 * X) (by omega) (by omega)
    rw [ev0, ev1] at this
    unfold xs_M at this
    omega
  · rw [xa_le h2 xa_0] at w; omega
  · obtain ⟨s, hs, hS, e⟩ := O.2 (2 * X) (2 * X + 1) (by omega) (by omega)
    rw [ev0, ev1] at e
    refine ⟨s, hs, hS, ?_⟩
    unfold xs_M at e
    omega
  · intro s hs hS
    have := (O.1 s hs).mp hS (2 * X) (2 * X + 1) (by omega) (by omega)
    rw [ev0, ev1] at this
    unfold xs_M at this
    omega
theorem xq_132 {post : Int32 → SX → Prop} {p f g : Nat} (hp : p < 7) (hf : f < 6) (hg : g < 6) {S : Nat → Prop} (O : gr_Oct (xs_M a_bound p) S) {w : Nat → Int} (hw : ∀ s, w s = oc_ev (gr_vs s) f - oc_ev (gr_vs s) g)
    (H : ∀ r : Int32, iq_mm S w 512 r.toInt → post r (f_edges, f_known, a_from, a_to, a_kind, a_first, a_second, a_constant, a_low, a_high, a_bound, a_filled, a_waiting, a_waits, a_said, a_real, a_fresh, a_coming, a_far)) {z : Int32} (hz : z = nI g) : wX_greatest_132 post (nI (36 * p)) (nI f) z f_edges f_known a_from a_to a_kind a_first a_second a_constant a_low a_high a_bound a_filled a_waiting a_waits a_said a_real a_fresh a_coming a_far := by
  subst hz
  have i1 : (nI (36 * p) + (6 * nI f)) + nI g = nI (36 * p + 6 * f + g) := by
    show (nI (36 * p) + nI 6 * nI f) + nI g = _
    rw [pk_mul, nI_add, nI_add]
  unfold wX_greatest_132
  rw [pk_cl _ i1]
  obtain ⟨s, hs, hS, e⟩ := O.2 f g hf hg
  exact ⟨pk_in _ 288 (by omega) i1, H _ (Or.inr ⟨s, hs, hS, by rw [hw s]; exact e, fun t ht hT => by rw [hw t]; exact (O.1 t ht).mp hT f g hf hg⟩)⟩
theorem xq_greatest {post : Int32 → SX → Prop} {G : GrP} (Q : iq_X G f_edges f_known a_from a_to a_kind a_first a_second a_constant a_low a_high a_bound a_filled a_said a_real a_far) {p0 p1 p2 p3 p4 : Int32}
    (H1 : ∀ p X Y : Nat, p < 7 → X < 3 → Y < 3 → p0 = nI p → p2 = nI X → p4 = nI Y → -1 ≤ p1.toInt → p1.toInt ≤ 1 → -1 ≤ p3.toInt → p3.toInt ≤ 1 → ∀ bo fl wg wt sd rl fr cm fa, ir_X G bo fl sd rl fa →
      ∀ r : Int32, iq_mm (fun s => gr_H G (512 * p + s)) (iq_w p1.toInt p3.toInt X Y) 512 r.toInt → post r (f_edges, 1, a_from, a_to, a_kind, a_first, a_second, a_constant, a_low, a_high, bo, fl, wg, wt, sd, rl, fr, cm, fa))
    (H0 : ¬ iq_good p0.toInt p1.toInt p2.toInt p3.toInt p4.toInt → post (-1000) (f_edges, f_known, a_from, a_to, a_kind, a_first, a_second, a_constant, a_low, a_high, a_bound, a_filled, a_waiting, a_waits, a_said, a_real, a_fresh, a_coming, a_far)) : wpX_greatest post (f_edges, f_known, a_from, a_to, a_kind, a_first, a_second, a_constant, a_low, a_high, a_bound, a_filled, a_waiting, a_waits, a_said, a_real, a_fresh, a_coming, a_far) p0 p1 p2 p3 p4 := by
  unfold wpX_greatest
  dsimp only
  refine xq_isForm (fun p X Y hp hX hYY e0 e2 e4 a1 a2 b1 b2 => br_f (by decide) (iq_xk Q (fun bo fl wg wt sd rl fr cm fa hx => ?_))) (fun w => br_t rfl (H0 w))
  have h := H1 p X Y hp hX hYY e0 e2 e4 a1 a2 b1 b2 bo fl wg wt sd rl fr cm fa hx
  subst e0 e2 e4
  clear H1 H0
  generalize hA : p1.toInt = A at *
  generalize hB : p3.toInt = B at *
  have cp : (nI p).toNatClampNeg = p := nI_clamp (by omega)
  have i36 : 36 * nI p = nI (36 * p) := pk_mul 36 p
  show vp_in (nI p) 8 ∧ _
  dsimp only
  rw [cp]
  refine ⟨vp_in_nI (by omega) (by omega), ?_⟩
  rcases hx.1 p hp with ⟨f0, no⟩ | ⟨f1, O⟩
  · exact br_t f0 (h (-1000) (Or.inl ⟨by decide, no⟩))
  · refine br_f f1 (nm_r i36 ?_)
    have ev0 : ∀ s Z, oc_ev (gr_vs s) (2 * Z) = (gr_dg s Z : Int) := fun s Z => oc_ev_e _ Z
    have ev1 : ∀ s Z, oc_ev (gr_vs s) (2 * Z + 1) = - (gr_dg s Z : Int) := fun s Z => oc_ev_o _ Z
    refine pk_eq X Y (fun z => ?_) (fun z => ?_)
    · subst z
      refine xq_alone hp hX O (xa_add hA hB (by omega) (by omega)) (by omega) (by omega) (fun r hr => h r (iq_cong (fun _ _ => Iff.rfl) (fun s _ => ?_) hr))
      show (A + B) * _ = iq_w A B X X s
      unfold iq_w
      rw [Int.add_mul]
    · have t71 : A = 0 ∨ B = 0 → wX_greatest_71 post p1 (nI X) p3 (nI Y) (nI (36 * p)) f_edges 1 a_from a_to a_kind a_first a_second a_constant a_low a_high bo fl wg wt sd rl fr cm fa := by
        intro hab
        unfold wX_greatest_71
        refine br_c (fun w => xq_alone hp hYY O hB (by omega) (by omega) (fun r hr => h r (iq_cong (fun _ _ => Iff.rfl) (fun s _ => ?_) hr))) (fun w => xq_alone hp hX O hA (by omega) (by omega) (fun r hr => h r (iq_cong (fun _ _ => Iff.rfl) (fun s _ => ?_) hr)))
        · rw [xa_eq hA xa_0] at w
          show B * _ = iq_w A B X Y s
          unfold iq_w
          rw [w]; omega
        · rw [xa_eq hA xa_0] at w
          have hb0 : B = 0 := hab.resolve_left w
          show A * _ = iq_w A B X Y s
          unfold iq_w
          rw [hb0]; omega
      refine br_c (fun w => t71 (Or.inl ((xa_eq hA xa_0).mp w))) (fun w => br_c (fun w2 => t71 (Or.inr ((xa_eq hB xa_0).mp w2))) (fun w2 => ?_))
      rw [xa_eq hA xa_0] at w
      rw [xa_eq hB xa_0] at w2
      have t112 : ∀ f : Nat, f < 6 → ∀ zf : Int32, zf = nI f → (∀ s, oc_ev (gr_vs s) f = A * (gr_dg s X : Int)) → wX_greatest_112 post p3 (nI Y) (nI (36 * p)) zf f_edges 1 a_from a_to a_kind a_first a_second a_constant a_low a_high bo fl wg wt sd rl fr cm fa := by
        intro f hf zf ezf hfv
        subst ezf
        unfold wX_greatest_112
        refine br_c (fun w3 => xq_132 (g := 2 * Y) hp hf (by omega) O (w := iq_w A B X Y) (fun s => ?_) h (xa_d2 Y)) (fun w3 => xq_132 (g := 2 * Y + 1) hp hf (by omega) O (w := iq_w A B X Y) (fun s => ?_) h (xa_d3 Y))
        · rw [xa_le hB xa_0] at w3
          have : B = -1 := by omega
          rw [hfv s, ev0]
          unfold iq_w
          rw [this]; omega
        · rw [xa_le hB xa_0] at w3
          have : B = 1 := by omega
          rw [hfv s, ev1]
          unfold iq_w
          rw [this]; omega
      refine br_c (fun w3 => t112 (2 * X + 1) (by omega) _ (xa_d3 X) (fun s => ?_)) (fun w3 => t112 (2 * X) (by omega) _ (xa_d2 X) (fun s => ?_))
      · rw [xa_le hA xa_0] at w3
        have : A = -1 := by omega
        rw [ev1, this]; omega
      · rw [xa_le hA xa_0] at w3
        have : A = 1 := by omega
        rw [ev0, this]; omega
end
end
section
/-! the owed statements of greatest, really, check -/
theorem i_vc_greatest {k : Nat} {u : SX} {v : SY} (I : i_Rel k u v) (hk : k + 7 ≤ 3584) (v1 : Int32) (v2 : Int32) (v3 : Int32) (v4 : Int32) (v5 : Int32) : wpX_greatest (fun r u' => wpY_greatest (fun r' v' => r' = r ∧ i_Rel (k + 7) u' v') v v1 v2 v3 v4 v5) u v1 v2 v3 v4 v5 := by
  refine ir_el (P := fun u v => wpX_greatest (fun r u' => wpY_greatest (fun r' v' => r' = r ∧ i_Rel (k + 7) u' v') v v1 v2 v3 v4 v5) u v1 v2 v3 v4 v5) ?_ I
  intro f_edges f_known a_from a_to a_kind a_first a_second a_constant a_low a_high a_bound a_filled a_waiting a_waits a_said a_real a_fresh a_coming a_far a_number a_steps a_held a_bounds G F0
  refine xq_greatest (iq_sx F0) (fun p X Y hp hX hYY e0 e2 e4 a1 a2 b1 b2 bo fl wg wt sd rl fr cm fa hx r hr => ?_) (fun w => ?_)
  · subst e0 e2 e4
    unfold wpY_greatest
    refine yq_most (iq_sy F0) hp hX hYY a1 a2 b1 b2 (Or.inl ⟨rfl, fun _ => Iff.rfl⟩) (fun r' st hd bd hY hr' => ?_)
    exact ⟨Int32.toInt_inj.mp (iq_uniq hr' hr), iq_join F0 hx hY⟩
  · unfold wpY_greatest
    exact yq_mostN w ⟨rfl, ir_in F0⟩
theorem i_vc_really {k : Nat} {u : SX} {v : SY} (I : i_Rel k u v) (hk : k + 7 ≤ 3584) (v1 : Int32) (v2 : Int32) (v3 : Int32) (v4 : Int32) (v5 : Int32) : wpX_really (fun r u' => wpY_really (fun r' v' => r' = r ∧ i_Rel (k + 7) u' v') v v1 v2 v3 v4 v5) u v1 v2 v3 v4 v5 := by
  refine ir_el (P := fun u v => wpX_really (fun r u' => wpY_really (fun r' v' => r' = r ∧ i_Rel (k + 7) u' v') v v1 v2 v3 v4 v5) u v1 v2 v3 v4 v5) ?_ I
  intro f_edges f_known a_from a_to a_kind a_first a_second a_constant a_low a_high a_bound a_filled a_waiting a_waits a_said a_real a_fresh a_coming a_far a_number a_steps a_held a_bounds G F0
  refine xq_really (iq_sx F0) (fun p X Y hp hX hYY e0 e2 e4 a1 a2 b1 b2 bo fl wg wt sd rl fr cm fa hx r hr => ?_) (fun w => ?_)
  · subst e0 e2 e4
    unfold wpY_really
    refine yq_most (iq_sy F0) hp hX hYY a1 a2 b1 b2 (Or.inr ⟨rfl, fun _ => Iff.rfl⟩) (fun r' st hd bd hY hr' => ?_)
    exact ⟨Int32.toInt_inj.mp (iq_uniq hr' hr), iq_join F0 hx hY⟩
  · unfold wpY_really
    exact yq_mostN w ⟨rfl, ir_in F0⟩
theorem iq_none {P : Nat → Prop} {w : Nat → Int} {r : Int} (h : iq_mm P w 512 r) (hw : ∀ s, -1000 < w s) : r = -1000 ↔ ct_n P 512 = 0 := by
  rcases h with ⟨e, n⟩ | ⟨s, hs, hP, e, _⟩
  · exact ⟨fun _ => ct_zero n, fun _ => e⟩
  · constructor
    · intro z; have := hw s; omega
    · intro z
      have := ct_lt (P := fun _ => False) (Q := P) (a := s) id hP (N := 512) (fun _ _ w => w.elim) hs
      omega
theorem i_vc_check {k : Nat} {u : SX} {v : SY} (I : i_Rel k u v) (hk : k + 7 ≤ 3584) (v1 : Int32) (v2 : Int32) (v3 : Int32) (v4 : Int32) (v5 : Int32) (v6 : Int32) : wpX_check (fun r u' => wpY_check (fun r' v' => r' = r ∧ i_Rel (k + 7) u' v') v v1 v2 v3 v4 v5 v6) u v1 v2 v3 v4 v5 v6 := by
  refine ir_el (P := fun u v => wpX_check (fun r u' => wpY_check (fun r' v' => r' = r ∧ i_Rel (k + 7) u' v') v v1 v2 v3 v4 v5 v6) u v1 v2 v3 v4 v5 v6) ?_ I
  intro f_edges f_known a_from a_to a_kind a_first a_second a_constant a_low a_high a_bound a_filled a_waiting a_waits a_said a_real a_fresh a_coming a_far a_number a_steps a_held a_bounds G F0
  have bad : ¬ iq_good v1.toInt v2.toInt v3.toInt v4.toInt v5.toInt → wpY_check (fun r' v' => r' = -1 ∧ i_Rel (k + 7) (f_edges, f_known, a_from, a_to, a_kind, a_first, a_second, a_constant, a_low, a_high, a_bound, a_filled, a_waiting, a_waits, a_said, a_real, a_fresh, a_coming, a_far) v') (f_edges, f_known, a_from, a_to, a_kind, a_first, a_second, a_number, a_low, a_high, a_steps, a_held, a_bounds) v1 v2 v3 v4 v5 v6 := by
    intro w
    unfold wpY_check
    dsimp only
    exact yq_place (fun p hp e => br_f (by decide) (yq_isForm (fun z => absurd ⟨by rw [e, nI_toInt (by omega)]; omega, z.1, z.2.1, z.2.2.1, z.2.2.2⟩ w) (fun _ => br_t rfl ⟨rfl, ir_in F0⟩))) (fun _ => br_t rfl ⟨rfl, ir_in F0⟩)
  unfold wpX_check
  dsimp only
  refine xq_isForm (fun p X Y hp hX hYY e0 e2 e4 a1 a2 b1 b2 => br_f (by decide) ?_) (fun w => br_t rfl (bad w))
  have good : iq_good v1.toInt v2.toInt v3.toInt v4.toInt v5.toInt := ⟨by rw [e0, nI_toInt (by omega)]; omega, ⟨a1, a2⟩, ⟨b1, b2⟩, by rw [e2, nI_toInt (by omega)]; omega, by rw [e4, nI_toInt (by omega)]; omega⟩
  clear bad
  refine xq_greatest (iq_sx F0) (fun p' X' Y' hp' hX' hYY' e0' e2' e4' _ _ _ _ bo fl wg wt sd rl fr cm fa hx r hr => ?_) (fun w => absurd good w)
  have ep : p' = p := by rw [e0] at e0'; exact ((nI_eq (by omega) (by omega)).mp e0').symm
  have eX : X' = X := by rw [e2] at e2'; exact ((nI_eq (by omega) (by omega)).mp e2').symm
  have eY : Y' = Y := by rw [e4] at e4'; exact ((nI_eq (by omega) (by omega)).mp e4').symm
  subst ep eX eY
  have em : (-1000 : Int32).toInt = -1000 := by decide
  have wb : ∀ s, -1000 < iq_w v2.toInt v4.toInt X' Y' s := fun s => by have := iq_wb a1 a2 b1 b2 X' Y' s; omega
  -- the reference's answer
  have Y1 : ∀ (bo fl wg wt fa : Nat → Int32) (sd rl fr cm : Nat → Int64), ir_X G bo fl sd rl fa → (r.toInt ≤ v6.toInt ∨ r = -1000) → wpY_check (fun r' v' => r' = 1 ∧ i_Rel (k + 7) (f_edges, 1, a_from, a_to, a_kind, a_first, a_second, a_constant, a_low, a_high, bo, fl, wg, wt, sd, rl, fr, cm, fa) v') (f_edges, f_known, a_from, a_to, a_kind, a_first, a_second, a_number, a_low, a_high, a_steps, a_held, a_bounds) v1 v2 v3 v4 v5 v6 := by
    intro bo fl wg wt fa sd rl fr cm hx hc
    unfold wpY_check
    dsimp only
    refine yq_place (fun _ _ _ => br_f (by decide) (yq_isForm (fun _ => br_f (by decide) ?_) (fun w => absurd good.2 w))) (fun w => absurd good.1 w)
    rw [e0, e2, e4]
    refine yq_most (iq_sy F0) hp hX hYY a1 a2 b1 b2 (Or.inl ⟨rfl, fun _ => Iff.rfl⟩) (fun r' st hd bd hY hr' => ?_)
    have er : r' = r := Int32.toInt_inj.mp (iq_uniq hr' hr)
    subst er
    refine br_c (fun _ => ⟨rfl, iq_join F0 hx hY⟩) (fun w => ?_)
    refine yq_said (f_known := 1) (a_steps := st) (a_held := hd) ⟨F0.1, F0.2.2.1, Or.inr rfl, fun _ => hY⟩ hp (fun st2 hd2 bd2 hY2 => br_t ?_ ⟨rfl, iq_join F0 hx hY2⟩)
    have z : r'.toInt = -1000 := by
      rcases hc with hc | hc
      · exact absurd ((xa_le rfl rfl).mpr hc) w
      · rw [hc]; decide
    rw [(iq_none hr wb).mp z]
    rfl
  have Y2 : ∀ (bo fl wg wt fa : Nat → Int32) (sd rl fr cm : Nat → Int64), ir_X G bo fl sd rl fa → v6.toInt < r.toInt → r ≠ -1000 → ∀ r2 : Int32, iq_mm (fun s => gr_Rc G (512 * p' + s)) (iq_w v2.toInt v4.toInt X' Y') 512 r2.toInt →
      ∀ a : Int32, (r2 = -1000 ∨ r2.toInt ≤ v6.toInt → a = 2) → (r2 ≠ -1000 → v6.toInt < r2.toInt → a = 0) →
      wpY_check (fun r' v' => r' = a ∧ i_Rel (k + 7) (f_edges, 1, a_from, a_to, a_kind, a_first, a_second, a_constant, a_low, a_high, bo, fl, wg, wt, sd, rl, fr, cm, fa) v') (f_edges, f_known, a_from, a_to, a_kind, a_first, a_second, a_number, a_low, a_high, a_steps, a_held, a_bounds) v1 v2 v3 v4 v5 v6 := by
    intro bo fl wg wt fa sd rl fr cm hx hlt hne r2 hr2 a ha2 ha0
    unfold wpY_check
    dsimp only
    refine yq_place (fun _ _ _ => br_f (by decide) (yq_isForm (fun _ => br_f (by decide) ?_) (fun w => absurd good.2 w))) (fun w => absurd good.1 w)
    rw [e0, e2, e4]
    refine yq_most (iq_sy F0) hp hX hYY a1 a2 b1 b2 (Or.inl ⟨rfl, fun _ => Iff.rfl⟩) (fun r' st hd bd hY hr' => ?_)
    have er : r' = r := Int32.toInt_inj.mp (iq_uniq hr' hr)
    subst er
    refine br_f (fun w => by rw [xa_le rfl rfl] at w; omega) ?_
    have cS := ct_le (fun s => gr_H G (512 * p' + s)) 512
    have cR := ct_le (fun s => gr_Rc G (512 * p' + s)) 512
    have n0 : ct_n (fun s => gr_H G (512 * p' + s)) 512 ≠ 0 := fun z => hne (Int32.toInt_inj.mp (by rw [(iq_none hr wb).mpr z]; exact em.symm))
    refine yq_said (f_known := 1) (a_steps := st) (a_held := hd) ⟨F0.1, F0.2.2.1, Or.inr rfl, fun _ => hY⟩ hp (fun st2 hd2 bd2 hY2 => br_f (nI_ne0 (by omega) (by omega)) ?_)
    refine yq_real (f_known := 1) (a_steps := st2) (a_held := hd2) ⟨F0.1, F0.2.2.1, Or.inr rfl, fun _ => hY2⟩ hp (fun st3 hd3 bd3 hY3 => pk_le _ 0 (fun z => ⟨?_, iq_join F0 hx hY3⟩) (fun z => ?_) rfl rfl (by omega) (by omega))
    · have : r2 = -1000 := Int32.toInt_inj.mp (by rw [(iq_none hr2 wb).mpr (by omega)]; exact em.symm)
      exact (ha2 (Or.inl this)).symm
    · have hne2 : r2 ≠ -1000 := fun y => by
        have := (iq_none hr2 wb).mp (by rw [y]; exact em)
        omega
      refine yq_most (f_known := 1) (a_steps := st3) (a_held := hd3) ⟨F0.1, F0.2.2.1, Or.inr rfl, fun _ => hY3⟩ hp hX hYY a1 a2 b1 b2 (Or.inr ⟨rfl, fun _ => Iff.rfl⟩) (fun r3 st4 hd4 bd4 hY4 hr3 => ?_)
      have er3 : r3 = r2 := Int32.toInt_inj.mp (iq_uniq hr3 hr2)
      subst er3
      refine br_c (fun w => ⟨?_, iq_join F0 hx hY4⟩) (fun w => ⟨?_, iq_join F0 hx hY4⟩)
      · rw [xa_le rfl rfl] at w; exact (ha2 (Or.inr w)).symm
      · rw [xa_le rfl rfl] at w; exact (ha0 hne2 (by omega)).symm
  refine br_c (fun w => Y1 _ _ _ _ _ _ _ _ _ hx (Or.inr w)) (fun w => br_c (fun w2 => ?_) (fun w2 => ?_))
  · rw [xa_lt rfl rfl] at w2
    refine xq_really (f_known := 1) (a_bound := bo) (a_filled := fl) (a_said := sd) (a_real := rl) (a_far := fa) ⟨F0.1, F0.2.1, Or.inr rfl, fun _ => hx⟩ (fun p2 X2 Y2' _ _ _ e02 e22 e42 _ _ _ _ bo2 fl2 wg2 wt2 sd2 rl2 fr2 cm2 fa2 hx2 r2 hr2 => ?_) (fun y => absurd good y)
    have ep : p2 = p' := by rw [e0] at e02; exact ((nI_eq (by omega) (by omega)).mp e02).symm
    have eX : X2 = X' := by rw [e2] at e22; exact ((nI_eq (by omega) (by omega)).mp e22).symm
    have eY : Y2' = Y' := by rw [e4] at e42; exact ((nI_eq (by omega) (by omega)).mp e42).symm
    subst ep eX eY
    refine br_c (fun y => Y2 _ _ _ _ _ _ _ _ _ hx2 w2 w r2 hr2 2 (fun _ => rfl) (fun q => absurd y q)) (fun y => br_c (fun y2 => Y2 _ _ _ _ _ _ _ _ _ hx2 w2 w r2 hr2 2 (fun _ => rfl) (fun _ q => ?_)) (fun y2 => Y2 _ _ _ _ _ _ _ _ _ hx2 w2 w r2 hr2 0 (fun q => ?_) (fun _ _ => rfl)))
    · rw [xa_le rfl rfl] at y2; omega
    · rw [xa_le rfl rfl] at y2
      rcases q with q | q
      · exact absurd q y
      · omega
  · rw [xa_lt rfl rfl] at w2
    exact Y1 _ _ _ _ _ _ _ _ _ hx (Or.inl (by omega))
end
section
/-! lost -/
noncomputable def il_al (G : GrP) (p : Nat) : Nat := ct_n (fun s => gr_H G (512 * p + s) ∧ ¬ gr_Rc G (512 * p + s)) 512
noncomputable def il_sm (G : GrP) : Nat → Nat
  | 0 => 0
  | p + 1 => il_sm G p + il_al G p
noncomputable def il_bs (G : GrP) : Nat → Nat
  | 0 => 0
  | p + 1 => if il_al G (il_bs G p) < il_al G p then p else il_bs G p
def il_idle (G : GrP) (P : Nat → Prop) (e : Nat) : Prop := ¬ ∃ s t, s < 512 ∧ P (512 * gr_F G e + s) ∧ gr_te G e s t
noncomputable def il_id (G : GrP) (P : Nat → Prop) (m : Nat) : Nat := ct_n (il_idle G P) m
noncomputable def il_ans (G : GrP) (w : Nat) : Int32 := if w = 0 then nI (il_sm G 7) else if w = 1 then nI (il_bs G 7) else if w = 2 then nI (il_id G (gr_Rc G) (gr_E G)) else nI (il_id G (gr_H G) (gr_E G))
theorem il_al_le (G : GrP) (p : Nat) : il_al G p ≤ 512 := ct_le _ _
theorem il_sm_le (G : GrP) : ∀ p, il_sm G p ≤ 512 * p
  | 0 => Nat.le_refl _
  | p + 1 => by have a := il_sm_le G p; have b := il_al_le G p; show il_sm G p + il_al G p ≤ _; omega
theorem il_bs_lt (G : GrP) : ∀ p, p ≤ 7 → il_bs G p < 7
  | 0, _ => by show 0 < 7; omega
  | p + 1, h => by
    have a := il_bs_lt G p (by omega)
    show (if il_al G (il_bs G p) < il_al G p then p else il_bs G p) < 7
    by_cases z : il_al G (il_bs G p) < il_al G p
    · rw [if_pos z]; omega
    · rw [if_neg z]; exact a
theorem xs_FK {G : GrP} {g g' fl : Nat → Int32} (K : xm_K g g') (F : xs_F G g fl) : xs_F G g' fl := fun p hp => by
  rcases F p hp with h | ⟨h, O⟩
  · exact Or.inl h
  · exact Or.inr ⟨h, gr_Oct_M O (fun i j hi hj => xs_MK K hp hi hj)⟩
section
variable {f_edges f_known : Int32} {a_from a_to a_kind a_first a_second a_constant a_low a_high a_bound a_filled a_waiting a_waits a_far : Nat → Int32} {a_said a_real a_fresh a_coming : Nat → Int64} {a_number a_steps a_held a_bounds : Nat → Int32}
theorem xz_62 {post : Int32 → SX → Prop} {J45 : Int32 → Int32 → Int32 → Int32 → Prop} {G : GrP} (hX : ir_X G a_bound a_filled a_said a_real a_far) {x1 : Int32} {p : Nat} (hp : p < 7) {a mx ws : Nat} (ha : a < 100000) (hmx : mx < 100000)
    (H : J45 (nI (a + il_al G p)) (nI (if mx < il_al G p then il_al G p else mx)) (nI (if mx < il_al G p then p else ws)) (nI (p + 1))) :
    ∀ (n m : Nat), m ≤ 8 → 8 < n + m → wX_lost_62 post J45 x1 (nI a) (nI mx) (nI ws) (nI p) f_edges f_known a_from a_to a_kind a_first a_second a_constant a_low a_high a_bound a_filled a_waiting a_waits a_said a_real a_fresh a_coming a_far n (nI (ct_n (fun s => gr_H G (512 * p + s) ∧ ¬ gr_Rc G (512 * p + s)) (64 * m))) (nI (8 * p + m)) := by
  have i1 : (8 * nI p) + 8 = nI (8 * p + 8) := by
    show nI 8 * nI p + nI 8 = _
    rw [pk_mul, nI_add]
  intro n
  induction n with
  | zero => intro m h1 h2; omega
  | succ n ih =>
    intro m hm hn
    rw [wX_lost_62]
    dsimp only
    rw [i1]
    refine pk_le (8 * p + 8) (8 * p + m) (fun q => ?_) (fun q => ⟨vp_in_nI (by omega) (by omega), vp_in_nI (by omega) (by omega), ?_⟩)
    · have : m = 8 := by omega
      subst this
      have e : ct_n (fun s => gr_H G (512 * p + s) ∧ ¬ gr_Rc G (512 * p + s)) (64 * 8) = il_al G p := rfl
      rw [e]
      have al := il_al_le G p
      refine nm_r (nI_add _ _) (pk_le (il_al G p) mx (fun z => ?_) (fun z => ?_))
      · rw [if_neg (by omega), if_neg (by omega)] at H
        unfold wX_lost_123
        exact pk_le (il_al G p) mx (fun _ => nm_r (nI_1 p) H) (fun y => by omega)
      · rw [if_pos z, if_pos z] at H
        unfold wX_lost_123
        exact pk_le (il_al G p) mx (fun y => by omega) (fun _ => nm_r (nI_1 p) H)
    · rw [nI_clamp (by omega)]
      refine xq_count (nm_r ?_ (nm_r (nI_1 _) (ih (m + 1) (by omega) (by omega))))
      rw [nI_add, show 64 * (m + 1) = 64 * m + 64 by omega, ct_add]
      refine congrArg nI (congrArg _ (ct_eq (fun t ht => ?_)))
      have c5 : 512 * p + (64 * m + t) < 3584 := by omega
      have b1 := hX.2.1 _ c5
      have b2 := xq_Rc hX c5
      unfold xb_b at b1 b2
      rw [show (512 * p + (64 * m + t)) / 64 = 8 * p + m by omega, show (512 * p + (64 * m + t)) % 64 = t by omega] at b1 b2
      rw [xb_and, xb_not _ ht, Bool.and_eq_true, Bool.not_eq_true', ← Bool.not_eq_true, b1, b2]
theorem xz_45 {post : Int32 → SX → Prop} {G : GrP} (hX : ir_X G a_bound a_filled a_said a_real a_far) {w : Nat} (hw : w < 2) (H : post (il_ans G w) (f_edges, f_known, a_from, a_to, a_kind, a_first, a_second, a_constant, a_low, a_high, a_bound, a_filled, a_waiting, a_waits, a_said, a_real, a_fresh, a_coming, a_far)) :
    ∀ (n m : Nat), m ≤ 7 → 7 < n + m → wX_lost_45 post (nI w) f_edges f_known a_from a_to a_kind a_first a_second a_constant a_low a_high a_bound a_filled a_waiting a_waits a_said a_real a_fresh a_coming a_far n (nI (il_sm G m)) (nI (if m = 0 then 0 else il_al G (il_bs G m))) (nI (il_bs G m)) (nI m) := by
  intro n
  induction n with
  | zero => intro m h1 h2; omega
  | succ n ih =>
    intro m hm hn
    rw [wX_lost_45]
    by_cases e : m = 7
    · subst e
      refine br_t (show (7 : Int32) ≤ nI 7 by decide) (pk_eq w 0 (fun z => ?_) (fun z => ?_))
      · subst z; exact H
      · have : w = 1 := by omega
        subst this
        exact H
    · have s1 := il_sm_le G m
      have mx : (if m = 0 then 0 else il_al G (il_bs G m)) ≤ 512 := by
        by_cases z : m = 0
        · rw [if_pos z]; omega
        · rw [if_neg z]; exact il_al_le _ _
      refine br_f (nI_ge (b := 7) (by omega) (by omega)) (nm_r (pk_mul 8 m) ⟨9, xz_62 hX (by omega) (by omega) (by omega) ?_ 9 0 (by omega) (by omega)⟩)
      have h := ih (m + 1) (by omega) (by omega)
      have e1 : (if (if m = 0 then 0 else il_al G (il_bs G m)) < il_al G m then il_al G m else (if m = 0 then 0 else il_al G (il_bs G m))) = (if m + 1 = 0 then 0 else il_al G (il_bs G (m + 1))) := by
        rw [if_neg (by omega : ¬ m + 1 = 0)]
        show _ = il_al G (if il_al G (il_bs G m) < il_al G m then m else il_bs G m)
        by_cases z : m = 0
        · subst z
          have b0 : il_bs G 0 = 0 := rfl
          rw [if_pos rfl, b0, if_neg (Nat.lt_irrefl _)]
          by_cases y : 0 < il_al G 0
          · rw [if_pos y]
          · rw [if_neg y]; omega
        · rw [if_neg z]
          by_cases y : il_al G (il_bs G m) < il_al G m
          · rw [if_pos y, if_pos y]
          · rw [if_neg y, if_neg y]
      have e2 : (if (if m = 0 then 0 else il_al G (il_bs G m)) < il_al G m then m else il_bs G m) = il_bs G (m + 1) := by
        show _ = (if il_al G (il_bs G m) < il_al G m then m else il_bs G m)
        by_cases z : m = 0
        · subst z
          have b0 : il_bs G 0 = 0 := rfl
          rw [b0]
          by_cases y : (if 0 = 0 then 0 else il_al G 0) < il_al G 0
          · rw [if_pos y, if_neg (Nat.lt_irrefl _)]
          · rw [if_neg y, if_neg (Nat.lt_irrefl _)]
        · rw [if_neg z]
      rw [e1, e2]
      exact h
theorem xz_25 {post : Int32 → Prop} {J2 : Int32 → Prop} {G : GrP} (hP : xp_P G f_edges a_from a_to a_kind a_first a_second a_low a_high) (hC : xp_C G a_constant) {e z : Nat} (he : e < gr_E G) (hz : z < 8)
    (H1 : (∃ s t, s < 512 ∧ xb_b a_real (512 * gr_F G e + s) = true ∧ gr_te G e s t) → post 1)
    (H : (∀ s t, s < 64 * (z + 1) → xb_b a_real (512 * gr_F G e + s) = true → ¬ gr_te G e s t) → J2 (nI (z + 1)))
    (h0 : ∀ s t, s < 64 * z → xb_b a_real (512 * gr_F G e + s) = true → ¬ gr_te G e s t) :
    wX_leads_25 post J2 (nI e) (nI z) f_edges f_known a_from a_to a_kind a_first a_second a_constant a_low a_high a_bound a_filled a_waiting a_waits a_said a_real a_fresh a_coming a_far 65 (a_real (8 * gr_F G e + z)) := by
  have f7 := (hP.1.2.1 e (Nat.lt_of_lt_of_le he hP.1.1)).1
  have bit : ∀ j, j < 64 → xb_b a_real (512 * gr_F G e + (64 * z + j)) = xb_w (a_real (8 * gr_F G e + z)) j := fun j hj => by
    unfold xb_b
    rw [show (512 * gr_F G e + (64 * z + j)) / 64 = 8 * gr_F G e + z by omega, show (512 * gr_F G e + (64 * z + j)) % 64 = j by omega]
  refine xb_loop (fun n l (_ : Unit) => wX_leads_25 post J2 (nI e) (nI z) f_edges f_known a_from a_to a_kind a_first a_second a_constant a_low a_high a_bound a_filled a_waiting a_waits a_said a_real a_fresh a_coming a_far n l) _ (fun i _ => ∀ s t, s < 64 * z + i → xb_b a_real (512 * gr_F G e + s) = true → ¬ gr_te G e s t) ?_ ?_ ?_ () h0
  · intro i _ hi hb h s t hs hr
    by_cases y : s = 64 * z + i
    · subst y; rw [bit i hi, hb] at hr; exact absurd hr (by decide)
    · exact h s t (by omega) hr
  · intro n _ h
    show wX_leads_25 post J2 (nI e) (nI z) f_edges f_known a_from a_to a_kind a_first a_second a_constant a_low a_high a_bound a_filled a_waiting a_waits a_said a_real a_fresh a_coming a_far (n + 1) 0
    rw [wX_leads_25]
    exact br_t rfl (nm_r (nI_1 z) (H (fun s t hs => h s t (by omega))))
  · intro n j l _ hj hb hl low h ih
    show wX_leads_25 post J2 (nI e) (nI z) f_edges f_known a_from a_to a_kind a_first a_second a_constant a_low a_high a_bound a_filled a_waiting a_waits a_said a_real a_fresh a_coming a_far (n + 1) l
    rw [wX_leads_25]
    have i1 : (64 * nI z) + nI j = nI (64 * z + j) := by
      show nI 64 * nI z + nI j = _
      rw [pk_mul, nI_add]
    have s5 : 64 * z + j < 512 := by omega
    have hr : xb_b a_real (512 * gr_F G e + (64 * z + j)) = true := by rw [bit j hj, hb]
    refine br_f hl (low _ (nm_r i1 (xg_step hP hC he s5 (fun t ht te _ _ => br_f (nI_pos (by omega)) (H1 ⟨_, t, s5, hr, te⟩)) (fun no => br_t (by decide) (nm_e (ih () (fun s t hs hr' => ?_)))))))
    by_cases y : s = 64 * z + j
    · subst y; exact no t
    · exact h s t (by omega) hr'
theorem xz_leads {post : Int32 → Prop} {G : GrP} (hP : xp_P G f_edges a_from a_to a_kind a_first a_second a_low a_high) (hC : xp_C G a_constant) {e : Nat} (he : e < gr_E G)
    (H1 : (∃ s t, s < 512 ∧ xb_b a_real (512 * gr_F G e + s) = true ∧ gr_te G e s t) → post 1) (H0 : (¬ ∃ s t, s < 512 ∧ xb_b a_real (512 * gr_F G e + s) = true ∧ gr_te G e s t) → post 0) : wpX_leads post (f_edges, f_known, a_from, a_to, a_kind, a_first, a_second, a_constant, a_low, a_high, a_bound, a_filled, a_waiting, a_waits, a_said, a_real, a_fresh, a_coming, a_far) (nI e) := by
  have e20 : e < 20 := Nat.lt_of_lt_of_le he hP.1.1
  have f7 := (hP.1.2.1 e e20).1
  have hF := (hP.2.2.1 e e20).1
  have L : ∀ (n m : Nat), m ≤ 8 → 8 < n + m → (∀ s t, s < 64 * m → xb_b a_real (512 * gr_F G e + s) = true → ¬ gr_te G e s t) → wX_leads_2 post (nI e) f_edges f_known a_from a_to a_kind a_first a_second a_constant a_low a_high a_bound a_filled a_waiting a_waits a_said a_real a_fresh a_coming a_far n (nI m) := by
    intro n
    induction n with
    | zero => intro m h1 h2; omega
    | succ n ih =>
      intro m hm hn hb
      rw [wX_leads_2]
      by_cases e8 : m = 8
      · subst e8
        exact br_t (show (8 : Int32) ≤ nI 8 by decide) (H0 (fun ⟨s, t, hs, hr, ht⟩ => hb s t hs hr ht))
      · have i1 : (8 * nI (gr_F G e)) + nI m = nI (8 * gr_F G e + m) := by
          show nI 8 * nI (gr_F G e) + nI m = _
          rw [pk_mul, nI_add]
        refine br_f (nI_ge (b := 8) (by omega) (by omega)) ⟨vp_in_nI e20 (by omega), ?_⟩
        rw [nI_clamp (by omega), hF, pk_cl _ i1]
        exact ⟨pk_in _ 56 (by omega) i1, nm_e ⟨65, xz_25 hP hC he (by omega) H1 (fun h => ih (m + 1) (by omega) (by omega) h) hb⟩⟩
  exact ⟨9, L 9 0 (by omega) (by omega) (fun s t hs => absurd hs (Nat.not_lt_zero s))⟩
theorem xz_dead {post : Int32 → SX → Prop} {G : GrP} (hP : xp_P G f_edges a_from a_to a_kind a_first a_second a_low a_high) (hC : xp_C G a_constant) {P : Nat → Prop} {x1 : Int32}
    (h1 : (x1 = 1 ∧ ∀ k, P k ↔ gr_Rc G k) ∨ (x1 = 0 ∧ ∀ k, P k ↔ gr_H G k)) (H : ∀ bo, ir_X G bo a_filled a_said a_real a_far → post (nI (il_id G P (gr_E G))) (f_edges, f_known, a_from, a_to, a_kind, a_first, a_second, a_constant, a_low, a_high, bo, a_filled, a_waiting, a_waits, a_said, a_real, a_fresh, a_coming, a_far)) :
    ∀ (n m : Nat) (bo : Nat → Int32), m ≤ gr_E G → gr_E G < n + m → ir_X G bo a_filled a_said a_real a_far → wX_dead_4 post x1 n (nI (il_id G P m)) (nI m) f_edges f_known a_from a_to a_kind a_first a_second a_constant a_low a_high bo a_filled a_waiting a_waits a_said a_real a_fresh a_coming a_far := by
  have go := hP.1
  have E20 := go.1
  intro n
  induction n with
  | zero => intro m bo h1 h2; omega
  | succ n ih =>
    intro m bo hm hn hX
    rw [wX_dead_4]
    have idm := ct_le (il_idle G P) m
    have t29 : ∀ (b : Int32) (bo' : Nat → Int32), ir_X G bo' a_filled a_said a_real a_far → (b = 0 ∧ il_idle G P m) ∨ (b = 1 ∧ ¬ il_idle G P m) → m < gr_E G → wX_dead_29 post (wX_dead_4 post x1 n) x1 (nI (il_id G P m)) (nI m) b f_edges f_known a_from a_to a_kind a_first a_second a_constant a_low a_high bo' a_filled a_waiting a_waits a_said a_real a_fresh a_coming a_far := by
      intro b bo' hX' hb hlt
      have h := ih (m + 1) bo' (by omega) (by omega) hX'
      unfold wX_dead_29
      rcases hb with ⟨rfl, hb⟩ | ⟨rfl, hb⟩
      · have e : il_id G P (m + 1) = il_id G P m + 1 := by
          show ct_n _ m + ct_b _ = _
          rw [ct_bt hb]; rfl
        rw [e] at h
        exact br_t rfl (nm_r (nI_1 _) (nm_r (nI_1 m) h))
      · have e : il_id G P (m + 1) = il_id G P m := by
          show ct_n _ m + ct_b _ = _
          rw [ct_bf hb]; rfl
        rw [e] at h
        exact br_f (by decide) (nm_r (nI_1 m) h)
    refine pk_le (gr_E G) m (fun q => ?_) (fun q => ?_) hP.2.1 rfl
    · have : m = gr_E G := by omega
      subst this
      exact H bo hX
    · have m20 : m < 20 := by omega
      have f7 := (go.2.1 m m20).1
      rcases h1 with ⟨rfl, hP1⟩ | ⟨rfl, hP1⟩
      · refine br_f (by decide) (xz_leads hP hC q (fun ⟨s, t, hs, hr, ht⟩ => t29 1 bo hX (Or.inr ⟨rfl, fun z => z ⟨s, t, hs, (hP1 _).mpr ((xq_Rc hX (by omega)).mp hr), ht⟩⟩) q) (fun no => t29 0 bo hX (Or.inl ⟨rfl, fun ⟨s, t, hs, hr, ht⟩ => no ⟨s, t, hs, (xq_Rc hX (by omega)).mpr ((hP1 _).mp hr), ht⟩⟩) q))
      · refine br_t rfl ?_
        have hF := hX.1 _ f7
        refine xf_follow (a_bound := bo) (S := fun s => gr_H G (512 * gr_F G m + s)) hP hC q (fun hz => ?_) (fun hz => ?_) (fun hz g M K R O => ?_) (fun hz g K no => ?_)
        · refine t29 0 bo hX (Or.inl ⟨rfl, fun ⟨s, t, hs, hr, ht⟩ => ?_⟩) q
          rcases hF with ⟨_, w⟩ | ⟨w, _⟩
          · exact w s hs ((hP1 _).mp hr)
          · exact w hz
        · rcases hF with ⟨w, _⟩ | ⟨_, O⟩
          · exact absurd w hz
          · exact O
        · obtain ⟨t, ht, s, hs, hS, htr⟩ := gr_ne O
          exact t29 1 g ⟨xs_FK K hX.1, hX.2⟩ (Or.inr ⟨rfl, fun z => z ⟨s, t, hs, (hP1 _).mpr hS, htr⟩⟩) q
        · refine t29 0 g ⟨xs_FK K hX.1, hX.2⟩ (Or.inl ⟨rfl, fun ⟨s, t, hs, hr, ht⟩ => ?_⟩) q
          exact no t (gr_te_lt go q hs ht) ⟨s, hs, (hP1 _).mp hr, ht⟩
theorem xz_lost {post : Int32 → SX → Prop} {G : GrP} (Q : iq_X G f_edges f_known a_from a_to a_kind a_first a_second a_constant a_low a_high a_bound a_filled a_said a_real a_far) {p0 : Int32}
    (H1 : ∀ w : Nat, w < 4 → p0 = nI w → ∀ bo fl wg wt sd rl fr cm fa, ir_X G bo fl sd rl fa → post (il_ans G w) (f_edges, 1, a_from, a_to, a_kind, a_first, a_second, a_constant, a_low, a_high, bo, fl, wg, wt, sd, rl, fr, cm, fa))
    (H0 : ¬ (0 ≤ p0.toInt ∧ p0.toInt ≤ 3) → post (-1) (f_edges, f_known, a_from, a_to, a_kind, a_first, a_second, a_constant, a_low, a_high, a_bound, a_filled, a_waiting, a_waits, a_said, a_real, a_fresh, a_coming, a_far)) : wpX_lost post (f_edges, f_known, a_from, a_to, a_kind, a_first, a_second, a_constant, a_low, a_high, a_bound, a_filled, a_waiting, a_waits, a_said, a_real, a_fresh, a_coming, a_far) p0 := by
  unfold wpX_lost
  dsimp only
  refine xg_outN rfl xa_0 (show (3 : Int32).toInt = 3 by decide) (fun a b => br_t rfl ?_) (fun w => br_f (by decide) (H0 w))
  obtain ⟨w, hw, e⟩ := ie_of (x := p0) (n := 3) a (by omega)
  have h1 := H1 w (by omega) e
  subst e
  refine iq_xk Q (fun bo fl wg wt sd rl fr cm fa hX => pk_le w 1 (fun z => ⟨8, xz_45 hX (by omega) (h1 bo fl wg wt sd rl fr cm fa hX) 8 0 (by omega) (by omega)⟩) (fun z => pk_eq w 2 (fun y => ⟨gr_E G + 1, ?_⟩) (fun y => ⟨gr_E G + 1, ?_⟩)))
  · subst y
    refine xz_dead (post := fun r u => match u with | (f_edges, f_known, a_from, a_to, a_kind, a_first, a_second, a_constant, a_low, a_high, a_bound, a_filled, a_waiting, a_waits, a_said, a_real, a_fresh, a_coming, a_far) => post r (f_edges, f_known, a_from, a_to, a_kind, a_first, a_second, a_constant, a_low, a_high, a_bound, a_filled, a_waiting, a_waits, a_said, a_real, a_fresh, a_coming, a_far)) (P := gr_Rc G) Q.1 Q.2.1 (Or.inl ⟨rfl, fun _ => Iff.rfl⟩) (fun bo' hX' => ?_) (gr_E G + 1) 0 bo (by omega) (by omega) hX
    exact h1 bo' fl wg wt sd rl fr cm fa hX'
  · have : w = 3 := by omega
    subst this
    refine xz_dead (post := fun r u => match u with | (f_edges, f_known, a_from, a_to, a_kind, a_first, a_second, a_constant, a_low, a_high, a_bound, a_filled, a_waiting, a_waits, a_said, a_real, a_fresh, a_coming, a_far) => post r (f_edges, f_known, a_from, a_to, a_kind, a_first, a_second, a_constant, a_low, a_high, a_bound, a_filled, a_waiting, a_waits, a_said, a_real, a_fresh, a_coming, a_far)) (P := gr_H G) Q.1 Q.2.1 (Or.inr ⟨rfl, fun _ => Iff.rfl⟩) (fun bo' hX' => ?_) (gr_E G + 1) 0 bo (by omega) (by omega) hX
    exact h1 bo' fl wg wt sd rl fr cm fa hX'
theorem yz_alarms {post : Int32 → Prop} {G : GrP} (hY : ir_Y G a_steps a_held) {p : Nat} (hp : p < 7) (H : post (nI (il_al G p))) : wpY_alarms post (f_edges, f_known, a_from, a_to, a_kind, a_first, a_second, a_number, a_low, a_high, a_steps, a_held, a_bounds) (nI p) := by
  have i1 : (512 * nI p) + 512 = nI (512 * p + 512) := by
    show nI 512 * nI p + nI 512 = _
    rw [pk_mul, nI_add]
  have L : ∀ (n m : Nat), m ≤ 512 → 512 < n + m → wY_alarms_8 post (nI p) f_edges f_known a_from a_to a_kind a_first a_second a_number a_low a_high a_steps a_held a_bounds n (nI (ct_n (fun s => gr_H G (512 * p + s) ∧ ¬ gr_Rc G (512 * p + s)) m)) (nI (512 * p + m)) := by
    intro n
    induction n with
    | zero => intro m h1 h2; omega
    | succ n ih =>
      intro m hm hn
      rw [wY_alarms_8]
      dsimp only
      rw [i1]
      refine pk_le (512 * p + 512) (512 * p + m) (fun q => ?_) (fun q => ⟨vp_in_nI (by omega) (by omega), ?_⟩)
      · have : m = 512 := by omega
        subst this
        exact H
      · rw [nI_clamp (by omega)]
        have hh := (hY.2 (512 * p + m) (by omega)).2
        have hr := yq_Rc hY (k := 512 * p + m) (by omega)
        have h := ih (m + 1) (by omega) (by omega)
        have no : ¬ (gr_H G (512 * p + m) ∧ ¬ gr_Rc G (512 * p + m)) → wY_alarms_8 post (nI p) f_edges f_known a_from a_to a_kind a_first a_second a_number a_low a_high a_steps a_held a_bounds n (nI (ct_n (fun s => gr_H G (512 * p + s) ∧ ¬ gr_Rc G (512 * p + s)) m)) (nI (512 * p + m + 1)) := fun z => by
          have e : ct_n (fun s => gr_H G (512 * p + s) ∧ ¬ gr_Rc G (512 * p + s)) (m + 1) = ct_n (fun s => gr_H G (512 * p + s) ∧ ¬ gr_Rc G (512 * p + s)) m := by
            show _ + ct_b _ = _
            rw [ct_bf z]; rfl
          rw [e] at h
          exact h
        refine br_c (fun w => nm_r (nI_1 _) (no (fun z => hh.mpr z.1 w))) (fun w => ⟨vp_in_nI (by omega) (by omega), ?_⟩)
        rw [nI_clamp (by omega)]
        refine br_c (fun y => br_t rfl (nm_r (nI_1 _) (nm_r (nI_1 _) ?_))) (fun y => br_f (by decide) (nm_r (nI_1 _) (no (fun z => y (hr.mpr z.2)))))
        have e : ct_n (fun s => gr_H G (512 * p + s) ∧ ¬ gr_Rc G (512 * p + s)) (m + 1) = ct_n (fun s => gr_H G (512 * p + s) ∧ ¬ gr_Rc G (512 * p + s)) m + 1 := by
          show _ + ct_b _ = _
          rw [ct_bt ⟨hh.mp w, hr.mp y⟩]
        rw [e] at h
        exact h
  exact nm_r (pk_mul 512 p) ⟨513, L 513 0 (by omega) (by omega)⟩
theorem yz_idle {post : Int32 → Prop} {G : GrP} (hP : xp_P G f_edges a_from a_to a_kind a_first a_second a_low a_high) (hN : xp_C G a_number) (hY : ir_Y G a_steps a_held) {e : Nat} (he : e < gr_E G) {P : Nat → Prop} {x2 : Int32}
    (h2 : (x2 = 1 ∧ ∀ k, P k ↔ gr_Rc G k) ∨ (x2 = 0 ∧ ∀ k, P k ↔ gr_H G k)) (H1 : il_idle G P e → post 1) (H0 : ¬ il_idle G P e → post 0) : wpY_isIdle post (f_edges, f_known, a_from, a_to, a_kind, a_first, a_second, a_number, a_low, a_high, a_steps, a_held, a_bounds) (nI e) x2 := by
  have go := hP.1
  have e20 : e < 20 := Nat.lt_of_lt_of_le he go.1
  have f7 := (go.2.1 e e20).1
  have hF := (hP.2.2.1 e e20).1
  have i1 : ∀ m, (512 * nI (gr_F G e)) + nI m = nI (512 * gr_F G e + m) := fun m => by
    show nI 512 * nI (gr_F G e) + nI m = _
    rw [pk_mul, nI_add]
  have L : ∀ (n m : Nat), m ≤ 512 → 512 < n + m → (∀ s t, s < m → P (512 * gr_F G e + s) → ¬ gr_te G e s t) → wY_isIdle_2 post (nI e) x2 f_edges f_known a_from a_to a_kind a_first a_second a_number a_low a_high a_steps a_held a_bounds n (nI m) := by
    intro n
    induction n with
    | zero => intro m h1 h2; omega
    | succ n ih =>
      intro m hm hn hb
      rw [wY_isIdle_2]
      by_cases e5 : m = 512
      · subst e5
        exact br_t (show (512 : Int32) ≤ nI 512 by decide) (H1 (fun ⟨s, t, hs, hp, ht⟩ => hb s t hs hp ht))
      · have m5 : m < 512 := by omega
        have c5 : 512 * gr_F G e + m < 3584 := by omega
        have no : ¬ P (512 * gr_F G e + m) → wY_isIdle_2 post (nI e) x2 f_edges f_known a_from a_to a_kind a_first a_second a_number a_low a_high a_steps a_held a_bounds n (nI (m + 1)) := fun z => ih (m + 1) (by omega) (by omega) (fun s t hs hp => by
          by_cases y : s = m
          · subst y; exact absurd hp z
          · exact hb s t (by omega) hp)
        have yes : P (512 * gr_F G e + m) → wY_isIdle_49 post (wY_isIdle_2 post (nI e) x2 f_edges f_known a_from a_to a_kind a_first a_second a_number a_low a_high a_steps a_held a_bounds n) (nI e) x2 (nI m) f_edges f_known a_from a_to a_kind a_first a_second a_number a_low a_high a_steps a_held a_bounds := fun z => by
          unfold wY_isIdle_49
          refine yr_result (j := 0) hP hN he m5 (by omega) (fun t ht te _ _ => br_f (nI_pos (by omega)) (H0 (fun w => w ⟨m, t, m5, z, te⟩))) (fun nt => br_t (by decide) (nm_r (nI_1 m) (ih (m + 1) (by omega) (by omega) (fun s t hs hp => ?_))))
          by_cases y : s = m
          · subst y; exact nt t
          · exact hb s t (by omega) hp
        refine br_f (nI_ge (b := 512) (by omega) (by omega)) ⟨vp_in_nI e20 (by omega), nm_r (e' := nI (512 * gr_F G e + m)) (by rw [nI_clamp (by omega), hF, i1 m]) ?_⟩
        rcases h2 with ⟨rfl, hP2⟩ | ⟨rfl, hP2⟩
        · refine br_f (by decide) ⟨vp_in_nI c5 (by omega), ?_⟩
          rw [nI_clamp (by omega)]
          have hr := yq_Rc hY c5
          exact br_c (fun w => br_t rfl (nm_r (nI_1 m) (no (fun z => hr.mp w ((hP2 _).mp z))))) (fun w => br_f (by decide) (yes ((hP2 _).mpr (Classical.byContradiction (fun z => w (hr.mpr z))))))
        · refine br_t rfl ⟨vp_in_nI c5 (by omega), ?_⟩
          rw [nI_clamp (by omega)]
          have hh := (hY.2 _ c5).2
          exact br_c (fun w => nm_r (nI_1 m) (no (fun z => hh.mpr ((hP2 _).mp z) w))) (fun w => yes ((hP2 _).mpr (hh.mp w)))
  exact ⟨513, L 513 0 (by omega) (by omega) (fun s t hs => absurd hs (Nat.not_lt_zero s))⟩
theorem yz_67 {post : Int32 → SY → Prop} {G : GrP} (hP : xp_P G f_edges a_from a_to a_kind a_first a_second a_low a_high) (hN : xp_C G a_number) (hY : ir_Y G a_steps a_held) {w : Nat} (hw : w < 4) (H : post (il_ans G w) (f_edges, f_known, a_from, a_to, a_kind, a_first, a_second, a_number, a_low, a_high, a_steps, a_held, a_bounds)) :
    ∀ (n m : Nat), m ≤ gr_E G → gr_E G < n + m → wY_lost_67 post (nI w) (nI (il_sm G 7)) (nI (il_bs G 7)) f_edges f_known a_from a_to a_kind a_first a_second a_number a_low a_high a_steps a_held a_bounds n (nI (if w = 2 then il_id G (gr_Rc G) m else il_id G (gr_H G) m)) (nI m) := by
  have E20 := hP.1.1
  intro n
  induction n with
  | zero => intro m h1 h2; omega
  | succ n ih =>
    intro m hm hn
    rw [wY_lost_67]
    refine pk_le (gr_E G) m (fun q => ?_) (fun q => ?_) hP.2.1 rfl
    · have : m = gr_E G := by omega
      subst this
      refine pk_eq w 0 (fun z => ?_) (fun z => pk_eq w 1 (fun y => ?_) (fun y => ?_))
      · subst z; exact H
      · subst y; exact H
      · unfold il_ans at H
        rw [if_neg z, if_neg y] at H
        by_cases x : w = 2
        · rw [if_pos x]; rw [if_pos x] at H; exact H
        · rw [if_neg x]; rw [if_neg x] at H; exact H
    · have h := ih (m + 1) (by omega) (by omega)
      refine pk_eq w 2 (fun z => ?_) (fun z => ?_)
      · rw [if_pos z] at h ⊢
        unfold wY_lost_89
        refine yz_idle (P := gr_Rc G) hP hN hY q (Or.inl ⟨rfl, fun _ => Iff.rfl⟩) (fun y => br_f (by decide) (nm_r (nI_1 _) (nm_r (nI_1 m) ?_))) (fun y => br_t rfl (nm_r (nI_1 m) ?_))
        · have e : il_id G (gr_Rc G) (m + 1) = il_id G (gr_Rc G) m + 1 := by
            show ct_n _ m + ct_b _ = _
            rw [ct_bt y]; rfl
          rw [e] at h; exact h
        · have e : il_id G (gr_Rc G) (m + 1) = il_id G (gr_Rc G) m := by
            show ct_n _ m + ct_b _ = _
            rw [ct_bf y]; rfl
          rw [e] at h; exact h
      · rw [if_neg z] at h ⊢
        unfold wY_lost_89
        refine yz_idle (P := gr_H G) hP hN hY q (Or.inr ⟨rfl, fun _ => Iff.rfl⟩) (fun y => br_f (by decide) (nm_r (nI_1 _) (nm_r (nI_1 m) ?_))) (fun y => br_t rfl (nm_r (nI_1 m) ?_))
        · have e : il_id G (gr_H G) (m + 1) = il_id G (gr_H G) m + 1 := by
            show ct_n _ m + ct_b _ = _
            rw [ct_bt y]; rfl
          rw [e] at h; exact h
        · have e : il_id G (gr_H G) (m + 1) = il_id G (gr_H G) m := by
            show ct_n _ m + ct_b _ = _
            rw [ct_bf y]; rfl
          rw [e] at h; exact h
theorem yz_22 {post : Int32 → SY → Prop} {G : GrP} (hP : xp_P G f_edges a_from a_to a_kind a_first a_second a_low a_high) (hN : xp_C G a_number) (hY : ir_Y G a_steps a_held) {w : Nat} (hw : w < 4) (H : post (il_ans G w) (f_edges, f_known, a_from, a_to, a_kind, a_first, a_second, a_number, a_low, a_high, a_steps, a_held, a_bounds)) :
    ∀ (n m : Nat), m ≤ 7 → 7 < n + m → wY_lost_22 post (nI w) f_edges f_known a_from a_to a_kind a_first a_second a_number a_low a_high a_steps a_held a_bounds n (nI (il_sm G m)) (nI (il_bs G m)) (nI m) := by
  intro n
  induction n with
  | zero => intro m h1 h2; omega
  | succ n ih =>
    intro m hm hn
    rw [wY_lost_22]
    by_cases e : m = 7
    · subst e
      refine br_t (show (7 : Int32) ≤ nI 7 by decide) ⟨gr_E G + 1, ?_⟩
      have := yz_67 hP hN hY hw H (gr_E G + 1) 0 (by omega) (by omega)
      have e0 : (if w = 2 then il_id G (gr_Rc G) 0 else il_id G (gr_H G) 0) = 0 := by
        by_cases z : w = 2
        · rw [if_pos z]; rfl
        · rw [if_neg z]; rfl
      rw [e0] at this
      exact this
    · have bl := il_bs_lt G m (by omega)
      have a1 := il_al_le G m
      have a2 := il_al_le G (il_bs G m)
      have h := ih (m + 1) (by omega) (by omega)
      refine br_f (nI_ge (b := 7) (by omega) (by omega)) (yz_alarms hY (by omega) (nm_r (nI_add _ _) (yz_alarms hY bl (pk_le (il_al G m) (il_al G (il_bs G m)) (fun z => nm_r (nI_1 m) ?_) (fun z => nm_r (nI_1 m) ?_)))))
      · have e2 : il_bs G (m + 1) = il_bs G m := if_neg (by omega)
        rw [e2] at h
        exact h
      · have e2 : il_bs G (m + 1) = m := if_pos z
        rw [e2] at h
        exact h
end
theorem i_vc_lost {k : Nat} {u : SX} {v : SY} (I : i_Rel k u v) (hk : k + 7 ≤ 3584) (v1 : Int32) : wpX_lost (fun r u' => wpY_lost (fun r' v' => r' = r ∧ i_Rel (k + 7) u' v') v v1) u v1 := by
  refine ir_el (P := fun u v => wpX_lost (fun r u' => wpY_lost (fun r' v' => r' = r ∧ i_Rel (k + 7) u' v') v v1) u v1) ?_ I
  intro f_edges f_known a_from a_to a_kind a_first a_second a_constant a_low a_high a_bound a_filled a_waiting a_waits a_said a_real a_fresh a_coming a_far a_number a_steps a_held a_bounds G F0
  have e3 : (3 : Int32).toInt = 3 := by decide
  refine xz_lost (iq_sx F0) (fun w hw e bo fl wg wt sd rl fr cm fa hX => ?_) (fun w => ?_)
  · subst e
    unfold wpY_lost
    dsimp only
    refine yw_inN (xa_nI (n := w) (by omega)) xa_0 e3 (fun _ _ => br_f (by decide) (iq_yk (iq_sy F0) (fun st hd bd hY => ?_))) (fun y => absurd ⟨by omega, by omega⟩ y)
    exact ⟨8, yz_22 F0.1 F0.2.2.1 hY hw ⟨rfl, iq_join F0 hX hY⟩ 8 0 (by omega) (by omega)⟩
  · unfold wpY_lost
    dsimp only
    exact yw_inN rfl xa_0 e3 (fun a b => absurd ⟨a, b⟩ w) (fun _ => br_t rfl ⟨rfl, ir_in F0⟩)
end
