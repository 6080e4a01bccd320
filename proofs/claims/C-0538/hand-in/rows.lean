section
/-! pure rows to paste: stores, nI and lN arithmetic, masks, shifts, narrowing, branches by naturals (pk_le, pk_lt, pk_eq), loops (lp1 .. lp16: the measure of the state; rp1 ..: recursion), negatives. Take what you need -/
theorem pk_us {f : Nat → Int32} {k : Nat} {x : Int32} : upd f k x k = x := if_pos rfl
theorem pk_un {f : Nat → Int32} {k j : Nat} {x : Int32} (h : j ≠ k) : upd f k x j = f j := if_neg h
theorem pk_uLs {f : Nat → Int64} {k : Nat} {x : Int64} : vp_updL f k x k = x := if_pos rfl
theorem pk_uLn {f : Nat → Int64} {k j : Nat} {x : Int64} (h : j ≠ k) : vp_updL f k x j = f j := if_neg h
theorem pk_sub {a b : Nat} (h : b ≤ a) : nI a - nI b = nI (a - b) := by
  obtain ⟨c, rfl⟩ : ∃ c, a = c + b := ⟨a - b, by omega⟩
  rw [← nI_add, Int32.add_sub_cancel, Nat.add_sub_cancel]
theorem pk_m1 (n : Nat) : nI (n + 1) + (-1) = nI n := by
  rw [← nI_1, Int32.add_assoc, show (1 : Int32) + (-1) = 0 from rfl, Int32.add_zero]
theorem pk_mul (a b : Nat) : nI a * nI b = nI (a * b) := (Int32.ofNat_mul a b).symm
theorem pk_div {a d : Nat} (ha : a < 2 ^ 31) (h0 : 0 < d) (hd : d < 2 ^ 31) : nI a / nI d = nI (a / d) := by
  apply Int32.toInt_inj.mp
  rw [lg_idiv_nonneg (by rw [nI_toInt ha]; omega) (by rw [nI_toInt hd]; omega), nI_toInt ha, nI_toInt hd, nI_toInt (Nat.lt_of_le_of_lt (Nat.div_le_self a d) ha)]
  first | rfl | exact (Int.natCast_ediv _ _).symm
theorem pk_rem {a d : Nat} (ha : a < 2 ^ 31) (h0 : 0 < d) (hd : d < 2 ^ 31) : nI a - nI a / nI d * nI d = nI (a % d) := by
  rw [pk_div ha h0 hd, pk_mul, pk_sub (Nat.div_mul_le_self a d)]
  exact congrArg nI (by have := Nat.div_add_mod' a d; omega)
theorem pk_sub_toInt {a b : Nat} (ha : a < 2 ^ 30) (hb : b < 2 ^ 30) : (nI a - nI b).toInt = (a : Int) - b := by
  rw [Int32.toInt_sub, nI_toInt (by omega), nI_toInt (by omega)]
  exact Int.bmod_eq_of_le (by omega) (by omega)
theorem pk_sneg {a b : Nat} (hb : b < 2 ^ 30) (h : a < b) : nI a - nI b < 0 := by
  rw [Int32.lt_iff_toInt_lt, pk_sub_toInt (by omega) hb, show (0 : Int32).toInt = 0 from by decide]
  omega
theorem pk_ix (x : Int32) {n : Nat} (hn : n < 2 ^ 31) : x < 0 ∨ nI n ≤ x ∨ ∃ j : Nat, j < n ∧ x = nI j := by
  by_cases h : x < 0
  · exact Or.inl h
  · obtain ⟨j, hj, rfl⟩ := nI_of h
    by_cases h2 : j < n
    · exact Or.inr (Or.inr ⟨j, h2, rfl⟩)
    · exact Or.inr (Or.inl (nI_le (by omega) hj))
theorem pk_le {x y : Int32} {A B : Prop} (a b : Nat) (f : a ≤ b → A) (g : b < a → B) (hx : x = nI a := by rfl) (hy : y = nI b := by rfl) (ha : a < 2 ^ 31 := by omega) (hb : b < 2 ^ 31 := by omega) : (x ≤ y → A) ∧ (¬ x ≤ y → B) := by
  subst hx hy
  rw [nI_leI ha hb]
  exact ⟨f, fun z => g (by omega)⟩
theorem pk_lt {x y : Int32} {A B : Prop} (a b : Nat) (f : a < b → A) (g : b ≤ a → B) (hx : x = nI a := by rfl) (hy : y = nI b := by rfl) (ha : a < 2 ^ 31 := by omega) (hb : b < 2 ^ 31 := by omega) : (x < y → A) ∧ (¬ x < y → B) := by
  subst hx hy
  rw [nI_ltI ha hb]
  exact ⟨f, fun z => g (by omega)⟩
theorem pk_eq {x y : Int32} {A B : Prop} (a b : Nat) (f : a = b → A) (g : a ≠ b → B) (hx : x = nI a := by rfl) (hy : y = nI b := by rfl) (ha : a < 2 ^ 31 := by omega) (hb : b < 2 ^ 31 := by omega) : (x = y → A) ∧ (¬ x = y → B) := by
  subst hx hy
  rw [nI_eq ha hb]
  exact ⟨f, g⟩
theorem pk_in {x : Int32} (n N : Nat) (h : n < N) (hx : x = nI n := by rfl) (hN : N < 2 ^ 31 := by omega) : vp_in x N := by
  subst hx
  exact vp_in_nI h hN
theorem pk_cl {x : Int32} (n : Nat) (hx : x = nI n := by rfl) (h : n < 2 ^ 31 := by omega) : x.toNatClampNeg = n := by
  subst hx
  exact nI_clamp h
theorem pk_tn {n : Nat} (h : n < 2 ^ 32) : (nI n).toBitVec.toNat = n := Nat.mod_eq_of_lt h
theorem pk_and (x : Int32) {m : Int32} (k : Nat) (hm : m.toBitVec.toNat = 2 ^ k - 1) : x &&& m = nI (x.toBitVec.toNat % 2 ^ k) := by
  apply Int32.toBitVec_inj.mp
  apply BitVec.eq_of_toNat_eq
  rw [Int32.toBitVec_and, BitVec.toNat_and, hm, Nat.and_two_pow_sub_one_eq_mod]
  show _ = (BitVec.ofNat 32 _).toNat
  rw [BitVec.toNat_ofNat]
  exact (Nat.mod_eq_of_lt (Nat.lt_of_le_of_lt (Nat.mod_le _ _) x.toBitVec.isLt)).symm
theorem pk_andN {n : Nat} (h : n < 2 ^ 32) {m : Int32} (k : Nat) (hm : m.toBitVec.toNat = 2 ^ k - 1) : nI n &&& m = nI (n % 2 ^ k) := by
  rw [pk_and _ k hm, pk_tn h]
theorem pk_andE (x : Int32) {m : Int32} (k : Nat) (hm : m.toBitVec.toNat = 2 ^ k - 1) : ∃ j : Nat, j < 2 ^ k ∧ x &&& m = nI j := ⟨_, Nat.mod_lt _ (Nat.two_pow_pos k), pk_and x k hm⟩
theorem pk_andIn (x : Int32) {m : Int32} (k : Nat) (hm : m.toBitVec.toNat = 2 ^ k - 1) (hk : k ≤ 30) : vp_in (x &&& m) (2 ^ k) := by
  obtain ⟨j, hj, e⟩ := pk_andE x k hm
  rw [e]
  exact vp_in_nI hj (Nat.lt_of_le_of_lt (Nat.pow_le_pow_right (by decide) hk) (by decide))
theorem pk_shl (a s : Int32) (k : Nat) (hs : (s.toBitVec.smod 32).toNat = k) : (a <<< s).toBitVec.toNat = a.toBitVec.toNat * 2 ^ k % 2 ^ 32 := by
  show (a.toBitVec <<< (s.toBitVec.smod 32).toNat).toNat = _
  rw [hs, BitVec.toNat_shiftLeft, Nat.shiftLeft_eq]
theorem pk_shlN {n : Nat} (s : Int32) (k : Nat) (hs : (s.toBitVec.smod 32).toNat = k) (h : n * 2 ^ k < 2 ^ 32) : nI n <<< s = nI (n * 2 ^ k) := by
  apply Int32.toBitVec_inj.mp
  apply BitVec.eq_of_toNat_eq
  have hn : n < 2 ^ 32 := Nat.lt_of_le_of_lt (Nat.le_mul_of_pos_right n (Nat.two_pow_pos k)) h
  rw [pk_shl _ _ k hs, pk_tn hn, pk_tn h, Nat.mod_eq_of_lt h]
theorem pk_shr (a s : Int32) (k : Nat) (hs : (s.toBitVec.smod 32).toNat = k) : (a >>> s).toInt = a.toInt >>> k := by
  show (a.toBitVec.sshiftRight (s.toBitVec.smod 32).toNat).toInt = _
  rw [hs, BitVec.toInt_sshiftRight]
  rfl
theorem pk_shrN {n : Nat} (h : n < 2 ^ 31) (s : Int32) (k : Nat) (hs : (s.toBitVec.smod 32).toNat = k) : nI n >>> s = nI (n / 2 ^ k) := by
  apply Int32.toInt_inj.mp
  have h2 : n / 2 ^ k ≤ n := Nat.div_le_self _ _
  rw [pk_shr _ _ k hs, nI_toInt h, nI_toInt (by omega), Int.shiftRight_eq_div_pow]
  rfl
theorem pk_ushr (x s : Int32) (k : Nat) (hs : ((s.toUInt32 &&& Int32.toUInt32 31).toBitVec % 32).toNat = k) : (x.toUInt32 >>> (s.toUInt32 &&& Int32.toUInt32 31)).toInt32.toBitVec.toNat = x.toBitVec.toNat / 2 ^ k := by
  have e : (x.toUInt32 >>> (s.toUInt32 &&& Int32.toUInt32 31)).toInt32.toBitVec = x.toBitVec >>> k := by
    rw [← hs]
    exact UInt32.toBitVec_shiftRight _ _
  rw [e, BitVec.toNat_ushiftRight, Nat.shiftRight_eq_div_pow]
theorem pk_ushrN {n : Nat} (hn : n < 2 ^ 32) (s : Int32) (k : Nat) (hs : ((s.toUInt32 &&& Int32.toUInt32 31).toBitVec % 32).toNat = k) : ((nI n).toUInt32 >>> (s.toUInt32 &&& Int32.toUInt32 31)).toInt32 = nI (n / 2 ^ k) := by
  apply Int32.toBitVec_inj.mp
  apply BitVec.eq_of_toNat_eq
  rw [pk_ushr _ s k hs, pk_tn hn, pk_tn (Nat.lt_of_le_of_lt (Nat.div_le_self _ _) hn)]
theorem pk_nb (z : Int32) : narrow .byte (.int z.toInt8.toInt32) = .int z.toInt8.toInt32 := congrArg Value.int (by simp)
theorem pk_ns (z : Int32) : narrow .short (.int z.toInt16.toInt32) = .int z.toInt16.toInt32 := congrArg Value.int (by simp)
theorem pk_fb (r : Int32) : fits .byte (.int r.toInt8.toInt32) = true := by
  have ⟨a, b⟩ := lg_i2b_range r
  have h1 : (-128 : Int32).toInt = -128 := by decide
  have h2 : (127 : Int32).toInt = 127 := by decide
  simp only [fits, Bool.and_eq_true, decide_eq_true_eq, Int32.le_iff_toInt_le, h1, h2]
  omega
theorem pk_fs (r : Int32) : fits .short (.int r.toInt16.toInt32) = true := by
  have ⟨a, b⟩ := lg_i2s_range r
  have h1 : (-32768 : Int32).toInt = -32768 := by decide
  have h2 : (32767 : Int32).toInt = 32767 := by decide
  simp only [fits, Bool.and_eq_true, decide_eq_true_eq, Int32.le_iff_toInt_le, h1, h2]
  omega
theorem pk_charN {q : Nat} (hq : q < 65536) : narrow .char (.int (nI q)) = .int (nI q) ∧ fits .char (.int (nI q)) = true := by
  constructor
  · have e : (nI q).toUInt32.toUInt16.toUInt32.toInt32 = nI q := by
      apply Int32.toBitVec_inj.mp
      apply BitVec.eq_of_toNat_eq
      show (nI q).toUInt32.toUInt16.toUInt32.toNat = q % 2 ^ 32
      rw [UInt16.toNat_toUInt32, UInt32.toNat_toUInt16, show (nI q).toUInt32.toNat = q % 2 ^ 32 from rfl]
      omega
    exact congrArg Value.int e
  · have a : (0 : Int32) ≤ nI q := nI_pos' (by omega)
    have b : nI q ≤ 65535 := nI_le (b := 65535) (by omega) (by decide)
    show (decide ((0 : Int32) ≤ nI q) && decide (nI q ≤ 65535)) = true
    rw [decide_eq_true a, decide_eq_true b]
    rfl
theorem pk_char (x : Int32) : (x.toUInt32 % 65536).toInt32 = nI (x.toBitVec.toNat % 65536) := by
  apply Int32.toBitVec_inj.mp
  apply BitVec.eq_of_toNat_eq
  rw [pk_tn (by omega)]
  show (x.toUInt32 % 65536).toNat = _
  rw [UInt32.toNat_mod]
  rfl
theorem pk_nc (x : Int32) : narrow .char (.int (x.toUInt32 % 65536).toInt32) = .int (x.toUInt32 % 65536).toInt32 := by
  rw [pk_char]
  exact (pk_charN (Nat.mod_lt _ (by decide))).1
theorem pk_fc (x : Int32) : fits .char (.int (x.toUInt32 % 65536).toInt32) = true := by
  rw [pk_char]
  exact (pk_charN (Nat.mod_lt _ (by decide))).2
theorem pk_vb (z : Int32) : vp_nar .byte z.toInt8.toInt32 = z.toInt8.toInt32 := by rw [vp_nar_byte]; simp
theorem pk_vs (z : Int32) : vp_nar .short z.toInt16.toInt32 = z.toInt16.toInt32 := by rw [vp_nar_short]; simp
theorem pk_vc (z : Int32) : vp_nar .char (z.toUInt32 % 65536).toInt32 = (z.toUInt32 % 65536).toInt32 := Value.int.inj (pk_nc z)
theorem pk_lT {n : Nat} (h : n < 2 ^ 63) : (lN n).toInt = (n : Int) := lg_ofNat_toInt h
theorem pk_lLT {a b : Nat} (ha : a < 2 ^ 63) (hb : b < 2 ^ 63) : lN a < lN b ↔ a < b := by
  rw [Int64.lt_iff_toInt_lt, pk_lT ha, pk_lT hb]; omega
theorem pk_lLE {a b : Nat} (ha : a < 2 ^ 63) (hb : b < 2 ^ 63) : lN a ≤ lN b ↔ a ≤ b := by
  rw [Int64.le_iff_toInt_le, pk_lT ha, pk_lT hb]; omega
theorem pk_lEQ {a b : Nat} (ha : a < 2 ^ 63) (hb : b < 2 ^ 63) : lN a = lN b ↔ a = b := by
  rw [← Int64.toInt_inj, pk_lT ha, pk_lT hb]; omega
theorem pk_lOf {x : Int64} (h : ¬ x < 0) : ∃ k : Nat, k < 2 ^ 63 ∧ x = lN k := by
  rw [Int64.lt_iff_toInt_lt] at h
  have h0 : (0 : Int64).toInt = 0 := by decide
  have hx := Int64.toInt_lt x
  refine ⟨x.toInt.toNat, by omega, Int64.toInt_inj.mp ?_⟩
  rw [pk_lT (by omega)]
  omega
theorem pk_lDiv {a b : Nat} (ha : a < 2 ^ 63) (h0 : 0 < b) (hb : b < 2 ^ 63) : lN a / lN b = lN (a / b) := by
  apply Int64.toInt_inj.mp
  rw [lg_ldiv_nonneg (by rw [pk_lT ha]; omega) (by rw [pk_lT hb]; omega), pk_lT ha, pk_lT hb, pk_lT (Nat.lt_of_le_of_lt (Nat.div_le_self a b) ha)]
  rfl
theorem pk_lRem {a b : Nat} (ha : a < 2 ^ 63) (h0 : 0 < b) (hb : b < 2 ^ 63) : lN a - lN a / lN b * lN b = lN (a % b) := by
  rw [pk_lDiv ha h0 hb, lN_mul, lN_sub (Nat.div_mul_le_self a b)]
  exact congrArg lN (by have := Nat.div_add_mod' a b; omega)
theorem pk_loop {σ : Type} (W : Nat → Nat → σ → Prop) (I : Nat → σ → Prop) (e i0 : Nat) (s : σ) (hi : i0 ≤ e) (h0 : I i0 s) (hx : ∀ n s, I e s → W (n + 1) e s)
    (hs : ∀ n i s, i < e → I i s → (∀ s', I (i + 1) s' → W n (i + 1) s') → W (n + 1) i s) : ∃ n, W n i0 s :=
  ⟨e + 1, loop_i W I e hx hs (e + 1) i0 s hi (by omega) h0⟩
theorem pk_loopD {σ : Type} (W : Nat → Nat → σ → Prop) (I : Nat → σ → Prop) (hx : ∀ n s, I 0 s → W (n + 1) 0 s)
    (hs : ∀ n i s, I (i + 1) s → (∀ s', I i s' → W n i s') → W (n + 1) (i + 1) s) : ∀ (e : Nat) (s : σ), I e s → W (e + 1) e s := by
  intro e
  induction e with
  | zero => exact fun s h => hx 0 s h
  | succ e ih => exact fun s h => hs (e + 1) e s h (fun s' h' => ih s' h')
theorem lp1 {A1 : Type} (W : Nat → A1 → Prop) (I : A1 → Prop) (μ : A1 → Nat) (hs : ∀ (n : Nat) (a1 : A1), I a1 → (∀ (b1 : A1), I b1 → μ b1 < μ a1 → W n b1) → W (n + 1) a1) (a1 : A1) (h : I a1) : ∃ n, W n a1 :=
  loop_m (σ := A1) (fun n s => W n s) (fun s => I s) (fun s => μ s) (fun n s hI hk => hs n s hI (fun b1 h9 hm => hk b1 h9 hm)) a1 h
theorem lp2 {A1 A2 : Type} (W : Nat → A1 → A2 → Prop) (I : A1 → A2 → Prop) (μ : A1 → A2 → Nat) (hs : ∀ (n : Nat) (a1 : A1) (a2 : A2), I a1 a2 → (∀ (b1 : A1) (b2 : A2), I b1 b2 → μ b1 b2 < μ a1 a2 → W n b1 b2) → W (n + 1) a1 a2) (a1 : A1) (a2 : A2) (h : I a1 a2) : ∃ n, W n a1 a2 :=
  loop_m (σ := A1 × A2) (fun n s => W n s.1 s.2) (fun s => I s.1 s.2) (fun s => μ s.1 s.2) (fun n s hI hk => hs n s.1 s.2 hI (fun b1 b2 h9 hm => hk (b1, b2) h9 hm)) (a1, a2) h
theorem lp3 {A1 A2 A3 : Type} (W : Nat → A1 → A2 → A3 → Prop) (I : A1 → A2 → A3 → Prop) (μ : A1 → A2 → A3 → Nat) (hs : ∀ (n : Nat) (a1 : A1) (a2 : A2) (a3 : A3), I a1 a2 a3 → (∀ (b1 : A1) (b2 : A2) (b3 : A3), I b1 b2 b3 → μ b1 b2 b3 < μ a1 a2 a3 → W n b1 b2 b3) → W (n + 1) a1 a2 a3) (a1 : A1) (a2 : A2) (a3 : A3) (h : I a1 a2 a3) : ∃ n, W n a1 a2 a3 :=
  loop_m (σ := A1 × A2 × A3) (fun n s => W n s.1 s.2.1 s.2.2) (fun s => I s.1 s.2.1 s.2.2) (fun s => μ s.1 s.2.1 s.2.2) (fun n s hI hk => hs n s.1 s.2.1 s.2.2 hI (fun b1 b2 b3 h9 hm => hk (b1, b2, b3) h9 hm)) (a1, a2, a3) h
theorem lp4 {A1 A2 A3 A4 : Type} (W : Nat → A1 → A2 → A3 → A4 → Prop) (I : A1 → A2 → A3 → A4 → Prop) (μ : A1 → A2 → A3 → A4 → Nat) (hs : ∀ (n : Nat) (a1 : A1) (a2 : A2) (a3 : A3) (a4 : A4), I a1 a2 a3 a4 → (∀ (b1 : A1) (b2 : A2) (b3 : A3) (b4 : A4), I b1 b2 b3 b4 → μ b1 b2 b3 b4 < μ a1 a2 a3 a4 → W n b1 b2 b3 b4) → W (n + 1) a1 a2 a3 a4) (a1 : A1) (a2 : A2) (a3 : A3) (a4 : A4) (h : I a1 a2 a3 a4) : ∃ n, W n a1 a2 a3 a4 :=
  loop_m (σ := A1 × A2 × A3 × A4) (fun n s => W n s.1 s.2.1 s.2.2.1 s.2.2.2) (fun s => I s.1 s.2.1 s.2.2.1 s.2.2.2) (fun s => μ s.1 s.2.1 s.2.2.1 s.2.2.2) (fun n s hI hk => hs n s.1 s.2.1 s.2.2.1 s.2.2.2 hI (fun b1 b2 b3 b4 h9 hm => hk (b1, b2, b3, b4) h9 hm)) (a1, a2, a3, a4) h
theorem lp5 {A1 A2 A3 A4 A5 : Type} (W : Nat → A1 → A2 → A3 → A4 → A5 → Prop) (I : A1 → A2 → A3 → A4 → A5 → Prop) (μ : A1 → A2 → A3 → A4 → A5 → Nat) (hs : ∀ (n : Nat) (a1 : A1) (a2 : A2) (a3 : A3) (a4 : A4) (a5 : A5), I a1 a2 a3 a4 a5 → (∀ (b1 : A1) (b2 : A2) (b3 : A3) (b4 : A4) (b5 : A5), I b1 b2 b3 b4 b5 → μ b1 b2 b3 b4 b5 < μ a1 a2 a3 a4 a5 → W n b1 b2 b3 b4 b5) → W (n + 1) a1 a2 a3 a4 a5) (a1 : A1) (a2 : A2) (a3 : A3) (a4 : A4) (a5 : A5) (h : I a1 a2 a3 a4 a5) : ∃ n, W n a1 a2 a3 a4 a5 :=
  loop_m (σ := A1 × A2 × A3 × A4 × A5) (fun n s => W n s.1 s.2.1 s.2.2.1 s.2.2.2.1 s.2.2.2.2) (fun s => I s.1 s.2.1 s.2.2.1 s.2.2.2.1 s.2.2.2.2) (fun s => μ s.1 s.2.1 s.2.2.1 s.2.2.2.1 s.2.2.2.2) (fun n s hI hk => hs n s.1 s.2.1 s.2.2.1 s.2.2.2.1 s.2.2.2.2 hI (fun b1 b2 b3 b4 b5 h9 hm => hk (b1, b2, b3, b4, b5) h9 hm)) (a1, a2, a3, a4, a5) h
theorem lp6 {A1 A2 A3 A4 A5 A6 : Type} (W : Nat → A1 → A2 → A3 → A4 → A5 → A6 → Prop) (I : A1 → A2 → A3 → A4 → A5 → A6 → Prop) (μ : A1 → A2 → A3 → A4 → A5 → A6 → Nat) (hs : ∀ (n : Nat) (a1 : A1) (a2 : A2) (a3 : A3) (a4 : A4) (a5 : A5) (a6 : A6), I a1 a2 a3 a4 a5 a6 → (∀ (b1 : A1) (b2 : A2) (b3 : A3) (b4 : A4) (b5 : A5) (b6 : A6), I b1 b2 b3 b4 b5 b6 → μ b1 b2 b3 b4 b5 b6 < μ a1 a2 a3 a4 a5 a6 → W n b1 b2 b3 b4 b5 b6) → W (n + 1) a1 a2 a3 a4 a5 a6) (a1 : A1) (a2 : A2) (a3 : A3) (a4 : A4) (a5 : A5) (a6 : A6) (h : I a1 a2 a3 a4 a5 a6) : ∃ n, W n a1 a2 a3 a4 a5 a6 :=
  loop_m (σ := A1 × A2 × A3 × A4 × A5 × A6) (fun n s => W n s.1 s.2.1 s.2.2.1 s.2.2.2.1 s.2.2.2.2.1 s.2.2.2.2.2) (fun s => I s.1 s.2.1 s.2.2.1 s.2.2.2.1 s.2.2.2.2.1 s.2.2.2.2.2) (fun s => μ s.1 s.2.1 s.2.2.1 s.2.2.2.1 s.2.2.2.2.1 s.2.2.2.2.2) (fun n s hI hk => hs n s.1 s.2.1 s.2.2.1 s.2.2.2.1 s.2.2.2.2.1 s.2.2.2.2.2 hI (fun b1 b2 b3 b4 b5 b6 h9 hm => hk (b1, b2, b3, b4, b5, b6) h9 hm)) (a1, a2, a3, a4, a5, a6) h
theorem lp7 {A1 A2 A3 A4 A5 A6 A7 : Type} (W : Nat → A1 → A2 → A3 → A4 → A5 → A6 → A7 → Prop) (I : A1 → A2 → A3 → A4 → A5 → A6 → A7 → Prop) (μ : A1 → A2 → A3 → A4 → A5 → A6 → A7 → Nat) (hs : ∀ (n : Nat) (a1 : A1) (a2 : A2) (a3 : A3) (a4 : A4) (a5 : A5) (a6 : A6) (a7 : A7), I a1 a2 a3 a4 a5 a6 a7 → (∀ (b1 : A1) (b2 : A2) (b3 : A3) (b4 : A4) (b5 : A5) (b6 : A6) (b7 : A7), I b1 b2 b3 b4 b5 b6 b7 → μ b1 b2 b3 b4 b5 b6 b7 < μ a1 a2 a3 a4 a5 a6 a7 → W n b1 b2 b3 b4 b5 b6 b7) → W (n + 1) a1 a2 a3 a4 a5 a6 a7) (a1 : A1) (a2 : A2) (a3 : A3) (a4 : A4) (a5 : A5) (a6 : A6) (a7 : A7) (h : I a1 a2 a3 a4 a5 a6 a7) : ∃ n, W n a1 a2 a3 a4 a5 a6 a7 :=
  loop_m (σ := A1 × A2 × A3 × A4 × A5 × A6 × A7) (fun n s => W n s.1 s.2.1 s.2.2.1 s.2.2.2.1 s.2.2.2.2.1 s.2.2.2.2.2.1 s.2.2.2.2.2.2) (fun s => I s.1 s.2.1 s.2.2.1 s.2.2.2.1 s.2.2.2.2.1 s.2.2.2.2.2.1 s.2.2.2.2.2.2) (fun s => μ s.1 s.2.1 s.2.2.1 s.2.2.2.1 s.2.2.2.2.1 s.2.2.2.2.2.1 s.2.2.2.2.2.2) (fun n s hI hk => hs n s.1 s.2.1 s.2.2.1 s.2.2.2.1 s.2.2.2.2.1 s.2.2.2.2.2.1 s.2.2.2.2.2.2 hI (fun b1 b2 b3 b4 b5 b6 b7 h9 hm => hk (b1, b2, b3, b4, b5, b6, b7) h9 hm)) (a1, a2, a3, a4, a5, a6, a7) h
theorem lp8 {A1 A2 A3 A4 A5 A6 A7 A8 : Type} (W : Nat → A1 → A2 → A3 → A4 → A5 → A6 → A7 → A8 → Prop) (I : A1 → A2 → A3 → A4 → A5 → A6 → A7 → A8 → Prop) (μ : A1 → A2 → A3 → A4 → A5 → A6 → A7 → A8 → Nat) (hs : ∀ (n : Nat) (a1 : A1) (a2 : A2) (a3 : A3) (a4 : A4) (a5 : A5) (a6 : A6) (a7 : A7) (a8 : A8), I a1 a2 a3 a4 a5 a6 a7 a8 → (∀ (b1 : A1) (b2 : A2) (b3 : A3) (b4 : A4) (b5 : A5) (b6 : A6) (b7 : A7) (b8 : A8), I b1 b2 b3 b4 b5 b6 b7 b8 → μ b1 b2 b3 b4 b5 b6 b7 b8 < μ a1 a2 a3 a4 a5 a6 a7 a8 → W n b1 b2 b3 b4 b5 b6 b7 b8) → W (n + 1) a1 a2 a3 a4 a5 a6 a7 a8) (a1 : A1) (a2 : A2) (a3 : A3) (a4 : A4) (a5 : A5) (a6 : A6) (a7 : A7) (a8 : A8) (h : I a1 a2 a3 a4 a5 a6 a7 a8) : ∃ n, W n a1 a2 a3 a4 a5 a6 a7 a8 :=
  loop_m (σ := A1 × A2 × A3 × A4 × A5 × A6 × A7 × A8) (fun n s => W n s.1 s.2.1 s.2.2.1 s.2.2.2.1 s.2.2.2.2.1 s.2.2.2.2.2.1 s.2.2.2.2.2.2.1 s.2.2.2.2.2.2.2) (fun s => I s.1 s.2.1 s.2.2.1 s.2.2.2.1 s.2.2.2.2.1 s.2.2.2.2.2.1 s.2.2.2.2.2.2.1 s.2.2.2.2.2.2.2) (fun s => μ s.1 s.2.1 s.2.2.1 s.2.2.2.1 s.2.2.2.2.1 s.2.2.2.2.2.1 s.2.2.2.2.2.2.1 s.2.2.2.2.2.2.2) (fun n s hI hk => hs n s.1 s.2.1 s.2.2.1 s.2.2.2.1 s.2.2.2.2.1 s.2.2.2.2.2.1 s.2.2.2.2.2.2.1 s.2.2.2.2.2.2.2 hI (fun b1 b2 b3 b4 b5 b6 b7 b8 h9 hm => hk (b1, b2, b3, b4, b5, b6, b7, b8) h9 hm)) (a1, a2, a3, a4, a5, a6, a7, a8) h
theorem lp9 {A1 A2 A3 A4 A5 A6 A7 A8 A9 : Type} (W : Nat → A1 → A2 → A3 → A4 → A5 → A6 → A7 → A8 → A9 → Prop) (I : A1 → A2 → A3 → A4 → A5 → A6 → A7 → A8 → A9 → Prop) (μ : A1 → A2 → A3 → A4 → A5 → A6 → A7 → A8 → A9 → Nat) (hs : ∀ (n : Nat) (a1 : A1) (a2 : A2) (a3 : A3) (a4 : A4) (a5 : A5) (a6 : A6) (a7 : A7) (a8 : A8) (a9 : A9), I a1 a2 a3 a4 a5 a6 a7 a8 a9 → (∀ (b1 : A1) (b2 : A2) (b3 : A3) (b4 : A4) (b5 : A5) (b6 : A6) (b7 : A7) (b8 : A8) (b9 : A9), I b1 b2 b3 b4 b5 b6 b7 b8 b9 → μ b1 b2 b3 b4 b5 b6 b7 b8 b9 < μ a1 a2 a3 a4 a5 a6 a7 a8 a9 → W n b1 b2 b3 b4 b5 b6 b7 b8 b9) → W (n + 1) a1 a2 a3 a4 a5 a6 a7 a8 a9) (a1 : A1) (a2 : A2) (a3 : A3) (a4 : A4) (a5 : A5) (a6 : A6) (a7 : A7) (a8 : A8) (a9 : A9) (h : I a1 a2 a3 a4 a5 a6 a7 a8 a9) : ∃ n, W n a1 a2 a3 a4 a5 a6 a7 a8 a9 :=
  loop_m (σ := A1 × A2 × A3 × A4 × A5 × A6 × A7 × A8 × A9) (fun n s => W n s.1 s.2.1 s.2.2.1 s.2.2.2.1 s.2.2.2.2.1 s.2.2.2.2.2.1 s.2.2.2.2.2.2.1 s.2.2.2.2.2.2.2.1 s.2.2.2.2.2.2.2.2) (fun s => I s.1 s.2.1 s.2.2.1 s.2.2.2.1 s.2.2.2.2.1 s.2.2.2.2.2.1 s.2.2.2.2.2.2.1 s.2.2.2.2.2.2.2.1 s.2.2.2.2.2.2.2.2) (fun s => μ s.1 s.2.1 s.2.2.1 s.2.2.2.1 s.2.2.2.2.1 s.2.2.2.2.2.1 s.2.2.2.2.2.2.1 s.2.2.2.2.2.2.2.1 s.2.2.2.2.2.2.2.2) (fun n s hI hk => hs n s.1 s.2.1 s.2.2.1 s.2.2.2.1 s.2.2.2.2.1 s.2.2.2.2.2.1 s.2.2.2.2.2.2.1 s.2.2.2.2.2.2.2.1 s.2.2.2.2.2.2.2.2 hI (fun b1 b2 b3 b4 b5 b6 b7 b8 b9 h9 hm => hk (b1, b2, b3, b4, b5, b6, b7, b8, b9) h9 hm)) (a1, a2, a3, a4, a5, a6, a7, a8, a9) h
theorem lp10 {A1 A2 A3 A4 A5 A6 A7 A8 A9 A10 : Type} (W : Nat → A1 → A2 → A3 → A4 → A5 → A6 → A7 → A8 → A9 → A10 → Prop) (I : A1 → A2 → A3 → A4 → A5 → A6 → A7 → A8 → A9 → A10 → Prop) (μ : A1 → A2 → A3 → A4 → A5 → A6 → A7 → A8 → A9 → A10 → Nat) (hs : ∀ (n : Nat) (a1 : A1) (a2 : A2) (a3 : A3) (a4 : A4) (a5 : A5) (a6 : A6) (a7 : A7) (a8 : A8) (a9 : A9) (a10 : A10), I a1 a2 a3 a4 a5 a6 a7 a8 a9 a10 → (∀ (b1 : A1) (b2 : A2) (b3 : A3) (b4 : A4) (b5 : A5) (b6 : A6) (b7 : A7) (b8 : A8) (b9 : A9) (b10 : A10), I b1 b2 b3 b4 b5 b6 b7 b8 b9 b10 → μ b1 b2 b3 b4 b5 b6 b7 b8 b9 b10 < μ a1 a2 a3 a4 a5 a6 a7 a8 a9 a10 → W n b1 b2 b3 b4 b5 b6 b7 b8 b9 b10) → W (n + 1) a1 a2 a3 a4 a5 a6 a7 a8 a9 a10) (a1 : A1) (a2 : A2) (a3 : A3) (a4 : A4) (a5 : A5) (a6 : A6) (a7 : A7) (a8 : A8) (a9 : A9) (a10 : A10) (h : I a1 a2 a3 a4 a5 a6 a7 a8 a9 a10) : ∃ n, W n a1 a2 a3 a4 a5 a6 a7 a8 a9 a10 :=
  loop_m (σ := A1 × A2 × A3 × A4 × A5 × A6 × A7 × A8 × A9 × A10) (fun n s => W n s.1 s.2.1 s.2.2.1 s.2.2.2.1 s.2.2.2.2.1 s.2.2.2.2.2.1 s.2.2.2.2.2.2.1 s.2.2.2.2.2.2.2.1 s.2.2.2.2.2.2.2.2.1 s.2.2.2.2.2.2.2.2.2) (fun s => I s.1 s.2.1 s.2.2.1 s.2.2.2.1 s.2.2.2.2.1 s.2.2.2.2.2.1 s.2.2.2.2.2.2.1 s.2.2.2.2.2.2.2.1 s.2.2.2.2.2.2.2.2.1 s.2.2.2.2.2.2.2.2.2) (fun s => μ s.1 s.2.1 s.2.2.1 s.2.2.2.1 s.2.2.2.2.1 s.2.2.2.2.2.1 s.2.2.2.2.2.2.1 s.2.2.2.2.2.2.2.1 s.2.2.2.2.2.2.2.2.1 s.2.2.2.2.2.2.2.2.2) (fun n s hI hk => hs n s.1 s.2.1 s.2.2.1 s.2.2.2.1 s.2.2.2.2.1 s.2.2.2.2.2.1 s.2.2.2.2.2.2.1 s.2.2.2.2.2.2.2.1 s.2.2.2.2.2.2.2.2.1 s.2.2.2.2.2.2.2.2.2 hI (fun b1 b2 b3 b4 b5 b6 b7 b8 b9 b10 h9 hm => hk (b1, b2, b3, b4, b5, b6, b7, b8, b9, b10) h9 hm)) (a1, a2, a3, a4, a5, a6, a7, a8, a9, a10) h
theorem lp11 {A1 A2 A3 A4 A5 A6 A7 A8 A9 A10 A11 : Type} (W : Nat → A1 → A2 → A3 → A4 → A5 → A6 → A7 → A8 → A9 → A10 → A11 → Prop) (I : A1 → A2 → A3 → A4 → A5 → A6 → A7 → A8 → A9 → A10 → A11 → Prop) (μ : A1 → A2 → A3 → A4 → A5 → A6 → A7 → A8 → A9 → A10 → A11 → Nat) (hs : ∀ (n : Nat) (a1 : A1) (a2 : A2) (a3 : A3) (a4 : A4) (a5 : A5) (a6 : A6) (a7 : A7) (a8 : A8) (a9 : A9) (a10 : A10) (a11 : A11), I a1 a2 a3 a4 a5 a6 a7 a8 a9 a10 a11 → (∀ (b1 : A1) (b2 : A2) (b3 : A3) (b4 : A4) (b5 : A5) (b6 : A6) (b7 : A7) (b8 : A8) (b9 : A9) (b10 : A10) (b11 : A11), I b1 b2 b3 b4 b5 b6 b7 b8 b9 b10 b11 → μ b1 b2 b3 b4 b5 b6 b7 b8 b9 b10 b11 < μ a1 a2 a3 a4 a5 a6 a7 a8 a9 a10 a11 → W n b1 b2 b3 b4 b5 b6 b7 b8 b9 b10 b11) → W (n + 1) a1 a2 a3 a4 a5 a6 a7 a8 a9 a10 a11) (a1 : A1) (a2 : A2) (a3 : A3) (a4 : A4) (a5 : A5) (a6 : A6) (a7 : A7) (a8 : A8) (a9 : A9) (a10 : A10) (a11 : A11) (h : I a1 a2 a3 a4 a5 a6 a7 a8 a9 a10 a11) : ∃ n, W n a1 a2 a3 a4 a5 a6 a7 a8 a9 a10 a11 :=
  loop_m (σ := A1 × A2 × A3 × A4 × A5 × A6 × A7 × A8 × A9 × A10 × A11) (fun n s => W n s.1 s.2.1 s.2.2.1 s.2.2.2.1 s.2.2.2.2.1 s.2.2.2.2.2.1 s.2.2.2.2.2.2.1 s.2.2.2.2.2.2.2.1 s.2.2.2.2.2.2.2.2.1 s.2.2.2.2.2.2.2.2.2.1 s.2.2.2.2.2.2.2.2.2.2) (fun s => I s.1 s.2.1 s.2.2.1 s.2.2.2.1 s.2.2.2.2.1 s.2.2.2.2.2.1 s.2.2.2.2.2.2.1 s.2.2.2.2.2.2.2.1 s.2.2.2.2.2.2.2.2.1 s.2.2.2.2.2.2.2.2.2.1 s.2.2.2.2.2.2.2.2.2.2) (fun s => μ s.1 s.2.1 s.2.2.1 s.2.2.2.1 s.2.2.2.2.1 s.2.2.2.2.2.1 s.2.2.2.2.2.2.1 s.2.2.2.2.2.2.2.1 s.2.2.2.2.2.2.2.2.1 s.2.2.2.2.2.2.2.2.2.1 s.2.2.2.2.2.2.2.2.2.2) (fun n s hI hk => hs n s.1 s.2.1 s.2.2.1 s.2.2.2.1 s.2.2.2.2.1 s.2.2.2.2.2.1 s.2.2.2.2.2.2.1 s.2.2.2.2.2.2.2.1 s.2.2.2.2.2.2.2.2.1 s.2.2.2.2.2.2.2.2.2.1 s.2.2.2.2.2.2.2.2.2.2 hI (fun b1 b2 b3 b4 b5 b6 b7 b8 b9 b10 b11 h9 hm => hk (b1, b2, b3, b4, b5, b6, b7, b8, b9, b10, b11) h9 hm)) (a1, a2, a3, a4, a5, a6, a7, a8, a9, a10, a11) h
theorem lp12 {A1 A2 A3 A4 A5 A6 A7 A8 A9 A10 A11 A12 : Type} (W : Nat → A1 → A2 → A3 → A4 → A5 → A6 → A7 → A8 → A9 → A10 → A11 → A12 → Prop) (I : A1 → A2 → A3 → A4 → A5 → A6 → A7 → A8 → A9 → A10 → A11 → A12 → Prop) (μ : A1 → A2 → A3 → A4 → A5 → A6 → A7 → A8 → A9 → A10 → A11 → A12 → Nat) (hs : ∀ (n : Nat) (a1 : A1) (a2 : A2) (a3 : A3) (a4 : A4) (a5 : A5) (a6 : A6) (a7 : A7) (a8 : A8) (a9 : A9) (a10 : A10) (a11 : A11) (a12 : A12), I a1 a2 a3 a4 a5 a6 a7 a8 a9 a10 a11 a12 → (∀ (b1 : A1) (b2 : A2) (b3 : A3) (b4 : A4) (b5 : A5) (b6 : A6) (b7 : A7) (b8 : A8) (b9 : A9) (b10 : A10) (b11 : A11) (b12 : A12), I b1 b2 b3 b4 b5 b6 b7 b8 b9 b10 b11 b12 → μ b1 b2 b3 b4 b5 b6 b7 b8 b9 b10 b11 b12 < μ a1 a2 a3 a4 a5 a6 a7 a8 a9 a10 a11 a12 → W n b1 b2 b3 b4 b5 b6 b7 b8 b9 b10 b11 b12) → W (n + 1) a1 a2 a3 a4 a5 a6 a7 a8 a9 a10 a11 a12) (a1 : A1) (a2 : A2) (a3 : A3) (a4 : A4) (a5 : A5) (a6 : A6) (a7 : A7) (a8 : A8) (a9 : A9) (a10 : A10) (a11 : A11) (a12 : A12) (h : I a1 a2 a3 a4 a5 a6 a7 a8 a9 a10 a11 a12) : ∃ n, W n a1 a2 a3 a4 a5 a6 a7 a8 a9 a10 a11 a12 :=
  loop_m (σ := A1 × A2 × A3 × A4 × A5 × A6 × A7 × A8 × A9 × A10 × A11 × A12) (fun n s => W n s.1 s.2.1 s.2.2.1 s.2.2.2.1 s.2.2.2.2.1 s.2.2.2.2.2.1 s.2.2.2.2.2.2.1 s.2.2.2.2.2.2.2.1 s.2.2.2.2.2.2.2.2.1 s.2.2.2.2.2.2.2.2.2.1 s.2.2.2.2.2.2.2.2.2.2.1 s.2.2.2.2.2.2.2.2.2.2.2) (fun s => I s.1 s.2.1 s.2.2.1 s.2.2.2.1 s.2.2.2.2.1 s.2.2.2.2.2.1 s.2.2.2.2.2.2.1 s.2.2.2.2.2.2.2.1 s.2.2.2.2.2.2.2.2.1 s.2.2.2.2.2.2.2.2.2.1 s.2.2.2.2.2.2.2.2.2.2.1 s.2.2.2.2.2.2.2.2.2.2.2) (fun s => μ s.1 s.2.1 s.2.2.1 s.2.2.2.1 s.2.2.2.2.1 s.2.2.2.2.2.1 s.2.2.2.2.2.2.1 s.2.2.2.2.2.2.2.1 s.2.2.2.2.2.2.2.2.1 s.2.2.2.2.2.2.2.2.2.1 s.2.2.2.2.2.2.2.2.2.2.1 s.2.2.2.2.2.2.2.2.2.2.2) (fun n s hI hk => hs n s.1 s.2.1 s.2.2.1 s.2.2.2.1 s.2.2.2.2.1 s.2.2.2.2.2.1 s.2.2.2.2.2.2.1 s.2.2.2.2.2.2.2.1 s.2.2.2.2.2.2.2.2.1 s.2.2.2.2.2.2.2.2.2.1 s.2.2.2.2.2.2.2.2.2.2.1 s.2.2.2.2.2.2.2.2.2.2.2 hI (fun b1 b2 b3 b4 b5 b6 b7 b8 b9 b10 b11 b12 h9 hm => hk (b1, b2, b3, b4, b5, b6, b7, b8, b9, b10, b11, b12) h9 hm)) (a1, a2, a3, a4, a5, a6, a7, a8, a9, a10, a11, a12) h
theorem lp13 {A1 A2 A3 A4 A5 A6 A7 A8 A9 A10 A11 A12 A13 : Type} (W : Nat → A1 → A2 → A3 → A4 → A5 → A6 → A7 → A8 → A9 → A10 → A11 → A12 → A13 → Prop) (I : A1 → A2 → A3 → A4 → A5 → A6 → A7 → A8 → A9 → A10 → A11 → A12 → A13 → Prop) (μ : A1 → A2 → A3 → A4 → A5 → A6 → A7 → A8 → A9 → A10 → A11 → A12 → A13 → Nat) (hs : ∀ (n : Nat) (a1 : A1) (a2 : A2) (a3 : A3) (a4 : A4) (a5 : A5) (a6 : A6) (a7 : A7) (a8 : A8) (a9 : A9) (a10 : A10) (a11 : A11) (a12 : A12) (a13 : A13), I a1 a2 a3 a4 a5 a6 a7 a8 a9 a10 a11 a12 a13 → (∀ (b1 : A1) (b2 : A2) (b3 : A3) (b4 : A4) (b5 : A5) (b6 : A6) (b7 : A7) (b8 : A8) (b9 : A9) (b10 : A10) (b11 : A11) (b12 : A12) (b13 : A13), I b1 b2 b3 b4 b5 b6 b7 b8 b9 b10 b11 b12 b13 → μ b1 b2 b3 b4 b5 b6 b7 b8 b9 b10 b11 b12 b13 < μ a1 a2 a3 a4 a5 a6 a7 a8 a9 a10 a11 a12 a13 → W n b1 b2 b3 b4 b5 b6 b7 b8 b9 b10 b11 b12 b13) → W (n + 1) a1 a2 a3 a4 a5 a6 a7 a8 a9 a10 a11 a12 a13) (a1 : A1) (a2 : A2) (a3 : A3) (a4 : A4) (a5 : A5) (a6 : A6) (a7 : A7) (a8 : A8) (a9 : A9) (a10 : A10) (a11 : A11) (a12 : A12) (a13 : A13) (h : I a1 a2 a3 a4 a5 a6 a7 a8 a9 a10 a11 a12 a13) : ∃ n, W n a1 a2 a3 a4 a5 a6 a7 a8 a9 a10 a11 a12 a13 :=
  loop_m (σ := A1 × A2 × A3 × A4 × A5 × A6 × A7 × A8 × A9 × A10 × A11 × A12 × A13) (fun n s => W n s.1 s.2.1 s.2.2.1 s.2.2.2.1 s.2.2.2.2.1 s.2.2.2.2.2.1 s.2.2.2.2.2.2.1 s.2.2.2.2.2.2.2.1 s.2.2.2.2.2.2.2.2.1 s.2.2.2.2.2.2.2.2.2.1 s.2.2.2.2.2.2.2.2.2.2.1 s.2.2.2.2.2.2.2.2.2.2.2.1 s.2.2.2.2.2.2.2.2.2.2.2.2) (fun s => I s.1 s.2.1 s.2.2.1 s.2.2.2.1 s.2.2.2.2.1 s.2.2.2.2.2.1 s.2.2.2.2.2.2.1 s.2.2.2.2.2.2.2.1 s.2.2.2.2.2.2.2.2.1 s.2.2.2.2.2.2.2.2.2.1 s.2.2.2.2.2.2.2.2.2.2.1 s.2.2.2.2.2.2.2.2.2.2.2.1 s.2.2.2.2.2.2.2.2.2.2.2.2) (fun s => μ s.1 s.2.1 s.2.2.1 s.2.2.2.1 s.2.2.2.2.1 s.2.2.2.2.2.1 s.2.2.2.2.2.2.1 s.2.2.2.2.2.2.2.1 s.2.2.2.2.2.2.2.2.1 s.2.2.2.2.2.2.2.2.2.1 s.2.2.2.2.2.2.2.2.2.2.1 s.2.2.2.2.2.2.2.2.2.2.2.1 s.2.2.2.2.2.2.2.2.2.2.2.2) (fun n s hI hk => hs n s.1 s.2.1 s.2.2.1 s.2.2.2.1 s.2.2.2.2.1 s.2.2.2.2.2.1 s.2.2.2.2.2.2.1 s.2.2.2.2.2.2.2.1 s.2.2.2.2.2.2.2.2.1 s.2.2.2.2.2.2.2.2.2.1 s.2.2.2.2.2.2.2.2.2.2.1 s.2.2.2.2.2.2.2.2.2.2.2.1 s.2.2.2.2.2.2.2.2.2.2.2.2 hI (fun b1 b2 b3 b4 b5 b6 b7 b8 b9 b10 b11 b12 b13 h9 hm => hk (b1, b2, b3, b4, b5, b6, b7, b8, b9, b10, b11, b12, b13) h9 hm)) (a1, a2, a3, a4, a5, a6, a7, a8, a9, a10, a11, a12, a13) h
theorem lp14 {A1 A2 A3 A4 A5 A6 A7 A8 A9 A10 A11 A12 A13 A14 : Type} (W : Nat → A1 → A2 → A3 → A4 → A5 → A6 → A7 → A8 → A9 → A10 → A11 → A12 → A13 → A14 → Prop) (I : A1 → A2 → A3 → A4 → A5 → A6 → A7 → A8 → A9 → A10 → A11 → A12 → A13 → A14 → Prop) (μ : A1 → A2 → A3 → A4 → A5 → A6 → A7 → A8 → A9 → A10 → A11 → A12 → A13 → A14 → Nat) (hs : ∀ (n : Nat) (a1 : A1) (a2 : A2) (a3 : A3) (a4 : A4) (a5 : A5) (a6 : A6) (a7 : A7) (a8 : A8) (a9 : A9) (a10 : A10) (a11 : A11) (a12 : A12) (a13 : A13) (a14 : A14), I a1 a2 a3 a4 a5 a6 a7 a8 a9 a10 a11 a12 a13 a14 → (∀ (b1 : A1) (b2 : A2) (b3 : A3) (b4 : A4) (b5 : A5) (b6 : A6) (b7 : A7) (b8 : A8) (b9 : A9) (b10 : A10) (b11 : A11) (b12 : A12) (b13 : A13) (b14 : A14), I b1 b2 b3 b4 b5 b6 b7 b8 b9 b10 b11 b12 b13 b14 → μ b1 b2 b3 b4 b5 b6 b7 b8 b9 b10 b11 b12 b13 b14 < μ a1 a2 a3 a4 a5 a6 a7 a8 a9 a10 a11 a12 a13 a14 → W n b1 b2 b3 b4 b5 b6 b7 b8 b9 b10 b11 b12 b13 b14) → W (n + 1) a1 a2 a3 a4 a5 a6 a7 a8 a9 a10 a11 a12 a13 a14) (a1 : A1) (a2 : A2) (a3 : A3) (a4 : A4) (a5 : A5) (a6 : A6) (a7 : A7) (a8 : A8) (a9 : A9) (a10 : A10) (a11 : A11) (a12 : A12) (a13 : A13) (a14 : A14) (h : I a1 a2 a3 a4 a5 a6 a7 a8 a9 a10 a11 a12 a13 a14) : ∃ n, W n a1 a2 a3 a4 a5 a6 a7 a8 a9 a10 a11 a12 a13 a14 :=
  loop_m (σ := A1 × A2 × A3 × A4 × A5 × A6 × A7 × A8 × A9 × A10 × A11 × A12 × A13 × A14) (fun n s => W n s.1 s.2.1 s.2.2.1 s.2.2.2.1 s.2.2.2.2.1 s.2.2.2.2.2.1 s.2.2.2.2.2.2.1 s.2.2.2.2.2.2.2.1 s.2.2.2.2.2.2.2.2.1 s.2.2.2.2.2.2.2.2.2.1 s.2.2.2.2.2.2.2.2.2.2.1 s.2.2.2.2.2.2.2.2.2.2.2.1 s.2.2.2.2.2.2.2.2.2.2.2.2.1 s.2.2.2.2.2.2.2.2.2.2.2.2.2) (fun s => I s.1 s.2.1 s.2.2.1 s.2.2.2.1 s.2.2.2.2.1 s.2.2.2.2.2.1 s.2.2.2.2.2.2.1 s.2.2.2.2.2.2.2.1 s.2.2.2.2.2.2.2.2.1 s.2.2.2.2.2.2.2.2.2.1 s.2.2.2.2.2.2.2.2.2.2.1 s.2.2.2.2.2.2.2.2.2.2.2.1 s.2.2.2.2.2.2.2.2.2.2.2.2.1 s.2.2.2.2.2.2.2.2.2.2.2.2.2) (fun s => μ s.1 s.2.1 s.2.2.1 s.2.2.2.1 s.2.2.2.2.1 s.2.2.2.2.2.1 s.2.2.2.2.2.2.1 s.2.2.2.2.2.2.2.1 s.2.2.2.2.2.2.2.2.1 s.2.2.2.2.2.2.2.2.2.1 s.2.2.2.2.2.2.2.2.2.2.1 s.2.2.2.2.2.2.2.2.2.2.2.1 s.2.2.2.2.2.2.2.2.2.2.2.2.1 s.2.2.2.2.2.2.2.2.2.2.2.2.2) (fun n s hI hk => hs n s.1 s.2.1 s.2.2.1 s.2.2.2.1 s.2.2.2.2.1 s.2.2.2.2.2.1 s.2.2.2.2.2.2.1 s.2.2.2.2.2.2.2.1 s.2.2.2.2.2.2.2.2.1 s.2.2.2.2.2.2.2.2.2.1 s.2.2.2.2.2.2.2.2.2.2.1 s.2.2.2.2.2.2.2.2.2.2.2.1 s.2.2.2.2.2.2.2.2.2.2.2.2.1 s.2.2.2.2.2.2.2.2.2.2.2.2.2 hI (fun b1 b2 b3 b4 b5 b6 b7 b8 b9 b10 b11 b12 b13 b14 h9 hm => hk (b1, b2, b3, b4, b5, b6, b7, b8, b9, b10, b11, b12, b13, b14) h9 hm)) (a1, a2, a3, a4, a5, a6, a7, a8, a9, a10, a11, a12, a13, a14) h
theorem lp15 {A1 A2 A3 A4 A5 A6 A7 A8 A9 A10 A11 A12 A13 A14 A15 : Type} (W : Nat → A1 → A2 → A3 → A4 → A5 → A6 → A7 → A8 → A9 → A10 → A11 → A12 → A13 → A14 → A15 → Prop) (I : A1 → A2 → A3 → A4 → A5 → A6 → A7 → A8 → A9 → A10 → A11 → A12 → A13 → A14 → A15 → Prop) (μ : A1 → A2 → A3 → A4 → A5 → A6 → A7 → A8 → A9 → A10 → A11 → A12 → A13 → A14 → A15 → Nat) (hs : ∀ (n : Nat) (a1 : A1) (a2 : A2) (a3 : A3) (a4 : A4) (a5 : A5) (a6 : A6) (a7 : A7) (a8 : A8) (a9 : A9) (a10 : A10) (a11 : A11) (a12 : A12) (a13 : A13) (a14 : A14) (a15 : A15), I a1 a2 a3 a4 a5 a6 a7 a8 a9 a10 a11 a12 a13 a14 a15 → (∀ (b1 : A1) (b2 : A2) (b3 : A3) (b4 : A4) (b5 : A5) (b6 : A6) (b7 : A7) (b8 : A8) (b9 : A9) (b10 : A10) (b11 : A11) (b12 : A12) (b13 : A13) (b14 : A14) (b15 : A15), I b1 b2 b3 b4 b5 b6 b7 b8 b9 b10 b11 b12 b13 b14 b15 → μ b1 b2 b3 b4 b5 b6 b7 b8 b9 b10 b11 b12 b13 b14 b15 < μ a1 a2 a3 a4 a5 a6 a7 a8 a9 a10 a11 a12 a13 a14 a15 → W n b1 b2 b3 b4 b5 b6 b7 b8 b9 b10 b11 b12 b13 b14 b15) → W (n + 1) a1 a2 a3 a4 a5 a6 a7 a8 a9 a10 a11 a12 a13 a14 a15) (a1 : A1) (a2 : A2) (a3 : A3) (a4 : A4) (a5 : A5) (a6 : A6) (a7 : A7) (a8 : A8) (a9 : A9) (a10 : A10) (a11 : A11) (a12 : A12) (a13 : A13) (a14 : A14) (a15 : A15) (h : I a1 a2 a3 a4 a5 a6 a7 a8 a9 a10 a11 a12 a13 a14 a15) : ∃ n, W n a1 a2 a3 a4 a5 a6 a7 a8 a9 a10 a11 a12 a13 a14 a15 :=
  loop_m (σ := A1 × A2 × A3 × A4 × A5 × A6 × A7 × A8 × A9 × A10 × A11 × A12 × A13 × A14 × A15) (fun n s => W n s.1 s.2.1 s.2.2.1 s.2.2.2.1 s.2.2.2.2.1 s.2.2.2.2.2.1 s.2.2.2.2.2.2.1 s.2.2.2.2.2.2.2.1 s.2.2.2.2.2.2.2.2.1 s.2.2.2.2.2.2.2.2.2.1 s.2.2.2.2.2.2.2.2.2.2.1 s.2.2.2.2.2.2.2.2.2.2.2.1 s.2.2.2.2.2.2.2.2.2.2.2.2.1 s.2.2.2.2.2.2.2.2.2.2.2.2.2.1 s.2.2.2.2.2.2.2.2.2.2.2.2.2.2) (fun s => I s.1 s.2.1 s.2.2.1 s.2.2.2.1 s.2.2.2.2.1 s.2.2.2.2.2.1 s.2.2.2.2.2.2.1 s.2.2.2.2.2.2.2.1 s.2.2.2.2.2.2.2.2.1 s.2.2.2.2.2.2.2.2.2.1 s.2.2.2.2.2.2.2.2.2.2.1 s.2.2.2.2.2.2.2.2.2.2.2.1 s.2.2.2.2.2.2.2.2.2.2.2.2.1 s.2.2.2.2.2.2.2.2.2.2.2.2.2.1 s.2.2.2.2.2.2.2.2.2.2.2.2.2.2) (fun s => μ s.1 s.2.1 s.2.2.1 s.2.2.2.1 s.2.2.2.2.1 s.2.2.2.2.2.1 s.2.2.2.2.2.2.1 s.2.2.2.2.2.2.2.1 s.2.2.2.2.2.2.2.2.1 s.2.2.2.2.2.2.2.2.2.1 s.2.2.2.2.2.2.2.2.2.2.1 s.2.2.2.2.2.2.2.2.2.2.2.1 s.2.2.2.2.2.2.2.2.2.2.2.2.1 s.2.2.2.2.2.2.2.2.2.2.2.2.2.1 s.2.2.2.2.2.2.2.2.2.2.2.2.2.2) (fun n s hI hk => hs n s.1 s.2.1 s.2.2.1 s.2.2.2.1 s.2.2.2.2.1 s.2.2.2.2.2.1 s.2.2.2.2.2.2.1 s.2.2.2.2.2.2.2.1 s.2.2.2.2.2.2.2.2.1 s.2.2.2.2.2.2.2.2.2.1 s.2.2.2.2.2.2.2.2.2.2.1 s.2.2.2.2.2.2.2.2.2.2.2.1 s.2.2.2.2.2.2.2.2.2.2.2.2.1 s.2.2.2.2.2.2.2.2.2.2.2.2.2.1 s.2.2.2.2.2.2.2.2.2.2.2.2.2.2 hI (fun b1 b2 b3 b4 b5 b6 b7 b8 b9 b10 b11 b12 b13 b14 b15 h9 hm => hk (b1, b2, b3, b4, b5, b6, b7, b8, b9, b10, b11, b12, b13, b14, b15) h9 hm)) (a1, a2, a3, a4, a5, a6, a7, a8, a9, a10, a11, a12, a13, a14, a15) h
theorem lp16 {A1 A2 A3 A4 A5 A6 A7 A8 A9 A10 A11 A12 A13 A14 A15 A16 : Type} (W : Nat → A1 → A2 → A3 → A4 → A5 → A6 → A7 → A8 → A9 → A10 → A11 → A12 → A13 → A14 → A15 → A16 → Prop) (I : A1 → A2 → A3 → A4 → A5 → A6 → A7 → A8 → A9 → A10 → A11 → A12 → A13 → A14 → A15 → A16 → Prop) (μ : A1 → A2 → A3 → A4 → A5 → A6 → A7 → A8 → A9 → A10 → A11 → A12 → A13 → A14 → A15 → A16 → Nat) (hs : ∀ (n : Nat) (a1 : A1) (a2 : A2) (a3 : A3) (a4 : A4) (a5 : A5) (a6 : A6) (a7 : A7) (a8 : A8) (a9 : A9) (a10 : A10) (a11 : A11) (a12 : A12) (a13 : A13) (a14 : A14) (a15 : A15) (a16 : A16), I a1 a2 a3 a4 a5 a6 a7 a8 a9 a10 a11 a12 a13 a14 a15 a16 → (∀ (b1 : A1) (b2 : A2) (b3 : A3) (b4 : A4) (b5 : A5) (b6 : A6) (b7 : A7) (b8 : A8) (b9 : A9) (b10 : A10) (b11 : A11) (b12 : A12) (b13 : A13) (b14 : A14) (b15 : A15) (b16 : A16), I b1 b2 b3 b4 b5 b6 b7 b8 b9 b10 b11 b12 b13 b14 b15 b16 → μ b1 b2 b3 b4 b5 b6 b7 b8 b9 b10 b11 b12 b13 b14 b15 b16 < μ a1 a2 a3 a4 a5 a6 a7 a8 a9 a10 a11 a12 a13 a14 a15 a16 → W n b1 b2 b3 b4 b5 b6 b7 b8 b9 b10 b11 b12 b13 b14 b15 b16) → W (n + 1) a1 a2 a3 a4 a5 a6 a7 a8 a9 a10 a11 a12 a13 a14 a15 a16) (a1 : A1) (a2 : A2) (a3 : A3) (a4 : A4) (a5 : A5) (a6 : A6) (a7 : A7) (a8 : A8) (a9 : A9) (a10 : A10) (a11 : A11) (a12 : A12) (a13 : A13) (a14 : A14) (a15 : A15) (a16 : A16) (h : I a1 a2 a3 a4 a5 a6 a7 a8 a9 a10 a11 a12 a13 a14 a15 a16) : ∃ n, W n a1 a2 a3 a4 a5 a6 a7 a8 a9 a10 a11 a12 a13 a14 a15 a16 :=
  loop_m (σ := A1 × A2 × A3 × A4 × A5 × A6 × A7 × A8 × A9 × A10 × A11 × A12 × A13 × A14 × A15 × A16) (fun n s => W n s.1 s.2.1 s.2.2.1 s.2.2.2.1 s.2.2.2.2.1 s.2.2.2.2.2.1 s.2.2.2.2.2.2.1 s.2.2.2.2.2.2.2.1 s.2.2.2.2.2.2.2.2.1 s.2.2.2.2.2.2.2.2.2.1 s.2.2.2.2.2.2.2.2.2.2.1 s.2.2.2.2.2.2.2.2.2.2.2.1 s.2.2.2.2.2.2.2.2.2.2.2.2.1 s.2.2.2.2.2.2.2.2.2.2.2.2.2.1 s.2.2.2.2.2.2.2.2.2.2.2.2.2.2.1 s.2.2.2.2.2.2.2.2.2.2.2.2.2.2.2) (fun s => I s.1 s.2.1 s.2.2.1 s.2.2.2.1 s.2.2.2.2.1 s.2.2.2.2.2.1 s.2.2.2.2.2.2.1 s.2.2.2.2.2.2.2.1 s.2.2.2.2.2.2.2.2.1 s.2.2.2.2.2.2.2.2.2.1 s.2.2.2.2.2.2.2.2.2.2.1 s.2.2.2.2.2.2.2.2.2.2.2.1 s.2.2.2.2.2.2.2.2.2.2.2.2.1 s.2.2.2.2.2.2.2.2.2.2.2.2.2.1 s.2.2.2.2.2.2.2.2.2.2.2.2.2.2.1 s.2.2.2.2.2.2.2.2.2.2.2.2.2.2.2) (fun s => μ s.1 s.2.1 s.2.2.1 s.2.2.2.1 s.2.2.2.2.1 s.2.2.2.2.2.1 s.2.2.2.2.2.2.1 s.2.2.2.2.2.2.2.1 s.2.2.2.2.2.2.2.2.1 s.2.2.2.2.2.2.2.2.2.1 s.2.2.2.2.2.2.2.2.2.2.1 s.2.2.2.2.2.2.2.2.2.2.2.1 s.2.2.2.2.2.2.2.2.2.2.2.2.1 s.2.2.2.2.2.2.2.2.2.2.2.2.2.1 s.2.2.2.2.2.2.2.2.2.2.2.2.2.2.1 s.2.2.2.2.2.2.2.2.2.2.2.2.2.2.2) (fun n s hI hk => hs n s.1 s.2.1 s.2.2.1 s.2.2.2.1 s.2.2.2.2.1 s.2.2.2.2.2.1 s.2.2.2.2.2.2.1 s.2.2.2.2.2.2.2.1 s.2.2.2.2.2.2.2.2.1 s.2.2.2.2.2.2.2.2.2.1 s.2.2.2.2.2.2.2.2.2.2.1 s.2.2.2.2.2.2.2.2.2.2.2.1 s.2.2.2.2.2.2.2.2.2.2.2.2.1 s.2.2.2.2.2.2.2.2.2.2.2.2.2.1 s.2.2.2.2.2.2.2.2.2.2.2.2.2.2.1 s.2.2.2.2.2.2.2.2.2.2.2.2.2.2.2 hI (fun b1 b2 b3 b4 b5 b6 b7 b8 b9 b10 b11 b12 b13 b14 b15 b16 h9 hm => hk (b1, b2, b3, b4, b5, b6, b7, b8, b9, b10, b11, b12, b13, b14, b15, b16) h9 hm)) (a1, a2, a3, a4, a5, a6, a7, a8, a9, a10, a11, a12, a13, a14, a15, a16) h
theorem pk_least (P : Nat → Prop) (h : ∃ k, P k) : ∃ k, P k ∧ ∀ j, j < k → ¬ P j := by
  obtain ⟨k, hk⟩ := h
  induction k using Nat.strongRecOn with
  | ind k ih =>
    by_cases e : ∃ j, j < k ∧ P j
    · obtain ⟨j, hj, pj⟩ := e
      exact ih j hj pj
    · exact ⟨k, hk, fun j hj pj => e ⟨j, hj, pj⟩⟩
theorem rp1 {ρ A1 : Type} (W : Nat → (ρ → Prop) → A1 → Prop) (ok : A1 → Prop) (μ : A1 → Nat) (val : A1 → ρ)
    (hs : ∀ (d : Nat) (post : ρ → Prop) (a1 : A1), ok a1 → post (val a1) → (∀ (post' : ρ → Prop) (b1 : A1), ok b1 → μ b1 < μ a1 → post' (val b1) → W d post' b1) → W (d + 1) post a1) :
    ∀ (d : Nat) (post : ρ → Prop) (a1 : A1), ok a1 → μ a1 < d → post (val a1) → W d post a1 := by
  intro d
  induction d with
  | zero => intro post a1 _ h; omega
  | succ d ih =>
    intro post a1 ho hm hp
    exact hs d post a1 ho hp (fun post' b1 ho' hm' hp' => ih post' b1 ho' (by omega) hp')
theorem rp2 {ρ A1 A2 : Type} (W : Nat → (ρ → Prop) → A1 → A2 → Prop) (ok : A1 → A2 → Prop) (μ : A1 → A2 → Nat) (val : A1 → A2 → ρ)
    (hs : ∀ (d : Nat) (post : ρ → Prop) (a1 : A1) (a2 : A2), ok a1 a2 → post (val a1 a2) → (∀ (post' : ρ → Prop) (b1 : A1) (b2 : A2), ok b1 b2 → μ b1 b2 < μ a1 a2 → post' (val b1 b2) → W d post' b1 b2) → W (d + 1) post a1 a2) :
    ∀ (d : Nat) (post : ρ → Prop) (a1 : A1) (a2 : A2), ok a1 a2 → μ a1 a2 < d → post (val a1 a2) → W d post a1 a2 := by
  intro d
  induction d with
  | zero => intro post a1 a2 _ h; omega
  | succ d ih =>
    intro post a1 a2 ho hm hp
    exact hs d post a1 a2 ho hp (fun post' b1 b2 ho' hm' hp' => ih post' b1 b2 ho' (by omega) hp')
theorem rp3 {ρ A1 A2 A3 : Type} (W : Nat → (ρ → Prop) → A1 → A2 → A3 → Prop) (ok : A1 → A2 → A3 → Prop) (μ : A1 → A2 → A3 → Nat) (val : A1 → A2 → A3 → ρ)
    (hs : ∀ (d : Nat) (post : ρ → Prop) (a1 : A1) (a2 : A2) (a3 : A3), ok a1 a2 a3 → post (val a1 a2 a3) → (∀ (post' : ρ → Prop) (b1 : A1) (b2 : A2) (b3 : A3), ok b1 b2 b3 → μ b1 b2 b3 < μ a1 a2 a3 → post' (val b1 b2 b3) → W d post' b1 b2 b3) → W (d + 1) post a1 a2 a3) :
    ∀ (d : Nat) (post : ρ → Prop) (a1 : A1) (a2 : A2) (a3 : A3), ok a1 a2 a3 → μ a1 a2 a3 < d → post (val a1 a2 a3) → W d post a1 a2 a3 := by
  intro d
  induction d with
  | zero => intro post a1 a2 a3 _ h; omega
  | succ d ih =>
    intro post a1 a2 a3 ho hm hp
    exact hs d post a1 a2 a3 ho hp (fun post' b1 b2 b3 ho' hm' hp' => ih post' b1 b2 b3 ho' (by omega) hp')
theorem rp4 {ρ A1 A2 A3 A4 : Type} (W : Nat → (ρ → Prop) → A1 → A2 → A3 → A4 → Prop) (ok : A1 → A2 → A3 → A4 → Prop) (μ : A1 → A2 → A3 → A4 → Nat) (val : A1 → A2 → A3 → A4 → ρ)
    (hs : ∀ (d : Nat) (post : ρ → Prop) (a1 : A1) (a2 : A2) (a3 : A3) (a4 : A4), ok a1 a2 a3 a4 → post (val a1 a2 a3 a4) → (∀ (post' : ρ → Prop) (b1 : A1) (b2 : A2) (b3 : A3) (b4 : A4), ok b1 b2 b3 b4 → μ b1 b2 b3 b4 < μ a1 a2 a3 a4 → post' (val b1 b2 b3 b4) → W d post' b1 b2 b3 b4) → W (d + 1) post a1 a2 a3 a4) :
    ∀ (d : Nat) (post : ρ → Prop) (a1 : A1) (a2 : A2) (a3 : A3) (a4 : A4), ok a1 a2 a3 a4 → μ a1 a2 a3 a4 < d → post (val a1 a2 a3 a4) → W d post a1 a2 a3 a4 := by
  intro d
  induction d with
  | zero => intro post a1 a2 a3 a4 _ h; omega
  | succ d ih =>
    intro post a1 a2 a3 a4 ho hm hp
    exact hs d post a1 a2 a3 a4 ho hp (fun post' b1 b2 b3 b4 ho' hm' hp' => ih post' b1 b2 b3 b4 ho' (by omega) hp')
theorem rp5 {ρ A1 A2 A3 A4 A5 : Type} (W : Nat → (ρ → Prop) → A1 → A2 → A3 → A4 → A5 → Prop) (ok : A1 → A2 → A3 → A4 → A5 → Prop) (μ : A1 → A2 → A3 → A4 → A5 → Nat) (val : A1 → A2 → A3 → A4 → A5 → ρ)
    (hs : ∀ (d : Nat) (post : ρ → Prop) (a1 : A1) (a2 : A2) (a3 : A3) (a4 : A4) (a5 : A5), ok a1 a2 a3 a4 a5 → post (val a1 a2 a3 a4 a5) → (∀ (post' : ρ → Prop) (b1 : A1) (b2 : A2) (b3 : A3) (b4 : A4) (b5 : A5), ok b1 b2 b3 b4 b5 → μ b1 b2 b3 b4 b5 < μ a1 a2 a3 a4 a5 → post' (val b1 b2 b3 b4 b5) → W d post' b1 b2 b3 b4 b5) → W (d + 1) post a1 a2 a3 a4 a5) :
    ∀ (d : Nat) (post : ρ → Prop) (a1 : A1) (a2 : A2) (a3 : A3) (a4 : A4) (a5 : A5), ok a1 a2 a3 a4 a5 → μ a1 a2 a3 a4 a5 < d → post (val a1 a2 a3 a4 a5) → W d post a1 a2 a3 a4 a5 := by
  intro d
  induction d with
  | zero => intro post a1 a2 a3 a4 a5 _ h; omega
  | succ d ih =>
    intro post a1 a2 a3 a4 a5 ho hm hp
    exact hs d post a1 a2 a3 a4 a5 ho hp (fun post' b1 b2 b3 b4 b5 ho' hm' hp' => ih post' b1 b2 b3 b4 b5 ho' (by omega) hp')
theorem rp6 {ρ A1 A2 A3 A4 A5 A6 : Type} (W : Nat → (ρ → Prop) → A1 → A2 → A3 → A4 → A5 → A6 → Prop) (ok : A1 → A2 → A3 → A4 → A5 → A6 → Prop) (μ : A1 → A2 → A3 → A4 → A5 → A6 → Nat) (val : A1 → A2 → A3 → A4 → A5 → A6 → ρ)
    (hs : ∀ (d : Nat) (post : ρ → Prop) (a1 : A1) (a2 : A2) (a3 : A3) (a4 : A4) (a5 : A5) (a6 : A6), ok a1 a2 a3 a4 a5 a6 → post (val a1 a2 a3 a4 a5 a6) → (∀ (post' : ρ → Prop) (b1 : A1) (b2 : A2) (b3 : A3) (b4 : A4) (b5 : A5) (b6 : A6), ok b1 b2 b3 b4 b5 b6 → μ b1 b2 b3 b4 b5 b6 < μ a1 a2 a3 a4 a5 a6 → post' (val b1 b2 b3 b4 b5 b6) → W d post' b1 b2 b3 b4 b5 b6) → W (d + 1) post a1 a2 a3 a4 a5 a6) :
    ∀ (d : Nat) (post : ρ → Prop) (a1 : A1) (a2 : A2) (a3 : A3) (a4 : A4) (a5 : A5) (a6 : A6), ok a1 a2 a3 a4 a5 a6 → μ a1 a2 a3 a4 a5 a6 < d → post (val a1 a2 a3 a4 a5 a6) → W d post a1 a2 a3 a4 a5 a6 := by
  intro d
  induction d with
  | zero => intro post a1 a2 a3 a4 a5 a6 _ h; omega
  | succ d ih =>
    intro post a1 a2 a3 a4 a5 a6 ho hm hp
    exact hs d post a1 a2 a3 a4 a5 a6 ho hp (fun post' b1 b2 b3 b4 b5 b6 ho' hm' hp' => ih post' b1 b2 b3 b4 b5 b6 ho' (by omega) hp')
theorem rec_p {σ ρ : Type} (W : Nat → (ρ → Prop) → σ → Prop) (ok : σ → Prop) (μ : σ → Nat) (val : σ → ρ)
    (hs : ∀ d s post, ok s → post (val s) → (∀ s' post', ok s' → μ s' < μ s → post' (val s') → W d post' s') → W (d + 1) post s) :
    ∀ d s post, ok s → μ s < d → post (val s) → W d post s := by
  intro d
  induction d with
  | zero => intro s post _ h; omega
  | succ d ih =>
    intro s post ho hm hp
    exact hs d s post ho hp (fun s' post' ho' hm' hp' => ih s' post' ho' (by omega) hp')
theorem rec_q {σ ρ : Type} (W : Nat → (ρ → Prop) → σ → Prop) (ok : σ → Prop) (μ : σ → Nat) (Q : σ → ρ → Prop)
    (hs : ∀ d s post, ok s → (∀ r, Q s r → post r) → (∀ s' post', ok s' → μ s' < μ s → (∀ r, Q s' r → post' r) → W d post' s') → W (d + 1) post s) :
    ∀ d s post, ok s → μ s < d → (∀ r, Q s r → post r) → W d post s := by
  intro d
  induction d with
  | zero => intro s post _ h; omega
  | succ d ih =>
    intro s post ho hm hp
    exact hs d s post ho hp (fun s' post' ho' hm' hp' => ih s' post' ho' (by omega) hp')
def bx_sum (f : Nat → Int32) : Nat → Int32
  | 0 => 0
  | n + 1 => bx_sum f n + f n
theorem ek_u {A : Prop} {B : Nat → Prop} {k N : Nat} (hk : k < N) (h : B k) : (some k = none → A) ∧ (∀ y : Nat, some k = some y → (y < N ∧ B y)) :=
  ⟨fun z => absurd z (Option.some_ne_none k), fun _ e => (by cases e; exact ⟨hk, h⟩)⟩
theorem ek_nu {A : Prop} {B : Nat → Prop} (h : A) : ((none : Option Nat) = none → A) ∧ (∀ y : Nat, (none : Option Nat) = some y → B y) :=
  ⟨fun _ => h, fun _ e => (by cases e)⟩
theorem ek_if {c d A B : Prop} (e : c ↔ d) (f : d → A) (g : ¬ d → B) : (c → A) ∧ (¬ c → B) :=
  ⟨fun z => f (e.mp z), fun z => g (fun y => z (e.mpr y))⟩
theorem ek_v {α : Sort _} {P : α → Prop} {a b : α} (e : a = b) (h : P b) : P a := e ▸ h
theorem co_some {x : Option Nat} {A : Prop} {B : Nat → Prop} (i : Nat) (h : B i) (hx : x = some i := by rfl) : (x = none → A) ∧ (∀ y : Nat, x = some y → B y) := by
  subst hx
  exact ⟨fun e => (nomatch e), fun y e => Option.some.inj e ▸ h⟩
theorem co_none {x : Option Nat} {A : Prop} {B : Nat → Prop} (h : A) (hx : x = none := by rfl) : (x = none → A) ∧ (∀ y : Nat, x = some y → B y) := by
  subst hx
  exact ⟨fun _ => h, fun y e => (nomatch e)⟩
theorem co_any {x : Option Nat} {A : Prop} {B : Nat → Prop} (hn : x = none → A) (hs : ∀ i : Nat, x = some i → B i) : (x = none → A) ∧ (∀ y : Nat, x = some y → B y) := ⟨hn, hs⟩
theorem co_2 {P : Nat → Prop} (h0 : P 0) (h1 : P 1) {i : Nat} (hi : i < 2) : P i :=
  match i, hi with
  | 0, _ => h0
  | 1, _ => h1
theorem co_3 {P : Nat → Prop} (h0 : P 0) (h1 : P 1) (h2 : P 2) {i : Nat} (hi : i < 3) : P i :=
  match i, hi with
  | 0, _ => h0
  | 1, _ => h1
  | 2, _ => h2
theorem co_4 {P : Nat → Prop} (h0 : P 0) (h1 : P 1) (h2 : P 2) (h3 : P 3) {i : Nat} (hi : i < 4) : P i :=
  match i, hi with
  | 0, _ => h0
  | 1, _ => h1
  | 2, _ => h2
  | 3, _ => h3
theorem co_dec {N : Nat} {P : Nat → Prop} [DecidablePred P] (h : (List.range N).all (fun i => decide (P i)) = true) {i : Nat} (hi : i < N) : P i := by
  have := List.all_eq_true.mp h i (List.mem_range.mpr hi)
  exact of_decide_eq_true this
theorem co_tab {α : Type} {l : List α} {d : α} {P : α → Prop} (h : ∀ a, a ∈ l → P a) {i : Nat} (hi : i < l.length) : P (l.getD i d) := by
  rw [List.getD_eq_getElem?_getD, List.getElem?_eq_getElem hi]
  exact h _ (List.getElem_mem hi)
theorem pk_mu {x : Int32} {L : Nat} (h0 : ¬ x < 0) (h : ¬ nI L ≤ x) (hL : L < 2 ^ 31) : ∃ j : Nat, j < L ∧ x = nI j ∧ x + 1 = nI (j + 1) ∧ x.toNatClampNeg = j ∧ L - (x + 1).toNatClampNeg < L - x.toNatClampNeg := by
  obtain ⟨j, hj, rfl⟩ := nI_of h0
  have hl : j < L := Nat.not_le.mp fun q => h (nI_le q hj)
  refine ⟨j, hl, rfl, nI_1 j, nI_clamp hj, ?_⟩
  rw [nI_1, nI_clamp (by omega), nI_clamp hj]
  omega
theorem op_s {α : Type} {r : Option α} {A : Prop} {B : α → Prop} {y : α} (h : r = some y) (b : B y) : (r = none → A) ∧ ∀ z, r = some z → B z :=
  ⟨fun e => (by rw [h] at e; cases e), fun z e => (by rw [h] at e; cases e; exact b)⟩
def l_holds {α : Type} (a : Nat → Option Nat) (LP : List Nat) (p : Nat → α) (c : Nat) (b : Nat → α) : Prop :=
  ∀ j, j < c → ∃ y, a j = some y ∧ y ∈ LP ∧ p y = b j
theorem l_holds_0 {α : Type} {a : Nat → Option Nat} {LP : List Nat} {p b : Nat → α} : l_holds a LP p 0 b := fun j h => absurd h (Nat.not_lt_zero j)
theorem l_in_new (LP : List Nat) (q : Nat) : q ∈ LP ++ [q] := List.mem_append.mpr (Or.inr (List.mem_singleton.mpr rfl))
def l_sum (b : Nat → Int32) : Nat → Int32
  | 0 => 0
  | k + 1 => l_sum b k + b k
theorem sb_shr0 (x : Int32) : x >>> ((0 : Int32) &&& 31) = x := by
  rw [show ((0 : Int32) &&& 31) = 0 by decide]
  simp
theorem sb_shl0 (x : Int32) : x <<< ((0 : Int32) &&& 31) = x := by
  rw [show ((0 : Int32) &&& 31) = 0 by decide]
  simp
theorem sb_cl0 : (0 : Int32).toNatClampNeg = 0 := by decide
theorem sb_m1 {p : Nat} (h : 0 < p) : nI p + (-1) = nI (p - 1) := by
  obtain ⟨q, rfl⟩ : ∃ q, p = q + 1 := ⟨p - 1, by omega⟩
  exact pk_m1 q
def sb_b (c : Nat) : Int32 := (nI c).toInt8.toInt32
theorem sb_byte : ∀ c, c < 256 → sb_b c &&& 255 = nI c ∧ ((nI c).toUInt32 % 65536).toInt32 = nI c ∧ nI c ≤ 255 := by decide +kernel
def sb_Fit (a : Nat → Int32) : Prop := ∀ j, fits .byte (.int (a j)) = true
def sb_Lat (t : Nat → Nat) (n : Nat) (a : Nat → Int32) : Prop := ∀ j, j < n → t j < 256 ∧ a j = sb_b (t j)
theorem sb_fitB (c : Nat) : fits .byte (.int (sb_b c)) = true := pk_fb _
theorem sb_fit0 : sb_Fit (fun _ => 0) := fun _ => by
  show fits .byte (.int 0) = true
  decide
theorem sb_fitU {a : Nat → Int32} {k : Nat} {x : Int32} (h : sb_Fit a) (hx : fits .byte (.int x) = true) : sb_Fit (upd a k x) := by
  intro j
  by_cases e : j = k
  · subst e
    rw [pk_us]
    exact hx
  · rw [pk_un e]
    exact h j
def sb_cat (t : Nat → Nat) (n : Nat) (s : Nat → Nat) : Nat → Nat := fun j => if j < n then t j else s (j - n)
theorem sb_cat_lo {t s : Nat → Nat} {n j : Nat} (h : j < n) : sb_cat t n s j = t j := if_pos h
theorem sb_cat_hi {t s : Nat → Nat} {n j : Nat} : sb_cat t n s (n + j) = s j := by
  show (if n + j < n then t (n + j) else s (n + j - n)) = s j
  rw [if_neg (by omega), Nat.add_sub_cancel_left]
theorem sb_latPut {t s : Nat → Nat} {n w : Nat} {a a' : Nat → Int32} (h : sb_Lat t n a) (hk : ∀ j, j < n → a' j = a j) (hs : ∀ i, i < w → s i < 256 ∧ a' (n + i) = sb_b (s i)) : sb_Lat (sb_cat t n s) (n + w) a' := by
  intro j hj
  by_cases e : j < n
  · rw [sb_cat_lo e, hk j e]
    exact h j e
  · obtain ⟨i, rfl⟩ : ∃ i, j = n + i := ⟨j - n, by omega⟩
    rw [sb_cat_hi]
    exact hs i (by omega)
theorem sb_latKeep {t : Nat → Nat} {n : Nat} {a a' : Nat → Int32} (h : sb_Lat t n a) (hk : ∀ j, j < n → a' j = a j) : sb_Lat t n a' := fun j hj => by
  rw [hk j hj]
  exact h j hj
def sb_cap (q m : Nat) : Nat := if q ≤ m then m else if 2 * m + 2 < q then q else 2 * m + 2
def sb_Room (q m mc ms : Nat) : Prop := q ≤ m ∨ (1 ≤ mc ∧ sb_cap q m ≤ ms ∧ sb_cap q m ≤ 65536)
theorem sb_cap_ge (q m : Nat) : q ≤ sb_cap q m := by
  unfold sb_cap
  split
  · omega
  · split <;> omega
theorem sb_cap_gem (q m : Nat) : m ≤ sb_cap q m := by
  unfold sb_cap
  split
  · omega
  · split <;> omega
theorem sb_cap_le {q m mc ms : Nat} (hm : m ≤ 65536) (hr : sb_Room q m mc ms) : sb_cap q m ≤ 65536 := by
  rcases hr with h | h
  · rw [sb_cap, if_pos h]
    exact hm
  · exact h.2.2
theorem sb_at {P : Int32 → Prop} {x y : Int32} (e : x = y) (h : P y) : P x := e ▸ h
def sb_dg (w : Nat) : Nat := if w < 10 then 1 else if w < 100 then 2 else if w < 1000 then 3 else if w < 10000 then 4 else if w < 100000 then 5 else if w < 1000000 then 6 else if w < 10000000 then 7 else if w < 100000000 then 8 else if w < 1000000000 then 9 else 10
def sb_dec (v : Nat) : Nat → Nat := fun i => 48 + v / 10 ^ (sb_dg v - 1 - i) % 10
theorem sb_dg_in (w : Nat) : 1 ≤ sb_dg w ∧ sb_dg w ≤ 10 := by
  unfold sb_dg
  constructor <;> (repeat' split) <;> omega
theorem sb_dg100 {w : Nat} (h : 100 ≤ w) (hw : w < 2 ^ 31) : sb_dg w = sb_dg (w / 100) + 2 := by
  rw [sb_dg, sb_dg, if_neg (show ¬ w < 10 by omega), if_neg (show ¬ w < 100 by omega)]
  by_cases h3 : w < 1000
  · rw [if_pos h3, if_pos (show w / 100 < 10 by omega)]
  rw [if_neg h3, if_neg (show ¬ w / 100 < 10 by omega)]
  by_cases h4 : w < 10000
  · rw [if_pos h4, if_pos (show w / 100 < 100 by omega)]
  rw [if_neg h4, if_neg (show ¬ w / 100 < 100 by omega)]
  by_cases h5 : w < 100000
  · rw [if_pos h5, if_pos (show w / 100 < 1000 by omega)]
  rw [if_neg h5, if_neg (show ¬ w / 100 < 1000 by omega)]
  by_cases h6 : w < 1000000
  · rw [if_pos h6, if_pos (show w / 100 < 10000 by omega)]
  rw [if_neg h6, if_neg (show ¬ w / 100 < 10000 by omega)]
  by_cases h7 : w < 10000000
  · rw [if_pos h7, if_pos (show w / 100 < 100000 by omega)]
  rw [if_neg h7, if_neg (show ¬ w / 100 < 100000 by omega)]
  by_cases h8 : w < 100000000
  · rw [if_pos h8, if_pos (show w / 100 < 1000000 by omega)]
  rw [if_neg h8, if_neg (show ¬ w / 100 < 1000000 by omega)]
  by_cases h9 : w < 1000000000
  · rw [if_pos h9, if_pos (show w / 100 < 10000000 by omega)]
  rw [if_neg h9, if_neg (show ¬ w / 100 < 10000000 by omega)]
  rw [if_pos (show w / 100 < 100000000 by omega)]
theorem sb_negT {w : Nat} (h : w < 2 ^ 31) : (-nI w).toInt = -(w : Int) := by
  rw [Int32.toInt_neg, nI_toInt h]
  exact Int.bmod_eq_of_le (by omega) (by omega)
theorem sb_nle {a b : Nat} (ha : a < 2 ^ 31) (hb : b < 2 ^ 31) : -nI a ≤ -nI b ↔ b ≤ a := by
  rw [Int32.le_iff_toInt_le, sb_negT ha, sb_negT hb]
  omega
theorem sb_nlt {a b : Nat} (ha : a < 2 ^ 31) (hb : b < 2 ^ 31) : -nI a < -nI b ↔ b < a := by
  rw [Int32.lt_iff_toInt_lt, sb_negT ha, sb_negT hb]
  omega
theorem sb_cmp {A B : Prop} {x : Int32} (v c : Nat) (f : c ≤ v → A) (g : v < c → B) (hv : v < 2 ^ 31) (hx : x = -nI c := by rfl) (hc : c < 2 ^ 31 := by omega) : (-nI v ≤ x → A) ∧ (¬ -nI v ≤ x → B) := by
  subst hx
  rw [sb_nle hv hc]
  exact ⟨f, fun z => g (by omega)⟩
theorem sb_ndiv {w : Nat} (hw : w < 2 ^ 31) : (-nI w) / 100 = -nI (w / 100) := by
  apply Int32.toInt_inj.mp
  have h100 : (100 : Int32).toInt = 100 := by decide
  rw [Int32.toInt_div, sb_negT hw, h100, sb_negT (by omega), Int.neg_tdiv, Int.tdiv_eq_ediv_of_nonneg (by omega), Int.bmod_eq_of_le (by omega) (by omega)]
  omega
theorem sb_nrem {w : Nat} (hw : w < 2 ^ 31) : (-nI (w / 100)) * 100 - (-nI w) = nI (w % 100) := by
  have h := pk_rem (a := w) (d := 100) hw (by decide) (by decide)
  rw [pk_div hw (by decide) (by decide)] at h
  rw [← h]
  show (-nI (w / 100)) * nI 100 - (-nI w) = nI w - nI (w / 100) * nI 100
  rw [Int32.neg_mul, Int32.sub_neg, Int32.add_comm, ← Int32.sub_eq_add_neg]
end
section
/-! rows on bits, shifts and unsigned numbers, to paste: each family out of a closed proof of our own, whole with what it rests on; each by itself clean at Lean in its own claim (generation 39, form 5). Take a family whole -/
/-! ===== Int32 by its bits: bt x i ===== -/
def bt (x : Int32) (i : Nat) : Bool := x.toBitVec.getLsbD i
theorem b_ext {x y : Int32} (h : ∀ i, i < 32 → bt x i = bt y i) : x = y := Int32.toBitVec_inj.mp (BitVec.eq_of_getLsbD_eq (fun i hi => h i hi))
theorem b_or (x y : Int32) (i : Nat) : bt (x ||| y) i = (bt x i || bt y i) := by unfold bt; rw [Int32.toBitVec_or, BitVec.getLsbD_or]
theorem b_and (x y : Int32) (i : Nat) : bt (x &&& y) i = (bt x i && bt y i) := by unfold bt; rw [Int32.toBitVec_and, BitVec.getLsbD_and]
theorem b_xor (x y : Int32) (i : Nat) : bt (x ^^^ y) i = (bt x i ^^ bt y i) := by unfold bt; rw [Int32.toBitVec_xor, BitVec.getLsbD_xor]
theorem b_big {x : Int32} {i : Nat} (h : 32 ≤ i) : bt x i = false := BitVec.getLsbD_of_ge _ _ h
theorem b_255 (i : Nat) : bt 255 i = decide (i < 8) := by
  rcases Nat.lt_or_ge i 32 with h | h
  · exact (by decide +kernel : ∀ i, i < 32 → bt 255 i = decide (i < 8)) i h
  · rw [b_big h, decide_eq_false (by omega)]
theorem b_65535 (i : Nat) : bt 65535 i = decide (i < 16) := by
  rcases Nat.lt_or_ge i 32 with h | h
  · exact (by decide +kernel : ∀ i, i < 32 → bt 65535 i = decide (i < 16)) i h
  · rw [b_big h, decide_eq_false (by omega)]
theorem b_m1 : ∀ i, i < 32 → bt (-1) i = true := by decide +kernel
theorem b_0 (i : Nat) : bt 0 i = false := BitVec.getLsbD_zero
theorem s_l : ∀ n, n < 32 → ((nI n &&& 31).toBitVec.smod 32).toNat = n := by decide +kernel
theorem s_u : ∀ n, n < 32 → (((nI n).toUInt32 &&& Int32.toUInt32 31).toBitVec % 32).toNat = n := by decide +kernel
theorem b_shl (n : Nat) (hn : n < 32) (x : Int32) {i : Nat} (hi : i < 32) : bt (x <<< (nI n &&& 31)) i = (decide (n ≤ i) && bt x (i - n)) := by
  unfold bt
  rw [Int32.toBitVec_shiftLeft]
  show (x.toBitVec <<< ((nI n &&& 31).toBitVec.smod 32).toNat).getLsbD i = _
  rw [s_l n hn, BitVec.getLsbD_shiftLeft]
  rcases Nat.lt_or_ge i n with h | h
  · simp [h, Nat.not_le.mpr h]
  · simp [hi, h, Nat.not_lt.mpr h]
theorem b_ushr (n : Nat) (hn : n < 32) (x : Int32) (i : Nat) : bt ((x.toUInt32 >>> ((nI n).toUInt32 &&& Int32.toUInt32 31)).toInt32) i = bt x (n + i) := by
  show (x.toUInt32 >>> ((nI n).toUInt32 &&& Int32.toUInt32 31)).toBitVec.getLsbD i = x.toUInt32.toBitVec.getLsbD (n + i)
  rw [UInt32.toBitVec_shiftRight]
  show (x.toUInt32.toBitVec >>> (((nI n).toUInt32 &&& Int32.toUInt32 31).toBitVec % 32).toNat).getLsbD i = _
  rw [s_u n hn, BitVec.getLsbD_ushiftRight]
theorem b_sshr (n : Nat) (hn : n < 32) (x : Int32) {i : Nat} (hi : i < 32) : bt (x >>> (nI n &&& 31)) i = if n + i < 32 then bt x (n + i) else bt x 31 := by
  unfold bt
  rw [Int32.toBitVec_shiftRight]
  show (x.toBitVec.sshiftRight ((nI n &&& 31).toBitVec.smod 32).toNat).getLsbD i = _
  rw [s_l n hn, BitVec.getLsbD_sshiftRight, BitVec.msb_eq_getLsbD_last]
  simp [hi]
theorem b_shl8 (x : Int32) {i : Nat} (hi : i < 32) : bt (x <<< ((8 : Int32) &&& 31)) i = (decide (8 ≤ i) && bt x (i - 8)) := b_shl 8 (by omega) x hi
theorem b_shl16 (x : Int32) {i : Nat} (hi : i < 32) : bt (x <<< ((16 : Int32) &&& 31)) i = (decide (16 ≤ i) && bt x (i - 16)) := b_shl 16 (by omega) x hi
theorem b_shl24 (x : Int32) {i : Nat} (hi : i < 32) : bt (x <<< ((24 : Int32) &&& 31)) i = (decide (24 ≤ i) && bt x (i - 24)) := b_shl 24 (by omega) x hi
theorem b_sshr8 (x : Int32) {i : Nat} (hi : i < 32) : bt (x >>> ((8 : Int32) &&& 31)) i = if 8 + i < 32 then bt x (8 + i) else bt x 31 := b_sshr 8 (by omega) x hi
/-! ===== nI under and, xor, >>>, one bit, 65535 ===== -/
theorem nx_and (a b : Nat) : nI a &&& nI b = nI (a &&& b) := by
  apply Int32.toBitVec_inj.1
  show BitVec.ofNat 32 a &&& BitVec.ofNat 32 b = BitVec.ofNat 32 (a &&& b)
  apply BitVec.eq_of_getLsbD_eq
  intro i hi
  simp [hi]
theorem nx_xor (a b : Nat) : nI a ^^^ nI b = nI (a ^^^ b) := by
  apply Int32.toBitVec_inj.1
  show BitVec.ofNat 32 a ^^^ BitVec.ofNat 32 b = BitVec.ofNat 32 (a ^^^ b)
  apply BitVec.eq_of_getLsbD_eq
  intro i hi
  simp [hi]
theorem nx_cnt : ∀ j : Fin 32, (UInt32.ofNat j.val &&& Int32.toUInt32 31).toNat % 32 = j.val := by decide +kernel
theorem nx_ush {k j : Nat} (hk : k < 65536) (hj : j < 32) : ((nI k).toUInt32 >>> ((nI j).toUInt32 &&& Int32.toUInt32 31)).toInt32 = nI (k >>> j) := by
  have hs : k >>> j ≤ k := by
    rw [Nat.shiftRight_eq_div_pow]
    exact Nat.div_le_self _ _
  have e2 : UInt32.ofNat k >>> (UInt32.ofNat j &&& Int32.toUInt32 31) = UInt32.ofNat (k >>> j) := by
    apply UInt32.toNat_inj.1
    have h1 : (UInt32.ofNat k).toNat = k := Nat.mod_eq_of_lt (by omega)
    have h2 : (UInt32.ofNat (k >>> j)).toNat = k >>> j := Nat.mod_eq_of_lt (by omega)
    rw [UInt32.toNat_shiftRight, nx_cnt ⟨j, hj⟩, h1, h2]
  show (UInt32.ofNat k >>> (UInt32.ofNat j &&& Int32.toUInt32 31)).toInt32 = _
  rw [e2]
  rfl
theorem nx_bit {k j : Nat} (hk : k < 65536) (hj : j < 16) : (((nI k).toUInt32 >>> ((nI j).toUInt32 &&& Int32.toUInt32 31)).toInt32 &&& 1) = 0 ↔ k.testBit j = false := by
  rw [nx_ush hk (by omega)]
  show nI (k >>> j) &&& nI 1 = 0 ↔ _
  rw [nx_and, Nat.and_one_is_mod, ← nI_0, nI_eq (by omega) (by omega), Nat.testBit_eq_decide_div_mod_eq, Nat.shiftRight_eq_div_pow, decide_eq_false_iff_not]
  generalize k / 2 ^ j = z
  omega
theorem nx_mod (k : Nat) : nI k &&& 65535 = nI (k % 65536) := by
  show nI k &&& nI 65535 = _
  rw [nx_and, show (65535 : Nat) = 2 ^ 16 - 1 from rfl, Nat.and_two_pow_sub_one_eq_mod]
theorem nx_m16 {k : Nat} (h : k < 65536) : nI k &&& 65535 = nI k := by rw [nx_mod, Nat.mod_eq_of_lt h]
theorem nx_mask (x : Int32) : ∃ k, k < 65536 ∧ x &&& 65535 = nI k := by
  have e : x = nI x.toBitVec.toNat := by
    apply Int32.toBitVec_inj.1
    show x.toBitVec = BitVec.ofNat 32 x.toBitVec.toNat
    simp
  refine ⟨x.toBitVec.toNat % 65536, Nat.mod_lt _ (by omega), ?_⟩
  rw [← nx_mod, ← e]
/-! ===== Int32 as a set of bits: test, set ===== -/
def nf_M (m : Int32) : Nat := 4294967296 - m.toBitVec.toNat
theorem nf_sh : ∀ l, l < 32 → ((1 : Int32) <<< (nI l &&& 31)).toBitVec = BitVec.twoPow 32 l := by decide +kernel
theorem nf_sl : ∀ l, l < 32 → (((nI l).toUInt32 &&& Int32.toUInt32 31).toBitVec % 32).toNat = l := by decide +kernel
theorem nf_tp : ∀ l, l < 32 → BitVec.twoPow 32 l ≠ 0#32 := by decide +kernel
theorem nf_bit (m : Int32) (l : Nat) (hl : l < 32) : ((m.toUInt32 >>> ((nI l).toUInt32 &&& Int32.toUInt32 31)).toInt32 &&& 1) = 0 ↔ (m &&& ((1 : Int32) <<< (nI l &&& 31))) = 0 := by
  have e : ((m.toUInt32 >>> ((nI l).toUInt32 &&& Int32.toUInt32 31)).toInt32).toBitVec = m.toBitVec >>> l := by
    show m.toBitVec >>> (((nI l).toUInt32 &&& Int32.toUInt32 31).toBitVec % 32) = m.toBitVec >>> l
    rw [BitVec.ushiftRight_eq', nf_sl l hl]
  rw [← Int32.toBitVec_inj, ← Int32.toBitVec_inj, Int32.toBitVec_and, Int32.toBitVec_and, nf_sh l hl, e, BitVec.and_twoPow]
  show (m.toBitVec >>> l &&& 1#32) = 0#32 ↔ _ = 0#32
  rw [BitVec.and_one_eq_setWidth_ofBool_getLsbD, BitVec.getLsbD_ushiftRight, Nat.add_zero]
  cases hb : m.toBitVec.getLsbD l
  · exact ⟨fun _ => by simp, fun _ => by decide⟩
  · exact ⟨fun z => absurd z (by decide), fun z => absurd ((if_pos rfl).symm.trans z) (nf_tp l hl)⟩
theorem nf_gr (m k : Int32) (h : m &&& k = 0) (hk : k ≠ 0) : nf_M (m ||| k) < nf_M m := by
  have hm := m.toBitVec.isLt
  have hm' := (m ||| k).toBitVec.isLt
  have h1 : m.toBitVec.toNat ≤ (m ||| k).toBitVec.toNat := by
    rw [Int32.toBitVec_or, BitVec.toNat_or]
    exact Nat.left_le_or
  have h2 : m.toBitVec.toNat ≠ (m ||| k).toBitVec.toNat := by
    intro e
    have e2 : m = m ||| k := Int32.toBitVec_inj.mp (BitVec.eq_of_toNat_eq e)
    apply hk
    apply Int32.toBitVec_inj.mp
    show k.toBitVec = 0#32
    apply BitVec.eq_of_getLsbD_eq
    intro i hi
    have a : m.toBitVec.getLsbD i = (m.toBitVec.getLsbD i || k.toBitVec.getLsbD i) := by rw [← BitVec.getLsbD_or, ← Int32.toBitVec_or, ← e2]
    have b : (m.toBitVec.getLsbD i && k.toBitVec.getLsbD i) = false := by
      rw [← BitVec.getLsbD_and, ← Int32.toBitVec_and, h]
      exact BitVec.getLsbD_zero
    rw [BitVec.getLsbD_zero]
    revert a b
    cases m.toBitVec.getLsbD i <;> cases k.toBitVec.getLsbD i <;> simp
  unfold nf_M
  omega
/-! ===== a byte read unsigned ===== -/
theorem bp_b (x : Int32) : x.toInt8.toInt32 &&& 255 = x &&& 255 := by
  apply Int32.toBitVec_inj.mp
  rw [Int32.toBitVec_and, Int32.toBitVec_and, Int8.toBitVec_toInt32, Int32.toBitVec_toInt8]
  apply BitVec.eq_of_getLsbD_eq
  intro i hi
  rw [BitVec.getLsbD_and, BitVec.getLsbD_and]
  have hm : ∀ i < 32, 8 ≤ i → (255 : Int32).toBitVec.getLsbD i = false := by decide
  rcases Nat.lt_or_ge i 8 with z | z
  · rw [BitVec.getLsbD_signExtend, BitVec.getLsbD_signExtend, if_pos z, if_pos hi]
    simp only [z, hi, decide_true, Bool.true_and]
  · rw [hm i hi z]; simp
/-! ===== the char cast and 65535 ===== -/
theorem em_w (v : Int32) : ∃ w : Nat, w < 65536 ∧ (v.toUInt32 % 65536).toInt32 = nI w ∧ v &&& 65535 = nI w := by
  have hr := lw_u16_r v
  have h0 : (0 : Int32).toInt = 0 := by decide
  obtain ⟨w, h1, h2⟩ := nI_of (x := lw_u16 v) (by rw [Int32.lt_iff_toInt_lt]; omega)
  have h3 : (v.toUInt32 % 65536).toInt32 = nI w := h2
  rw [h2, nI_toInt h1] at hr
  exact ⟨w, by omega, h3, by rw [← lg_i2c_mask, ← lg_i2c_nf, h3]⟩
/-! ===== Int64 as a set of bits: test, set, clear ===== -/
theorem ts_nf {x : Bool} (h : ¬ x = false) : x = true := by cases x <;> first | rfl | exact absurd rfl h
theorem ts_nt {x : Bool} (h : ¬ x = true) : x = false := by cases x <;> first | rfl | exact absurd rfl h
theorem ts_bit {w : Int64} {s : UInt64} {j : Nat} (hj : j < 64) (hs : s.toNat = j) : ((w.toUInt64 >>> s).toInt64 &&& 1) = 0 ↔ w.toBitVec.getLsbD j = false := by
  have e : (w.toUInt64 >>> s).toInt64.toBitVec = w.toBitVec >>> j := by
    apply BitVec.eq_of_toNat_eq
    show (w.toUInt64 >>> s).toNat = _
    rw [UInt64.toNat_shiftRight, hs, Nat.mod_eq_of_lt hj, BitVec.toNat_ushiftRight]
    rfl
  rw [← Int64.toBitVec_inj, Int64.toBitVec_and, e]
  show w.toBitVec >>> j &&& 1#64 = 0#64 ↔ _
  constructor
  · intro h
    have t := congrArg (fun x => x.getLsbD 0) h
    simpa using t
  · intro h
    apply BitVec.eq_of_getLsbD_eq
    intro i hi
    cases i with
    | zero => simp [h]
    | succ i => simp
theorem ts_or {w m : Int64} {j : Nat} (hj : j < 64) (hm : m.toBitVec = BitVec.twoPow 64 j) : (w ||| m) = w ↔ w.toBitVec.getLsbD j = true := by
  rw [← Int64.toBitVec_inj, Int64.toBitVec_or, hm]
  constructor
  · intro h
    have t := congrArg (fun x => x.getLsbD j) h
    simp only [BitVec.getLsbD_or, BitVec.getLsbD_twoPow] at t
    simpa [hj] using t.symm
  · intro h
    apply BitVec.eq_of_getLsbD_eq
    intro i hi
    rw [BitVec.getLsbD_or, BitVec.getLsbD_twoPow]
    by_cases e : j = i
    · subst e; rw [h, Bool.true_or]
    · simp [e]
theorem ts_and {w m : Int64} {j : Nat} (hj : j < 64) (hm : m.toBitVec = BitVec.twoPow 64 j) : (w &&& (m ^^^ (-1))) = w ↔ w.toBitVec.getLsbD j = false := by
  have ha : (-1 : Int64).toBitVec = BitVec.allOnes 64 := by decide
  rw [← Int64.toBitVec_inj, Int64.toBitVec_and, Int64.toBitVec_xor, hm, ha]
  constructor
  · intro h
    have t := congrArg (fun x => x.getLsbD j) h
    simp only [BitVec.getLsbD_and, BitVec.getLsbD_xor, BitVec.getLsbD_twoPow, BitVec.getLsbD_allOnes] at t
    simpa [hj] using t.symm
  · intro h
    apply BitVec.eq_of_getLsbD_eq
    intro i hi
    rw [BitVec.getLsbD_and, BitVec.getLsbD_xor, BitVec.getLsbD_twoPow, BitVec.getLsbD_allOnes]
    by_cases e : j = i
    · subst e; rw [h, Bool.false_and]
    · simp [e, hi]
/-! ===== lN n to 2^64: shifts, and, or, masks, one bit ===== -/
theorem wb_tb (n : Nat) : (lN n).toBitVec = BitVec.ofNat 64 n := rfl
theorem wb_inj {a b : Int64} (h : a.toBitVec = b.toBitVec) : a = b := Int64.toBitVec_inj.mp h
theorem wb_tn {n : Nat} (h : n < 2 ^ 64) : (lN n).toBitVec.toNat = n := by rw [wb_tb, BitVec.toNat_ofNat, Nat.mod_eq_of_lt h]
theorem wb_of (x : Int64) : ∃ n, n < 2 ^ 64 ∧ x = lN n := ⟨x.toBitVec.toNat, x.toBitVec.isLt, wb_inj (by rw [wb_tb]; simp)⟩
theorem wb_of32 (x : Int32) : ∃ n, n < 2 ^ 32 ∧ x = nI n := ⟨x.toBitVec.toNat, x.toBitVec.isLt, Int32.toBitVec_inj.mp (by show _ = BitVec.ofNat 32 _; simp)⟩
theorem wb_c : ∀ k, k < 64 → ((nI k).toInt64 &&& 63) = lN k := by decide +kernel
theorem wb_cu : ∀ k, k < 64 → ((nI k).toInt64.toUInt64 &&& Int64.toUInt64 63) = UInt64.ofNat k := by decide +kernel
theorem wb_sm : ∀ k, k < 64 → (BitVec.ofNat 64 k).smod 64 = BitVec.ofNat 64 k := by decide +kernel
theorem wb_pw {a b : Nat} (h : a ≤ b) : 2 ^ b = 2 ^ a * 2 ^ (b - a) := by rw [← Nat.pow_add]; congr 1; omega
theorem wb_lt2 {a b : Nat} (h : a < b) : 2 ^ a < 2 ^ b := Nat.pow_lt_pow_right (by decide) h
theorem wb_mod (n : Nat) : lN n = lN (n % 2 ^ 64) := wb_inj (by rw [wb_tb, wb_tb]; apply BitVec.eq_of_toNat_eq; rw [BitVec.toNat_ofNat, BitVec.toNat_ofNat, Nat.mod_mod])
theorem wb_shr {n k : Nat} (hn : n < 2 ^ 64) (hk : k < 64) : ((lN n).toUInt64 >>> ((nI k).toInt64.toUInt64 &&& Int64.toUInt64 63)).toInt64 = lN (n / 2 ^ k) := by
  rw [wb_cu k hk]
  apply wb_inj
  apply BitVec.eq_of_toNat_eq
  show ((lN n).toUInt64 >>> UInt64.ofNat k).toNat = (BitVec.ofNat 64 _).toNat
  have h1 : (UInt64.ofNat k).toNat = k := by
    show (BitVec.ofNat 64 k).toNat = k
    rw [BitVec.toNat_ofNat, Nat.mod_eq_of_lt (by omega)]
  have h2 : (lN n).toUInt64.toNat = n := wb_tn hn
  rw [UInt64.toNat_shiftRight, h1, h2, Nat.mod_eq_of_lt hk, Nat.shiftRight_eq_div_pow, BitVec.toNat_ofNat, Nat.mod_eq_of_lt (Nat.lt_of_le_of_lt (Nat.div_le_self _ _) hn)]
theorem wb_shl (n : Nat) {k : Nat} (hk : k < 64) : lN n <<< ((nI k).toInt64 &&& 63) = lN (n * 2 ^ k) := by
  rw [wb_c k hk]
  apply wb_inj
  rw [Int64.toBitVec_shiftLeft, wb_tb, wb_tb, wb_tb, wb_sm k hk]
  apply BitVec.eq_of_toNat_eq
  rw [BitVec.shiftLeft_eq', BitVec.toNat_shiftLeft, BitVec.toNat_ofNat, BitVec.toNat_ofNat, BitVec.toNat_ofNat, Nat.mod_eq_of_lt (show k < 2 ^ 64 by omega), Nat.shiftLeft_eq, Nat.mul_mod, Nat.mod_mod, ← Nat.mul_mod]
theorem wb_and {a b : Nat} (ha : a < 2 ^ 64) (hb : b < 2 ^ 64) : lN a &&& lN b = lN (a &&& b) := by
  apply wb_inj
  rw [Int64.toBitVec_and, wb_tb, wb_tb, wb_tb]
  apply BitVec.eq_of_toNat_eq
  rw [BitVec.toNat_and, BitVec.toNat_ofNat, BitVec.toNat_ofNat, BitVec.toNat_ofNat, Nat.mod_eq_of_lt ha, Nat.mod_eq_of_lt hb, Nat.mod_eq_of_lt (Nat.and_lt_two_pow _ hb)]
theorem wb_or {a b : Nat} (ha : a < 2 ^ 64) (hb : b < 2 ^ 64) : lN a ||| lN b = lN (a ||| b) := by
  apply wb_inj
  rw [Int64.toBitVec_or, wb_tb, wb_tb, wb_tb]
  apply BitVec.eq_of_toNat_eq
  rw [BitVec.toNat_or, BitVec.toNat_ofNat, BitVec.toNat_ofNat, BitVec.toNat_ofNat, Nat.mod_eq_of_lt ha, Nat.mod_eq_of_lt hb, Nat.mod_eq_of_lt (Nat.or_lt_two_pow ha hb)]
theorem wb_mask {n k : Nat} (hn : n < 2 ^ 64) (hk : k < 64) : lN n &&& lN (2 ^ k - 1) = lN (n % 2 ^ k) := by
  rw [wb_and hn (by have := wb_lt2 hk; omega), Nat.and_two_pow_sub_one_eq_mod]
theorem wb_a1 {n : Nat} (hn : n < 2 ^ 64) : lN n &&& 1 = lN (n % 2) := wb_mask (k := 1) hn (by decide)
theorem wb_bit {n k : Nat} (hn : n < 2 ^ 64) (hk : k < 64) : ((lN n).toUInt64 >>> ((nI k).toInt64.toUInt64 &&& Int64.toUInt64 63)).toInt64 &&& 1 = lN (n / 2 ^ k % 2) := by
  rw [wb_shr hn hk, wb_a1 (Nat.lt_of_le_of_lt (Nat.div_le_self _ _) hn)]
theorem wb_xor {q k : Nat} (hk : k < 63) (h : 2 ^ k ≤ q) (h2 : q < 2 ^ (k + 1)) : lN q ^^^ lN (2 ^ k) = lN (q - 2 ^ k) := by
  obtain ⟨r, rfl⟩ : ∃ r, q = 2 ^ k + r := ⟨q - 2 ^ k, by omega⟩
  have hr : r < 2 ^ k := by rw [Nat.pow_succ] at h2; omega
  have hx : (2 ^ k + r) ^^^ 2 ^ k = r := by
    apply Nat.eq_of_testBit_eq
    intro i
    rw [Nat.testBit_xor, Nat.testBit_two_pow]
    rcases Nat.lt_trichotomy i k with h | h | h
    · rw [Nat.testBit_two_pow_add_gt h]
      simp [show ¬ k = i by omega]
    · subst h
      rw [Nat.testBit_two_pow_add_eq]
      simp
    · have a1 : 2 ^ (k + 1) ≤ 2 ^ i := Nat.pow_le_pow_right (by decide) h
      rw [Nat.testBit_lt_two_pow (show 2 ^ k + r < 2 ^ i by omega), Nat.testBit_lt_two_pow (show r < 2 ^ i by omega)]
      simp [show ¬ k = i by omega]
  have b1 := wb_lt2 (show k + 1 < 64 by omega)
  have b2 := wb_lt2 (show k < 64 by omega)
  apply wb_inj
  rw [Int64.toBitVec_xor, wb_tb, wb_tb, wb_tb]
  apply BitVec.eq_of_toNat_eq
  rw [BitVec.toNat_xor, BitVec.toNat_ofNat, BitVec.toNat_ofNat, BitVec.toNat_ofNat, Nat.mod_eq_of_lt (by omega : 2 ^ k + r < 2 ^ 64), Nat.mod_eq_of_lt b2, hx, Nat.add_sub_cancel_left, Nat.mod_eq_of_lt (by omega)]
/-! ===== lN: masks, 'or' of parts that don't overlap is a sum ===== -/
theorem u_tn {n : Nat} (h : n < 2 ^ 64) : (UInt64.ofNat n).toNat = n := Nat.mod_eq_of_lt h
theorem g_and {a b c : Nat} (ha : a < 2 ^ 64) (hb : b < 2 ^ 64) (hc : a &&& b = c) : lN a &&& lN b = lN c := by
  subst hc
  have h : UInt64.ofNat a &&& UInt64.ofNat b = UInt64.ofNat (a &&& b) := UInt64.toNat_inj.mp (by rw [UInt64.toNat_and, u_tn ha, u_tn hb, u_tn (Nat.and_lt_two_pow a hb)])
  have h2 := congrArg UInt64.toInt64 h
  exact h2
theorem g_and1 {a : Nat} (ha : a < 2 ^ 64) : lN a &&& 1 = lN (a % 2) := g_and (b := 1) ha (by decide) (Nat.and_two_pow_sub_one_eq_mod a 1)
theorem g_mask {a s p : Nat} (hp : 2 ^ s = p) (hs : s < 64) (ha : a < 2 ^ 64) : lN a &&& lN (p - 1) = lN (a % p) := by
  subst hp
  have := Nat.pow_lt_pow_right (show 1 < 2 by decide) hs
  exact g_and ha (by omega) (Nat.and_two_pow_sub_one_eq_mod a s)
theorem g_or {k p a b : Nat} (hp : 2 ^ k = p) (ha : a < p) (h : b * p + a < 2 ^ 64) : lN (b * p) ||| lN a = lN (b * p + a) := by
  subst hp
  have h1 : b * 2 ^ k ||| a = b * 2 ^ k + a := by rw [← Nat.shiftLeft_eq, Nat.shiftLeft_add_eq_or_of_lt ha]
  have h3 : UInt64.ofNat (b * 2 ^ k) ||| UInt64.ofNat a = UInt64.ofNat (b * 2 ^ k + a) := UInt64.toNat_inj.mp (by rw [UInt64.toNat_or, u_tn (by omega), u_tn (by omega), u_tn h, h1])
  have h2 := congrArg UInt64.toInt64 h3
  exact h2
theorem g_or' {k p a b : Nat} (hp : 2 ^ k = p) (ha : a < p) (h : a + b * p < 2 ^ 64) : lN a ||| lN (b * p) = lN (a + b * p) := by
  rw [Int64.or_comm, g_or hp ha (by omega), Nat.add_comm]
theorem g_ushr {a k p : Nat} {y : UInt64} (hy : y = UInt64.ofNat k) (hk : k < 64) (hp : 2 ^ k = p) (ha : a < 2 ^ 64) : ((lN a).toUInt64 >>> y).toInt64 = lN (a / p) := by
  subst hy hp
  have h : UInt64.ofNat a >>> UInt64.ofNat k = UInt64.ofNat (a / 2 ^ k) := UInt64.toNat_inj.mp (by rw [UInt64.toNat_shiftRight, u_tn ha, u_tn (by omega), u_tn (Nat.lt_of_le_of_lt (Nat.div_le_self _ _) ha), Nat.mod_eq_of_lt hk, Nat.shiftRight_eq_div_pow])
  have h2 := congrArg UInt64.toInt64 h
  exact h2
theorem g_shl {a k p : Nat} {y : Int64} (hy : y.toBitVec.smod 64 = BitVec.ofNat 64 k) (hk : k < 64) (hp : 2 ^ k = p) (ha : a < 2 ^ 64) : lN a <<< y = lN (a * p) := by
  subst hp
  apply Int64.toBitVec_inj.mp
  rw [Int64.toBitVec_shiftLeft, hy]
  apply BitVec.eq_of_toNat_eq
  have hb : (lN a).toBitVec.toNat = a := Nat.mod_eq_of_lt ha
  have hk' : (BitVec.ofNat 64 k).toNat = k := Nat.mod_eq_of_lt (by omega)
  have h : ((lN a).toBitVec <<< BitVec.ofNat 64 k).toNat = (a * 2 ^ k) % 2 ^ 64 := by simp only [BitVec.shiftLeft_eq', BitVec.toNat_shiftLeft, hb, hk', Nat.shiftLeft_eq]
  exact h
/-! ===== lN to 2^62 under >> and >>> ===== -/
theorem pf_lI {a : Nat} (h : a < 2 ^ 63) : (lN a).toInt = (a : Int) := lg_ofNat_toInt h
theorem pf_shr {a d : Nat} {D : Int64} (hD : (D.toBitVec.smod 64).toNat = d) (h : a < 2 ^ 62) : lN a >>> D = lN (a / 2 ^ d) := by
  have hd : a / 2 ^ d ≤ a := Nat.div_le_self _ _
  apply Int64.toInt_inj.mp
  have e : (lN a >>> D).toInt = (lN a).toInt >>> d := by
    rw [← hD]
    exact BitVec.toInt_sshiftRight ..
  rw [e, Int.shiftRight_eq_div_pow, pf_lI (by omega), pf_lI (by omega)]
  rfl
theorem pf_ushr {a d : Nat} {D : UInt64} (hD : D.toNat % 64 = d) (h : a < 2 ^ 62) : ((lN a).toUInt64 >>> D).toInt64 = lN (a / 2 ^ d) := by
  have hd : a / 2 ^ d ≤ a := Nat.div_le_self _ _
  have e : (lN a).toUInt64 >>> D = UInt64.ofNat (a / 2 ^ d) := UInt64.toNat_inj.mp (by
    rw [UInt64.toNat_shiftRight, hD, Nat.shiftRight_eq_div_pow, UInt64.toNat_ofNat']
    show (UInt64.ofNat a).toNat / 2 ^ d = _
    rw [UInt64.toNat_ofNat', Nat.mod_eq_of_lt (by omega), Nat.mod_eq_of_lt (by omega)])
  rw [e]
  rfl
theorem pf_andw (x : Int64) : ∃ m, m < 2 ^ 32 ∧ x &&& 4294967295 = lN m := ⟨x.toBitVec.toNat % 2 ^ 32, Nat.mod_lt _ (by decide), Int64.toBitVec_inj.mp (BitVec.eq_of_toNat_eq (by
  show (x.toBitVec &&& 4294967295#64).toNat = (BitVec.ofNat 64 (x.toBitVec.toNat % 2 ^ 32)).toNat
  rw [BitVec.toNat_and, show (4294967295#64).toNat = 2 ^ 32 - 1 from by decide, Nat.and_two_pow_sub_one_eq_mod, BitVec.toNat_ofNat]
  omega))⟩
/-! ===== Int64 as an unsigned number: uN x ===== -/
def uN (x : Int64) : Nat := x.toUInt64.toNat
theorem uN_lt (x : Int64) : uN x < 18446744073709551616 := x.toUInt64.toNat_lt
theorem uN_inj {x y : Int64} (h : uN x = uN y) : x = y := congrArg UInt64.toInt64 (UInt64.toNat_inj.mp h)
theorem uN_add (x y : Int64) : uN (x + y) = (uN x + uN y) % 18446744073709551616 := by
  show (x.toUInt64 + y.toUInt64).toNat = _
  exact UInt64.toNat_add _ _
theorem uN_mul (x y : Int64) : uN (x * y) = (uN x * uN y) % 18446744073709551616 := by
  show (x.toUInt64 * y.toUInt64).toNat = _
  exact UInt64.toNat_mul _ _
theorem uN_shl (x : Int64) : uN (x <<< ((1 : Int32).toInt64 &&& 63)) = (2 * uN x) % 18446744073709551616 := by
  have h : (((1 : Int32).toInt64 &&& 63).toBitVec.smod 64).toNat = 1 := by decide
  show (x.toBitVec <<< (((1 : Int32).toInt64 &&& 63).toBitVec.smod 64).toNat).toNat = _
  rw [h, BitVec.toNat_shiftLeft, Nat.shiftLeft_eq, Nat.mul_comm]
  rfl
theorem uN_shr (x : Int64) (s : UInt64) : uN (x.toUInt64 >>> s).toInt64 = uN x / 2 ^ (s.toNat % 64) := by
  show (x.toUInt64 >>> s).toNat = _
  rw [UInt64.toNat_shiftRight, Nat.shiftRight_eq_div_pow]
  rfl
theorem uN_s32 (x : Int64) : uN (x.toUInt64 >>> ((32 : Int32).toInt64.toUInt64 &&& Int64.toUInt64 63)).toInt64 = uN x / 4294967296 := by
  have h : ((32 : Int32).toInt64.toUInt64 &&& Int64.toUInt64 63).toNat % 64 = 32 := by decide
  rw [uN_shr, h]
theorem uN_s63 (x : Int64) : uN (x.toUInt64 >>> ((63 : Int32).toInt64.toUInt64 &&& Int64.toUInt64 63)).toInt64 = uN x / 9223372036854775808 := by
  have h : ((63 : Int32).toInt64.toUInt64 &&& Int64.toUInt64 63).toNat % 64 = 63 := by decide
  rw [uN_shr, h]
theorem uN_lo (x : Int64) : uN (x &&& 4294967295) = uN x % 4294967296 := by
  show (x.toUInt64 &&& Int64.toUInt64 4294967295).toNat = _
  rw [UInt64.toNat_and]
  exact Nat.and_two_pow_sub_one_eq_mod _ 32
theorem uN_bit (x : Int64) : (x &&& 1) = 0 ↔ uN x % 2 = 0 := by
  have h : uN (x &&& 1) = uN x % 2 := by
    show (x.toUInt64 &&& Int64.toUInt64 1).toNat = _
    rw [UInt64.toNat_and]
    exact Nat.and_two_pow_sub_one_eq_mod _ 1
  rw [← h]
  exact ⟨fun z => by rw [z]; rfl, fun z => uN_inj (z.trans rfl)⟩
theorem uN_or {x y : Int64} (hy : uN y < 2) : uN ((x <<< ((1 : Int32).toInt64 &&& 63)) ||| y) = (2 * uN x) % 18446744073709551616 + uN y := by
  have h1 : uN ((x <<< ((1 : Int32).toInt64 &&& 63)) ||| y) = uN (x <<< ((1 : Int32).toInt64 &&& 63)) ||| uN y := UInt64.toNat_or _ _
  have h2 : (2 * uN x) % 18446744073709551616 = 2 ^ 1 * (uN x % 9223372036854775808) := by omega
  rw [h1, uN_shl, h2]
  exact (Nat.two_pow_add_eq_or_of_lt (i := 1) hy _).symm
theorem nat_xor {a : Nat} (h : a < 18446744073709551616) : a ^^^ 2 ^ 63 = (a + 9223372036854775808) % 18446744073709551616 := by
  have h1 : (a ^^^ 2 ^ 63) % 2 ^ 63 = a % 2 ^ 63 := by rw [Nat.xor_mod_two_pow, Nat.mod_self, Nat.xor_zero]
  have h2 : (a ^^^ 2 ^ 63) / 2 ^ 63 = (a / 2 ^ 63) ^^^ 1 := by rw [Nat.xor_div_two_pow, Nat.div_self (Nat.two_pow_pos 63)]
  have h3 : a / 2 ^ 63 = 0 ∨ a / 2 ^ 63 = 1 := by omega
  generalize a ^^^ 2 ^ 63 = t at h1 h2
  rcases h3 with h3 | h3
  · rw [h3] at h2
    have h2 : t / 2 ^ 63 = 1 := h2
    omega
  · rw [h3] at h2
    have h2 : t / 2 ^ 63 = 0 := h2
    omega
theorem uN_xor (x : Int64) : uN (x ^^^ (-9223372036854775808)) = (uN x + 9223372036854775808) % 18446744073709551616 := by
  rw [← nat_xor (uN_lt x)]
  exact UInt64.toNat_xor _ _
theorem uN_int (x : Int64) : x.toInt = if 2 * uN x < 18446744073709551616 then (uN x : Int) else (uN x : Int) - 18446744073709551616 := BitVec.toInt_eq_toNat_cond _
theorem uN_le (x y : Int64) : (x ^^^ (-9223372036854775808)) ≤ (y ^^^ (-9223372036854775808)) ↔ uN x ≤ uN y := by
  have hx := uN_lt x
  have hy := uN_lt y
  rw [Int64.le_iff_toInt_le, uN_int, uN_int, uN_xor, uN_xor]
  omega
theorem uN_sk (x : Int64) {k : Nat} (hk : k < 64) : uN (x.toUInt64 >>> ((nI k).toInt64.toUInt64 &&& Int64.toUInt64 63)).toInt64 = uN x / 2 ^ k := by
  have h : ((nI k).toInt64.toUInt64 &&& Int64.toUInt64 63).toNat % 64 = k := by
    rw [nI_l (by omega), UInt64.toNat_and]
    have e : (lN k).toUInt64.toNat = k % 2 ^ 64 := rfl
    have e2 : (Int64.toUInt64 63).toNat = 2 ^ 6 - 1 := by decide
    rw [e, e2, Nat.and_two_pow_sub_one_eq_mod]
    omega
  rw [uN_shr, h]
/-! ===== unsigned comparison by xor with the least ===== -/
theorem lN_bv (n : Nat) : (lN n).toBitVec = BitVec.ofNat 64 n := rfl
theorem lN_nat {n : Nat} (h : n < 2 ^ 64) : (lN n).toBitVec.toNat = n := by rw [lN_bv, BitVec.toNat_ofNat]; exact Nat.mod_eq_of_lt h
theorem lN_xor (a b : Nat) : lN a ^^^ lN b = lN (a ^^^ b) := by
  apply Int64.toBitVec_inj.mp; rw [Int64.toBitVec_xor, lN_bv, lN_bv, lN_bv]; apply BitVec.eq_of_getLsbD_eq; intro i hi; simp [BitVec.getLsbD_ofNat, Nat.testBit_xor, hi]
theorem lN_ti {m : Nat} (h : m < 2 ^ 64) : (lN m).toInt = if m < 2 ^ 63 then (m : Int) else (m : Int) - 2 ^ 64 := by
  have c := BitVec.toInt_eq_toNat_cond (lN m).toBitVec
  rw [lN_nat h] at c
  show (lN m).toBitVec.toInt = _
  rw [c]
  split <;> split <;> omega
theorem xor63 {x : Nat} (h : x < 2 ^ 63) : x ^^^ 2 ^ 63 = 2 ^ 63 + x := by
  apply Nat.eq_of_testBit_eq
  intro i
  rw [Nat.testBit_xor, Nat.testBit_two_pow]
  rcases Nat.lt_trichotomy i 63 with z | z | z
  · rw [Nat.testBit_two_pow_add_gt z, decide_eq_false (by omega)]; simp
  · subst z; rw [Nat.testBit_two_pow_add_eq]; simp
  · have hp : 2 ^ 64 ≤ 2 ^ i := Nat.pow_le_pow_right (by decide) z
    rw [Nat.testBit_lt_two_pow (show x < 2 ^ i by omega), Nat.testBit_lt_two_pow (show 2 ^ 63 + x < 2 ^ i by omega), decide_eq_false (by omega)]; rfl
theorem xorS {a : Nat} (h : a < 2 ^ 64) : (lN a ^^^ (-9223372036854775808)).toInt = (a : Int) - 2 ^ 63 := by
  rw [show (-9223372036854775808 : Int64) = lN (2 ^ 63) from by decide +kernel, lN_xor]
  rcases Nat.lt_or_ge a (2 ^ 63) with z | z
  · rw [xor63 z, lN_ti (by omega), if_neg (by omega)]; omega
  · obtain ⟨x, rfl⟩ : ∃ x, a = 2 ^ 63 + x := ⟨a - 2 ^ 63, by omega⟩
    rw [← xor63 (by omega), Nat.xor_assoc, Nat.xor_self, Nat.xor_zero, lN_ti (by omega), if_pos (by omega), xor63 (by omega)]; omega
theorem ultL {a b : Nat} (ha : a < 2 ^ 64) (hb : b < 2 ^ 64) : ((lN b ^^^ (-9223372036854775808)) ≤ (lN a ^^^ (-9223372036854775808))) ↔ b ≤ a := by
  rw [Int64.le_iff_toInt_le, xorS ha, xorS hb]; omega
/-! ===== Int64 masks of n low bits ===== -/
theorem cr_bits (W U M : BitVec 64) : ((W &&& U) &&& (U &&& (M ^^^ BitVec.allOnes 64))) = 0#64 ↔ (W &&& U) &&& M = W &&& U := by
  constructor
  · intro h
    apply BitVec.eq_of_getLsbD_eq
    intro i hi
    have e := congrArg (fun x => BitVec.getLsbD x i) h
    simp only [BitVec.getLsbD_and, BitVec.getLsbD_xor, BitVec.getLsbD_allOnes, BitVec.getLsbD_zero, hi, decide_true] at e ⊢
    revert e
    cases W.getLsbD i <;> cases U.getLsbD i <;> cases M.getLsbD i <;> decide
  · intro h
    apply BitVec.eq_of_getLsbD_eq
    intro i hi
    have e := congrArg (fun x => BitVec.getLsbD x i) h
    simp only [BitVec.getLsbD_and, BitVec.getLsbD_xor, BitVec.getLsbD_allOnes, BitVec.getLsbD_zero, hi, decide_true] at e ⊢
    revert e
    cases W.getLsbD i <;> cases U.getLsbD i <;> cases M.getLsbD i <;> decide
theorem cr_mask (w U m : Int64) (n : Nat) (hm : m.toBitVec.toNat = 2 ^ n - 1) : ((w &&& U) &&& (U &&& (m ^^^ (-1)))) = 0 ↔ (w &&& U).toBitVec.toNat < 2 ^ n := by
  have e0 : (-1 : Int64).toBitVec = BitVec.allOnes 64 := by decide
  have z0 : (0 : Int64).toBitVec = 0#64 := by decide
  rw [← Int64.toBitVec_inj, z0, Int64.toBitVec_and, Int64.toBitVec_and, Int64.toBitVec_and, Int64.toBitVec_xor, e0, cr_bits]
  generalize w.toBitVec &&& U.toBitVec = T
  rw [← BitVec.toNat_inj, BitVec.toNat_and, hm, Nat.and_two_pow_sub_one_eq_mod]
  constructor
  · intro h
    have t := Nat.mod_lt T.toNat (Nat.two_pow_pos n)
    rw [h] at t
    exact t
  · exact Nat.mod_eq_of_lt
theorem cr_shr (t : Int64) (x : UInt64) (n : Nat) (hx : x.toNat % 64 = n) : (t.toUInt64 >>> x).toInt64 = 0 ↔ t.toBitVec.toNat < 2 ^ n := by
  rw [← Int64.toBitVec_inj, ← BitVec.toNat_inj]
  show (t.toUInt64 >>> x).toNat = 0 ↔ t.toUInt64.toNat < 2 ^ n
  rw [UInt64.toNat_shiftRight, hx, Nat.shiftRight_eq_div_pow]
  constructor
  · intro h
    have d : t.toUInt64.toNat / 2 ^ n < 1 := by
      rw [h]
      decide
    have e := (Nat.div_lt_iff_lt_mul (Nat.two_pow_pos n)).mp d
    rw [Nat.one_mul] at e
    exact e
  · exact Nat.div_eq_of_lt
theorem cr_amt (s : Int64) : ∃ n, n < 64 ∧ s &&& 63 = lN n ∧ (s.toUInt64 &&& Int64.toUInt64 63).toNat % 64 = n := by
  have e : (s.toUInt64 &&& Int64.toUInt64 63).toNat = s.toUInt64.toNat % 2 ^ 6 := by
    rw [UInt64.toNat_and, show (Int64.toUInt64 63).toNat = 2 ^ 6 - 1 from by decide, Nat.and_two_pow_sub_one_eq_mod]
  refine ⟨s.toUInt64.toNat % 2 ^ 6, by omega, ?_, by omega⟩
  rw [← Int64.toBitVec_inj, ← BitVec.toNat_inj]
  show (s.toUInt64 &&& Int64.toUInt64 63).toNat = (BitVec.ofNat 64 (s.toUInt64.toNat % 2 ^ 6)).toNat
  rw [e, BitVec.toNat_ofNat]
  omega
end
section
/-! ===== Int64 as a set of squares ===== -/
def cb_h (x : Int64) (i : Nat) : Bool := x.toBitVec.getLsbD i
theorem cb_ext {x y : Int64} (h : ∀ i, i < 64 → cb_h x i = cb_h y i) : x = y := Int64.toBitVec_inj.mp (BitVec.eq_of_getLsbD_eq (fun i hi => h i hi))
theorem cb_or (x y : Int64) (i : Nat) : cb_h (x ||| y) i = (cb_h x i || cb_h y i) := by unfold cb_h; rw [Int64.toBitVec_or, BitVec.getLsbD_or]
theorem cb_and (x y : Int64) (i : Nat) : cb_h (x &&& y) i = (cb_h x i && cb_h y i) := by unfold cb_h; rw [Int64.toBitVec_and, BitVec.getLsbD_and]
theorem cb_xor (x y : Int64) (i : Nat) : cb_h (x ^^^ y) i = (cb_h x i ^^ cb_h y i) := by unfold cb_h; rw [Int64.toBitVec_xor, BitVec.getLsbD_xor]
theorem cb_big {x : Int64} {i : Nat} (h : 64 ≤ i) : cb_h x i = false := BitVec.getLsbD_of_ge _ _ h
theorem cb_m1 : ∀ i, i < 64 → cb_h (-1) i = true := by decide +kernel
theorem cb_0 (i : Nat) : cb_h 0 i = false := BitVec.getLsbD_zero
theorem cb_not (x : Int64) {i : Nat} (hi : i < 64) : cb_h (x ^^^ (-1)) i = !cb_h x i := by
  rw [cb_xor, cb_m1 i hi]; cases cb_h x i <;> rfl
theorem cb_zero {x : Int64} : x = 0 ↔ ∀ i, i < 64 → cb_h x i = false :=
  ⟨fun h i _ => by rw [h]; exact cb_0 i, fun h => cb_ext fun i hi => by rw [h i hi, cb_0]⟩
theorem cb_ne {x : Int64} (h : x ≠ 0) : ∃ i, i < 64 ∧ cb_h x i = true := by
  refine Classical.byContradiction fun hn => h (cb_zero.mpr fun i hi => ?_)
  cases hc : cb_h x i
  · rfl
  · exact absurd ⟨i, hi, hc⟩ hn
theorem cb_lN {n : Nat} (hn : n < 2 ^ 64) (i : Nat) : cb_h (lN n) i = n.testBit i := by
  unfold cb_h; rw [wb_tb, BitVec.getLsbD_ofNat]
  by_cases h : i < 64
  · simp [h]
  · have : n < 2 ^ i := Nat.lt_of_lt_of_le hn (Nat.pow_le_pow_right (by decide) (by omega))
    rw [Nat.testBit_lt_two_pow this]; simp
theorem cb_one {k : Nat} (hk : k < 64) (i : Nat) : cb_h ((1 : Int64) <<< ((nI k).toInt64 &&& 63)) i = decide (i = k) := by
  have e : (1 : Int64) <<< ((nI k).toInt64 &&& 63) = lN (1 * 2 ^ k) := wb_shl 1 hk
  rw [e, Nat.one_mul, cb_lN (wb_lt2 hk), Nat.testBit_two_pow]
  exact decide_eq_decide.mpr ⟨fun h => h.symm, fun h => h.symm⟩
theorem cb_tst {x : Int64} {k : Nat} (hk : k < 64) : ((x.toUInt64 >>> ((nI k).toInt64.toUInt64 &&& Int64.toUInt64 63)).toInt64 &&& 1) = 1 ↔ cb_h x k = true := by
  obtain ⟨n, hn, rfl⟩ := wb_of x
  rw [wb_bit hn hk, cb_lN hn, Nat.testBit_eq_decide_div_mod_eq]
  have e : (1 : Int64) = lN 1 := rfl
  rw [e, pk_lEQ (by omega) (by decide)]
  simp
/-! lists of bits -/
def cb_l (x : Int64) : List Nat := (List.range 64).filter (cb_h x)
theorem cb_l0 : cb_l 0 = [] := by
  unfold cb_l; rw [List.filter_eq_nil_iff]; intro a _; rw [cb_0]; decide
theorem cb_lnil {x : Int64} (h : cb_l x = []) : x = 0 := by
  unfold cb_l at h; rw [List.filter_eq_nil_iff] at h
  refine cb_zero.mpr fun i hi => ?_
  have := h i (List.mem_range.mpr hi)
  cases hc : cb_h x i
  · rfl
  · exact absurd hc this
theorem cb_lmem {x : Int64} {i : Nat} : i ∈ cb_l x ↔ cb_h x i = true := by
  unfold cb_l; rw [List.mem_filter, List.mem_range]
  refine ⟨fun h => h.2, fun h => ⟨?_, h⟩⟩
  refine Nat.lt_of_not_le fun h64 => ?_
  rw [cb_big h64] at h; exact absurd h (by decide)
theorem cb_filt (p : Nat → Bool) (k : Nat) : ∀ l : List Nat, l.Pairwise (· < ·) → k ∈ l → p k = true → (∀ j, j < k → p j = false) →
    l.filter p = k :: l.filter (fun i => p i && decide (i ≠ k))
  | [], _, h, _, _ => absurd h (by simp)
  | a :: l, hl, hm, hp, hj => by
    rw [List.pairwise_cons] at hl
    rcases List.mem_cons.mp hm with e | e
    · subst e
      rw [List.filter_cons_of_pos hp, List.filter_cons_of_neg (by simp)]
      congr 1
      refine List.filter_congr fun x hx => ?_
      have := hl.1 x hx
      have : x ≠ k := by omega
      simp [this]
    · have ha : a < k := hl.1 k e
      have pa := hj a ha
      rw [List.filter_cons_of_neg (by simp [pa]), List.filter_cons_of_neg (by simp [pa])]
      exact cb_filt p k l hl.2 e hp hj
def cb_LO (n k : Nat) : Prop := n.testBit k = true ∧ ∀ j, j < k → n.testBit j = false
def cb_HI (n k : Nat) : Prop := n.testBit k = true ∧ ∀ j, k < j → n.testBit j = false
theorem cb_lomod {n k : Nat} (h : cb_LO n k) : n % 2 ^ k = 0 := by
  refine Nat.eq_of_testBit_eq fun i => ?_
  rw [Nat.testBit_mod_two_pow, Nat.zero_testBit]
  by_cases hi : i < k
  · rw [h.2 i hi]; simp
  · simp [hi]
theorem cb_pred {n m : Nat} (hm : 0 < m) (h : n % m ≠ 0) : (n - 1) / m = n / m := by
  have h1 := Nat.div_add_mod n m
  have h2 := Nat.mod_lt n hm
  have e : n - 1 = (n % m - 1) + m * (n / m) := by omega
  rw [e, Nat.add_mul_div_left _ _ hm, Nat.div_eq_of_lt (by omega), Nat.zero_add]
theorem cb_pop {n k : Nat} (h : cb_LO n k) (i : Nat) : (n &&& (n - 1)).testBit i = (n.testBit i && decide (i ≠ k)) := by
  rw [Nat.testBit_and]
  rcases Nat.lt_trichotomy i k with hi | hi | hi
  · rw [h.2 i hi]; simp
  · subst hi
    have hz := cb_lomod h
    have hb := h.1
    rw [Nat.testBit_eq_decide_div_mod_eq] at hb
    have hb := of_decide_eq_true hb
    have hp : 0 < 2 ^ i := Nat.two_pow_pos i
    have e : n - 1 = (2 ^ i - 1) + 2 ^ i * (n / 2 ^ i - 1) := by
      have h1 := Nat.div_add_mod n (2 ^ i)
      have h3 : 1 ≤ n / 2 ^ i := Nat.pos_of_ne_zero (fun h => by rw [h] at hb; exact absurd hb (by decide))
      have h2 : 2 ^ i * (n / 2 ^ i - 1) + 2 ^ i = 2 ^ i * (n / 2 ^ i) := by
        rw [← Nat.mul_succ]; congr 1; omega
      omega
    have : (n - 1).testBit i = false := by
      rw [Nat.testBit_eq_decide_div_mod_eq, e, Nat.add_mul_div_left _ _ hp, Nat.div_eq_of_lt (by omega)]
      exact decide_eq_false (by omega)
    rw [this]; simp
  · have hne : n % 2 ^ i ≠ 0 := by
      intro hz
      have : (n % 2 ^ i).testBit k = false := by rw [hz]; exact Nat.zero_testBit k
      rw [Nat.testBit_mod_two_pow, h.1] at this
      simp at this; omega
    have : (n - 1).testBit i = n.testBit i := by
      rw [Nat.testBit_eq_decide_div_mod_eq, Nat.testBit_eq_decide_div_mod_eq, cb_pred (Nat.two_pow_pos i) hne]
    rw [this]
    have : i ≠ k := by omega
    simp [this]
theorem cb_popL {n k : Nat} (hn : n < 2 ^ 64) (h : cb_LO n k) (hk : k < 64) : cb_l (lN n) = k :: cb_l (lN n &&& (lN n - 1)) := by
  have h0 : 0 < n := by
    refine Nat.pos_of_ne_zero fun h0 => ?_
    have := h.1; rw [h0, Nat.zero_testBit] at this; exact absurd this (by decide)
  have e : lN n - 1 = lN (n - 1) := lN_sub (b := 1) h0
  unfold cb_l
  rw [cb_filt (cb_h (lN n)) k (List.range 64) List.pairwise_lt_range (List.mem_range.mpr hk) (by rw [cb_lN hn]; exact h.1) (fun j hj => by rw [cb_lN hn]; exact h.2 j hj)]
  congr 1
  refine List.filter_congr fun i _ => ?_
  rw [cb_and, e, cb_lN hn, cb_lN (by omega), ← Nat.testBit_and, cb_pop h i]
/-! ===== lowest, highest, nearest, ones ===== -/
theorem cb_lz {n : Nat} (h : n < 2 ^ 63) : lN n = 0 ↔ n = 0 := by
  have e : (0 : Int64) = lN 0 := rfl
  rw [e, pk_lEQ h (by decide)]
theorem cb_LOup {n s k : Nat} (hz : n % 2 ^ s = 0) (h : cb_LO (n / 2 ^ s) k) : cb_LO n (s + k) := by
  refine ⟨?_, fun j hj => ?_⟩
  · have := h.1; rw [Nat.testBit_div_two_pow] at this; rw [Nat.add_comm]; exact this
  · by_cases hs : j < s
    · have : (n % 2 ^ s).testBit j = false := by rw [hz]; exact Nat.zero_testBit j
      rw [Nat.testBit_mod_two_pow] at this
      simpa [hs] using this
    · have := h.2 (j - s) (by omega)
      rw [Nat.testBit_div_two_pow, Nat.sub_add_cancel (by omega)] at this; exact this
theorem cb_lst {post : Int32 → Prop} (W : Int64 → Int32 → Prop) (s : Nat) (hs : s ≤ 32) (H : ∀ n a : Nat, n < 2 ^ 64 → n % 2 ^ s ≠ 0 → (∀ k, cb_LO n k → post (nI (a + k))) → W (lN n) (nI a))
    {n a : Nat} (hn : n < 2 ^ 64) (h : n % 2 ^ (s + s) ≠ 0) (P : ∀ k, cb_LO n k → post (nI (a + k))) :
    ((lN n &&& lN (2 ^ s - 1)) = 0 → ∀ x : Int64, x = ((lN n).toUInt64 >>> ((nI s).toInt64.toUInt64 &&& Int64.toUInt64 63)).toInt64 → ∀ y : Int32, y = nI a + nI s → W x y) ∧ (¬ (lN n &&& lN (2 ^ s - 1)) = 0 → W (lN n) (nI a)) := by
  have hp : n % 2 ^ s < 2 ^ 63 := Nat.lt_of_lt_of_le (Nat.mod_lt _ (Nat.two_pow_pos s)) (Nat.pow_le_pow_right (by decide) (by omega))
  rw [wb_mask hn (by omega), wb_shr hn (by omega), nI_add, cb_lz hp]
  refine br_c (fun hz x ex y ey => ?_) (fun hz => H n a hn hz P)
  subst ex; subst ey
  refine H _ _ (Nat.lt_of_le_of_lt (Nat.div_le_self _ _) hn) ?_ (fun k hk => ?_)
  · intro h0; apply h
    rw [Nat.pow_add, Nat.mod_mul, hz, h0]; rfl
  · rw [Nat.add_assoc]; exact P _ (cb_LOup hz hk)
theorem cb_lo93 {post : Int32 → Prop} {n a : Nat} (hn : n < 2 ^ 64) (h : n % 2 ^ 2 ≠ 0) (P : ∀ k, cb_LO n k → post (nI (a + k))) : wX_lowest_93 post (lN n) (nI a) := by
  unfold wX_lowest_93
  rw [wb_a1 hn, cb_lz (by omega)]
  refine br_c (fun hz => ?_) (fun hz => ?_)
  · have := P 1 ⟨?_, fun j hj => ?_⟩
    · rw [nI_1]; exact this
    · rw [Nat.testBit_eq_decide_div_mod_eq]; exact decide_eq_true (by omega)
    · have : j = 0 := by omega
      subst this
      rw [Nat.testBit_eq_decide_div_mod_eq]; exact decide_eq_false (by omega)
  · have := P 0 ⟨?_, fun j hj => absurd hj (by omega)⟩
    · exact this
    · rw [Nat.testBit_eq_decide_div_mod_eq]; exact decide_eq_true (by omega)
theorem cb_lo76 {post : Int32 → Prop} {n a : Nat} (hn : n < 2 ^ 64) (h : n % 2 ^ 4 ≠ 0) (P : ∀ k, cb_LO n k → post (nI (a + k))) : wX_lowest_76 post (lN n) (nI a) :=
  cb_lst (wX_lowest_93 post) 2 (by decide) (fun _ _ h1 h2 h3 => cb_lo93 h1 h2 h3) hn h P
theorem cb_lo59 {post : Int32 → Prop} {n a : Nat} (hn : n < 2 ^ 64) (h : n % 2 ^ 8 ≠ 0) (P : ∀ k, cb_LO n k → post (nI (a + k))) : wX_lowest_59 post (lN n) (nI a) :=
  cb_lst (wX_lowest_76 post) 4 (by decide) (fun _ _ h1 h2 h3 => cb_lo76 h1 h2 h3) hn h P
theorem cb_lo41 {post : Int32 → Prop} {n a : Nat} (hn : n < 2 ^ 64) (h : n % 2 ^ 16 ≠ 0) (P : ∀ k, cb_LO n k → post (nI (a + k))) : wX_lowest_41 post (lN n) (nI a) :=
  cb_lst (wX_lowest_59 post) 8 (by decide) (fun _ _ h1 h2 h3 => cb_lo59 h1 h2 h3) hn h P
theorem cb_lo23 {post : Int32 → Prop} {n a : Nat} (hn : n < 2 ^ 64) (h : n % 2 ^ 32 ≠ 0) (P : ∀ k, cb_LO n k → post (nI (a + k))) : wX_lowest_23 post (lN n) (nI a) :=
  cb_lst (wX_lowest_41 post) 16 (by decide) (fun _ _ h1 h2 h3 => cb_lo41 h1 h2 h3) hn h P
theorem cb_lo0 {post : Int32 → Prop} {n : Nat} (hn : n < 2 ^ 64) (h : n ≠ 0) (P : ∀ k, cb_LO n k → post (nI k)) : wpX_lowest post (lN n) :=
  cb_lst (a := 0) (wX_lowest_23 post) 32 (by decide) (fun _ _ h1 h2 h3 => cb_lo23 h1 h2 h3) hn (by rw [Nat.mod_eq_of_lt (by exact hn)]; exact h) (fun k hk => by rw [Nat.zero_add]; exact P k hk)
theorem cb_lt64 {n k : Nat} (hn : n < 2 ^ 64) (h : n.testBit k = true) : k < 64 := by
  refine Nat.lt_of_not_le fun h64 => ?_
  rw [Nat.testBit_lt_two_pow (Nat.lt_of_lt_of_le hn (Nat.pow_le_pow_right (by decide) h64))] at h
  exact absurd h (by decide)
/-- lowest: the head of the list of bits, and what is left -/
theorem cb_lowest {post : Int32 → Prop} {x : Int64} (h : x ≠ 0) (P : ∀ k, k < 64 → cb_l x = k :: cb_l (x &&& (x - 1)) → cb_h x k = true → (∀ j, j < k → cb_h x j = false) → post (nI k)) : wpX_lowest post x := by
  obtain ⟨n, hn, rfl⟩ := wb_of x
  refine cb_lo0 hn (fun h0 => h (by rw [h0]; rfl)) fun k hk => ?_
  exact P k (cb_lt64 hn hk.1) (cb_popL hn hk (cb_lt64 hn hk.1)) (by rw [cb_lN hn]; exact hk.1) (fun j hj => by rw [cb_lN hn]; exact hk.2 j hj)
theorem cb_HIup {n s k : Nat} (h : cb_HI (n / 2 ^ s) k) : cb_HI n (s + k) := by
  refine ⟨?_, fun j hj => ?_⟩
  · have := h.1; rw [Nat.testBit_div_two_pow] at this; rw [Nat.add_comm]; exact this
  · have := h.2 (j - s) (by omega)
    rw [Nat.testBit_div_two_pow, Nat.sub_add_cancel (by omega)] at this; exact this
theorem cb_hst {post : Int32 → Prop} (W : Int64 → Int32 → Prop) (s : Nat) (hs : s ≤ 32) (hs0 : 0 < s) (H : ∀ n a : Nat, n ≠ 0 → n < 2 ^ s → (∀ k, cb_HI n k → post (nI (a + k))) → W (lN n) (nI a))
    {n a : Nat} (h0 : n ≠ 0) (h : n < 2 ^ (s + s)) (P : ∀ k, cb_HI n k → post (nI (a + k))) :
    ((((lN n).toUInt64 >>> ((nI s).toInt64.toUInt64 &&& Int64.toUInt64 63)).toInt64) = 0 → W (lN n) (nI a)) ∧ (¬ (((lN n).toUInt64 >>> ((nI s).toInt64.toUInt64 &&& Int64.toUInt64 63)).toInt64) = 0 → ∀ x : Int64, x = ((lN n).toUInt64 >>> ((nI s).toInt64.toUInt64 &&& Int64.toUInt64 63)).toInt64 → ∀ y : Int32, y = nI a + nI s → W x y) := by
  have hn : n < 2 ^ 64 := Nat.lt_of_lt_of_le h (Nat.pow_le_pow_right (by decide) (by omega))
  have hq : n / 2 ^ s < 2 ^ s := by
    rw [Nat.div_lt_iff_lt_mul (Nat.two_pow_pos s), ← Nat.pow_add]; exact h
  have hp : n / 2 ^ s < 2 ^ 63 := Nat.lt_of_lt_of_le hq (Nat.pow_le_pow_right (by decide) (by omega))
  rw [wb_shr hn (by omega), nI_add, cb_lz hp]
  refine br_c (fun hz => H n a h0 ?_ P) (fun hz x ex y ey => ?_)
  · exact Nat.lt_of_not_le fun hle => by
      have := Nat.div_pos hle (Nat.two_pow_pos s); omega
  · subst ex; subst ey
    refine H _ _ hz hq (fun k hk => ?_)
    rw [Nat.add_assoc]; exact P _ (cb_HIup hk)
theorem cb_hi86 {post : Int32 → Prop} {n a : Nat} (h0 : n ≠ 0) (h : n < 2 ^ 2) (P : ∀ k, cb_HI n k → post (nI (a + k))) : wX_highest_86 post (lN n) (nI a) := by
  unfold wX_highest_86
  have e := wb_shr (n := n) (k := 1) (by omega) (by decide)
  refine (show (((lN n).toUInt64 >>> ((nI 1).toInt64.toUInt64 &&& Int64.toUInt64 63)).toInt64 = 0 → post (nI a)) ∧ (¬ ((lN n).toUInt64 >>> ((nI 1).toInt64.toUInt64 &&& Int64.toUInt64 63)).toInt64 = 0 → post (nI a + 1)) from ?_)
  rw [e, cb_lz (by omega)]
  refine br_c (fun hz => ?_) (fun hz => ?_)
  · have hn : n = 1 := by omega
    subst hn
    exact P 0 ⟨by decide, fun j hj => Nat.testBit_lt_two_pow (Nat.lt_of_lt_of_le (by decide : 1 < 2 ^ 1) (Nat.pow_le_pow_right (by decide) hj))⟩
  · rw [nI_1]
    refine P 1 ⟨?_, fun j hj => Nat.testBit_lt_two_pow (Nat.lt_of_lt_of_le h (Nat.pow_le_pow_right (by decide) hj))⟩
    rw [Nat.testBit_eq_decide_div_mod_eq]; exact decide_eq_true (by omega)
theorem cb_hi71 {post : Int32 → Prop} {n a : Nat} (h0 : n ≠ 0) (h : n < 2 ^ 4) (P : ∀ k, cb_HI n k → post (nI (a + k))) : wX_highest_71 post (lN n) (nI a) :=
  cb_hst (wX_highest_86 post) 2 (by decide) (by decide) (fun _ _ h1 h2 h3 => cb_hi86 h1 h2 h3) h0 h P
theorem cb_hi56 {post : Int32 → Prop} {n a : Nat} (h0 : n ≠ 0) (h : n < 2 ^ 8) (P : ∀ k, cb_HI n k → post (nI (a + k))) : wX_highest_56 post (lN n) (nI a) :=
  cb_hst (wX_highest_71 post) 4 (by decide) (by decide) (fun _ _ h1 h2 h3 => cb_hi71 h1 h2 h3) h0 h P
theorem cb_hi39 {post : Int32 → Prop} {n a : Nat} (h0 : n ≠ 0) (h : n < 2 ^ 16) (P : ∀ k, cb_HI n k → post (nI (a + k))) : wX_highest_39 post (lN n) (nI a) :=
  cb_hst (wX_highest_56 post) 8 (by decide) (by decide) (fun _ _ h1 h2 h3 => cb_hi56 h1 h2 h3) h0 h P
theorem cb_hi22 {post : Int32 → Prop} {n a : Nat} (h0 : n ≠ 0) (h : n < 2 ^ 32) (P : ∀ k, cb_HI n k → post (nI (a + k))) : wX_highest_22 post (lN n) (nI a) :=
  cb_hst (wX_highest_39 post) 16 (by decide) (by decide) (fun _ _ h1 h2 h3 => cb_hi39 h1 h2 h3) h0 h P
theorem cb_hi0 {post : Int32 → Prop} {n : Nat} (h0 : n ≠ 0) (h : n < 2 ^ 64) (P : ∀ k, cb_HI n k → post (nI k)) : wpX_highest post (lN n) :=
  cb_hst (a := 0) (wX_highest_22 post) 32 (by decide) (by decide) (fun _ _ h1 h2 h3 => cb_hi22 h1 h2 h3) h0 h (fun k hk => by rw [Nat.zero_add]; exact P k hk)
theorem cb_highest {post : Int32 → Prop} {x : Int64} (h : x ≠ 0) (P : ∀ k, k < 64 → cb_h x k = true → (∀ j, k < j → cb_h x j = false) → post (nI k)) : wpX_highest post x := by
  obtain ⟨n, hn, rfl⟩ := wb_of x
  refine cb_hi0 (fun h0 => h (by rw [h0]; rfl)) hn fun k hk => ?_
  exact P k (cb_lt64 hn hk.1) (by rw [cb_lN hn]; exact hk.1) (fun j hj => by rw [cb_lN hn]; exact hk.2 j hj)
/-- nearest: on lines below 4 the least, on the others the greatest -/
theorem cb_nearest {post : Int32 → Prop} {x : Int64} {d : Nat} (hd : d < 8) (h : x ≠ 0) (P : ∀ k, k < 64 → cb_h x k = true → (∀ j, cb_h x j = true → (d < 4 → k ≤ j) ∧ (4 ≤ d → j ≤ k)) → post (nI k)) : wpX_nearest post (nI d) x := by
  refine pk_le 4 d (fun h4 => ?_) (fun h4 => ?_)
  · refine cb_highest h fun k hk h1 h2 => P k hk h1 fun j hj => ⟨fun _ => by omega, fun _ => ?_⟩
    exact Nat.le_of_not_lt fun hlt => by rw [h2 j hlt] at hj; exact absurd hj (by decide)
  · refine cb_lowest h fun k hk _ h1 h2 => P k hk h1 fun j hj => ⟨fun _ => ?_, fun _ => by omega⟩
    exact Nat.le_of_not_lt fun hlt => by rw [h2 j hlt] at hj; exact absurd hj (by decide)
theorem cb_ones7 {post : Int32 → Prop} : ∀ (l : List Nat) (x : Int64) (i c : Nat), cb_l x = l → i + l.length ≤ 36 → post (nI (c + l.length)) → wX_ones_7 post (l.length + 1) (nI c) x (nI i) := by
  intro l
  induction l with
  | nil =>
    intro x i c hx hi hp
    have := cb_lnil hx; subst this
    rw [wX_ones_7]
    exact pk_le 36 i (fun _ => hp) (fun _ => br_t rfl hp)
  | cons a l ih =>
    intro x i c hx hi hp
    rw [List.length_cons] at hi hp
    rw [List.length_cons, wX_ones_7]
    have hne : x ≠ 0 := fun h0 => by rw [h0, cb_l0] at hx; exact absurd hx (by simp)
    refine pk_le 36 i (fun h => by omega) (fun _ => br_f hne ?_)
    obtain ⟨n, hn, rfl⟩ := wb_of x
    obtain ⟨k, hk, hkl⟩ : ∃ k, cb_LO n k ∧ k < 64 := by
      obtain ⟨q, hq⟩ := cb_ne hne
      obtain ⟨k, hk, hk2⟩ := pk_least (fun q => n.testBit q = true) ⟨q, by rw [← cb_lN hn]; exact hq.2⟩
      exact ⟨k, ⟨hk, fun j hj => by have := hk2 j hj; simpa using this⟩, cb_lt64 hn hk⟩
    have e := cb_popL hn hk hkl
    rw [hx] at e
    injection e with e1 e2
    refine nm_e (nm_r (nI_1 c) (nm_r (nI_1 i) (ih _ _ _ e2.symm (by omega) ?_)))
    have e3 : c + 1 + l.length = c + (l.length + 1) := by omega
    rw [e3]; exact hp
theorem cb_ones {post : Int32 → Prop} {x : Int64} (h : (cb_l x).length ≤ 36) (hp : post (nI (cb_l x).length)) : wpX_ones post x :=
  ⟨_, cb_ones7 (cb_l x) x 0 0 rfl (by omega) (by rw [Nat.zero_add]; exact hp)⟩
/-- a set of squares given by a predicate -/
def cb_S (x : Int64) (p : Nat → Bool) : Prop := ∀ i, i < 64 → cb_h x i = (decide (i < 36) && p i)
theorem cb_S_all {x : Int64} {p : Nat → Bool} (h : cb_S x p) (i : Nat) : cb_h x i = (decide (i < 36) && p i) := by
  by_cases hi : i < 64
  · exact h i hi
  · rw [cb_big (by omega), decide_eq_false (by omega), Bool.false_and]
theorem cb_Sl {x : Int64} {p : Nat → Bool} (h : cb_S x p) : cb_l x = (List.range 36).filter p := by
  unfold cb_l
  rw [show (64 : Nat) = 36 + 28 from rfl, List.range_add, List.filter_append]
  have e1 : ((List.range 28).map (36 + ·)).filter (cb_h x) = [] := by
    rw [List.filter_eq_nil_iff]
    intro a ha
    obtain ⟨b, _, rfl⟩ := List.mem_map.mp ha
    rw [cb_S_all h, decide_eq_false (by omega)]; simp
  rw [e1, List.append_nil]
  refine List.filter_congr fun i hi => ?_
  rw [cb_S_all h, decide_eq_true (List.mem_range.mp hi), Bool.true_and]
theorem cb_S0 {p : Nat → Bool} (h : ∀ i, i < 36 → p i = false) : cb_S 0 p := fun i _ => by
  rw [cb_0]
  by_cases hi : i < 36
  · rw [h i hi, Bool.and_false]
  · rw [decide_eq_false hi, Bool.false_and]
theorem cb_Sz {x : Int64} {p : Nat → Bool} (h : cb_S x p) : x = 0 ↔ ∀ i, i < 36 → p i = false := by
  rw [cb_zero]
  refine ⟨fun hz i hi => ?_, fun hz i hi => ?_⟩
  · have := hz i (by omega); rw [cb_S_all h, decide_eq_true hi, Bool.true_and] at this; exact this
  · rw [cb_S_all h]
    by_cases h36 : i < 36
    · rw [hz i h36, Bool.and_false]
    · rw [decide_eq_false h36, Bool.false_and]
theorem cb_Se {x : Int64} {p q : Nat → Bool} (h : cb_S x p) (e : ∀ i, i < 36 → p i = q i) : cb_S x q := fun i hi => by
  rw [h i hi]
  by_cases h36 : i < 36
  · rw [e i h36]
  · rw [decide_eq_false h36, Bool.false_and, Bool.false_and]
theorem cb_Su {x y : Int64} {p : Nat → Bool} (h : cb_S x p) (h' : cb_S y p) : x = y := cb_ext fun i hi => by rw [h i hi, h' i hi]
theorem cb_Sand {x y : Int64} {p q : Nat → Bool} (h : cb_S x p) (h' : cb_S y q) : cb_S (x &&& y) (fun i => p i && q i) := fun i hi => by
  rw [cb_and, h i hi, h' i hi]; cases decide (i < 36) <;> simp
theorem cb_Sor {x y : Int64} {p q : Nat → Bool} (h : cb_S x p) (h' : cb_S y q) : cb_S (x ||| y) (fun i => p i || q i) := fun i hi => by
  rw [cb_or, h i hi, h' i hi]; cases decide (i < 36) <;> simp
theorem cb_Sxor {x y : Int64} {p q : Nat → Bool} (h : cb_S x p) (h' : cb_S y q) : cb_S (x ^^^ y) (fun i => p i ^^ q i) := fun i hi => by
  rw [cb_xor, h i hi, h' i hi]; cases decide (i < 36) <;> simp
theorem cb_Sdiff {x y : Int64} {p q : Nat → Bool} (h : cb_S x p) (h' : cb_S y q) : cb_S (x &&& (y ^^^ (-1))) (fun i => p i && !q i) := fun i hi => by
  rw [cb_and, cb_not _ hi, h i hi, h' i hi]; cases decide (i < 36) <;> simp
theorem cb_S1 {k : Nat} (hk : k < 36) : cb_S ((1 : Int64) <<< ((nI k).toInt64 &&& 63)) (fun i => decide (i = k)) := fun i hi => by
  rw [cb_one (by omega)]
  by_cases h : i = k
  · subst h; simp [hk]
  · simp [h]
theorem cb_Sfull : cb_S 68719476735 (fun _ => true) := by unfold cb_S; decide +kernel
theorem cb_Slen {x : Int64} {p : Nat → Bool} (h : cb_S x p) : (cb_l x).length ≤ 36 := by
  rw [cb_Sl h]; exact Nat.le_trans (List.length_filter_le _ _) (by rw [List.length_range]; exact Nat.le_refl _)
end
section
/-! ===== squares: lines, distances, leaps ===== -/
def cg_ad (a b : Nat) : Nat := (a - b) + (b - a)
/-- the distance along a line -/
def cg_ds (f t : Nat) : Nat := if cg_ad (f / 6) (t / 6) ≤ cg_ad (f % 6) (t % 6) then cg_ad (f % 6) (t % 6) else cg_ad (f / 6) (t / 6)
/-- the line from f on which t lies: 0 .. 7 as in the component, 8: none -/
def cg_dir (f t : Nat) : Nat :=
  if f / 6 = t / 6 then (if f % 6 = t % 6 then 8 else if f % 6 < t % 6 then 1 else 5)
  else if f % 6 = t % 6 then (if f / 6 < t / 6 then 0 else 4)
  else if cg_ad (f / 6) (t / 6) = cg_ad (f % 6) (t % 6) then
    (if f / 6 < t / 6 then (if f % 6 < t % 6 then 2 else 3) else (if f % 6 < t % 6 then 7 else 6))
  else 8
/-- x strictly between f and t on one line -/
def cg_bt (f t x : Nat) : Bool := decide (cg_dir f t < 8) && (cg_dir f x == cg_dir f t) && decide (cg_ds f x < cg_ds f t)
def cg_kn (f t : Nat) : Bool := cg_ad (f / 6) (t / 6) * cg_ad (f % 6) (t % 6) == 2
def cg_kg (f t : Nat) : Bool := decide (cg_ad (f / 6) (t / 6) ≤ 1) && decide (cg_ad (f % 6) (t % 6) ≤ 1) && !(f == t)
/-- a pawn of side m on f attacks t -/
def cg_pw (m f t : Nat) : Bool := (cg_ad (f % 6) (t % 6) == 1) && (if m = 0 then t / 6 == f / 6 + 1 else f / 6 == t / 6 + 1)
def cg_op (d : Nat) : Nat := if d < 4 then d + 4 else if d < 8 then d - 4 else 8
theorem cg_dir8 : ∀ f, f < 36 → ∀ t, t < 36 → cg_dir f t ≤ 8 := by decide +kernel
theorem cg_self : ∀ f, f < 36 → cg_dir f f = 8 := by decide +kernel
theorem cg_opp : ∀ f, f < 36 → ∀ t, t < 36 → cg_dir t f = cg_op (cg_dir f t) := by decide +kernel
theorem cg_dsc : ∀ f, f < 36 → ∀ t, t < 36 → cg_ds t f = cg_ds f t := by decide +kernel
theorem cg_ds1 : ∀ f, f < 36 → ∀ t, t < 36 → cg_dir f t < 8 → 1 ≤ cg_ds f t ∧ cg_ds f t ≤ 5 := by decide +kernel
/-- beyond a square on a line -/
theorem cg_ext : ∀ s, s < 36 → ∀ e, e < 36 → cg_dir s e < 8 → ∀ t, t < 36 → (cg_dir e t = cg_dir s e ↔ cg_dir s t = cg_dir s e ∧ cg_ds s e < cg_ds s t) := by decide +kernel
theorem cg_btc : ∀ s, s < 36 → ∀ e, e < 36 → ∀ x, x < 36 → cg_bt s e x = cg_bt e s x := by decide +kernel
theorem cg_mon1 : ∀ s, s < 36 → ∀ e, e < 36 → cg_dir s e < 8 → ∀ t, t < 36 → ((cg_dir s t = cg_dir s e ∧ cg_ds s e = cg_ds s t) → e = t) := by decide +kernel
theorem cg_mon2 : ∀ s, s < 36 → ∀ e, e < 36 → ∀ t, t < 36 → (4 ≤ cg_dir s e ∨ cg_dir s t ≠ cg_dir s e ∨ t < e ∨ cg_ds s e ≤ cg_ds s t) := by decide +kernel
theorem cg_mon3 : ∀ s, s < 36 → ∀ e, e < 36 → ∀ t, t < 36 → (cg_dir s e < 4 ∨ 8 ≤ cg_dir s e ∨ cg_dir s t ≠ cg_dir s e ∨ e < t ∨ cg_ds s e ≤ cg_ds s t) := by decide +kernel
theorem cg_mon (s : Nat) (hs : s < 36) (e : Nat) (he : e < 36) (h : cg_dir s e < 8) (t : Nat) (ht : t < 36) (h1 : cg_dir s t = cg_dir s e) : (cg_ds s e = cg_ds s t → e = t) ∧ (cg_dir s e < 4 → e ≤ t → cg_ds s e ≤ cg_ds s t) ∧ (4 ≤ cg_dir s e → t ≤ e → cg_ds s e ≤ cg_ds s t) :=
  ⟨fun h2 => cg_mon1 s hs e he h t ht ⟨h1, h2⟩, fun h4 h5 => by have := cg_mon2 s hs e he t ht; omega, fun h4 h5 => by have := cg_mon3 s hs e he t ht; omega⟩
theorem cg_uq {s e t : Nat} (hs : s < 36) (he : e < 36) (ht : t < 36) (h : cg_dir s e < 8) (h1 : cg_dir s t = cg_dir s e) (h2 : cg_ds s e = cg_ds s t) : e = t :=
  (cg_mon s hs e he h t ht h1).1 h2
theorem cg_knc : ∀ f, f < 36 → ∀ t, t < 36 → cg_kn t f = cg_kn f t := by decide +kernel
theorem cg_kgc : ∀ f, f < 36 → ∀ t, t < 36 → cg_kg t f = cg_kg f t := by decide +kernel
theorem cg_pwc : ∀ m, m < 2 → ∀ f, f < 36 → ∀ t, t < 36 → cg_pw (1 - m) t f = cg_pw m f t := by decide +kernel
theorem cg_kn8 : ∀ f, f < 36 → ∀ t, t < 36 → cg_kn f t = true → cg_dir f t = 8 := by decide +kernel
theorem cg_kg1 : ∀ f, f < 36 → ∀ t, t < 36 → cg_kg f t = true → cg_ds f t = 1 := by decide +kernel
theorem cg_pw1 : ∀ m, m < 2 → ∀ f, f < 36 → ∀ t, t < 36 → cg_pw m f t = true → cg_ds f t = 1 := by decide +kernel
theorem cg_kn0 : ∀ f, f < 36 → cg_kn f f = false := by decide +kernel
theorem cg_kg0 : ∀ f, f < 36 → cg_kg f f = false := by decide +kernel
theorem cg_pw0 : ∀ m, m < 2 → ∀ f, f < 36 → cg_pw m f f = false := by decide +kernel
theorem cg_bt0 {f t : Nat} (hf : f < 36) (ht : t < 36) {x : Nat} (hx : x < 36) (h : cg_bt f t x = true) : x ≠ f ∧ x ≠ t ∧ cg_dir f t < 8 ∧ cg_dir f x = cg_dir f t ∧ cg_ds f x < cg_ds f t := by
  unfold cg_bt at h
  simp only [Bool.and_eq_true, decide_eq_true_eq, beq_iff_eq] at h
  obtain ⟨⟨h1, h2⟩, h3⟩ := h
  refine ⟨fun e => ?_, fun e => ?_, h1, h2, h3⟩
  · subst e; rw [cg_self x hf] at h2; omega
  · subst e; omega
theorem cg_btI {f t x : Nat} (h1 : cg_dir f t < 8) (h2 : cg_dir f x = cg_dir f t) (h3 : cg_ds f x < cg_ds f t) : cg_bt f t x = true := by
  unfold cg_bt
  simp only [Bool.and_eq_true, decide_eq_true_eq, beq_iff_eq]
  exact ⟨⟨h1, h2⟩, h3⟩
/-- no occupied square strictly between -/
def cg_cl (o : Nat → Bool) (f t : Nat) : Bool := (List.range 36).all (fun x => !(cg_bt f t x && o x))
theorem cg_cl_iff {o : Nat → Bool} {f t : Nat} : cg_cl o f t = true ↔ ∀ x, x < 36 → cg_bt f t x = true → o x = false := by
  unfold cg_cl; rw [List.all_eq_true]
  refine ⟨fun h x hx hb => ?_, fun h x hx => ?_⟩
  · have := h x (List.mem_range.mpr hx); rw [hb] at this; simpa using this
  · cases hb : cg_bt f t x
    · rfl
    · rw [h x (List.mem_range.mp hx) hb]; rfl
theorem cg_clc {o : Nat → Bool} {f t : Nat} (hf : f < 36) (ht : t < 36) : cg_cl o f t = cg_cl o t f := by
  unfold cg_cl
  rw [Bool.eq_iff_iff, List.all_eq_true, List.all_eq_true]
  refine ⟨fun h x hx => ?_, fun h x hx => ?_⟩
  · rw [← cg_btc f hf t ht x (List.mem_range.mp hx)]; exact h x hx
  · rw [cg_btc f hf t ht x (List.mem_range.mp hx)]; exact h x hx
theorem cg_clo {o o' : Nat → Bool} {f t : Nat} (h : ∀ x, x < 36 → cg_bt f t x = true → o x = o' x) : cg_cl o f t = cg_cl o' f t := by
  rw [Bool.eq_iff_iff, cg_cl_iff, cg_cl_iff]
  exact ⟨fun H x hx hb => by rw [← h x hx hb]; exact H x hx hb, fun H x hx hb => by rw [h x hx hb]; exact H x hx hb⟩
end
section
/-! ===== pure chess on a board B : Nat → Nat ===== -/
def cd_kd (p : Nat) : Nat := if p ≤ 8 then p else p - 8
def cd_of (p m : Nat) : Bool := !(p == 0) && (if m = 0 then decide (p < 8) else decide (8 < p))
def cd_sl (p d : Nat) : Bool := decide (d < 8) && ((cd_kd p == 5) || (cd_kd p == 3 && decide (2 ≤ d % 4)) || (cd_kd p == 4 && decide (d % 4 < 2)))
def cd_lp (p f t : Nat) : Bool := (cd_kd p == 1 && cg_pw (if p < 8 then 0 else 1) f t) || (cd_kd p == 2 && cg_kn f t) || (cd_kd p == 6 && cg_kg f t)
def cd_at (p : Nat) (o : Nat → Bool) (f t : Nat) : Bool := cd_lp p f t || (cd_sl p (cg_dir f t) && cg_cl o f t)
def cd_oc (B : Nat → Nat) (s : Nat) : Bool := !(B s == 0)
def cd_ak (B : Nat → Nat) (o : Nat → Bool) (q side e : Nat) : Bool := cd_of (B e) side && cd_at (B e) o e q
def cd_as (B : Nat → Nat) (q side : Nat) : List Nat := (List.range 36).filter (cd_ak B (cd_oc B) q side)
def cd_ck (B : Nat → Nat) (m : Nat) : Bool := (List.range 36).any (fun s => (B s == 6 + 8 * m) && !(cd_as B s (1 - m)).isEmpty)
def cd_pr (p t : Nat) : Nat := if (p = 1 ∧ t / 6 = 5) ∨ (p = 9 ∧ t / 6 = 0) then p + 4 else p
def cd_mv (B : Nat → Nat) (f t : Nat) : Nat → Nat := fun s => if s = f then 0 else if s = t then cd_pr (B f) t else B s
def cd_cg (B : Nat → Nat) (m f t : Nat) : Bool :=
  !(f == t) && cd_of (B f) m && !cd_of (B t) m && (if cd_kd (B f) = 1 ∧ B t = 0 then (if B f < 8 then t == f + 6 else t + 6 == f) else cd_at (B f) (cd_oc B) f t)
def cd_lg (B : Nat → Nat) (m f t : Nat) : Bool := cd_cg B m f t && !cd_ck (cd_mv B f t) m
def cd_L (B : Nat → Nat) (m : Nat) : List Nat := (List.range 36).flatMap (fun f => ((List.range 36).filter (cd_lg B m f)).map (fun t => 64 * f + t))
def cd_nx (B : Nat → Nat) (x : Nat) : Nat → Nat := cd_mv B (x / 64) (x % 64)
def cd_w (p : Nat) : Nat := if cd_kd p = 1 then 1 else if cd_kd p = 2 then 3 else if cd_kd p = 3 then 3 else if cd_kd p = 4 then 5 else if cd_kd p = 5 then 9 else 0
def cd_bs (B : Nat → Nat) (m : Nat) : Nat → Int
  | 0 => 0
  | n + 1 => cd_bs B m n + (if cd_of (B n) m then (cd_w (B n) : Int) else -(cd_w (B n) : Int))
def cd_bal (B : Nat → Nat) (m : Nat) : Int := cd_bs B m 36
/-- the greatest of a and the negated values of a list -/
def cd_mx (g : Nat → Int) (a : Int) : List Nat → Int
  | [] => a
  | x :: l => cd_mx g (if a < -(g x) then -(g x) else a) l
def cd_val : Nat → (Nat → Nat) → Nat → Int
  | 0, B, m => cd_bal B m
  | d + 1, B, m => if cd_L B m = [] then (if cd_ck B m then -1000 - ((d : Int) + 1) else 0) else cd_mx (fun x => cd_val d (cd_nx B x) (1 - m)) (-5000) (cd_L B m)
def cd_su (g : Nat → Nat) : List Nat → Nat
  | [] => 0
  | x :: l => g x + cd_su g l
def cd_pf : Nat → (Nat → Nat) → Nat → Nat
  | 0, _, _ => 1
  | d + 1, B, m => cd_su (fun x => cd_pf d (cd_nx B x) (1 - m)) (cd_L B m)
/-! good boards -/
def cd_sm (g : Nat → Nat) : Nat → Nat
  | 0 => 0
  | n + 1 => cd_sm g n + g n
def cd_n (B : Nat → Nat) : Nat := cd_sm (fun s => if cd_oc B s then 1 else 0) 36
def cd_OK (B : Nat → Nat) : Prop := (∀ s, s < 36 → B s ≤ 14 ∧ B s ≠ 7 ∧ B s ≠ 8) ∧ (∀ s, 36 ≤ s → B s = 0) ∧ (∀ s, s < 36 → cd_kd (B s) = 1 → 6 ≤ s ∧ s < 30) ∧ cd_n B ≤ 6
def cd_K (B : Nat → Nat) (m k : Nat) : Prop := k < 36 ∧ ∀ s, s < 36 → (B s = 6 + 8 * m ↔ s = k)
def cd_G (B : Nat → Nat) (m : Nat) : Prop := m < 2 ∧ cd_OK B ∧ (∃ k, cd_K B 0 k) ∧ (∃ k, cd_K B 1 k) ∧ cd_ck B (1 - m) = false
theorem cd_G_K {B : Nat → Nat} {m : Nat} (h : cd_G B m) {q : Nat} (hq : q < 2) : ∃ k, cd_K B q k := by
  have : q = 0 ∨ q = 1 := by omega
  rcases this with rfl | rfl
  · exact h.2.2.1
  · exact h.2.2.2.1
/-! small facts -/
theorem cd_of_iff {p m : Nat} : cd_of p m = true ↔ p ≠ 0 ∧ (m = 0 → p < 8) ∧ (m ≠ 0 → 8 < p) := by
  unfold cd_of
  by_cases h : m = 0
  · simp [h]
  · simp [h]
theorem cd_of0 {m : Nat} : cd_of 0 m = false := rfl
theorem cd_of_x {p m : Nat} (hm : m < 2) (h : cd_of p m = true) : cd_of p (1 - m) = false := by
  rw [cd_of_iff] at h
  cases hc : cd_of p (1 - m)
  · rfl
  · rw [cd_of_iff] at hc; omega
theorem cd_of_or {p m : Nat} (hm : m < 2) (h8 : p ≠ 8) (hp : p ≠ 0) : cd_of p m = true ∨ cd_of p (1 - m) = true := by
  rw [cd_of_iff, cd_of_iff]; omega
theorem cd_ocT {B : Nat → Nat} {s : Nat} : cd_oc B s = true ↔ B s ≠ 0 := by unfold cd_oc; simp
theorem cd_ocF {B : Nat → Nat} {s : Nat} : cd_oc B s = false ↔ B s = 0 := by unfold cd_oc; simp
theorem cd_of_oc {B : Nat → Nat} {s m : Nat} (h : cd_of (B s) m = true) : cd_oc B s = true := cd_ocT.mpr (cd_of_iff.mp h).1
theorem cd_ck_iff {B : Nat → Nat} {m : Nat} : cd_ck B m = true ↔ ∃ s, s < 36 ∧ B s = 6 + 8 * m ∧ ∃ e, e < 36 ∧ cd_ak B (cd_oc B) s (1 - m) e = true := by
  unfold cd_ck
  rw [List.any_eq_true]
  refine ⟨fun ⟨s, hs, h⟩ => ?_, fun ⟨s, hs, h, e, he, h2⟩ => ⟨s, List.mem_range.mpr hs, ?_⟩⟩
  · rw [Bool.and_eq_true, beq_iff_eq] at h
    refine ⟨s, List.mem_range.mp hs, h.1, ?_⟩
    have h2 := h.2
    cases hl : cd_as B s (1 - m) with
    | nil => rw [hl] at h2; exact absurd h2 (by decide)
    | cons e l =>
      have : e ∈ cd_as B s (1 - m) := by rw [hl]; exact List.mem_cons_self
      unfold cd_as at this
      rw [List.mem_filter] at this
      exact ⟨e, List.mem_range.mp this.1, this.2⟩
  · rw [Bool.and_eq_true, beq_iff_eq]
    refine ⟨h, ?_⟩
    have : e ∈ cd_as B s (1 - m) := List.mem_filter.mpr ⟨List.mem_range.mpr he, h2⟩
    cases hl : cd_as B s (1 - m) with
    | nil => rw [hl] at this; exact absurd this (by simp)
    | cons e l => rfl
/-- with one king: in check iff the king is attacked -/
theorem cd_ckK {B : Nat → Nat} {m k : Nat} (hK : cd_K B m k) : cd_ck B m = true ↔ ∃ e, e < 36 ∧ cd_ak B (cd_oc B) k (1 - m) e = true := by
  rw [cd_ck_iff]
  refine ⟨fun ⟨s, hs, h, e, he, h2⟩ => ?_, fun ⟨e, he, h2⟩ => ⟨k, hK.1, (hK.2 k hK.1).mpr rfl, e, he, h2⟩⟩
  have := (hK.2 s hs).mp h
  subst this
  exact ⟨e, he, h2⟩
theorem cd_lpS {p f t : Nat} (hf : f < 36) (ht : t < 36) (h : cd_lp p f t = true) (x : Nat) : cg_bt f t x = false := by
  unfold cd_lp at h
  cases hb : cg_bt f t x with
  | false => rfl
  | true =>
    exfalso
    unfold cg_bt at hb
    simp only [Bool.and_eq_true, decide_eq_true_eq, beq_iff_eq] at hb
    obtain ⟨⟨h1, h2⟩, h3⟩ := hb
    simp only [Bool.or_eq_true, Bool.and_eq_true, beq_iff_eq] at h
    have hpos : ∀ x, cg_dir f x < 8 → 1 ≤ cg_ds f x := by
      intro x hx
      have hne : cg_ds f x ≠ 0 := by
        intro h0
        unfold cg_ds cg_ad at h0
        unfold cg_dir at hx
        have e1 : f / 6 = x / 6 := by split at h0 <;> omega
        have e2 : f % 6 = x % 6 := by split at h0 <;> omega
        rw [if_pos e1, if_pos e2] at hx; omega
      omega
    have := hpos x (by omega)
    rcases h with (h | h) | h
    · have := cg_pw1 (if p < 8 then 0 else 1) (by split <;> decide) f hf t ht h.2; omega
    · have := cg_kn8 f hf t ht h.2; omega
    · have := cg_kg1 f hf t ht h.2; omega
theorem cd_slop (p : Nat) {d : Nat} (hd : d ≤ 8) : cd_sl p (cg_op d) = cd_sl p d := by
  have : ∀ d, d < 9 → (decide (cg_op d < 8) = decide (d < 8) ∧ cg_op d % 4 = d % 4) := by decide
  obtain ⟨h1, h2⟩ := this d (by omega)
  unfold cd_sl; rw [h1, h2]
theorem cd_sl8 {p d : Nat} (h : cd_sl p d = true) : d < 8 := by
  unfold cd_sl at h; simp only [Bool.and_eq_true, decide_eq_true_eq] at h; exact h.1
theorem cd_at_self {p : Nat} {o : Nat → Bool} {t : Nat} (ht : t < 36) : cd_at p o t t = false := by
  unfold cd_at cd_lp cd_sl
  rw [cg_self t ht, cg_kn0 t ht, cg_kg0 t ht, cg_pw0 _ (by split <;> decide) t ht]
  simp
theorem cd_mv_f {B : Nat → Nat} {f t : Nat} : cd_mv B f t f = 0 := if_pos rfl
theorem cd_mv_t {B : Nat → Nat} {f t : Nat} (h : f ≠ t) : cd_mv B f t t = cd_pr (B f) t := by
  unfold cd_mv; rw [if_neg (fun e => h e.symm), if_pos rfl]
theorem cd_mv_o {B : Nat → Nat} {f t s : Nat} (h1 : s ≠ f) (h2 : s ≠ t) : cd_mv B f t s = B s := by
  unfold cd_mv; rw [if_neg h1, if_neg h2]
theorem cd_pr_of {p t m : Nat} (h : cd_of p m = true) : cd_of (cd_pr p t) m = true := by
  rw [cd_of_iff] at h ⊢
  unfold cd_pr
  split
  · rename_i hc; omega
  · exact h
theorem cd_pr_6 {p t m : Nat} : cd_pr p t = 6 + 8 * m ↔ p = 6 + 8 * m := by
  unfold cd_pr
  split
  · rename_i hc; omega
  · exact Iff.rfl
theorem cd_of6 {m : Nat} (hm : m < 2) : cd_of (6 + 8 * m) m = true := by
  rw [cd_of_iff]; omega
/-- occupancy after a move -/
theorem cd_oc_mv {B : Nat → Nat} {f t m x : Nat} (hft : f ≠ t) (hf : cd_of (B f) m = true) : cd_oc (cd_mv B f t) x = (if x = f then false else if x = t then true else cd_oc B x) := by
  by_cases h1 : x = f
  · rw [if_pos h1, h1, cd_ocF, cd_mv_f]
  · rw [if_neg h1]
    by_cases h2 : x = t
    · rw [if_pos h2, h2, cd_ocT, cd_mv_t hft]
      exact (cd_of_iff.mp (cd_pr_of hf)).1
    · rw [if_neg h2]; unfold cd_oc; rw [cd_mv_o h1 h2]
theorem cd_cg_iff {B : Nat → Nat} {m f t : Nat} : cd_cg B m f t = true ↔ f ≠ t ∧ cd_of (B f) m = true ∧ cd_of (B t) m = false ∧ (if cd_kd (B f) = 1 ∧ B t = 0 then (if B f < 8 then t = f + 6 else t + 6 = f) else cd_at (B f) (cd_oc B) f t = true) := by
  unfold cd_cg
  simp only [Bool.and_eq_true, Bool.not_eq_true', beq_eq_false_iff_ne]
  constructor
  · rintro ⟨⟨⟨h1, h2⟩, h3⟩, h4⟩
    refine ⟨h1, h2, h3, ?_⟩
    split at h4
    · rename_i hc; rw [if_pos hc]
      split at h4
      · rename_i h8; rw [if_pos h8]; simpa using h4
      · rename_i h8; rw [if_neg h8]; simpa using h4
    · rename_i hc; rw [if_neg hc]; exact h4
  · rintro ⟨h1, h2, h3, h4⟩
    refine ⟨⟨⟨h1, h2⟩, h3⟩, ?_⟩
    split at h4
    · rename_i hc; rw [if_pos hc]
      split at h4
      · rename_i h8; rw [if_pos h8]; simpa using h4
      · rename_i h8; rw [if_neg h8]; simpa using h4
    · rename_i hc; rw [if_neg hc]; exact h4
end
section
/-! ===== legality: checks and shields ===== -/
theorem cc_x11 {m : Nat} (hm : m < 2) : 1 - (1 - m) = m := by omega
theorem cc_at_iff {p : Nat} {o : Nat → Bool} {e k : Nat} : cd_at p o e k = true ↔ cd_lp p e k = true ∨ (cd_sl p (cg_dir e k) = true ∧ cg_cl o e k = true) := by
  unfold cd_at; rw [Bool.or_eq_true, Bool.and_eq_true]
theorem cc_ak_iff {B : Nat → Nat} {o : Nat → Bool} {q side e : Nat} : cd_ak B o q side e = true ↔ cd_of (B e) side = true ∧ cd_at (B e) o e q = true := by
  unfold cd_ak; rw [Bool.and_eq_true]
/-- the king after a move of another piece -/
theorem cc_Kmv {B : Nat → Nat} {m k f t : Nat} (hm : m < 2) (hK : cd_K B m k) (hft : f ≠ t) (hfk : f ≠ k) (hf36 : f < 36) (ht : cd_of (B t) m = false) : cd_K (cd_mv B f t) m k := by
  refine ⟨hK.1, fun s hs => ?_⟩
  by_cases h1 : s = f
  · rw [h1, cd_mv_f]; constructor
    · intro h; omega
    · intro h; exact absurd h hfk
  · by_cases h2 : s = t
    · have htk : t ≠ k := by
        intro e; rw [e, (hK.2 k hK.1).mpr rfl, cd_of6 hm] at ht; exact absurd ht (by decide)
      rw [h2, cd_mv_t hft, cd_pr_6]
      constructor
      · intro h; exact absurd ((hK.2 f hf36).mp h) hfk
      · intro h; exact absurd h htk
    · rw [cd_mv_o h1 h2]; exact hK.2 s hs
theorem cc_ckmv {B : Nat → Nat} {m k f t : Nat} (hm : m < 2) (hK : cd_K B m k) (hft : f ≠ t) (hfk : f ≠ k) (hf36 : f < 36) (hf : cd_of (B f) m = true) (ht : cd_of (B t) m = false) :
    cd_ck (cd_mv B f t) m = true ↔ ∃ e, e < 36 ∧ e ≠ t ∧ cd_of (B e) (1 - m) = true ∧ cd_at (B e) (cd_oc (cd_mv B f t)) e k = true := by
  rw [cd_ckK (cc_Kmv hm hK hft hfk hf36 ht)]
  refine ⟨fun ⟨e, he, h⟩ => ?_, fun ⟨e, he, het, h1, h2⟩ => ⟨e, he, ?_⟩⟩
  · rw [cc_ak_iff] at h
    have hef : e ≠ f := by
      intro e1; rw [e1, cd_mv_f] at h; exact absurd h.1 (by rw [cd_of0]; decide)
    have het : e ≠ t := by
      intro e1; rw [e1, cd_mv_t hft, cd_of_x hm (cd_pr_of hf)] at h; exact absurd h.1 (by decide)
    rw [cd_mv_o hef het] at h
    exact ⟨e, he, het, h.1, h.2⟩
  · have hef : e ≠ f := by
      intro e1; rw [e1, cd_of_x hm hf] at h1; exact absurd h1 (by decide)
    rw [cc_ak_iff, cd_mv_o hef het]; exact ⟨h1, h2⟩
def cc_SH (B : Nat → Nat) (m k f e : Nat) : Prop := cg_bt k e f = true ∧ cd_of (B e) (1 - m) = true ∧ cd_sl (B e) (cg_dir k e) = true ∧ ∀ x, x < 36 → cg_bt k e x = true → x ≠ f → B x = 0
def cc_seg (k e t : Nat) : Prop := cg_dir k t = cg_dir k e ∧ cg_ds k t ≤ cg_ds k e
def cc_HP (B : Nat → Nat) (m k t : Nat) : Prop := (∀ e, e < 36 → cd_ak B (cd_oc B) k (1 - m) e = true → t = e ∨ cg_bt k e t = true) ∧ ∀ e1 e2, e1 < 36 → e2 < 36 → cd_ak B (cd_oc B) k (1 - m) e1 = true → cd_ak B (cd_oc B) k (1 - m) e2 = true → e1 = e2
theorem cc_block {B : Nat → Nat} {m k e1 e2 : Nat} (hk : k < 36) (h1 : e1 < 36) (h2 : e2 < 36) (hc1 : cd_ak B (cd_oc B) k (1 - m) e1 = true) (hc2 : cd_ak B (cd_oc B) k (1 - m) e2 = true) : cg_bt k e2 e1 = false := by
  cases hb : cg_bt k e2 e1 with
  | false => rfl
  | true =>
    exfalso
    have hb' : cg_bt e2 k e1 = true := by rw [← cg_btc k hk e2 h2 e1 h1]; exact hb
    rw [cc_ak_iff] at hc1 hc2
    rcases cc_at_iff.mp hc2.2 with h | h
    · rw [cd_lpS h2 hk h e1] at hb'; exact absurd hb' (by decide)
    · have := cg_cl_iff.mp h.2 e1 h1 hb'
      rw [cd_of_oc hc1.1] at this; exact absurd this (by decide)
theorem cc_slc {B : Nat → Nat} {k e : Nat} (hk : k < 36) (he : e < 36) : cd_sl (B e) (cg_dir e k) = cd_sl (B e) (cg_dir k e) := by
  rw [cg_opp k hk e he, cd_slop _ (cg_dir8 k hk e he)]
/-- a move of a piece other than the king leaves no check iff it helps and keeps to its shield line -/
theorem cc_core {B : Nat → Nat} {m k f t : Nat} (hm : m < 2) (hK : cd_K B m k) (hft : f ≠ t) (hfk : f ≠ k) (hf36 : f < 36) (ht36 : t < 36) (hf : cd_of (B f) m = true) (ht : cd_of (B t) m = false) :
    cd_ck (cd_mv B f t) m = false ↔ cc_HP B m k t ∧ ∀ e, e < 36 → cc_SH B m k f e → cc_seg k e t := by
  have hk := hK.1
  have hoc : ∀ x, cd_oc (cd_mv B f t) x = (if x = f then false else if x = t then true else cd_oc B x) := fun x => cd_oc_mv hft hf
  have hot : cd_oc (cd_mv B f t) t = true := by rw [hoc, if_neg (fun e => hft e.symm), if_pos rfl]
  constructor
  · intro hno
    have hno : ∀ e, e < 36 → e ≠ t → cd_of (B e) (1 - m) = true → ¬ cd_at (B e) (cd_oc (cd_mv B f t)) e k = true := by
      intro e he het h1 h2
      have := (cc_ckmv hm hK hft hfk hf36 hf ht).mpr ⟨e, he, het, h1, h2⟩
      rw [this] at hno; exact absurd hno (by decide)
    have hA : ∀ e, e < 36 → cd_ak B (cd_oc B) k (1 - m) e = true → t = e ∨ cg_bt k e t = true := by
      intro e he hc
      by_cases het : e = t
      · exact Or.inl het.symm
      · right
        rw [cc_ak_iff] at hc
        have hn := hno e he het hc.1
        rw [cc_at_iff] at hn
        rcases cc_at_iff.mp hc.2 with h | h
        · exact absurd (Or.inl h) hn
        · cases hb : cg_bt k e t with
          | true => rfl
          | false =>
            exfalso
            refine hn (Or.inr ⟨h.1, cg_cl_iff.mpr fun x hx hbx => ?_⟩)
            rw [hoc]
            by_cases h1 : x = f
            · rw [if_pos h1]
            · rw [if_neg h1]
              by_cases h2 : x = t
              · rw [h2, ← cg_btc k hk e he t ht36, hb] at hbx; exact absurd hbx (by decide)
              · rw [if_neg h2]; exact cg_cl_iff.mp h.2 x hx hbx
    refine ⟨⟨hA, fun e1 e2 h1 h2 hc1 hc2 => ?_⟩, fun e he hs => ?_⟩
    · have b12 := cc_block hk h1 h2 hc1 hc2
      have b21 := cc_block hk h2 h1 hc2 hc1
      rcases hA e1 h1 hc1 with a1 | a1
      · rcases hA e2 h2 hc2 with a2 | a2
        · exact a1.symm.trans a2
        · rw [a1, b12] at a2; exact absurd a2 (by decide)
      · rcases hA e2 h2 hc2 with a2 | a2
        · rw [a2, b21] at a1; exact absurd a1 (by decide)
        · obtain ⟨_, _, d1, d2, _⟩ := cg_bt0 hk h1 ht36 a1
          obtain ⟨_, _, d3, d4, _⟩ := cg_bt0 hk h2 ht36 a2
          have de : cg_dir k e1 = cg_dir k e2 := d2.symm.trans d4
          rcases Nat.lt_trichotomy (cg_ds k e1) (cg_ds k e2) with hlt | heq | hlt
          · rw [cg_btI d3 de hlt] at b12; exact absurd b12 (by decide)
          · exact cg_uq hk h1 h2 d1 de.symm heq
          · rw [cg_btI d1 de.symm hlt] at b21; exact absurd b21 (by decide)
    · obtain ⟨s1, s2, s3, s4⟩ := hs
      by_cases het : e = t
      · rw [het]; exact ⟨rfl, Nat.le_refl _⟩
      · have hn := hno e he het s2
        rw [cc_at_iff] at hn
        cases hb : cg_bt k e t with
        | true =>
          obtain ⟨_, _, _, d2, d3⟩ := cg_bt0 hk he ht36 hb
          exact ⟨d2, Nat.le_of_lt d3⟩
        | false =>
          exfalso
          refine hn (Or.inr ⟨by rw [cc_slc hk he]; exact s3, cg_cl_iff.mpr fun x hx hbx => ?_⟩)
          rw [← cg_btc k hk e he x hx] at hbx
          rw [hoc]
          by_cases h1 : x = f
          · rw [if_pos h1]
          · rw [if_neg h1]
            by_cases h2 : x = t
            · rw [h2, hb] at hbx; exact absurd hbx (by decide)
            · rw [if_neg h2]; exact cd_ocF.mpr (s4 x hx hbx h1)
  · rintro ⟨hp, hsh⟩
    cases hck : cd_ck (cd_mv B f t) m with
    | false => rfl
    | true =>
      exfalso
      obtain ⟨e, he, het, h1, h2⟩ := (cc_ckmv hm hK hft hfk hf36 hf ht).mp hck
      have hcl : ∀ x, x < 36 → cg_bt k e x = true → cd_lp (B e) e k = false → cd_oc (cd_mv B f t) x = false := by
        intro x hx hb hl
        rcases cc_at_iff.mp h2 with h | h
        · rw [hl] at h; exact absurd h (by decide)
        · exact cg_cl_iff.mp h.2 x hx (by rw [← cg_btc k hk e he x hx]; exact hb)
      cases hC : cd_ak B (cd_oc B) k (1 - m) e with
      | true =>
        rcases hp.1 e he hC with a | a
        · exact het a.symm
        · cases hl : cd_lp (B e) e k with
          | true =>
            have := cd_lpS he hk hl t
            rw [← cg_btc k hk e he t ht36, a] at this; exact absurd this (by decide)
          | false =>
            have := hcl t ht36 a hl
            rw [hot] at this; exact absurd this (by decide)
      | false =>
        have hl : cd_lp (B e) e k = false := by
          cases hl : cd_lp (B e) e k with
          | false => rfl
          | true =>
            rw [cc_ak_iff.mpr ⟨h1, cc_at_iff.mpr (Or.inl hl)⟩] at hC; exact absurd hC (by decide)
        have hs : cd_sl (B e) (cg_dir e k) = true ∧ cg_cl (cd_oc (cd_mv B f t)) e k = true := by
          rcases cc_at_iff.mp h2 with h | h
          · rw [hl] at h; exact absurd h (by decide)
          · exact h
        have hx0 : ∀ x, x < 36 → cg_bt k e x = true → x ≠ f → B x = 0 := by
          intro x hx hb hxf
          have := hcl x hx hb hl
          rw [hoc, if_neg hxf] at this
          by_cases h3 : x = t
          · rw [if_pos h3] at this; exact absurd this (by decide)
          · rw [if_neg h3] at this; exact cd_ocF.mp this
        have hbf : cg_bt k e f = true := by
          cases hbf : cg_bt k e f with
          | true => rfl
          | false =>
            exfalso
            have : cg_cl (cd_oc B) e k = true := cg_cl_iff.mpr fun x hx hb => by
              rw [← cg_btc k hk e he x hx] at hb
              refine cd_ocF.mpr (hx0 x hx hb fun h3 => ?_)
              rw [h3, hbf] at hb; exact absurd hb (by decide)
            rw [cc_ak_iff.mpr ⟨h1, cc_at_iff.mpr (Or.inr ⟨hs.1, this⟩)⟩] at hC; exact absurd hC (by decide)
        obtain ⟨_, _, d1, d2, d3⟩ := cg_bt0 hk he hf36 hbf
        obtain ⟨g1, g2⟩ := hsh e he ⟨hbf, h1, by rw [← cc_slc hk he]; exact hs.1, hx0⟩
        rcases Nat.lt_or_eq_of_le g2 with g3 | g3
        · have := hcl t ht36 (cg_btI d1 g1 g3) hl
          rw [hot] at this; exact absurd this (by decide)
        · exact het (cg_uq hk he ht36 d1 g1 g3.symm)
/-- a king's move -/
theorem cc_king {B : Nat → Nat} {m k t : Nat} (hm : m < 2) (hK : cd_K B m k) (hkt : k ≠ t) (ht36 : t < 36) (ht : cd_of (B t) m = false) :
    cd_ck (cd_mv B k t) m = true ↔ ∃ e, e < 36 ∧ cd_ak B (fun i => cd_oc B i && !decide (i = k)) t (1 - m) e = true := by
  have hk := hK.1
  have hBk : B k = 6 + 8 * m := (hK.2 k hk).mpr rfl
  have hf : cd_of (B k) m = true := by rw [hBk]; exact cd_of6 hm
  have hoc : ∀ x, cd_oc (cd_mv B k t) x = (if x = k then false else if x = t then true else cd_oc B x) := fun x => cd_oc_mv hkt hf
  have hK' : cd_K (cd_mv B k t) m t := by
    refine ⟨ht36, fun s hs => ?_⟩
    by_cases h1 : s = k
    · rw [h1, cd_mv_f]; exact ⟨fun h => by omega, fun h => absurd h hkt⟩
    · by_cases h2 : s = t
      · rw [h2, cd_mv_t hkt, cd_pr_6]; exact ⟨fun _ => rfl, fun _ => hBk⟩
      · rw [cd_mv_o h1 h2, hK.2 s hs]; exact ⟨fun h => absurd h h1, fun h => absurd h h2⟩
  have hcl : ∀ e, e < 36 → cg_cl (cd_oc (cd_mv B k t)) e t = cg_cl (fun i => cd_oc B i && !decide (i = k)) e t := by
    intro e he
    refine cg_clo fun x hx hb => ?_
    obtain ⟨_, hxt, _⟩ := cg_bt0 he ht36 hx hb
    rw [hoc]
    by_cases h1 : x = k
    · rw [if_pos h1]; simp [h1]
    · rw [if_neg h1, if_neg hxt]; simp [h1]
  rw [cd_ckK hK']
  refine ⟨fun ⟨e, he, h⟩ => ⟨e, he, ?_⟩, fun ⟨e, he, h⟩ => ⟨e, he, ?_⟩⟩
  · rw [cc_ak_iff] at h ⊢
    have hek : e ≠ k := by
      intro e1; rw [e1, cd_mv_f] at h; exact absurd h.1 (by rw [cd_of0]; decide)
    have het : e ≠ t := by
      intro e1; rw [e1, cd_mv_t hkt, cd_of_x hm (cd_pr_of hf)] at h; exact absurd h.1 (by decide)
    rw [cd_mv_o hek het, cc_at_iff, hcl e he] at h
    rw [cc_at_iff]; exact h
  · rw [cc_ak_iff] at h
    have het : e ≠ t := by
      intro e1; rw [e1, cd_at_self ht36] at h; exact absurd h.2 (by decide)
    have hek : e ≠ k := by
      intro e1; rw [e1, cd_of_x hm hf] at h; exact absurd h.1 (by decide)
    rw [cc_ak_iff, cd_mv_o hek het, cc_at_iff, hcl e he]
    rw [cc_at_iff] at h; exact h
end
section
/-! ===== good positions are kept; counts ===== -/
theorem ce_sm_le {g g' : Nat → Nat} : ∀ n, (∀ s, s < n → g s ≤ g' s) → cd_sm g n ≤ cd_sm g' n
  | 0, _ => Nat.le_refl _
  | n + 1, h => Nat.add_le_add (ce_sm_le n fun s hs => h s (by omega)) (h n (by omega))
theorem ce_sm_eq {g g' : Nat → Nat} : ∀ n, (∀ s, s < n → g s = g' s) → cd_sm g n = cd_sm g' n
  | 0, _ => rfl
  | n + 1, h => by rw [cd_sm, cd_sm, ce_sm_eq n fun s hs => h s (by omega), h n (by omega)]
/-- change at one place -/
theorem ce_sm1 {g g' : Nat → Nat} {f : Nat} : ∀ n, f < n → (∀ s, s < n → s ≠ f → g' s = g s) → cd_sm g' n + g f = cd_sm g n + g' f
  | 0, h, _ => absurd h (by omega)
  | n + 1, h, e => by
    rw [cd_sm, cd_sm]
    by_cases hf : f = n
    · subst hf
      have := ce_sm_eq (g := g') (g' := g) f fun s hs => e s (by omega) (by omega)
      omega
    · have := ce_sm1 (g := g) (g' := g') n (by omega) fun s hs => e s (by omega)
      have := e n (by omega) (fun h => hf h.symm)
      omega
theorem ce_sm2 {g g' : Nat → Nat} {f t : Nat} {n : Nat} (hf : f < n) (ht : t < n) (hft : f ≠ t) (e : ∀ s, s < n → s ≠ f → s ≠ t → g' s = g s) : cd_sm g' n + g f + g t = cd_sm g n + g' f + g' t := by
  have h1 := ce_sm1 (g := g) (g' := fun s => if s = f then g' f else g s) (f := f) n hf (fun s _ h => if_neg h)
  have h2 := ce_sm1 (g := fun s => if s = f then g' f else g s) (g' := g') (f := t) n ht (fun s hs h => by
    by_cases h3 : s = f
    · rw [h3]; exact (if_pos rfl).symm
    · show g' s = if s = f then g' f else g s
      rw [if_neg h3]; exact e s hs h3 h)
  rw [if_pos rfl] at h1; rw [if_neg (fun h : t = f => hft h.symm)] at h2
  omega
theorem ce_len (p : Nat → Bool) : ∀ n, ((List.range n).filter p).length = cd_sm (fun s => if p s then 1 else 0) n
  | 0 => rfl
  | n + 1 => by
    rw [List.range_succ, List.filter_append, List.length_append, ce_len p n, cd_sm]
    congr 1
    by_cases h : p n = true
    · rw [List.filter_cons_of_pos h, if_pos h]; rfl
    · rw [List.filter_cons_of_neg h, if_neg h]; rfl
theorem ce_n_mv {B : Nat → Nat} {m f t : Nat} (hf36 : f < 36) (ht36 : t < 36) (hft : f ≠ t) (hf : cd_of (B f) m = true) : cd_n (cd_mv B f t) ≤ cd_n B := by
  unfold cd_n
  have := ce_sm2 (g := fun s => if cd_oc B s then 1 else 0) (g' := fun s => if cd_oc (cd_mv B f t) s then 1 else 0) hf36 ht36 hft (fun s _ h1 h2 => by
    show (if cd_oc (cd_mv B f t) s then 1 else 0) = (if cd_oc B s then 1 else 0)
    rw [cd_oc_mv hft hf, if_neg h1, if_neg h2])
  have e1 : (if cd_oc (cd_mv B f t) f then 1 else 0) = 0 := by rw [cd_oc_mv hft hf, if_pos rfl]; rfl
  have e2 : (if cd_oc (cd_mv B f t) t then 1 else 0) = 1 := by rw [cd_oc_mv hft hf, if_neg (fun h : t = f => hft h.symm), if_pos rfl]; rfl
  have e3 : (if cd_oc B f then 1 else 0) = 1 := by rw [cd_of_oc hf]; rfl
  simp only [e1, e2, e3] at this
  omega
theorem ce_pawn {B : Nat → Nat} {m f t : Nat} (hok : cd_OK B) (hf36 : f < 36) (ht36 : t < 36) (hc : cd_cg B m f t = true) (hk : cd_kd (cd_pr (B f) t) = 1) : 6 ≤ t ∧ t < 30 := by
  obtain ⟨hft, hf, ht, h4⟩ := cd_cg_iff.mp hc
  obtain ⟨c1, c2, c3⟩ := hok.1 f hf36
  have hB : (B f = 1 ∨ B f = 9) ∧ ¬ ((B f = 1 ∧ t / 6 = 5) ∨ (B f = 9 ∧ t / 6 = 0)) := by
    unfold cd_pr at hk
    split at hk
    · rename_i h; unfold cd_kd at hk; split at hk <;> omega
    · rename_i h; refine ⟨?_, h⟩; unfold cd_kd at hk; split at hk <;> omega
  have hkd : cd_kd (B f) = 1 := by
    rcases hB.1 with h | h <;> rw [h] <;> rfl
  obtain ⟨r1, r2⟩ := hok.2.2.1 f hf36 hkd
  obtain ⟨hB1, hB2⟩ := hB
  split at h4
  · rename_i hz
    split at h4 <;> omega
  · rename_i hz
    have hlp : cg_pw (if B f < 8 then 0 else 1) f t = true := by
      rcases cc_at_iff.mp h4 with h | h
      · unfold cd_lp at h; rw [hkd] at h; simpa using h
      · have := h.1; unfold cd_sl at this; rw [hkd] at this; simp at this
    unfold cg_pw at hlp
    rw [Bool.and_eq_true] at hlp
    have h6 := hlp.2
    rcases hB1 with h | h
    · rw [h] at h6; simp at h6; omega
    · rw [h] at h6; simp at h6; omega
theorem ce_Kmv {B : Nat → Nat} {m f t q k : Nat} (hm : m < 2) (hq : q < 2) (hf36 : f < 36) (ht36 : t < 36) (hck : cd_ck B (1 - m) = false) (hc : cd_cg B m f t = true) (hK : cd_K B q k) : cd_K (cd_mv B f t) q (if f = k then t else k) := by
  obtain ⟨hft, hf, ht, h4⟩ := cd_cg_iff.mp hc
  have htk : t ≠ k := by
    intro e
    have hBt : B t = 6 + 8 * q := by rw [e]; exact (hK.2 k hK.1).mpr rfl
    by_cases hqm : q = m
    · rw [hBt, hqm, cd_of6 hm] at ht; exact absurd ht (by decide)
    · have hq1 : q = 1 - m := by omega
      rw [if_neg (by omega)] at h4
      have : cd_ck B (1 - m) = true := cd_ck_iff.mpr ⟨t, ht36, by rw [hBt, hq1], f, hf36, cc_ak_iff.mpr ⟨by rw [cc_x11 hm]; exact hf, h4⟩⟩
      rw [this] at hck; exact absurd hck (by decide)
  by_cases hfk : f = k
  · rw [if_pos hfk]
    refine ⟨ht36, fun s hs => ?_⟩
    by_cases h1 : s = f
    · rw [h1, cd_mv_f]; exact ⟨fun h => by omega, fun h => absurd h hft⟩
    · by_cases h2 : s = t
      · rw [h2, cd_mv_t hft, cd_pr_6]; exact ⟨fun _ => rfl, fun _ => (hK.2 f hf36).mpr hfk⟩
      · rw [cd_mv_o h1 h2, hK.2 s hs]
        exact ⟨fun h => absurd (h.trans hfk.symm) h1, fun h => absurd h h2⟩
  · rw [if_neg hfk]
    refine ⟨hK.1, fun s hs => ?_⟩
    by_cases h1 : s = f
    · rw [h1, cd_mv_f]; exact ⟨fun h => by omega, fun h => absurd h hfk⟩
    · by_cases h2 : s = t
      · rw [h2, cd_mv_t hft, cd_pr_6, hK.2 f hf36]
        exact ⟨fun h => absurd h hfk, fun h => absurd h htk⟩
      · rw [cd_mv_o h1 h2]; exact hK.2 s hs
theorem ce_OKmv {B : Nat → Nat} {m f t : Nat} (hok : cd_OK B) (hf36 : f < 36) (ht36 : t < 36) (hc : cd_cg B m f t = true) : cd_OK (cd_mv B f t) := by
  obtain ⟨hft, hf, ht, h4⟩ := cd_cg_iff.mp hc
  refine ⟨fun s hs => ?_, fun s hs => ?_, fun s hs hk => ?_, Nat.le_trans (ce_n_mv hf36 ht36 hft hf) hok.2.2.2⟩
  · by_cases h1 : s = f
    · rw [h1, cd_mv_f]; omega
    · by_cases h2 : s = t
      · rw [h2, cd_mv_t hft]
        have := hok.1 f hf36
        unfold cd_pr; split
        · rename_i h; omega
        · exact this
      · rw [cd_mv_o h1 h2]; exact hok.1 s hs
  · rw [cd_mv_o (by omega) (by omega)]; exact hok.2.1 s hs
  · by_cases h1 : s = f
    · rw [h1, cd_mv_f] at hk; exact absurd hk (by decide)
    · by_cases h2 : s = t
      · rw [h2] at hk ⊢; rw [cd_mv_t hft] at hk
        exact ce_pawn hok hf36 ht36 hc hk
      · rw [cd_mv_o h1 h2] at hk; exact hok.2.2.1 s hs hk
theorem ce_lg {B : Nat → Nat} {m f t : Nat} (h : cd_lg B m f t = true) : cd_cg B m f t = true ∧ cd_ck (cd_mv B f t) m = false := by
  unfold cd_lg at h; rw [Bool.and_eq_true, Bool.not_eq_true'] at h; exact h
theorem ce_G {B : Nat → Nat} {m f t : Nat} (h : cd_G B m) (hf36 : f < 36) (ht36 : t < 36) (hl : cd_lg B m f t = true) : cd_G (cd_mv B f t) (1 - m) := by
  obtain ⟨hc, hck⟩ := ce_lg hl
  obtain ⟨k0, hk0⟩ := h.2.2.1
  obtain ⟨k1, hk1⟩ := h.2.2.2.1
  exact ⟨by have := h.1; omega, ce_OKmv h.2.1 hf36 ht36 hc, ⟨_, ce_Kmv h.1 (by decide) hf36 ht36 h.2.2.2.2 hc hk0⟩, ⟨_, ce_Kmv h.1 (by decide) hf36 ht36 h.2.2.2.2 hc hk1⟩, by rw [cc_x11 h.1]; exact hck⟩
/-! the list of moves -/
theorem ce_L_mem {B : Nat → Nat} {m x : Nat} : x ∈ cd_L B m ↔ x / 64 < 36 ∧ x % 64 < 36 ∧ cd_lg B m (x / 64) (x % 64) = true := by
  unfold cd_L
  rw [List.mem_flatMap]
  constructor
  · rintro ⟨f, hf, h⟩
    obtain ⟨t, ht, rfl⟩ := List.mem_map.mp h
    rw [List.mem_filter] at ht
    have h1 := List.mem_range.mp hf
    have h2 := List.mem_range.mp ht.1
    have e1 : (64 * f + t) / 64 = f := by omega
    have e2 : (64 * f + t) % 64 = t := by omega
    rw [e1, e2]; exact ⟨h1, h2, ht.2⟩
  · rintro ⟨h1, h2, h3⟩
    refine ⟨x / 64, List.mem_range.mpr h1, List.mem_map.mpr ⟨x % 64, List.mem_filter.mpr ⟨List.mem_range.mpr h2, h3⟩, by omega⟩⟩
theorem ce_Gx {B : Nat → Nat} {m x : Nat} (h : cd_G B m) (hx : x ∈ cd_L B m) : cd_G (cd_nx B x) (1 - m) := by
  obtain ⟨h1, h2, h3⟩ := ce_L_mem.mp hx
  exact ce_G h h1 h2 h3
/-! how many moves -/
def ce_wt (m p : Nat) : Nat := if cd_of p m then (if cd_kd p = 6 then 8 else 19) else 0
def ce_ws (B : Nat → Nat) (m : Nat) : Nat := cd_sm (fun s => ce_wt m (B s)) 36
theorem ce_cnt8 : ∀ f, f < 36 → ((List.range 36).filter (fun t => cg_kn f t)).length ≤ 8 ∧ ((List.range 36).filter (fun t => cg_kg f t)).length ≤ 8 ∧ ((List.range 36).filter (fun t => decide (cg_dir f t < 8))).length ≤ 19 := by decide +kernel
theorem ce_dir6 : ∀ f, f < 36 → ∀ t, t < 36 → (t = f + 6 ∨ t + 6 = f) → cg_dir f t < 8 := by decide +kernel
theorem ce_pwd : ∀ m, m < 2 → ∀ f, f < 36 → ∀ t, t < 36 → cg_pw m f t = true → cg_dir f t < 8 := by decide +kernel
theorem ce_flen {p q : Nat → Bool} (h : ∀ t, t < 36 → p t = true → q t = true) : ((List.range 36).filter p).length ≤ ((List.range 36).filter q).length := by
  rw [ce_len, ce_len]
  refine ce_sm_le 36 fun s hs => ?_
  cases hp : p s with
  | false => simp
  | true => rw [h s hs hp]; exact Nat.le_refl _
theorem ce_row {B : Nat → Nat} {m f : Nat} (hok : cd_OK B) (hm : m < 2) (hf : f < 36) : ((List.range 36).filter (cd_lg B m f)).length ≤ ce_wt m (B f) := by
  cases ho : cd_of (B f) m with
  | false =>
    have : (List.range 36).filter (cd_lg B m f) = [] := by
      rw [List.filter_eq_nil_iff]; intro t _ h
      have := (cd_cg_iff.mp (ce_lg h).1).2.1
      rw [ho] at this; exact absurd this (by decide)
    rw [this]; exact Nat.zero_le _
  | true =>
    obtain ⟨c1, c2, c3⟩ := hok.1 f hf
    have hw : ce_wt m (B f) = if cd_kd (B f) = 6 then 8 else 19 := by unfold ce_wt; rw [ho]; rfl
    rw [hw]
    obtain ⟨n1, n2, n3⟩ := ce_cnt8 f hf
    by_cases h6 : cd_kd (B f) = 6
    · rw [if_pos h6]
      refine Nat.le_trans (ce_flen (q := fun t => cg_kg f t) fun t ht h => ?_) n2
      have h4 := (cd_cg_iff.mp (ce_lg h).1).2.2.2
      rw [if_neg (by omega)] at h4
      rcases cc_at_iff.mp h4 with h | h
      · unfold cd_lp at h; rw [h6] at h; simpa using h
      · have := h.1; unfold cd_sl at this; rw [h6] at this; simp at this
    · rw [if_neg h6]
      by_cases h2 : cd_kd (B f) = 2
      · refine Nat.le_trans (Nat.le_trans (ce_flen (q := fun t => cg_kn f t) fun t ht h => ?_) n1) (by decide)
        have h4 := (cd_cg_iff.mp (ce_lg h).1).2.2.2
        rw [if_neg (by omega)] at h4
        rcases cc_at_iff.mp h4 with h | h
        · unfold cd_lp at h; rw [h2] at h; simpa using h
        · have := h.1; unfold cd_sl at this; rw [h2] at this; simp at this
      · refine Nat.le_trans (ce_flen (q := fun t => decide (cg_dir f t < 8)) fun t ht h => ?_) n3
        have h4 := (cd_cg_iff.mp (ce_lg h).1).2.2.2
        refine decide_eq_true ?_
        split at h4
        · split at h4
          · exact ce_dir6 f hf t ht (Or.inl h4)
          · exact ce_dir6 f hf t ht (Or.inr h4)
        · rcases cc_at_iff.mp h4 with h | h
          · unfold cd_lp at h
            simp only [Bool.or_eq_true, Bool.and_eq_true, beq_iff_eq] at h
            rcases h with (h | h) | h
            · exact ce_pwd _ (by split <;> decide) f hf t ht h.2
            · exact absurd h.1 h2
            · exact absurd h.1 h6
          · exact cd_sl8 h.1
theorem ce_Llen {B : Nat → Nat} {m : Nat} (hok : cd_OK B) (hm : m < 2) : (cd_L B m).length ≤ ce_ws B m := by
  unfold cd_L ce_ws
  have : ∀ n, n ≤ 36 → ((List.range n).flatMap (fun f => ((List.range 36).filter (cd_lg B m f)).map (fun t => 64 * f + t))).length ≤ cd_sm (fun s => ce_wt m (B s)) n := by
    intro n
    induction n with
    | zero => intro _; exact Nat.le_refl _
    | succ n ih =>
      intro hn
      rw [List.range_succ (n := n), List.flatMap_append, List.length_append, cd_sm]
      refine Nat.add_le_add (ih (by omega)) ?_
      rw [List.flatMap_cons, List.flatMap_nil, List.append_nil, List.length_map]
      exact ce_row hok hm (by omega)
  exact this 36 (Nat.le_refl _)
theorem ce_ws_mv {B : Nat → Nat} {m f t i : Nat} (hm : m < 2) (hf36 : f < 36) (ht36 : t < 36) (hc : cd_cg B m f t = true) (hi : i < 2) : ce_ws (cd_mv B f t) i ≤ ce_ws B i := by
  obtain ⟨hft, hf, ht, _⟩ := cd_cg_iff.mp hc
  unfold ce_ws
  have := ce_sm2 (g := fun s => ce_wt i (B s)) (g' := fun s => ce_wt i (cd_mv B f t s)) hf36 ht36 hft (fun s _ h1 h2 => by
    show ce_wt i (cd_mv B f t s) = ce_wt i (B s)
    rw [cd_mv_o h1 h2])
  have e1 : ce_wt i (cd_mv B f t f) = 0 := by rw [cd_mv_f]; rfl
  have e2 : ce_wt i (cd_mv B f t t) = ce_wt i (B f) := by
    rw [cd_mv_t hft]
    unfold cd_pr
    split
    · rename_i h
      rcases h with h | h
      · rw [h.1]
        have : i = 0 ∨ i = 1 := by omega
        rcases this with rfl | rfl <;> rfl
      · rw [h.1]
        have : i = 0 ∨ i = 1 := by omega
        rcases this with rfl | rfl <;> rfl
    · rfl
  simp only [e1, e2] at this
  omega
theorem ce_sm_add (g g' : Nat → Nat) : ∀ n, cd_sm (fun s => g s + g' s) n = cd_sm g n + cd_sm g' n
  | 0 => rfl
  | n + 1 => by rw [cd_sm, cd_sm, cd_sm, ce_sm_add g g' n]; omega
theorem ce_sm_mul (c : Nat) (g : Nat → Nat) : ∀ n, cd_sm (fun s => c * g s) n = c * cd_sm g n
  | 0 => rfl
  | n + 1 => by rw [cd_sm, cd_sm, ce_sm_mul c g n, Nat.mul_add]
theorem ce_sm_one {g : Nat → Nat} {k n : Nat} (hk : k < n) (h : ∀ s, s < n → s ≠ k → g s = 0) : cd_sm g n = g k := by
  have h1 := ce_sm1 (g := fun _ => 0) (g' := g) (f := k) n hk h
  have h2 : ∀ n, cd_sm (fun _ => 0) n = 0 := by
    intro n; induction n with
    | zero => rfl
    | succ n ih => rw [cd_sm, ih]
  rw [h2] at h1
  omega
/-- both sides together: at most 92 -/
theorem ce_ws92 {B : Nat → Nat} {m : Nat} (h : cd_G B m) : ce_ws B 0 + ce_ws B 1 ≤ 92 := by
  obtain ⟨k0, hk0⟩ := h.2.2.1
  obtain ⟨k1, hk1⟩ := h.2.2.2.1
  obtain ⟨hv, _, _, hn⟩ := h.2.1
  have e : cd_sm (fun s => (ce_wt 0 (B s) + ce_wt 1 (B s)) + ((if s = k0 then 11 else 0) + (if s = k1 then 11 else 0))) 36 = cd_sm (fun s => 19 * (if cd_oc B s then 1 else 0)) 36 := by
    refine ce_sm_eq 36 fun s hs => ?_
    have hv' := hv s hs
    have i0 := hk0.2 s hs
    have i1 := hk1.2 s hs
    by_cases h0 : B s = 0
    · have n0 : s ≠ k0 := fun e => by have := i0.mpr e; omega
      have n1 : s ≠ k1 := fun e => by have := i1.mpr e; omega
      rw [cd_ocF.mpr h0, h0, if_neg n0, if_neg n1]; rfl
    · rw [cd_ocT.mpr h0]
      by_cases s0 : s = k0
      · have hb : B s = 6 := i0.mpr s0
        have n1 : s ≠ k1 := fun e => by have := i1.mpr e; omega
        rw [if_pos s0, if_neg n1, hb]; rfl
      · by_cases s1 : s = k1
        · have hb : B s = 14 := i1.mpr s1
          rw [if_neg s0, if_pos s1, hb]; rfl
        · rw [if_neg s0, if_neg s1]
          have h6 : B s ≠ 6 := fun e => s0 (i0.mp e)
          have h14 : B s ≠ 14 := fun e => s1 (i1.mp e)
          have : ∀ p, p < 15 → (p = 0 ∨ p = 7 ∨ p = 8 ∨ p = 6 ∨ p = 14 ∨ ce_wt 0 p + ce_wt 1 p = 19) := by decide
          have hw : ce_wt 0 (B s) + ce_wt 1 (B s) = 19 := by
            have := this (B s) (by omega); omega
          rw [hw]; rfl
  rw [ce_sm_add, ce_sm_add, ce_sm_add, ce_sm_mul] at e
  have a0 : cd_sm (fun s => if s = k0 then 11 else 0) 36 = 11 := by
    rw [ce_sm_one hk0.1 (fun s _ h => if_neg h)]; exact if_pos rfl
  have a1 : cd_sm (fun s => if s = k1 then 11 else 0) 36 = 11 := by
    rw [ce_sm_one hk1.1 (fun s _ h => if_neg h)]; exact if_pos rfl
  rw [a0, a1] at e
  have hn' : cd_sm (fun s => if cd_oc B s then 1 else 0) 36 ≤ 6 := hn
  unfold ce_ws
  omega
theorem ce_ws8 {B : Nat → Nat} {m q : Nat} (h : cd_G B m) (hq : q < 2) : 8 ≤ ce_ws B q := by
  obtain ⟨k, hk⟩ := cd_G_K h hq
  have h1 : cd_sm (fun s => if s = k then 8 else 0) 36 = 8 := by
    rw [ce_sm_one hk.1 (fun s _ h => if_neg h)]; exact if_pos rfl
  rw [← h1]
  refine ce_sm_le 36 fun s hs => ?_
  by_cases e : s = k
  · rw [if_pos e, (hk.2 s hs).mpr e]
    have : q = 0 ∨ q = 1 := by omega
    rcases this with rfl | rfl <;> decide
  · rw [if_neg e]; exact Nat.zero_le _
theorem ce_L84 {B : Nat → Nat} {m : Nat} (h : cd_G B m) : (cd_L B m).length ≤ 84 := by
  have h1 := ce_Llen h.2.1 h.1
  have h2 := ce_ws92 h
  have h3 := ce_ws8 h (q := 1 - m) (by omega)
  have : m = 0 ∨ m = 1 := by have := h.1; omega
  rcases this with rfl | rfl
  · have : ce_ws B (1 - 0) = ce_ws B 1 := rfl
    omega
  · have : ce_ws B (1 - 1) = ce_ws B 0 := rfl
    omega
end
section
/-! ===== values, bounds, the search between bounds ===== -/
theorem cs_ge {g : Nat → Int} : ∀ (l : List Nat) (a : Int), a ≤ cd_mx g a l
  | [], _ => Int.le_refl _
  | x :: l, a => by
    rw [cd_mx]
    have := cs_ge (g := g) l (if a < -(g x) then -(g x) else a)
    split at this
    · rename_i h; rw [if_pos h]; omega
    · rename_i h; rw [if_neg h]; omega
theorem cs_up {g : Nat → Int} : ∀ (l : List Nat) (a : Int) (x : Nat), x ∈ l → -(g x) ≤ cd_mx g a l
  | [], _, _, h => absurd h (by simp)
  | y :: l, a, x, h => by
    rw [cd_mx]
    rcases List.mem_cons.mp h with e | e
    · subst e
      have := cs_ge (g := g) l (if a < -(g x) then -(g x) else a)
      split at this
      · rename_i h; rw [if_pos h]; omega
      · rename_i h; rw [if_neg h]; omega
    · exact cs_up l _ x e
theorem cs_is {g : Nat → Int} : ∀ (l : List Nat) (a : Int), cd_mx g a l = a ∨ ∃ x, x ∈ l ∧ cd_mx g a l = -(g x)
  | [], _ => Or.inl rfl
  | y :: l, a => by
    rw [cd_mx]
    rcases cs_is (g := g) l (if a < -(g y) then -(g y) else a) with h | ⟨x, hx, h⟩
    · rw [h]
      by_cases hc : a < -(g y)
      · rw [if_pos hc]; exact Or.inr ⟨y, List.mem_cons_self, rfl⟩
      · rw [if_neg hc]; exact Or.inl rfl
    · exact Or.inr ⟨x, List.mem_cons_of_mem _ hx, h⟩
theorem cs_app {g : Nat → Int} : ∀ (l l' : List Nat) (a : Int), cd_mx g a (l ++ l') = cd_mx g (cd_mx g a l) l'
  | [], _, _ => rfl
  | x :: l, l', a => by rw [List.cons_append, cd_mx, cd_mx, cs_app l l']
theorem cs_w9 (p : Nat) : cd_w p ≤ 9 := by
  unfold cd_w; repeat (first | split | omega)
theorem cs_bs (B : Nat → Nat) (m : Nat) : ∀ n : Nat, -(9 * (n : Int)) ≤ cd_bs B m n ∧ cd_bs B m n ≤ 9 * (n : Int)
  | 0 => by rw [cd_bs]; omega
  | n + 1 => by
    have h := cs_bs B m n
    have hw := cs_w9 (B n)
    rw [cd_bs]
    split <;> omega
theorem cs_bal (B : Nat → Nat) (m : Nat) : -324 ≤ cd_bal B m ∧ cd_bal B m ≤ 324 := by
  have := cs_bs B m 36; unfold cd_bal; omega
theorem cs_vb : ∀ (d : Nat) (B : Nat → Nat) (m : Nat), -(1000 + (d : Int)) ≤ cd_val d B m ∧ cd_val d B m ≤ 1000 + (d : Int)
  | 0, B, m => by have := cs_bal B m; rw [cd_val]; omega
  | d + 1, B, m => by
    rw [cd_val]
    by_cases h : cd_L B m = []
    · rw [if_pos h]; split <;> omega
    · rw [if_neg h]
      have hb := fun x => cs_vb d (cd_nx B x) (1 - m)
      cases hl : cd_L B m with
      | nil => exact absurd hl h
      | cons y l =>
        have h1 := cs_up (g := fun x => cd_val d (cd_nx B x) (1 - m)) (y :: l) (-5000) y List.mem_cons_self
        have h2 := hb y
        rcases cs_is (g := fun x => cd_val d (cd_nx B x) (1 - m)) (y :: l) (-5000) with h3 | ⟨x, hx, h3⟩
        · have h1' : -(cd_val d (cd_nx B y) (1 - m)) ≤ cd_mx (fun x => cd_val d (cd_nx B x) (1 - m)) (-5000) (y :: l) := h1
          rw [h3] at h1' ⊢
          omega
        · have h1' : -(cd_val d (cd_nx B y) (1 - m)) ≤ cd_mx (fun x => cd_val d (cd_nx B x) (1 - m)) (-5000) (y :: l) := h1
          have h4 := hb x
          rw [h3]
          show -(1000 + ((d + 1 : Nat) : Int)) ≤ -(cd_val d (cd_nx B x) (1 - m)) ∧ -(cd_val d (cd_nx B x) (1 - m)) ≤ 1000 + ((d + 1 : Nat) : Int)
          omega
theorem cs_val0 {d : Nat} {B : Nat → Nat} {m : Nat} (h : cd_L B m = []) : cd_val (d + 1) B m = if cd_ck B m then -1000 - ((d : Int) + 1) else 0 := by
  rw [cd_val, if_pos h]
theorem cs_val1 {d : Nat} {B : Nat → Nat} {m : Nat} (h : cd_L B m ≠ []) : cd_val (d + 1) B m = cd_mx (fun x => cd_val d (cd_nx B x) (1 - m)) (-5000) (cd_L B m) := by
  rw [cd_val, if_neg h]
/-- the value is the greatest of the moves' values -/
theorem cs_V {d : Nat} {B : Nat → Nat} {m : Nat} (hd : d ≤ 3000) (h : cd_L B m ≠ []) : (∀ x, x ∈ cd_L B m → -(cd_val d (cd_nx B x) (1 - m)) ≤ cd_val (d + 1) B m) ∧ ∃ x, x ∈ cd_L B m ∧ cd_val (d + 1) B m = -(cd_val d (cd_nx B x) (1 - m)) := by
  rw [cs_val1 h]
  have hu := cs_up (g := fun x => cd_val d (cd_nx B x) (1 - m)) (cd_L B m) (-5000)
  refine ⟨hu, ?_⟩
  rcases cs_is (g := fun x => cd_val d (cd_nx B x) (1 - m)) (cd_L B m) (-5000) with h3 | h3
  · exfalso
    cases hl : cd_L B m with
    | nil => exact h hl
    | cons y l =>
      have h1 : -(cd_val d (cd_nx B y) (1 - m)) ≤ _ := hu y (by rw [hl]; exact List.mem_cons_self)
      rw [h3] at h1
      have h2 := cs_vb d (cd_nx B y) (1 - m)
      omega
  · exact h3
theorem cs_Vn {d D : Nat} {B : Nat → Nat} {m : Nat} (hD : D = d + 1) (hd : d ≤ 3000) (h : cd_L B m ≠ []) : (∀ x, x ∈ cd_L B m → -(cd_val d (cd_nx B x) (1 - m)) ≤ cd_val D B m) ∧ ∃ x, x ∈ cd_L B m ∧ cd_val D B m = -(cd_val d (cd_nx B x) (1 - m)) := by
  subst hD; exact cs_V hd h
/-! between bounds -/
/-- s answers for v between two bounds -/
def cs_R (v s below above : Int) : Prop := (s ≤ below → v ≤ s) ∧ (above ≤ s → s ≤ v) ∧ (below < s → s < above → v = s)
def cs_I (g : Nat → Int) (P : List Nat) (fl hi mo : Int) : Prop := (fl < mo → ∃ x, x ∈ P ∧ mo ≤ -(g x)) ∧ (mo < hi → ∀ x, x ∈ P → -(g x) ≤ mo)
def cs_m2 (a b : Int) : Int := if a < b then b else a
theorem cs_m2le (a b : Int) : a ≤ cs_m2 a b ∧ b ≤ cs_m2 a b ∧ (cs_m2 a b = a ∨ cs_m2 a b = b) := by
  unfold cs_m2; split <;> omega
theorem cs_I0 (g : Nat → Int) {fl hi mo : Int} (h : mo ≤ fl) : cs_I g [] fl hi mo := ⟨fun h' => by omega, fun _ x hx => absurd hx (by simp)⟩
theorem cs_step {g : Nat → Int} {P : List Nat} {fl hi mo s : Int} {x : Nat} (h : cs_I g P fl hi mo) (hlo : cs_m2 fl mo < hi) (hr : cs_R (g x) s (-hi) (-(cs_m2 fl mo))) : cs_I g (P ++ [x]) fl hi (cs_m2 mo (-s)) := by
  obtain ⟨r1, r2, r3⟩ := hr
  obtain ⟨i1, i2⟩ := h
  have l1 := cs_m2le fl mo
  have l2 := cs_m2le mo (-s)
  refine ⟨fun hf => ?_, fun hh y hy => ?_⟩
  · by_cases hc : mo < -s
    · refine ⟨x, by simp, ?_⟩
      have e : cs_m2 mo (-s) = -s := if_pos hc
      rw [e] at hf ⊢
      by_cases h1 : s ≤ -hi
      · have := r1 h1; omega
      · have := r3 (by omega) (by omega); omega
    · have e : cs_m2 mo (-s) = mo := if_neg hc
      rw [e] at hf ⊢
      obtain ⟨y, hy, hy2⟩ := i1 hf
      exact ⟨y, List.mem_append_left _ hy, hy2⟩
  · rcases List.mem_append.mp hy with hy | hy
    · have := i2 (by omega) y hy; omega
    · have e : y = x := by simpa using hy
      subst e
      by_cases h1 : -(cs_m2 fl mo) ≤ s
      · have := r2 h1; omega
      · have := r3 (by omega) (by omega); omega
theorem cs_end {g : Nat → Int} {P R L : List Nat} {fl hi mo V : Int} (h : cs_I g P fl hi mo) (hfh : fl < hi) (hR : R = [] ∨ hi ≤ cs_m2 fl mo) (hL : ∀ x, x ∈ L ↔ x ∈ P ++ R)
    (hu : ∀ x, x ∈ L → -(g x) ≤ V) (he : ∃ x, x ∈ L ∧ V = -(g x)) : cs_R V mo fl hi := by
  obtain ⟨i1, i2⟩ := h
  have l1 := cs_m2le fl mo
  have hle : mo < hi → cs_m2 fl mo < hi → V ≤ mo := by
    intro h1 h2
    have hR0 : R = [] := by
      rcases hR with h | h
      · exact h
      · omega
    obtain ⟨x, hx, e⟩ := he
    have := (hL x).mp hx
    rw [hR0, List.append_nil] at this
    have := i2 h1 x this
    omega
  have hge : fl < mo → mo ≤ V := by
    intro h1
    obtain ⟨x, hx, h2⟩ := i1 h1
    have := hu x ((hL x).mpr (List.mem_append_left _ hx))
    omega
  refine ⟨fun h1 => hle (by omega) ?_, fun h1 => hge (by omega), fun h1 h2 => ?_⟩
  · rcases l1.2.2 with e | e <;> omega
  · have := hge h1
    have := hle h2 (by rcases l1.2.2 with e | e <;> omega)
    omega
/-! the first best -/
def cd_bm (g : Nat → Int) : Int → Int → List Nat → Int
  | _, b, [] => b
  | a, b, x :: l => if a < -(g x) then cd_bm g (-(g x)) (x : Int) l else cd_bm g a b l
theorem cs_bm_app {g : Nat → Int} : ∀ (l : List Nat) (a b : Int) (x : Nat), cd_bm g a b (l ++ [x]) = if cd_mx g a l < -(g x) then (x : Int) else cd_bm g a b l
  | [], a, b, x => by
    rw [List.nil_append, cd_bm, cd_mx, cd_bm]; rfl
  | y :: l, a, b, x => by
    rw [List.cons_append, cd_bm, cd_mx, cd_bm]
    by_cases h : a < -(g y)
    · rw [if_pos h, if_pos h, if_pos h, cs_bm_app l]
    · rw [if_neg h, if_neg h, if_neg h, cs_bm_app l]
theorem cs_bm_nn {g : Nat → Int} : ∀ (l : List Nat) (a b : Int), 0 ≤ b → 0 ≤ cd_bm g a b l
  | [], _, b, h => h
  | x :: l, a, b, h => by
    rw [cd_bm]
    split
    · exact cs_bm_nn l _ _ (by omega)
    · exact cs_bm_nn l _ _ h
theorem cs_bm_b {g : Nat → Int} {l : List Nat} (h : l ≠ []) (hg : ∀ x, x ∈ l → -5000 < -(g x)) (b b' : Int) : cd_bm g (-5000) b l = cd_bm g (-5000) b' l ∧ 0 ≤ cd_bm g (-5000) b l := by
  cases l with
  | nil => exact absurd rfl h
  | cons x l =>
    have := hg x List.mem_cons_self
    rw [cd_bm, cd_bm, if_pos this, if_pos this]
    exact ⟨rfl, cs_bm_nn l _ _ (by omega)⟩
/-- at the root: the greatest so far is exact -/
theorem cs_root {g : Nat → Int} {P : List Nat} {mo : Int} (hg : ∀ x, x ∈ P → -5000 < -(g x) ∧ -(g x) < 5000) (h : cs_I g P (-5000) 5000 mo) (hm0 : -5000 ≤ mo) : mo = cd_mx g (-5000) P := by
  obtain ⟨i1, i2⟩ := h
  have hlt : mo < 5000 := by
    by_cases h : mo < 5000
    · exact h
    · obtain ⟨x, hx, h2⟩ := i1 (by omega)
      have := hg x hx; omega
  have hu := i2 hlt
  have h1 : cd_mx g (-5000) P ≤ mo := by
    rcases cs_is (g := g) P (-5000) with e | ⟨x, hx, e⟩
    · omega
    · have := hu x hx; omega
  have h2 : mo ≤ cd_mx g (-5000) P := by
    by_cases h : -5000 < mo
    · obtain ⟨x, hx, h2⟩ := i1 h
      have := cs_up (g := g) P (-5000) x hx; omega
    · have := cs_ge (g := g) P (-5000); omega
  omega
/-! mates -/
def cd_md (B : Nat → Nat) (m : Nat) : Bool := cd_ck B m && (cd_L B m).isEmpty
def cd_cm (B : Nat → Nat) (m : Nat) : Bool := (cd_L B m).any (fun x => cd_md (cd_nx B x) (1 - m))
def cd_il (B : Nat → Nat) (m : Nat) : Bool := if cd_L B m = [] then cd_ck B m else (cd_L B m).all (fun x => cd_cm (cd_nx B x) (1 - m))
def cd_mt (B : Nat → Nat) (m : Nat) : Bool := (cd_L B m).any (fun x => cd_il (cd_nx B x) (1 - m))
theorem cs_md (B : Nat → Nat) (m : Nat) : cd_md B m = true ↔ cd_val 1 B m ≤ -1000 := by
  unfold cd_md
  by_cases h : cd_L B m = []
  · rw [cs_val0 h, h]
    cases cd_ck B m <;> simp
  · constructor
    · intro h1; rw [Bool.and_eq_true] at h1
      exact absurd (List.isEmpty_iff.mp h1.2) h
    · intro h1
      obtain ⟨x, _, hx⟩ := (cs_V (d := 0) (by decide) h).2
      rw [hx] at h1
      have := cs_bal (cd_nx B x) (1 - m)
      rw [cd_val] at h1; omega
theorem cs_cm (B : Nat → Nat) (m : Nat) : cd_cm B m = true ↔ 1000 ≤ cd_val 2 B m := by
  unfold cd_cm; rw [List.any_eq_true]
  by_cases h : cd_L B m = []
  · rw [cs_val0 h, h]
    constructor
    · rintro ⟨x, hx, _⟩; exact absurd hx (by simp)
    · intro h1; split at h1 <;> omega
  · obtain ⟨hu, x, hx, he⟩ := cs_Vn (D := 2) (d := 1) rfl (by decide) h
    constructor
    · rintro ⟨y, hy, h1⟩
      have := (cs_md _ _).mp h1
      have := hu y hy; omega
    · intro h1
      exact ⟨x, hx, (cs_md _ _).mpr (by omega)⟩
theorem cs_il (B : Nat → Nat) (m : Nat) : cd_il B m = true ↔ cd_val 3 B m ≤ -1000 := by
  unfold cd_il
  by_cases h : cd_L B m = []
  · rw [cs_val0 h, if_pos h]
    cases cd_ck B m <;> simp
  · rw [if_neg h, List.all_eq_true]
    obtain ⟨hu, x, hx, he⟩ := cs_Vn (D := 3) (d := 2) rfl (by decide) h
    constructor
    · intro h1
      have := (cs_cm _ _).mp (h1 x hx); omega
    · intro h1 y hy
      have := hu y hy
      exact (cs_cm _ _).mpr (by omega)
theorem cs_mt (B : Nat → Nat) (m : Nat) : cd_mt B m = true ↔ 1000 ≤ cd_val 4 B m := by
  unfold cd_mt; rw [List.any_eq_true]
  by_cases h : cd_L B m = []
  · rw [cs_val0 h, h]
    constructor
    · rintro ⟨x, hx, _⟩; exact absurd hx (by simp)
    · intro h1; split at h1 <;> omega
  · obtain ⟨hu, x, hx, he⟩ := cs_Vn (D := 4) (d := 3) rfl (by decide) h
    constructor
    · rintro ⟨y, hy, h1⟩
      have := (cs_il _ _).mp h1
      have := hu y hy; omega
    · intro h1
      exact ⟨x, hx, (cs_il _ _).mpr (by omega)⟩
theorem cs_cmt {B : Nat → Nat} {m : Nat} (h : cd_cm B m = true) : cd_mt B m = true := by
  unfold cd_cm at h; unfold cd_mt
  rw [List.any_eq_true] at h ⊢
  obtain ⟨x, hx, h1⟩ := h
  refine ⟨x, hx, ?_⟩
  unfold cd_md at h1; rw [Bool.and_eq_true] at h1
  unfold cd_il
  rw [if_pos (List.isEmpty_iff.mp h1.2)]; exact h1.1
/-! rounds -/
/-- rounds of a level of the component's searches (w, w': bounds of the two sides' moves) -/
def cs_C : Nat → Nat → Nat → Nat
  | 0, _, _ => 0
  | d + 1, w, w' => 1 + w * (1 + cs_C d w' w)
/-- rounds of a level of the reference's search -/
def cs_Y : Nat → Nat → Nat → Nat
  | 0, _, _ => 1
  | d + 1, w, w' => 1 + w * (1 + cs_Y d w' w)
theorem cs_C4 : ∀ a, a < 93 → ∀ b, b < 93 → a + b ≤ 92 → cs_C 4 a b ≤ 19000000 ∧ cs_C 3 a b ≤ 19000000 ∧ cs_C 2 a b ≤ 50000 ∧ cs_C 1 a b ≤ 50000 ∧ cs_Y 3 a b ≤ 900000 ∧ cs_Y 2 a b ≤ 900000 ∧ cs_Y 1 a b ≤ 900000 := by decide +kernel
end
section
/-! ===== the component's tables ===== -/
def cb_mk (p : Nat → Bool) : Nat → Nat
  | 0 => 0
  | n + 1 => cb_mk p n ||| (if p n then 2 ^ n else 0)
theorem cb_mk_t (p : Nat → Bool) (i : Nat) : ∀ n, (cb_mk p n).testBit i = (decide (i < n) && p i)
  | 0 => by rw [cb_mk, Nat.zero_testBit]; simp
  | n + 1 => by
    rw [cb_mk, Nat.testBit_or, cb_mk_t p i n]
    by_cases h : i = n
    · subst h
      cases hp : p i
      · simp
      · simp [Nat.testBit_two_pow]
    · have e : decide (i < n + 1) = decide (i < n) := decide_eq_decide.mpr (by omega)
      rw [e]
      cases hp : p n
      · simp
      · rw [if_pos rfl, Nat.testBit_two_pow, decide_eq_false (fun e : n = i => h e.symm), Bool.or_false]
theorem cb_mk_lt (p : Nat → Bool) : ∀ n, cb_mk p n < 2 ^ n
  | 0 => by rw [cb_mk]; decide
  | n + 1 => by
    rw [cb_mk]
    refine Nat.or_lt_two_pow (Nat.lt_trans (cb_mk_lt p n) (Nat.pow_lt_pow_right (by decide) (by omega))) ?_
    split
    · exact Nat.pow_lt_pow_right (by decide) (by omega)
    · exact Nat.two_pow_pos _
theorem cb_mkS (p : Nat → Bool) : cb_S (lN (cb_mk p 36)) p := fun i _ => by
  rw [cb_lN (Nat.lt_trans (cb_mk_lt p 36) (by decide)), cb_mk_t]
def xt_T (nt lp ph ln : Nat → Int64) : Prop := (∀ s, s < 36 → cb_S (nt s) (cg_kg s)) ∧ (∀ s, s < 36 → cb_S (lp s) (cg_kn s)) ∧ (∀ m, m < 2 → ∀ s, s < 36 → cb_S (ph (36 * m + s)) (cg_pw m s)) ∧ (∀ d, d < 8 → ∀ s, s < 36 → cb_S (ln (36 * d + s)) (fun t => cg_dir s t == d))
/-! one square away -/
def xt_on (a b : Int32) : Bool := !decide (a < 0) && !decide (6 ≤ a) && !decide (b < 0) && !decide (6 ≤ b)
def xt_aw (s r c : Int32) : Int64 := if xt_on (s / 6 + r) ((s - s / 6 * 6) + c) then (1 : Int64) <<< (((6 * (s / 6 + r)) + ((s - s / 6 * 6) + c)).toInt64 &&& 63) else 0
theorem xt_isOn {post : Int32 → Prop} {a b : Int32} (h1 : xt_on a b = true → post 1) (h0 : xt_on a b = false → post 0) : wpX_isOn post a b := by
  unfold xt_on at h1 h0
  refine br_c (fun h => h0 (by simp [h])) fun n1 => br_c (fun h => h0 (by simp [h])) fun n2 => br_c (fun h => h0 (by simp [h])) fun n3 => br_c (fun h => h0 (by simp [h])) fun n4 => h1 (by simp [n1, n2, n3, n4])
theorem xt_away {post : Int64 → Prop} {s r c : Int32} (h : post (xt_aw s r c)) : wpX_away post s r c := by
  refine ⟨by decide, nm_e ⟨by decide, nm_e (xt_isOn (fun ht => ?_) (fun hf => ?_))⟩⟩
  · unfold xt_aw at h; rw [if_pos ht] at h
    exact br_f (by decide) h
  · unfold xt_aw at h; rw [hf] at h
    exact br_t rfl h
theorem xt_uu {a : Nat → Int64} {k : Nat} {v w : Int64} : vp_updL (vp_updL a k v) k w = vp_updL a k w := by
  funext j; unfold vp_updL
  by_cases h : j = k
  · rw [if_pos h, if_pos h]
  · rw [if_neg h, if_neg h, if_neg h]
theorem xt_ue (a : Nat → Int64) (k : Nat) : vp_updL a k (a k) = a := by
  funext j; unfold vp_updL
  by_cases h : j = k
  · rw [if_pos h, h]
  · rw [if_neg h]
theorem xt_uc {a : Nat → Int64} {k l : Nat} (h : k ≠ l) {v w : Int64} : vp_updL (vp_updL a k v) l w = vp_updL (vp_updL a l w) k v := by
  funext j; unfold vp_updL
  by_cases h1 : j = k
  · have : j ≠ l := fun e => h (h1.symm.trans e)
    rw [if_neg this, if_pos h1, if_pos h1]
  · by_cases h2 : j = l
    · rw [if_pos h2, if_neg h1, if_pos h2]
    · rw [if_neg h2, if_neg h1, if_neg h1, if_neg h2]
section
variable {f_going f_mover f_made f_played : Int32} {f_shields : Int64} {f_settled f_rootMove : Int32} {f_word0 f_word1 f_word2 f_word3 : Int64} {a_nextTo a_leaps a_pawnHits a_line : Nat → Int64} {a_at : Nat → Int32} {a_squaresOf a_held : Nat → Int64} {a_kingAt a_quiet : Nat → Int32} {a_positions : Nat → Int64} {a_playedMove a_playedPiece a_playedTaken a_moveList a_listEnd a_nextMove : Nat → Int32} {a_shieldLine : Nat → Int64} {a_left a_low a_firstLow a_high a_most a_rows : Nat → Int32} {a_knownWords : Nat → Int64} {a_knownMover a_knownDepth a_knownKind a_knownNumber : Nat → Int32} {post : SX → Prop} {J3 J11 : Int32 → (Nat → Int64) → (Nat → Int64) → (Nat → Int64) → (Nat → Int64) → (Nat → Int32) → (Nat → Int64) → (Nat → Int64) → (Nat → Int32) → (Nat → Int32) → (Nat → Int64) → (Nat → Int32) → (Nat → Int32) → (Nat → Int32) → (Nat → Int32) → (Nat → Int32) → (Nat → Int32) → (Nat → Int64) → (Nat → Int32) → (Nat → Int32) → (Nat → Int32) → (Nat → Int32) → (Nat → Int32) → (Nat → Int32) → (Nat → Int64) → (Nat → Int32) → (Nat → Int32) → (Nat → Int32) → (Nat → Int32) → Prop} {s : Nat} {r c : Int32} {v1 v2 v3 v4 w : Int64}
def xt_c1 (r c : Int32) (v w : Int64) : Int64 := if (r * r) + (c * c) = 1 ∨ (r * r) + (c * c) = 2 then v ||| w else v
def xt_c2 (r c : Int32) (v w : Int64) : Int64 := if (r * r) + (c * c) = 5 then v ||| w else v
def xt_c3 (r c : Int32) (v w : Int64) : Int64 := if c * c = 1 ∧ r = 1 then v ||| w else v
def xt_c4 (r c : Int32) (v w : Int64) : Int64 := if c * c = 1 ∧ r = -1 then v ||| w else v
theorem xt_36 {s : Nat} : (36 : Int32) + nI s = nI (36 + s) := nI_add 36 s
theorem xt_n96 (hs : s < 36) (K : J11 (c + 1) a_nextTo a_leaps (vp_updL a_pawnHits (36 + s) (xt_c4 r c v4 w)) a_line a_at a_squaresOf a_held a_kingAt a_quiet a_positions a_playedMove a_playedPiece a_playedTaken a_moveList a_listEnd a_nextMove a_shieldLine a_left a_low a_firstLow a_high a_most a_rows a_knownWords a_knownMover a_knownDepth a_knownKind a_knownNumber) :
    wX_layNear_96 post J3 J11 (nI s) r c w f_going f_mover f_made f_played f_shields f_settled f_rootMove f_word0 f_word1 f_word2 f_word3 a_nextTo a_leaps (vp_updL a_pawnHits (36 + s) v4) a_line a_at a_squaresOf a_held a_kingAt a_quiet a_positions a_playedMove a_playedPiece a_playedTaken a_moveList a_listEnd a_nextMove a_shieldLine a_left a_low a_firstLow a_high a_most a_rows a_knownWords a_knownMover a_knownDepth a_knownKind a_knownNumber := by
  unfold wX_layNear_96
  unfold xt_c4 at K
  refine br_c (fun h1 => br_c (fun h2 => ?_) (fun h2 => ?_)) (fun h1 => ?_)
  · rw [if_pos ⟨h1, h2⟩] at K
    have hi : vp_in (36 + nI s) 72 := by rw [xt_36]; exact vp_in_nI (by omega) (by decide)
    refine ⟨hi, hi, nm_r ?_ (nm_e K)⟩
    rw [xt_36, nI_clamp (by omega), pk_uLs, xt_uu]
  · rw [if_neg (fun h => h2 h.2)] at K; exact nm_e K
  · rw [if_neg (fun h => h1 h.1)] at K; exact nm_e K
theorem xt_n73 (hs : s < 36) (K : J11 (c + 1) a_nextTo a_leaps (vp_updL (vp_updL a_pawnHits s (xt_c3 r c v3 w)) (36 + s) (xt_c4 r c v4 w)) a_line a_at a_squaresOf a_held a_kingAt a_quiet a_positions a_playedMove a_playedPiece a_playedTaken a_moveList a_listEnd a_nextMove a_shieldLine a_left a_low a_firstLow a_high a_most a_rows a_knownWords a_knownMover a_knownDepth a_knownKind a_knownNumber) :
    wX_layNear_73 post J3 J11 (nI s) r c w f_going f_mover f_made f_played f_shields f_settled f_rootMove f_word0 f_word1 f_word2 f_word3 a_nextTo a_leaps (vp_updL (vp_updL a_pawnHits s v3) (36 + s) v4) a_line a_at a_squaresOf a_held a_kingAt a_quiet a_positions a_playedMove a_playedPiece a_playedTaken a_moveList a_listEnd a_nextMove a_shieldLine a_left a_low a_firstLow a_high a_most a_rows a_knownWords a_knownMover a_knownDepth a_knownKind a_knownNumber := by
  unfold wX_layNear_73
  unfold xt_c3 at K
  refine br_c (fun h1 => br_c (fun h2 => ?_) (fun h2 => ?_)) (fun h1 => ?_)
  · rw [if_pos ⟨h1, h2⟩] at K
    have hi : vp_in (nI s) 72 := vp_in_nI (by omega) (by decide)
    refine ⟨hi, hi, nm_r (e' := vp_updL (vp_updL a_pawnHits s (v3 ||| w)) (36 + s) v4) ?_ (xt_n96 hs K)⟩
    rw [nI_clamp (by omega), pk_uLn (by omega), pk_uLs, xt_uc (by omega), xt_uu, xt_uc (by omega)]
  · rw [if_neg (fun h => h2 h.2)] at K; exact xt_n96 hs K
  · rw [if_neg (fun h => h1 h.1)] at K; exact xt_n96 hs K
theorem xt_n56 (hs : s < 36) (K : J11 (c + 1) a_nextTo (vp_updL a_leaps s (xt_c2 r c v2 w)) (vp_updL (vp_updL a_pawnHits s (xt_c3 r c v3 w)) (36 + s) (xt_c4 r c v4 w)) a_line a_at a_squaresOf a_held a_kingAt a_quiet a_positions a_playedMove a_playedPiece a_playedTaken a_moveList a_listEnd a_nextMove a_shieldLine a_left a_low a_firstLow a_high a_most a_rows a_knownWords a_knownMover a_knownDepth a_knownKind a_knownNumber) :
    wX_layNear_56 post J3 J11 (nI s) r c ((r * r) + (c * c)) w f_going f_mover f_made f_played f_shields f_settled f_rootMove f_word0 f_word1 f_word2 f_word3 a_nextTo (vp_updL a_leaps s v2) (vp_updL (vp_updL a_pawnHits s v3) (36 + s) v4) a_line a_at a_squaresOf a_held a_kingAt a_quiet a_positions a_playedMove a_playedPiece a_playedTaken a_moveList a_listEnd a_nextMove a_shieldLine a_left a_low a_firstLow a_high a_most a_rows a_knownWords a_knownMover a_knownDepth a_knownKind a_knownNumber := by
  unfold wX_layNear_56
  unfold xt_c2 at K
  refine br_c (fun h1 => ?_) (fun h1 => ?_)
  · rw [if_pos h1] at K
    have hi : vp_in (nI s) 36 := vp_in_nI (by omega) (by decide)
    refine ⟨hi, hi, nm_r (e' := vp_updL a_leaps s (v2 ||| w)) ?_ (xt_n73 hs K)⟩
    rw [nI_clamp (by omega), pk_uLs, xt_uu]
  · rw [if_neg h1] at K; exact xt_n73 hs K
theorem xt_n45 (hs : s < 36) (h : (r * r) + (c * c) = 1 ∨ (r * r) + (c * c) = 2) (K : J11 (c + 1) (vp_updL a_nextTo s (xt_c1 r c v1 w)) (vp_updL a_leaps s (xt_c2 r c v2 w)) (vp_updL (vp_updL a_pawnHits s (xt_c3 r c v3 w)) (36 + s) (xt_c4 r c v4 w)) a_line a_at a_squaresOf a_held a_kingAt a_quiet a_positions a_playedMove a_playedPiece a_playedTaken a_moveList a_listEnd a_nextMove a_shieldLine a_left a_low a_firstLow a_high a_most a_rows a_knownWords a_knownMover a_knownDepth a_knownKind a_knownNumber) :
    wX_layNear_45 post J3 J11 (nI s) r c ((r * r) + (c * c)) w f_going f_mover f_made f_played f_shields f_settled f_rootMove f_word0 f_word1 f_word2 f_word3 (vp_updL a_nextTo s v1) (vp_updL a_leaps s v2) (vp_updL (vp_updL a_pawnHits s v3) (36 + s) v4) a_line a_at a_squaresOf a_held a_kingAt a_quiet a_positions a_playedMove a_playedPiece a_playedTaken a_moveList a_listEnd a_nextMove a_shieldLine a_left a_low a_firstLow a_high a_most a_rows a_knownWords a_knownMover a_knownDepth a_knownKind a_knownNumber := by
  unfold wX_layNear_45
  unfold xt_c1 at K
  rw [if_pos h] at K
  have hi : vp_in (nI s) 36 := vp_in_nI (by omega) (by decide)
  refine ⟨hi, hi, nm_r (e' := vp_updL a_nextTo s (v1 ||| w)) ?_ (xt_n56 hs K)⟩
  rw [nI_clamp (by omega), pk_uLs, xt_uu]
theorem xt_n11 {n : Nat} (hs : s < 36) (hc : ¬ 2 < c)
    (K : wX_layNear_11 post J3 (nI s) r f_going f_mover f_made f_played f_shields f_settled f_rootMove f_word0 f_word1 f_word2 f_word3 n (c + 1) (vp_updL a_nextTo s (xt_c1 r c v1 (xt_aw (nI s) r c))) (vp_updL a_leaps s (xt_c2 r c v2 (xt_aw (nI s) r c))) (vp_updL (vp_updL a_pawnHits s (xt_c3 r c v3 (xt_aw (nI s) r c))) (36 + s) (xt_c4 r c v4 (xt_aw (nI s) r c))) a_line a_at a_squaresOf a_held a_kingAt a_quiet a_positions a_playedMove a_playedPiece a_playedTaken a_moveList a_listEnd a_nextMove a_shieldLine a_left a_low a_firstLow a_high a_most a_rows a_knownWords a_knownMover a_knownDepth a_knownKind a_knownNumber) :
    wX_layNear_11 post J3 (nI s) r f_going f_mover f_made f_played f_shields f_settled f_rootMove f_word0 f_word1 f_word2 f_word3 (n + 1) c (vp_updL a_nextTo s v1) (vp_updL a_leaps s v2) (vp_updL (vp_updL a_pawnHits s v3) (36 + s) v4) a_line a_at a_squaresOf a_held a_kingAt a_quiet a_positions a_playedMove a_playedPiece a_playedTaken a_moveList a_listEnd a_nextMove a_shieldLine a_left a_low a_firstLow a_high a_most a_rows a_knownWords a_knownMover a_knownDepth a_knownKind a_knownNumber := by
  rw [wX_layNear_11]
  refine br_f hc (nm_e (xt_away ?_))
  refine br_c (fun h1 => xt_n45 hs (Or.inl h1) K) (fun h1 => br_c (fun h2 => xt_n45 hs (Or.inr h2) K) (fun h2 => ?_))
  have e : ∀ v w, xt_c1 r c v w = v := fun v w => by unfold xt_c1; rw [if_neg (fun h => h.elim h1 h2)]
  rw [e] at K
  exact xt_n56 hs K
theorem xt_n11e {n : Nat} (K : J3 (r + 1) a_nextTo a_leaps a_pawnHits a_line a_at a_squaresOf a_held a_kingAt a_quiet a_positions a_playedMove a_playedPiece a_playedTaken a_moveList a_listEnd a_nextMove a_shieldLine a_left a_low a_firstLow a_high a_most a_rows a_knownWords a_knownMover a_knownDepth a_knownKind a_knownNumber) : wX_layNear_11 post J3 (nI s) r f_going f_mover f_made f_played f_shields f_settled f_rootMove f_word0 f_word1 f_word2 f_word3 (n + 1) 3 a_nextTo a_leaps a_pawnHits a_line a_at a_squaresOf a_held a_kingAt a_quiet a_positions a_playedMove a_playedPiece a_playedTaken a_moveList a_listEnd a_nextMove a_shieldLine a_left a_low a_firstLow a_high a_most a_rows a_knownWords a_knownMover a_knownDepth a_knownKind a_knownNumber := by
  rw [wX_layNear_11]
  exact br_t (by decide) (nm_e K)
end
/-- a row of five columns -/
def xt_r1 (s : Nat) (r : Int32) (v : Int64) : Int64 := xt_c1 r 2 (xt_c1 r 1 (xt_c1 r 0 (xt_c1 r (-1) (xt_c1 r (-2) v (xt_aw (nI s) r (-2))) (xt_aw (nI s) r (-1))) (xt_aw (nI s) r 0)) (xt_aw (nI s) r 1)) (xt_aw (nI s) r 2)
def xt_r2 (s : Nat) (r : Int32) (v : Int64) : Int64 := xt_c2 r 2 (xt_c2 r 1 (xt_c2 r 0 (xt_c2 r (-1) (xt_c2 r (-2) v (xt_aw (nI s) r (-2))) (xt_aw (nI s) r (-1))) (xt_aw (nI s) r 0)) (xt_aw (nI s) r 1)) (xt_aw (nI s) r 2)
def xt_r3 (s : Nat) (r : Int32) (v : Int64) : Int64 := xt_c3 r 2 (xt_c3 r 1 (xt_c3 r 0 (xt_c3 r (-1) (xt_c3 r (-2) v (xt_aw (nI s) r (-2))) (xt_aw (nI s) r (-1))) (xt_aw (nI s) r 0)) (xt_aw (nI s) r 1)) (xt_aw (nI s) r 2)
def xt_r4 (s : Nat) (r : Int32) (v : Int64) : Int64 := xt_c4 r 2 (xt_c4 r 1 (xt_c4 r 0 (xt_c4 r (-1) (xt_c4 r (-2) v (xt_aw (nI s) r (-2))) (xt_aw (nI s) r (-1))) (xt_aw (nI s) r 0)) (xt_aw (nI s) r 1)) (xt_aw (nI s) r 2)
def xt_f1 (s : Nat) (v : Int64) : Int64 := xt_r1 s 2 (xt_r1 s 1 (xt_r1 s 0 (xt_r1 s (-1) (xt_r1 s (-2) v))))
def xt_f2 (s : Nat) (v : Int64) : Int64 := xt_r2 s 2 (xt_r2 s 1 (xt_r2 s 0 (xt_r2 s (-1) (xt_r2 s (-2) v))))
def xt_f3 (s : Nat) (v : Int64) : Int64 := xt_r3 s 2 (xt_r3 s 1 (xt_r3 s 0 (xt_r3 s (-1) (xt_r3 s (-2) v))))
def xt_f4 (s : Nat) (v : Int64) : Int64 := xt_r4 s 2 (xt_r4 s 1 (xt_r4 s 0 (xt_r4 s (-1) (xt_r4 s (-2) v))))
theorem xt_cm1 : (-2 : Int32) + 1 = -1 := by decide
theorem xt_cm2 : (-1 : Int32) + 1 = 0 := by decide
theorem xt_cm3 : (0 : Int32) + 1 = 1 := by decide
theorem xt_cm4 : (1 : Int32) + 1 = 2 := by decide
theorem xt_cm5 : (2 : Int32) + 1 = 3 := by decide
section
variable {f_going f_mover f_made f_played : Int32} {f_shields : Int64} {f_settled f_rootMove : Int32} {f_word0 f_word1 f_word2 f_word3 : Int64} {a_nextTo a_leaps a_pawnHits a_line : Nat → Int64} {a_at : Nat → Int32} {a_squaresOf a_held : Nat → Int64} {a_kingAt a_quiet : Nat → Int32} {a_positions : Nat → Int64} {a_playedMove a_playedPiece a_playedTaken a_moveList a_listEnd a_nextMove : Nat → Int32} {a_shieldLine : Nat → Int64} {a_left a_low a_firstLow a_high a_most a_rows : Nat → Int32} {a_knownWords : Nat → Int64} {a_knownMover a_knownDepth a_knownKind a_knownNumber : Nat → Int32} {post : SX → Prop} {J3 : Int32 → (Nat → Int64) → (Nat → Int64) → (Nat → Int64) → (Nat → Int64) → (Nat → Int32) → (Nat → Int64) → (Nat → Int64) → (Nat → Int32) → (Nat → Int32) → (Nat → Int64) → (Nat → Int32) → (Nat → Int32) → (Nat → Int32) → (Nat → Int32) → (Nat → Int32) → (Nat → Int32) → (Nat → Int64) → (Nat → Int32) → (Nat → Int32) → (Nat → Int32) → (Nat → Int32) → (Nat → Int32) → (Nat → Int32) → (Nat → Int64) → (Nat → Int32) → (Nat → Int32) → (Nat → Int32) → (Nat → Int32) → Prop} {s : Nat} {r : Int32} {v1 v2 v3 v4 : Int64}
theorem xt_row (hs : s < 36) (K : J3 (r + 1) (vp_updL a_nextTo s (xt_r1 s r v1)) (vp_updL a_leaps s (xt_r2 s r v2)) (vp_updL (vp_updL a_pawnHits s (xt_r3 s r v3)) (36 + s) (xt_r4 s r v4)) a_line a_at a_squaresOf a_held a_kingAt a_quiet a_positions a_playedMove a_playedPiece a_playedTaken a_moveList a_listEnd a_nextMove a_shieldLine a_left a_low a_firstLow a_high a_most a_rows a_knownWords a_knownMover a_knownDepth a_knownKind a_knownNumber) :
    ∃ n11 : Nat, wX_layNear_11 post J3 (nI s) r f_going f_mover f_made f_played f_shields f_settled f_rootMove f_word0 f_word1 f_word2 f_word3 n11 (-2) (vp_updL a_nextTo s v1) (vp_updL a_leaps s v2) (vp_updL (vp_updL a_pawnHits s v3) (36 + s) v4) a_line a_at a_squaresOf a_held a_kingAt a_quiet a_positions a_playedMove a_playedPiece a_playedTaken a_moveList a_listEnd a_nextMove a_shieldLine a_left a_low a_firstLow a_high a_most a_rows a_knownWords a_knownMover a_knownDepth a_knownKind a_knownNumber := by
  refine ⟨6, xt_n11 hs (by decide) ?_⟩
  rw [xt_cm1]; refine xt_n11 hs (by decide) ?_
  rw [xt_cm2]; refine xt_n11 hs (by decide) ?_
  rw [xt_cm3]; refine xt_n11 hs (by decide) ?_
  rw [xt_cm4]; refine xt_n11 hs (by decide) ?_
  rw [xt_cm5]; exact xt_n11e K
theorem xt_n3 {n : Nat} (hs : s < 36) (hr : ¬ 2 < r)
    (K : wX_layNear_3 post (nI s) f_going f_mover f_made f_played f_shields f_settled f_rootMove f_word0 f_word1 f_word2 f_word3 n (r + 1) (vp_updL a_nextTo s (xt_r1 s r v1)) (vp_updL a_leaps s (xt_r2 s r v2)) (vp_updL (vp_updL a_pawnHits s (xt_r3 s r v3)) (36 + s) (xt_r4 s r v4)) a_line a_at a_squaresOf a_held a_kingAt a_quiet a_positions a_playedMove a_playedPiece a_playedTaken a_moveList a_listEnd a_nextMove a_shieldLine a_left a_low a_firstLow a_high a_most a_rows a_knownWords a_knownMover a_knownDepth a_knownKind a_knownNumber) :
    wX_layNear_3 post (nI s) f_going f_mover f_made f_played f_shields f_settled f_rootMove f_word0 f_word1 f_word2 f_word3 (n + 1) r (vp_updL a_nextTo s v1) (vp_updL a_leaps s v2) (vp_updL (vp_updL a_pawnHits s v3) (36 + s) v4) a_line a_at a_squaresOf a_held a_kingAt a_quiet a_positions a_playedMove a_playedPiece a_playedTaken a_moveList a_listEnd a_nextMove a_shieldLine a_left a_low a_firstLow a_high a_most a_rows a_knownWords a_knownMover a_knownDepth a_knownKind a_knownNumber := by
  rw [wX_layNear_3]
  exact br_f hr (xt_row hs K)
theorem xt_near (hs : s < 36) (K : post (f_going, f_mover, f_made, f_played, f_shields, f_settled, f_rootMove, f_word0, f_word1, f_word2, f_word3, vp_updL a_nextTo s (xt_f1 s (a_nextTo s)), vp_updL a_leaps s (xt_f2 s (a_leaps s)), vp_updL (vp_updL a_pawnHits s (xt_f3 s (a_pawnHits s))) (36 + s) (xt_f4 s (a_pawnHits (36 + s))), a_line, a_at, a_squaresOf, a_held, a_kingAt, a_quiet, a_positions, a_playedMove, a_playedPiece, a_playedTaken, a_moveList, a_listEnd, a_nextMove, a_shieldLine, a_left, a_low, a_firstLow, a_high, a_most, a_rows, a_knownWords, a_knownMover, a_knownDepth, a_knownKind, a_knownNumber)) :
    wpX_layNear post (f_going, f_mover, f_made, f_played, f_shields, f_settled, f_rootMove, f_word0, f_word1, f_word2, f_word3, a_nextTo, a_leaps, a_pawnHits, a_line, a_at, a_squaresOf, a_held, a_kingAt, a_quiet, a_positions, a_playedMove, a_playedPiece, a_playedTaken, a_moveList, a_listEnd, a_nextMove, a_shieldLine, a_left, a_low, a_firstLow, a_high, a_most, a_rows, a_knownWords, a_knownMover, a_knownDepth, a_knownKind, a_knownNumber) (nI s) := by
  refine (?_ : ∃ n3 : Nat, wX_layNear_3 post (nI s) f_going f_mover f_made f_played f_shields f_settled f_rootMove f_word0 f_word1 f_word2 f_word3 n3 (-2) a_nextTo a_leaps a_pawnHits a_line a_at a_squaresOf a_held a_kingAt a_quiet a_positions a_playedMove a_playedPiece a_playedTaken a_moveList a_listEnd a_nextMove a_shieldLine a_left a_low a_firstLow a_high a_most a_rows a_knownWords a_knownMover a_knownDepth a_knownKind a_knownNumber)
  refine ⟨6, ?_⟩
  have e1 := xt_ue a_nextTo s
  have e2 := xt_ue a_leaps s
  have e3 : vp_updL (vp_updL a_pawnHits s (a_pawnHits s)) (36 + s) (a_pawnHits (36 + s)) = a_pawnHits := by rw [xt_ue, xt_ue]
  have H : wX_layNear_3 post (nI s) f_going f_mover f_made f_played f_shields f_settled f_rootMove f_word0 f_word1 f_word2 f_word3 6 (-2) (vp_updL a_nextTo s (a_nextTo s)) (vp_updL a_leaps s (a_leaps s)) (vp_updL (vp_updL a_pawnHits s (a_pawnHits s)) (36 + s) (a_pawnHits (36 + s))) a_line a_at a_squaresOf a_held a_kingAt a_quiet a_positions a_playedMove a_playedPiece a_playedTaken a_moveList a_listEnd a_nextMove a_shieldLine a_left a_low a_firstLow a_high a_most a_rows a_knownWords a_knownMover a_knownDepth a_knownKind a_knownNumber := by
    refine xt_n3 hs (by decide) ?_
    rw [xt_cm1]; refine xt_n3 hs (by decide) ?_
    rw [xt_cm2]; refine xt_n3 hs (by decide) ?_
    rw [xt_cm3]; refine xt_n3 hs (by decide) ?_
    rw [xt_cm4]; refine xt_n3 hs (by decide) ?_
    rw [xt_cm5, wX_layNear_3]
    exact br_t (by decide) K
  rw [e1, e2, e3] at H
  exact H
end
theorem xt_f1S : ∀ s, s < 36 → xt_f1 s 0 = lN (cb_mk (cg_kg s) 36) := by decide +kernel
theorem xt_f2S : ∀ s, s < 36 → xt_f2 s 0 = lN (cb_mk (cg_kn s) 36) := by decide +kernel
theorem xt_f3S : ∀ s, s < 36 → xt_f3 s 0 = lN (cb_mk (cg_pw 0 s) 36) := by decide +kernel
theorem xt_f4S : ∀ s, s < 36 → xt_f4 s 0 = lN (cb_mk (cg_pw 1 s) 36) := by decide +kernel
/-! lines -/
def xt_ro (d : Int32) : Int32 := if 4 ≤ d then -(if d &&& 3 = 1 then 0 else 1) else (if d &&& 3 = 1 then 0 else 1)
def xt_co (d : Int32) : Int32 := if 4 ≤ d then -(if d &&& 3 = 0 then 0 else if d &&& 3 = 3 then -1 else 1) else (if d &&& 3 = 0 then 0 else if d &&& 3 = 3 then -1 else 1)
theorem xt_rowsOf {post : Int32 → Prop} {d : Int32} (h : post (xt_ro d)) : wpX_rowsOf post d := by
  unfold xt_ro at h
  refine nm_e (br_c (fun h1 => ?_) (fun h1 => ?_))
  · rw [if_pos h1] at h
    exact br_c (fun h2 => by rw [if_pos h2] at h; exact h) (fun h2 => by rw [if_neg h2] at h; exact h)
  · rw [if_neg h1] at h
    exact br_c (fun h2 => by rw [if_pos h2] at h; exact h) (fun h2 => by rw [if_neg h2] at h; exact h)
theorem xt_columnsOf {post : Int32 → Prop} {d : Int32} (h : post (xt_co d)) : wpX_columnsOf post d := by
  unfold xt_co at h
  refine nm_e (br_c (fun h1 => ?_) (fun h1 => br_c (fun h3 => ?_) (fun h3 => ?_)))
  · rw [if_pos h1] at h
    exact br_c (fun h2 => by rw [if_pos h2] at h; exact h) (fun h2 => by rw [if_neg h2] at h; exact h)
  · rw [if_neg h1, if_pos h3] at h
    exact br_c (fun h2 => by rw [if_pos h2] at h; exact h) (fun h2 => by rw [if_neg h2] at h; exact h)
  · rw [if_neg h1, if_neg h3] at h
    exact br_c (fun h2 => by rw [if_pos h2] at h; exact h) (fun h2 => by rw [if_neg h2] at h; exact h)
def xt_ln (d s : Nat) : Int64 := ((((0 ||| xt_aw (nI s) (1 * xt_ro (nI d)) (1 * xt_co (nI d))) ||| xt_aw (nI s) (2 * xt_ro (nI d)) (2 * xt_co (nI d))) ||| xt_aw (nI s) (3 * xt_ro (nI d)) (3 * xt_co (nI d))) ||| xt_aw (nI s) (4 * xt_ro (nI d)) (4 * xt_co (nI d))) ||| xt_aw (nI s) (5 * xt_ro (nI d)) (5 * xt_co (nI d))
theorem xt_lnS : ∀ d, d < 8 → ∀ s, s < 36 → xt_ln d s = lN (cb_mk (fun t => cg_dir s t == d) 36) := by decide +kernel
section
variable {f_going f_mover f_made f_played : Int32} {f_shields : Int64} {f_settled f_rootMove : Int32} {f_word0 f_word1 f_word2 f_word3 : Int64} {a_nextTo a_leaps a_pawnHits a_line : Nat → Int64} {a_at : Nat → Int32} {a_squaresOf a_held : Nat → Int64} {a_kingAt a_quiet : Nat → Int32} {a_positions : Nat → Int64} {a_playedMove a_playedPiece a_playedTaken a_moveList a_listEnd a_nextMove : Nat → Int32} {a_shieldLine : Nat → Int64} {a_left a_low a_firstLow a_high a_most a_rows : Nat → Int32} {a_knownWords : Nat → Int64} {a_knownMover a_knownDepth a_knownKind a_knownNumber : Nat → Int32} {post : SX → Prop} {s d : Nat}
theorem xt_ln17 {n : Nat} {x k : Int32} {v : Int64} {y z : Int32} (hk : ¬ 6 ≤ k) (K : wX_layLine_17 post x (nI s) y z f_going f_mover f_made f_played f_shields f_settled f_rootMove f_word0 f_word1 f_word2 f_word3 a_nextTo a_leaps a_pawnHits a_line a_at a_squaresOf a_held a_kingAt a_quiet a_positions a_playedMove a_playedPiece a_playedTaken a_moveList a_listEnd a_nextMove a_shieldLine a_left a_low a_firstLow a_high a_most a_rows a_knownWords a_knownMover a_knownDepth a_knownKind a_knownNumber n (v ||| xt_aw (nI s) (k * y) (k * z)) (k + 1)) : wX_layLine_17 post x (nI s) y z f_going f_mover f_made f_played f_shields f_settled f_rootMove f_word0 f_word1 f_word2 f_word3 a_nextTo a_leaps a_pawnHits a_line a_at a_squaresOf a_held a_kingAt a_quiet a_positions a_playedMove a_playedPiece a_playedTaken a_moveList a_listEnd a_nextMove a_shieldLine a_left a_low a_firstLow a_high a_most a_rows a_knownWords a_knownMover a_knownDepth a_knownKind a_knownNumber (n + 1) v k := by
  rw [wX_layLine_17]
  exact br_f hk (xt_away (nm_e (nm_e K)))
theorem xt_lay (hs : s < 36) (hd : d < 8) (K : post (f_going, f_mover, f_made, f_played, f_shields, f_settled, f_rootMove, f_word0, f_word1, f_word2, f_word3, a_nextTo, a_leaps, a_pawnHits, vp_updL a_line (36 * d + s) (xt_ln d s), a_at, a_squaresOf, a_held, a_kingAt, a_quiet, a_positions, a_playedMove, a_playedPiece, a_playedTaken, a_moveList, a_listEnd, a_nextMove, a_shieldLine, a_left, a_low, a_firstLow, a_high, a_most, a_rows, a_knownWords, a_knownMover, a_knownDepth, a_knownKind, a_knownNumber)) : wpX_layLine post (f_going, f_mover, f_made, f_played, f_shields, f_settled, f_rootMove, f_word0, f_word1, f_word2, f_word3, a_nextTo, a_leaps, a_pawnHits, a_line, a_at, a_squaresOf, a_held, a_kingAt, a_quiet, a_positions, a_playedMove, a_playedPiece, a_playedTaken, a_moveList, a_listEnd, a_nextMove, a_shieldLine, a_left, a_low, a_firstLow, a_high, a_most, a_rows, a_knownWords, a_knownMover, a_knownDepth, a_knownKind, a_knownNumber) (nI d) (nI s) := by
  refine (?_ : wpX_rowsOf (fun r_1 => (wpX_columnsOf (fun r_2 => (∃ n17 : Nat, wX_layLine_17 post (nI d) (nI s) r_1 r_2 f_going f_mover f_made f_played f_shields f_settled f_rootMove f_word0 f_word1 f_word2 f_word3 a_nextTo a_leaps a_pawnHits a_line a_at a_squaresOf a_held a_kingAt a_quiet a_positions a_playedMove a_playedPiece a_playedTaken a_moveList a_listEnd a_nextMove a_shieldLine a_left a_low a_firstLow a_high a_most a_rows a_knownWords a_knownMover a_knownDepth a_knownKind a_knownNumber n17 0 1)) (nI d))) (nI d))
  refine xt_rowsOf (xt_columnsOf ⟨6, xt_ln17 (by decide) ?_⟩)
  rw [xt_cm4]; refine xt_ln17 (by decide) ?_
  rw [xt_cm5]; refine xt_ln17 (by decide) ?_
  rw [show (3 : Int32) + 1 = 4 from by decide]; refine xt_ln17 (by decide) ?_
  rw [show (4 : Int32) + 1 = 5 from by decide]; refine xt_ln17 (by decide) ?_
  rw [show (5 : Int32) + 1 = 6 from by decide, wX_layLine_17]
  have e : (36 * nI d) + nI s = nI (36 * d + s) := by
    rw [show (36 : Int32) = nI 36 from rfl, pk_mul, nI_add]
  refine br_t (by decide) ⟨?_, nm_r (e' := vp_updL a_line (36 * d + s) (xt_ln d s)) ?_ K⟩
  · rw [e]; exact vp_in_nI (by omega) (by decide)
  · rw [e, nI_clamp (by omega)]; rfl
end
/-! the constructor -/
theorem xt_36_1 {a : Nat} : nI a + 1 = nI (a + 1) := nI_1 a
section
variable {f_going f_mover f_made f_played : Int32} {f_shields : Int64} {f_settled f_rootMove : Int32} {f_word0 f_word1 f_word2 f_word3 : Int64} {a_nextTo a_leaps a_pawnHits a_line : Nat → Int64} {a_at : Nat → Int32} {a_squaresOf a_held : Nat → Int64} {a_kingAt a_quiet : Nat → Int32} {a_positions : Nat → Int64} {a_playedMove a_playedPiece a_playedTaken a_moveList a_listEnd a_nextMove : Nat → Int32} {a_shieldLine : Nat → Int64} {a_left a_low a_firstLow a_high a_most a_rows : Nat → Int32} {a_knownWords : Nat → Int64} {a_knownMover a_knownDepth a_knownKind a_knownNumber : Nat → Int32} {post : SX → Prop}
theorem xt_i259 {J251 : Int32 → Int32 → Int32 → Int32 → Int32 → Int64 → Int32 → Int32 → Int64 → Int64 → Int64 → Int64 → (Nat → Int64) → (Nat → Int64) → (Nat → Int64) → (Nat → Int64) → (Nat → Int32) → (Nat → Int64) → (Nat → Int64) → (Nat → Int32) → (Nat → Int32) → (Nat → Int64) → (Nat → Int32) → (Nat → Int32) → (Nat → Int32) → (Nat → Int32) → (Nat → Int32) → (Nat → Int32) → (Nat → Int64) → (Nat → Int32) → (Nat → Int32) → (Nat → Int32) → (Nat → Int32) → (Nat → Int32) → (Nat → Int32) → (Nat → Int64) → (Nat → Int32) → (Nat → Int32) → (Nat → Int32) → (Nat → Int32) → Prop} {d : Nat} (hd : d < 8) : ∀ (k s : Nat), s + k = 36 → ∀ ln : Nat → Int64,
    (∀ ln' : Nat → Int64, (∀ t, s ≤ t → t < 36 → ln' (36 * d + t) = xt_ln d t) → (∀ j, (∀ t, s ≤ t → t < 36 → j ≠ 36 * d + t) → ln' j = ln j) → J251 (nI (d + 1)) f_going f_mover f_made f_played f_shields f_settled f_rootMove f_word0 f_word1 f_word2 f_word3 a_nextTo a_leaps a_pawnHits ln' a_at a_squaresOf a_held a_kingAt a_quiet a_positions a_playedMove a_playedPiece a_playedTaken a_moveList a_listEnd a_nextMove a_shieldLine a_left a_low a_firstLow a_high a_most a_rows a_knownWords a_knownMover a_knownDepth a_knownKind a_knownNumber) →
    wX_init_259 post J251 (nI d) (k + 1) (nI s) f_going f_mover f_made f_played f_shields f_settled f_rootMove f_word0 f_word1 f_word2 f_word3 a_nextTo a_leaps a_pawnHits ln a_at a_squaresOf a_held a_kingAt a_quiet a_positions a_playedMove a_playedPiece a_playedTaken a_moveList a_listEnd a_nextMove a_shieldLine a_left a_low a_firstLow a_high a_most a_rows a_knownWords a_knownMover a_knownDepth a_knownKind a_knownNumber := by
  intro k
  induction k with
  | zero =>
    intro s hs ln K
    rw [wX_init_259]
    refine pk_le 36 s (fun _ => nm_r (nI_1 d) (K ln (fun t h1 h2 => by omega) (fun j _ => rfl))) (fun h => by omega)
  | succ k ih =>
    intro s hs ln K
    rw [wX_init_259]
    refine pk_le 36 s (fun h => by omega) (fun _ => xt_lay (by omega) hd (nm_r (nI_1 s) (ih (s + 1) (by omega) _ (fun ln' h1 h2 => K ln' (fun t ht1 ht2 => ?_) (fun j hj => ?_)))))
    · by_cases e : t = s
      · rw [h2 _ (fun t' h3 h4 => by omega), e, pk_uLs]
      · exact h1 t (by omega) ht2
    · rw [h2 j (fun t h3 h4 => hj t (by omega) h4), pk_uLn (hj s (by omega) (by omega))]
theorem xt_i251 : ∀ (k d : Nat), d + k = 8 → ∀ ln : Nat → Int64,
    (∀ ln' : Nat → Int64, (∀ q, d ≤ q → q < 8 → ∀ t, t < 36 → ln' (36 * q + t) = xt_ln q t) → (∀ q, q < d → ∀ t, t < 36 → ln' (36 * q + t) = ln (36 * q + t)) → post (f_going, f_mover, f_made, f_played, f_shields, f_settled, f_rootMove, f_word0, f_word1, f_word2, f_word3, a_nextTo, a_leaps, a_pawnHits, ln', a_at, a_squaresOf, a_held, a_kingAt, a_quiet, a_positions, a_playedMove, a_playedPiece, a_playedTaken, a_moveList, a_listEnd, a_nextMove, a_shieldLine, a_left, a_low, a_firstLow, a_high, a_most, a_rows, a_knownWords, a_knownMover, a_knownDepth, a_knownKind, a_knownNumber)) →
    wX_init_251 post (k + 1) (nI d) f_going f_mover f_made f_played f_shields f_settled f_rootMove f_word0 f_word1 f_word2 f_word3 a_nextTo a_leaps a_pawnHits ln a_at a_squaresOf a_held a_kingAt a_quiet a_positions a_playedMove a_playedPiece a_playedTaken a_moveList a_listEnd a_nextMove a_shieldLine a_left a_low a_firstLow a_high a_most a_rows a_knownWords a_knownMover a_knownDepth a_knownKind a_knownNumber := by
  intro k
  induction k with
  | zero =>
    intro d hd ln K
    rw [wX_init_251]
    exact pk_le 8 d (fun _ => K ln (fun q h1 h2 => by omega) (fun q h1 t h2 => rfl)) (fun h => by omega)
  | succ k ih =>
    intro d hd ln K
    rw [wX_init_251]
    refine pk_le 8 d (fun h => by omega) (fun _ => ⟨37, xt_i259 (by omega) 36 0 (by omega) ln (fun ln1 a1 a2 => ih (d + 1) (by omega) ln1 (fun ln' h1 h2 => K ln' (fun q h3 h4 t ht => ?_) (fun q h3 t ht => ?_)))⟩)
    · by_cases e : q = d
      · subst e; rw [h2 q (by omega) t ht]; exact a1 t (by omega) ht
      · exact h1 q (by omega) h4 t ht
    · rw [h2 q (by omega) t ht]; exact a2 _ (fun t' h5 h6 => by omega)
theorem xt_i232 : ∀ (k s : Nat), s + k = 36 → ∀ nt lp ph : Nat → Int64,
    (∀ j, s ≤ j → j < 36 → nt j = 0 ∧ lp j = 0 ∧ ph j = 0 ∧ ph (36 + j) = 0) → (∀ j, j < s → nt j = xt_f1 j 0 ∧ lp j = xt_f2 j 0 ∧ ph j = xt_f3 j 0 ∧ ph (36 + j) = xt_f4 j 0) →
    (∀ nt' lp' ph' ln' : Nat → Int64, xt_T nt' lp' ph' ln' → post (f_going, f_mover, f_made, f_played, f_shields, f_settled, f_rootMove, f_word0, f_word1, f_word2, f_word3, nt', lp', ph', ln', a_at, a_squaresOf, a_held, a_kingAt, a_quiet, a_positions, a_playedMove, a_playedPiece, a_playedTaken, a_moveList, a_listEnd, a_nextMove, a_shieldLine, a_left, a_low, a_firstLow, a_high, a_most, a_rows, a_knownWords, a_knownMover, a_knownDepth, a_knownKind, a_knownNumber)) →
    wX_init_232 post (k + 1) (nI s) f_going f_mover f_made f_played f_shields f_settled f_rootMove f_word0 f_word1 f_word2 f_word3 nt lp ph a_line a_at a_squaresOf a_held a_kingAt a_quiet a_positions a_playedMove a_playedPiece a_playedTaken a_moveList a_listEnd a_nextMove a_shieldLine a_left a_low a_firstLow a_high a_most a_rows a_knownWords a_knownMover a_knownDepth a_knownKind a_knownNumber := by
  intro k
  induction k with
  | zero =>
    intro s hs nt lp ph h0 h1 K
    rw [wX_init_232]
    refine pk_le 36 s (fun _ => ⟨9, xt_i251 8 0 (by omega) _ (fun ln' a1 a2 => K nt lp ph ln' ⟨fun s hs => ?_, fun s hs => ?_, fun m hm s hs => ?_, fun d hd s hs => ?_⟩)⟩) (fun h => by omega)
    · rw [(h1 s (by omega)).1, xt_f1S s hs]; exact cb_mkS _
    · rw [(h1 s (by omega)).2.1, xt_f2S s hs]; exact cb_mkS _
    · have : m = 0 ∨ m = 1 := by omega
      rcases this with rfl | rfl
      · rw [show 36 * 0 + s = s from by omega, (h1 s (by omega)).2.2.1, xt_f3S s hs]; exact cb_mkS _
      · rw [show 36 * 1 + s = 36 + s from by omega, (h1 s (by omega)).2.2.2, xt_f4S s hs]; exact cb_mkS _
    · rw [a1 d (by omega) hd s hs, xt_lnS d hd s hs]; exact cb_mkS _
  | succ k ih =>
    intro s hs nt lp ph h0 h1 K
    rw [wX_init_232]
    refine pk_le 36 s (fun h => by omega) (fun _ => xt_near (by omega) (nm_r (nI_1 s) (ih (s + 1) (by omega) _ _ _ (fun j h3 h4 => ?_) (fun j h3 => ?_) K)))
    · rw [pk_uLn (by omega), pk_uLn (by omega), pk_uLn (by omega), pk_uLn (by omega), pk_uLn (by omega), pk_uLn (by omega)]
      exact h0 j (by omega) h4
    · by_cases e : j = s
      · subst e
        obtain ⟨z1, z2, z3, z4⟩ := h0 j (by omega) (by omega)
        rw [z1, z2, z3, z4, pk_uLs, pk_uLs, pk_uLn (by omega), pk_uLs, pk_uLs]
        exact ⟨rfl, rfl, rfl, rfl⟩
      · rw [pk_uLn e, pk_uLn e, pk_uLn (by omega), pk_uLn e, pk_uLn (by omega), pk_uLn (by omega)]
        exact h1 j (by omega)
end
theorem xt_init {post : SX → Prop} (K : ∀ nt' lp' ph' ln' : Nat → Int64, xt_T nt' lp' ph' ln' → post (0, 0, 0, 0, 0, 0, 0, 0, 0, 0, 0, nt', lp', ph', ln', fun _ => 0, fun _ => 0, fun _ => 0, fun _ => 0, fun _ => 0, fun _ => 0, fun _ => 0, fun _ => 0, fun _ => 0, fun _ => 0, fun _ => 0, fun _ => 0, fun _ => 0, fun _ => 0, fun _ => 0, fun _ => 0, fun _ => 0, fun _ => 0, fun _ => 0, fun _ => 0, fun _ => 0, fun _ => 0, fun _ => 0, fun _ => 0)) : wpX_init post :=
  ⟨37, xt_i232 36 0 rfl _ _ _ (fun _ _ _ => ⟨rfl, rfl, rfl, rfl⟩) (fun j h => absurd h (by omega)) K⟩
end
section
/-! ===== the component's attacks ===== -/
def xb_b (b : Bool) : Int32 := if b then 1 else 0
/-- the board as the component keeps it -/
def xb_B (B : Nat → Nat) (fa : Nat → Int32) (sq hl : Nat → Int64) : Prop := (fa = fun s => nI (B s)) ∧ (∀ p, p < 16 → p ≠ 0 → cb_S (sq p) (fun s => B s == p)) ∧ (∀ m, m < 2 → cb_S (hl m) (fun s => cd_of (B s) m))
theorem xa_ix {d s : Nat} : (36 * nI d) + nI s = nI (36 * d + s) := by
  rw [show (36 : Int32) = nI 36 from rfl, pk_mul, nI_add]
theorem xa_line {o : Nat → Bool} {d s k : Nat} (hd : d < 8) (hs : s < 36) (hk : k < 36) (hdk : cg_dir s k = d) (hok : o k = true) (hmin : ∀ x, x < 36 → cg_dir s x = d → o x = true → cg_ds s k ≤ cg_ds s x) (t : Nat) (ht : t < 36) :
    ((cg_dir s t == d) ^^ (cg_dir k t == d)) = ((cg_dir s t == d) && cg_cl o s t) := by
  have he := cg_ext s hs k hk (by omega) t ht
  rw [hdk] at he
  by_cases h1 : cg_dir s t = d
  · have e1 : (cg_dir s t == d) = true := by rw [h1]; exact beq_self_eq_true d
    rw [e1, Bool.true_and]
    by_cases h2 : cg_ds s k < cg_ds s t
    · have e2 : (cg_dir k t == d) = true := by rw [he.mpr ⟨h1, h2⟩]; exact beq_self_eq_true d
      rw [e2]
      cases hc : cg_cl o s t with
      | false => rfl
      | true =>
        have := cg_cl_iff.mp hc k hk (cg_btI (by omega) (by omega) h2)
        rw [hok] at this; exact absurd this (by decide)
    · have e2 : (cg_dir k t == d) = false := by
        cases hc : cg_dir k t == d with
        | false => rfl
        | true => exact absurd (he.mp (beq_iff_eq.mp hc)).2 h2
      rw [e2]
      have : cg_cl o s t = true := cg_cl_iff.mpr fun x hx hb => by
        obtain ⟨_, _, _, b4, b5⟩ := cg_bt0 hs ht hx hb
        cases hc : o x with
        | false => rfl
        | true => have := hmin x hx (by omega) hc; omega
      rw [this]; rfl
  · have e1 : (cg_dir s t == d) = false := beq_eq_false_iff_ne.mpr h1
    have e2 : (cg_dir k t == d) = false := by
      cases hc : cg_dir k t == d with
      | false => rfl
      | true => exact absurd (he.mp (beq_iff_eq.mp hc)).1 h1
    rw [e1, e2]; rfl
/-- the nearest by number is the nearest by distance -/
theorem xa_near {s k x d : Nat} (hs : s < 36) (hk : k < 36) (hx : x < 36) (hd : d < 8) (h1 : cg_dir s k = d) (h2 : cg_dir s x = d) (h : (d < 4 → k ≤ x) ∧ (4 ≤ d → x ≤ k)) : cg_ds s k ≤ cg_ds s x := by
  obtain ⟨_, m1, m2⟩ := cg_mon s hs k hk (by omega) x hx (by omega)
  by_cases h4 : d < 4
  · exact m1 (by omega) (h.1 h4)
  · exact m2 (by omega) (h.2 (by omega))
section
variable {f_going f_mover f_made f_played : Int32} {f_shields : Int64} {f_settled f_rootMove : Int32} {f_word0 f_word1 f_word2 f_word3 : Int64} {a_nextTo a_leaps a_pawnHits a_line : Nat → Int64} {a_at : Nat → Int32} {a_squaresOf a_held : Nat → Int64} {a_kingAt a_quiet : Nat → Int32} {a_positions : Nat → Int64} {a_playedMove a_playedPiece a_playedTaken a_moveList a_listEnd a_nextMove : Nat → Int32} {a_shieldLine : Nat → Int64} {a_left a_low a_firstLow a_high a_most a_rows : Nat → Int32} {a_knownWords : Nat → Int64} {a_knownMover a_knownDepth a_knownKind a_knownNumber : Nat → Int32} {s d : Nat} {pc : Int64} {o : Nat → Bool}
theorem xa_along {post : Int64 → Prop} (hT : xt_T a_nextTo a_leaps a_pawnHits a_line) (hd : d < 8) (hs : s < 36) (ho : cb_S pc o)
    (K : ∀ r, cb_S r (fun t => (cg_dir s t == d) && cg_cl o s t) → post r) : wpX_alongLine post (f_going, f_mover, f_made, f_played, f_shields, f_settled, f_rootMove, f_word0, f_word1, f_word2, f_word3, a_nextTo, a_leaps, a_pawnHits, a_line, a_at, a_squaresOf, a_held, a_kingAt, a_quiet, a_positions, a_playedMove, a_playedPiece, a_playedTaken, a_moveList, a_listEnd, a_nextMove, a_shieldLine, a_left, a_low, a_firstLow, a_high, a_most, a_rows, a_knownWords, a_knownMover, a_knownDepth, a_knownKind, a_knownNumber) (nI d) (nI s) pc := by
  have hw := hT.2.2.2 d hd s hs
  have hst := cb_Sand hw ho
  refine ⟨by rw [xa_ix]; exact vp_in_nI (by omega) (by decide), nm_r (e' := a_line (36 * d + s)) (by rw [xa_ix, nI_clamp (by omega)]) (nm_e (br_c (fun hz => ?_) (fun hz => ?_)))⟩
  · refine K _ (cb_Se hw fun t ht => ?_)
    have hz := (cb_Sz hst).mp hz
    by_cases h1 : cg_dir s t = d
    · have : cg_cl o s t = true := cg_cl_iff.mpr fun x hx hb => by
        obtain ⟨_, _, _, b4, b5⟩ := cg_bt0 hs ht hx hb
        have := hz x hx
        rw [b4, h1, beq_self_eq_true, Bool.true_and] at this; exact this
      rw [this, Bool.and_true]
    · rw [beq_eq_false_iff_ne.mpr h1, Bool.false_and]
  · refine cb_nearest hd hz fun k hk hb hn => ?_
    rw [cb_S_all hst, Bool.and_eq_true, Bool.and_eq_true, decide_eq_true_eq, beq_iff_eq] at hb
    obtain ⟨h36, hdk, hok⟩ := hb
    refine ⟨by rw [xa_ix]; exact vp_in_nI (by omega) (by decide), ?_⟩
    rw [xa_ix, nI_clamp (by omega)]
    refine K _ (cb_Se (cb_Sxor hw (hT.2.2.2 d hd k h36)) fun t ht => ?_)
    refine xa_line hd hs h36 hdk hok (fun x hx hdx hox => ?_) t ht
    refine xa_near hs h36 hx hd hdk hdx (hn x ?_)
    rw [cb_S_all hst, decide_eq_true hx, hdx, beq_self_eq_true, hox]; rfl
theorem xa_isS {post : Int32 → Prop} (hd : d < 8) (h0 : 2 ≤ d % 4 → post 0) (h1 : d % 4 < 2 → post 1) : wpX_isStraight post (nI d) := by
  have e : nI d &&& 3 = nI (d % 4) := pk_andN (by omega) 2 (by decide)
  unfold wpX_isStraight
  rw [e]
  exact pk_le 2 (d % 4) h0 h1
def xa_pst (o : Nat → Bool) (s d t : Nat) : Bool := decide (cg_dir s t < d) && decide (cg_dir s t % 4 < 2) && cg_cl o s t
def xa_pdi (o : Nat → Bool) (s d t : Nat) : Bool := decide (cg_dir s t < d) && decide (2 ≤ cg_dir s t % 4) && cg_cl o s t
theorem xa_st6 {post : Int64 → Prop} (hT : xt_T a_nextTo a_leaps a_pawnHits a_line) (hs : s < 36) (ho : cb_S pc o)
    (K : ∀ r, cb_S r (xa_pst o s 8) → post r) : ∀ (k d : Nat) (x : Int64), d + k = 8 → cb_S x (xa_pst o s d) → wX_straight_6 post (nI s) pc f_going f_mover f_made f_played f_shields f_settled f_rootMove f_word0 f_word1 f_word2 f_word3 a_nextTo a_leaps a_pawnHits a_line a_at a_squaresOf a_held a_kingAt a_quiet a_positions a_playedMove a_playedPiece a_playedTaken a_moveList a_listEnd a_nextMove a_shieldLine a_left a_low a_firstLow a_high a_most a_rows a_knownWords a_knownMover a_knownDepth a_knownKind a_knownNumber (k + 1) x (nI d) := by
  intro k
  induction k with
  | zero =>
    intro d x hd hx
    rw [wX_straight_6]
    exact pk_le 8 d (fun _ => K x (by have : d = 8 := by omega
                                      subst this; exact hx)) (fun h => by omega)
  | succ k ih =>
    intro d x hd hx
    rw [wX_straight_6]
    refine pk_le 8 d (fun h => by omega) (fun _ => xa_isS (by omega) (fun h2 => br_t rfl (nm_r (nI_1 d) (ih (d + 1) x (by omega) (cb_Se hx fun t ht => ?_)))) (fun h2 => br_f (by decide) (xa_along hT (by omega) hs ho fun r hr => nm_e (nm_r (nI_1 d) (ih (d + 1) _ (by omega) (cb_Se (cb_Sor hx hr) fun t ht => ?_))))))
    · unfold xa_pst
      by_cases e : cg_dir s t = d
      · rw [e, decide_eq_false (by omega), decide_eq_true (by omega : d < d + 1), decide_eq_false (by omega : ¬ d % 4 < 2)]; rfl
      · have : decide (cg_dir s t < d + 1) = decide (cg_dir s t < d) := decide_eq_decide.mpr (by omega)
        rw [this]
    · unfold xa_pst
      by_cases e : cg_dir s t = d
      · rw [e, decide_eq_false (by omega), decide_eq_true (by omega : d < d + 1), decide_eq_true h2, beq_self_eq_true]; rfl
      · have : decide (cg_dir s t < d + 1) = decide (cg_dir s t < d) := decide_eq_decide.mpr (by omega)
        rw [this, beq_eq_false_iff_ne.mpr e, Bool.false_and, Bool.or_false]
theorem xa_straight {post : Int64 → Prop} (hT : xt_T a_nextTo a_leaps a_pawnHits a_line) (hs : s < 36) (ho : cb_S pc o)
    (K : ∀ r, cb_S r (xa_pst o s 8) → post r) : wpX_straight post (f_going, f_mover, f_made, f_played, f_shields, f_settled, f_rootMove, f_word0, f_word1, f_word2, f_word3, a_nextTo, a_leaps, a_pawnHits, a_line, a_at, a_squaresOf, a_held, a_kingAt, a_quiet, a_positions, a_playedMove, a_playedPiece, a_playedTaken, a_moveList, a_listEnd, a_nextMove, a_shieldLine, a_left, a_low, a_firstLow, a_high, a_most, a_rows, a_knownWords, a_knownMover, a_knownDepth, a_knownKind, a_knownNumber) (nI s) pc :=
  ⟨9, xa_st6 hT hs ho K 8 0 0 (by omega) (cb_S0 fun i _ => by unfold xa_pst; rw [decide_eq_false (by omega)]; rfl)⟩
theorem xa_di6 {post : Int64 → Prop} (hT : xt_T a_nextTo a_leaps a_pawnHits a_line) (hs : s < 36) (ho : cb_S pc o)
    (K : ∀ r, cb_S r (xa_pdi o s 8) → post r) : ∀ (k d : Nat) (x : Int64), d + k = 8 → cb_S x (xa_pdi o s d) → wX_diagonal_6 post (nI s) pc f_going f_mover f_made f_played f_shields f_settled f_rootMove f_word0 f_word1 f_word2 f_word3 a_nextTo a_leaps a_pawnHits a_line a_at a_squaresOf a_held a_kingAt a_quiet a_positions a_playedMove a_playedPiece a_playedTaken a_moveList a_listEnd a_nextMove a_shieldLine a_left a_low a_firstLow a_high a_most a_rows a_knownWords a_knownMover a_knownDepth a_knownKind a_knownNumber (k + 1) x (nI d) := by
  intro k
  induction k with
  | zero =>
    intro d x hd hx
    rw [wX_diagonal_6]
    exact pk_le 8 d (fun _ => K x (by have : d = 8 := by omega
                                      subst this; exact hx)) (fun h => by omega)
  | succ k ih =>
    intro d x hd hx
    rw [wX_diagonal_6]
    refine pk_le 8 d (fun h => by omega) (fun _ => xa_isS (by omega) (fun h2 => br_t rfl (xa_along hT (by omega) hs ho fun r hr => nm_e (nm_r (nI_1 d) (ih (d + 1) _ (by omega) (cb_Se (cb_Sor hx hr) fun t ht => ?_))))) (fun h2 => br_f (by decide) (nm_r (nI_1 d) (ih (d + 1) x (by omega) (cb_Se hx fun t ht => ?_)))))
    · unfold xa_pdi
      by_cases e : cg_dir s t = d
      · rw [e, decide_eq_false (by omega), decide_eq_true (by omega : d < d + 1), decide_eq_true h2, beq_self_eq_true]; rfl
      · have : decide (cg_dir s t < d + 1) = decide (cg_dir s t < d) := decide_eq_decide.mpr (by omega)
        rw [this, beq_eq_false_iff_ne.mpr e, Bool.false_and, Bool.or_false]
    · unfold xa_pdi
      by_cases e : cg_dir s t = d
      · rw [e, decide_eq_false (by omega), decide_eq_true (by omega : d < d + 1), decide_eq_false (by omega : ¬ 2 ≤ d % 4)]; rfl
      · have : decide (cg_dir s t < d + 1) = decide (cg_dir s t < d) := decide_eq_decide.mpr (by omega)
        rw [this]
theorem xa_diagonal {post : Int64 → Prop} (hT : xt_T a_nextTo a_leaps a_pawnHits a_line) (hs : s < 36) (ho : cb_S pc o)
    (K : ∀ r, cb_S r (xa_pdi o s 8) → post r) : wpX_diagonal post (f_going, f_mover, f_made, f_played, f_shields, f_settled, f_rootMove, f_word0, f_word1, f_word2, f_word3, a_nextTo, a_leaps, a_pawnHits, a_line, a_at, a_squaresOf, a_held, a_kingAt, a_quiet, a_positions, a_playedMove, a_playedPiece, a_playedTaken, a_moveList, a_listEnd, a_nextMove, a_shieldLine, a_left, a_low, a_firstLow, a_high, a_most, a_rows, a_knownWords, a_knownMover, a_knownDepth, a_knownKind, a_knownNumber) (nI s) pc :=
  ⟨9, xa_di6 hT hs ho K 8 0 0 (by omega) (cb_S0 fun i _ => by unfold xa_pdi; rw [decide_eq_false (by omega)]; rfl)⟩
end
def xa_lhs (kg kn p0 p1 cl : Bool) (p m d : Nat) : Bool := (kg && (p == 8 * m + 6)) || (kn && (p == 8 * m + 2)) || ((if m = 0 then p0 else p1) && (p == 8 * m + 1)) || (((p == 8 * m + 4) || (p == 8 * m + 5)) && (decide (d < 8) && decide (d % 4 < 2) && cl)) || (((p == 8 * m + 3) || (p == 8 * m + 5)) && (decide (d < 8) && decide (2 ≤ d % 4) && cl))
def xa_rhs (kg kn p0 p1 cl : Bool) (p m d : Nat) : Bool := cd_of p m && (((cd_kd p == 1 && (if p < 8 then p0 else p1)) || (cd_kd p == 2 && kn) || (cd_kd p == 6 && kg)) || (cd_sl p d && cl))
theorem xa_bool0 (kg kn p0 p1 cl : Bool) : ∀ p, p < 15 → ∀ m, m < 2 → ∀ d, d < 9 → (p = 7 ∨ p = 8 ∨ xa_lhs kg kn p0 p1 cl p m d = xa_rhs kg kn p0 p1 cl p m d) := by
  cases kg <;> cases kn <;> cases p0 <;> cases p1 <;> cases cl <;> decide +kernel
theorem xa_bool (p : Nat) (hp : p < 15) (h7 : p ≠ 7) (h8 : p ≠ 8) (m : Nat) (hm : m < 2) (d : Nat) (hd : d < 9) (kg kn p0 p1 cl : Bool) :
    ((kg && (p == 8 * m + 6)) || (kn && (p == 8 * m + 2)) || ((if m = 0 then p0 else p1) && (p == 8 * m + 1)) || (((p == 8 * m + 4) || (p == 8 * m + 5)) && (decide (d < 8) && decide (d % 4 < 2) && cl)) || (((p == 8 * m + 3) || (p == 8 * m + 5)) && (decide (d < 8) && decide (2 ≤ d % 4) && cl)))
    = (cd_of p m && (((cd_kd p == 1 && (if p < 8 then p0 else p1)) || (cd_kd p == 2 && kn) || (cd_kd p == 6 && kg)) || (cd_sl p d && cl))) := by
  rcases xa_bool0 kg kn p0 p1 cl p hp m hm d hd with h | h | h
  · exact absurd h h7
  · exact absurd h h8
  · exact h
theorem xa_akeq {B : Nat → Nat} {o : Nat → Bool} {q m e : Nat} (hq : q < 36) (he : e < 36) (hm : m < 2) (hv : B e ≤ 14 ∧ B e ≠ 7 ∧ B e ≠ 8) :
    ((cg_kg q e && (B e == 8 * m + 6)) || (cg_kn q e && (B e == 8 * m + 2)) || (cg_pw (1 - m) q e && (B e == 8 * m + 1)) || (((B e == 8 * m + 4) || (B e == 8 * m + 5)) && xa_pst o q 8 e) || (((B e == 8 * m + 3) || (B e == 8 * m + 5)) && xa_pdi o q 8 e)) = cd_ak B o q m e := by
  have h := xa_bool (B e) (by omega) hv.2.1 hv.2.2 m hm (cg_dir q e) (by have := cg_dir8 q hq e he; omega) (cg_kg e q) (cg_kn e q) (cg_pw 0 e q) (cg_pw 1 e q) (cg_cl o q e)
  unfold xa_pst xa_pdi cd_ak cd_at
  rw [cg_kgc e he q hq, cg_knc e he q hq, cg_opp q hq e he, cd_slop _ (cg_dir8 q hq e he), ← cg_clc hq he]
  have e1 : cg_pw (1 - m) q e = if m = 0 then cg_pw 0 e q else cg_pw 1 e q := by
    have := cg_pwc m hm e he q hq
    rw [this]
    have : m = 0 ∨ m = 1 := by omega
    rcases this with rfl | rfl <;> rfl
  rw [e1, h]
  unfold cd_lp
  by_cases h8 : B e < 8
  · rw [if_pos h8, if_pos h8]
  · rw [if_neg h8, if_neg h8]
section
variable {f_going f_mover f_made f_played : Int32} {f_shields : Int64} {f_settled f_rootMove : Int32} {f_word0 f_word1 f_word2 f_word3 : Int64} {a_nextTo a_leaps a_pawnHits a_line : Nat → Int64} {a_at : Nat → Int32} {a_squaresOf a_held : Nat → Int64} {a_kingAt a_quiet : Nat → Int32} {a_positions : Nat → Int64} {a_playedMove a_playedPiece a_playedTaken a_moveList a_listEnd a_nextMove : Nat → Int32} {a_shieldLine : Nat → Int64} {a_left a_low a_firstLow a_high a_most a_rows : Nat → Int32} {a_knownWords : Nat → Int64} {a_knownMover a_knownDepth a_knownKind a_knownNumber : Nat → Int32} {pc : Int64} {o : Nat → Bool} {B : Nat → Nat} {q m : Nat}
theorem xa_sqz {x y : Int64} {p r : Nat → Bool} (hx : cb_S x p) (hy : x = 0) : cb_S y (fun i => r i) → cb_S y (fun i => r i || (p i && false)) := fun h => cb_Se h fun i hi => by rw [Bool.and_false, Bool.or_false]
theorem xa_s8 {a b : Nat} (h : 8 * a + b < 16) : (8 : Int32) * nI a + nI b = nI (8 * a + b) := by
  rw [show (8 : Int32) = nI 8 from rfl, pk_mul, nI_add]
/-- attackersOf -/
theorem xa_attackersOf {post : Int64 → Prop} (hT : xt_T a_nextTo a_leaps a_pawnHits a_line) (hB : xb_B B a_at a_squaresOf a_held) (hv : ∀ s, s < 36 → B s ≤ 14 ∧ B s ≠ 7 ∧ B s ≠ 8) (hq : q < 36) (hm : m < 2) (ho : cb_S pc o)
    (K : ∀ r, cb_S r (cd_ak B o q m) → post r) : wpX_attackersOf post (f_going, f_mover, f_made, f_played, f_shields, f_settled, f_rootMove, f_word0, f_word1, f_word2, f_word3, a_nextTo, a_leaps, a_pawnHits, a_line, a_at, a_squaresOf, a_held, a_kingAt, a_quiet, a_positions, a_playedMove, a_playedPiece, a_playedTaken, a_moveList, a_listEnd, a_nextMove, a_shieldLine, a_left, a_low, a_firstLow, a_high, a_most, a_rows, a_knownWords, a_knownMover, a_knownDepth, a_knownKind, a_knownNumber) (nI q) (nI m) pc := by
  obtain ⟨_, hsq, _⟩ := hB
  have e8 : (8 : Int32) * nI m = nI (8 * m) := by rw [show (8 : Int32) = nI 8 from rfl, pk_mul]
  have ei : ∀ j, nI (8 * m) + nI j = nI (8 * m + j) := fun j => nI_add _ _
  have hi : ∀ j, j < 7 → vp_in (nI (8 * m) + nI j) 16 := fun j hj => by rw [ei]; exact vp_in_nI (by omega) (by decide)
  have hc : ∀ j, j < 7 → (nI (8 * m) + nI j).toNatClampNeg = 8 * m + j := fun j hj => by rw [ei, nI_clamp (by omega)]
  have hqi : vp_in (nI q) 36 := vp_in_nI hq (by decide)
  have hqc : (nI q).toNatClampNeg = q := nI_clamp (by omega)
  have e36 : (36 * (1 - nI m)) + nI q = nI (36 * (1 - m) + q) := by
    rw [show (1 : Int32) = nI 1 from rfl, pk_sub (by omega), xa_ix]
  have s6 := cb_Sand (hT.1 q hq) (hsq (8 * m + 6) (by omega) (by omega))
  have s2 := cb_Sand (hT.2.1 q hq) (hsq (8 * m + 2) (by omega) (by omega))
  have s1 := cb_Sand (hT.2.2.1 (1 - m) (by omega) q hq) (hsq (8 * m + 1) (by omega) (by omega))
  have s45 := cb_Sor (hsq (8 * m + 4) (by omega) (by omega)) (hsq (8 * m + 5) (by omega) (by omega))
  have s35 := cb_Sor (hsq (8 * m + 3) (by omega) (by omega)) (hsq (8 * m + 5) (by omega) (by omega))
  have s621 := cb_Sor (cb_Sor s6 s2) s1
  have H116 : ∀ x6, cb_S x6 (fun i => ((cg_kg q i && (B i == 8 * m + 6)) || (cg_kn q i && (B i == 8 * m + 2)) || (cg_pw (1 - m) q i && (B i == 8 * m + 1)) || (((B i == 8 * m + 4) || (B i == 8 * m + 5)) && xa_pst o q 8 i))) → wX_attackersOf_116 post (nI q) pc (nI (8 * m)) x6 f_going f_mover f_made f_played f_shields f_settled f_rootMove f_word0 f_word1 f_word2 f_word3 a_nextTo a_leaps a_pawnHits a_line a_at a_squaresOf a_held a_kingAt a_quiet a_positions a_playedMove a_playedPiece a_playedTaken a_moveList a_listEnd a_nextMove a_shieldLine a_left a_low a_firstLow a_high a_most a_rows a_knownWords a_knownMover a_knownDepth a_knownKind a_knownNumber := by
    intro x6 h6
    unfold wX_attackersOf_116
    refine ⟨hi 3 (by decide), hi 5 (by decide), nm_r (e' := a_squaresOf (8 * m + 3) ||| a_squaresOf (8 * m + 5)) ?_ (br_c (fun hz => K _ (cb_Se h6 fun e he => ?_)) (fun hz => xa_diagonal hT hq ho fun r hr => nm_e (K _ (cb_Se (cb_Sor h6 (cb_Sand s35 hr)) fun e he => ?_))))⟩
    · exact congr (congrArg _ (congrArg _ (hc 3 (by decide)))) (congrArg _ (hc 5 (by decide)))
    · rw [← xa_akeq hq he hm (hv e he)]
      have := (cb_Sz s35).mp hz e he
      rw [this, Bool.false_and, Bool.or_false]
    · exact xa_akeq hq he hm (hv e he)
  refine nm_r (e' := nI (8 * m)) e8 ⟨hqi, hi 6 (by decide), nm_r (e' := a_nextTo q &&& a_squaresOf (8 * m + 6)) ?_ ⟨hqi, hi 2 (by decide), nm_r (e' := (a_nextTo q &&& a_squaresOf (8 * m + 6)) ||| (a_leaps q &&& a_squaresOf (8 * m + 2))) ?_ ⟨?_, hi 1 (by decide), nm_r (e' := ((a_nextTo q &&& a_squaresOf (8 * m + 6)) ||| (a_leaps q &&& a_squaresOf (8 * m + 2))) ||| (a_pawnHits (36 * (1 - m) + q) &&& a_squaresOf (8 * m + 1))) ?_ ⟨hi 4 (by decide), hi 5 (by decide), nm_r (e' := a_squaresOf (8 * m + 4) ||| a_squaresOf (8 * m + 5)) ?_ (br_c (fun hz => H116 _ (cb_Se s621 fun e he => ?_)) (fun hz => xa_straight hT hq ho fun r hr => nm_e (H116 _ (cb_Sor s621 (cb_Sand s45 hr)))))⟩⟩⟩⟩
  · exact congr (congrArg _ (congrArg _ hqc)) (congrArg _ (hc 6 (by decide)))
  · exact congrArg _ (congr (congrArg _ (congrArg _ hqc)) (congrArg _ (hc 2 (by decide))))
  · rw [e36]; exact vp_in_nI (by omega) (by decide)
  · refine congrArg _ (congr (congrArg _ (congrArg _ ?_)) (congrArg _ (hc 1 (by decide))))
    rw [e36, nI_clamp (by omega)]
  · exact congr (congrArg _ (congrArg _ (hc 4 (by decide)))) (congrArg _ (hc 5 (by decide)))
  · have := (cb_Sz s45).mp hz e he
    rw [this, Bool.false_and, Bool.or_false]
end
end
section
/-! ===== the component's list of moves ===== -/
theorem xb_pc {B : Nat → Nat} {hl : Nat → Int64} (hv : ∀ s, s < 36 → B s ≤ 14 ∧ B s ≠ 7 ∧ B s ≠ 8) (h : ∀ m, m < 2 → cb_S (hl m) (fun s => cd_of (B s) m)) : cb_S (hl 0 ||| hl 1) (cd_oc B) :=
  cb_Se (cb_Sor (h 0 (by decide)) (h 1 (by decide))) fun s hs => by
    obtain ⟨h1, h2, h3⟩ := hv s hs
    have : ∀ p, p < 15 → p ≠ 8 → (cd_of p 0 || cd_of p 1) = !(p == 0) := by decide
    exact this (B s) (by omega) h3
theorem xb_1m {m : Nat} (hm : m < 2) : (1 : Int32) - nI m = nI (1 - m) := by
  rw [show (1 : Int32) = nI 1 from rfl, pk_sub (by omega)]
theorem cg_btw : ∀ a, a < 36 → ∀ b, b < 36 → cg_dir a b < 8 → ∀ x, x < 36 → ((cg_dir a x == cg_dir a b) && (cg_dir b x == cg_op (cg_dir a b))) = cg_bt a b x := by decide +kernel
theorem cg_bt8 {a b x : Nat} (h : ¬ cg_dir a b < 8) : cg_bt a b x = false := by
  unfold cg_bt; rw [decide_eq_false h]; rfl
section
variable {f_going f_mover f_made f_played : Int32} {f_shields : Int64} {f_settled f_rootMove : Int32} {f_word0 f_word1 f_word2 f_word3 : Int64} {a_nextTo a_leaps a_pawnHits a_line : Nat → Int64} {a_at : Nat → Int32} {a_squaresOf a_held : Nat → Int64} {a_kingAt a_quiet : Nat → Int32} {a_positions : Nat → Int64} {a_playedMove a_playedPiece a_playedTaken a_moveList a_listEnd a_nextMove : Nat → Int32} {a_shieldLine : Nat → Int64} {a_left a_low a_firstLow a_high a_most a_rows : Nat → Int32} {a_knownWords : Nat → Int64} {a_knownMover a_knownDepth a_knownKind a_knownNumber : Nat → Int32} {B : Nat → Nat} {m k : Nat}
theorem xa_inCheck {post : Int32 → Prop} (hT : xt_T a_nextTo a_leaps a_pawnHits a_line) (hB : xb_B B a_at a_squaresOf a_held) (hv : ∀ s, s < 36 → B s ≤ 14 ∧ B s ≠ 7 ∧ B s ≠ 8) (hm : m < 2) (hK : cd_K B m k) (hk : a_kingAt m = nI k)
    (K : post (xb_b (cd_ck B m))) : wpX_inCheck post (f_going, f_mover, f_made, f_played, f_shields, f_settled, f_rootMove, f_word0, f_word1, f_word2, f_word3, a_nextTo, a_leaps, a_pawnHits, a_line, a_at, a_squaresOf, a_held, a_kingAt, a_quiet, a_positions, a_playedMove, a_playedPiece, a_playedTaken, a_moveList, a_listEnd, a_nextMove, a_shieldLine, a_left, a_low, a_firstLow, a_high, a_most, a_rows, a_knownWords, a_knownMover, a_knownDepth, a_knownKind, a_knownNumber) (nI m) := by
  refine ⟨vp_in_nI hm (by decide), ?_⟩
  rw [nI_clamp (by omega), hk, xb_1m hm]
  refine xa_attackersOf hT hB hv hK.1 (by omega) (xb_pc hv hB.2.2) fun r hr => ?_
  refine br_c (fun hz => ?_) (fun hz => ?_)
  · have : cd_ck B m = false := by
      cases hc : cd_ck B m with
      | false => rfl
      | true =>
        obtain ⟨e, he, h⟩ := (cd_ckK hK).mp hc
        rw [(cb_Sz hr).mp hz e he] at h; exact absurd h (by decide)
    rw [this] at K; exact K
  · have : cd_ck B m = true := by
      obtain ⟨e, he, h⟩ := cb_ne hz
      rw [cb_S_all hr, Bool.and_eq_true, decide_eq_true_eq] at h
      exact (cd_ckK hK).mpr ⟨e, h.1, h.2⟩
    rw [this] at K; exact K
theorem xa_between2 {post : Int64 → Prop} {a b : Nat} (hT : xt_T a_nextTo a_leaps a_pawnHits a_line) (ha : a < 36) (hb : b < 36)
    (K : ∀ r, cb_S r (cg_bt a b) → post r) : ∀ (j d : Nat), d + j = 8 → d ≤ cg_dir a b → wX_between_2 post (nI a) (nI b) f_going f_mover f_made f_played f_shields f_settled f_rootMove f_word0 f_word1 f_word2 f_word3 a_nextTo a_leaps a_pawnHits a_line a_at a_squaresOf a_held a_kingAt a_quiet a_positions a_playedMove a_playedPiece a_playedTaken a_moveList a_listEnd a_nextMove a_shieldLine a_left a_low a_firstLow a_high a_most a_rows a_knownWords a_knownMover a_knownDepth a_knownKind a_knownNumber (j + 1) (nI d) := by
  intro j
  induction j with
  | zero =>
    intro d hd hle
    rw [wX_between_2]
    exact pk_le 8 d (fun _ => K 0 (cb_S0 fun i _ => cg_bt8 (by omega))) (fun h => by omega)
  | succ j ih =>
    intro d hd hle
    rw [wX_between_2]
    have hw := hT.2.2.2 d (by omega) a ha
    have hi : vp_in ((36 * nI d) + nI a) 288 := by rw [xa_ix]; exact vp_in_nI (by omega) (by decide)
    have hcl : ((36 * nI d) + nI a).toNatClampNeg = 36 * d + a := by rw [xa_ix, nI_clamp (by omega)]
    refine pk_le 8 d (fun h => by omega) (fun _ => ⟨hi, ?_⟩)
    rw [hcl, cb_tst (by omega), cb_S_all hw, decide_eq_true hb, Bool.true_and]
    refine br_c (fun he => ?_) (fun he => ?_)
    · have he := beq_iff_eq.mp he
      have e4 : nI d ^^^ 4 = nI (cg_op d) := by
        have : ∀ d, d < 8 → nI d ^^^ 4 = nI (cg_op d) := by decide +kernel
        exact this d (by omega)
      have ho : cg_op d < 8 := by unfold cg_op; split <;> (try split) <;> omega
      rw [e4]
      refine ⟨hi, by rw [xa_ix]; exact vp_in_nI (by omega) (by decide), ?_⟩
      rw [xa_ix, nI_clamp (by omega)]
      refine K _ (cb_Se (cb_Sand hw (hT.2.2.2 (cg_op d) ho b hb)) fun x hx => ?_)
      rw [← cg_btw a ha b hb (by omega) x hx, he]
    · have he : cg_dir a b ≠ d := fun e => he (by rw [e]; exact beq_self_eq_true d)
      exact nm_r (nI_1 d) (ih (d + 1) (by omega) (by omega))
theorem xa_between {post : Int64 → Prop} {a b : Nat} (hT : xt_T a_nextTo a_leaps a_pawnHits a_line) (ha : a < 36) (hb : b < 36)
    (K : ∀ r, cb_S r (cg_bt a b) → post r) : wpX_between post (f_going, f_mover, f_made, f_played, f_shields, f_settled, f_rootMove, f_word0, f_word1, f_word2, f_word3, a_nextTo, a_leaps, a_pawnHits, a_line, a_at, a_squaresOf, a_held, a_kingAt, a_quiet, a_positions, a_playedMove, a_playedPiece, a_playedTaken, a_moveList, a_listEnd, a_nextMove, a_shieldLine, a_left, a_low, a_firstLow, a_high, a_most, a_rows, a_knownWords, a_knownMover, a_knownDepth, a_knownKind, a_knownNumber) (nI a) (nI b) :=
  ⟨9, xa_between2 hT ha hb K 8 0 (by omega) (by omega)⟩
theorem xa_runs {post : Int32 → Prop} {p d : Nat} (hp : p ≤ 14 ∧ p ≠ 7 ∧ p ≠ 8) (hd : d < 8) (K : post (xb_b (cd_sl p d))) : wpX_runsAlong post (f_going, f_mover, f_made, f_played, f_shields, f_settled, f_rootMove, f_word0, f_word1, f_word2, f_word3, a_nextTo, a_leaps, a_pawnHits, a_line, a_at, a_squaresOf, a_held, a_kingAt, a_quiet, a_positions, a_playedMove, a_playedPiece, a_playedTaken, a_moveList, a_listEnd, a_nextMove, a_shieldLine, a_left, a_low, a_firstLow, a_high, a_most, a_rows, a_knownWords, a_knownMover, a_knownDepth, a_knownKind, a_knownNumber) (nI p) (nI d) := by
  have e : nI p &&& 7 = nI (p % 8) := pk_andN (by omega) 3 (by decide)
  have ek : cd_kd p = p % 8 := by unfold cd_kd; split <;> omega
  unfold cd_sl at K
  rw [ek, decide_eq_true hd, Bool.true_and] at K
  refine nm_r e (pk_eq (p % 8) 5 (fun h5 => ?_) (fun h5 => xa_isS hd (fun h2 => br_t rfl ?_) (fun h2 => br_f (by decide) ?_)))
  · rw [h5] at K; exact K
  · rw [decide_eq_true h2, decide_eq_false (by omega), Bool.and_true, Bool.and_false, Bool.or_false, beq_eq_false_iff_ne.mpr h5, Bool.false_or] at K
    refine pk_eq (p % 8) 3 (fun h3 => ?_) (fun h3 => ?_)
    · rw [h3] at K; exact K
    · rw [beq_eq_false_iff_ne.mpr h3] at K; exact K
  · rw [decide_eq_true h2, decide_eq_false (by omega : ¬ 2 ≤ d % 4), Bool.and_true, Bool.and_false, Bool.or_false, beq_eq_false_iff_ne.mpr h5, Bool.false_or] at K
    refine pk_eq (p % 8) 4 (fun h3 => ?_) (fun h3 => ?_)
    · rw [h3] at K; exact K
    · rw [beq_eq_false_iff_ne.mpr h3] at K; exact K
end
/-! shields -/
theorem xs_f1 {B : Nat → Nat} {m K d k1 f e : Nat} (hK : K < 36) (hk1 : k1 < 36) (hf : f < 36) (he : e < 36) (hd : d < 8) (h1 : cg_dir K k1 = d) (ho : B k1 ≠ 0) (hmin : ∀ x, x < 36 → cg_dir K x = d → B x ≠ 0 → cg_ds K k1 ≤ cg_ds K x)
    (hfd : cg_dir K f = d) (hfo : cd_of (B f) m = true) (hs : cc_SH B m K f e) : f = k1 ∧ cg_dir k1 e = d ∧ cg_dir K e = d ∧ B e ≠ 0 := by
  obtain ⟨s1, s2, s3, s4⟩ := hs
  obtain ⟨_, _, b3, b4, b5⟩ := cg_bt0 hK he hf s1
  have hle := hmin f hf hfd (cd_of_iff.mp hfo).1
  have hf1 : f = k1 := by
    refine Classical.byContradiction fun hne => ho (s4 k1 hk1 (cg_btI b3 (by omega) (by omega)) (fun e => hne e.symm))
  refine ⟨hf1, ?_, by omega, (cd_of_iff.mp s2).1⟩
  have := (cg_ext K hK k1 hk1 (by omega) e he).mpr ⟨by omega, by rw [← hf1]; exact b5⟩
  omega
theorem xs_f2 {B : Nat → Nat} {m K d k1 k2 f e : Nat} (hK : K < 36) (hk1 : k1 < 36) (hk2 : k2 < 36) (hf : f < 36) (he : e < 36) (hd : d < 8) (h1 : cg_dir K k1 = d) (ho : B k1 ≠ 0) (hmin : ∀ x, x < 36 → cg_dir K x = d → B x ≠ 0 → cg_ds K k1 ≤ cg_ds K x)
    (h2 : cg_dir k1 k2 = d) (ho2 : B k2 ≠ 0) (hmin2 : ∀ x, x < 36 → cg_dir k1 x = d → B x ≠ 0 → cg_ds K k2 ≤ cg_ds K x)
    (hfd : cg_dir K f = d) (hfo : cd_of (B f) m = true) (hs : cc_SH B m K f e) : f = k1 ∧ e = k2 := by
  obtain ⟨a1, a2, a3, a4⟩ := xs_f1 hK hk1 hf he hd h1 ho hmin hfd hfo hs
  refine ⟨a1, Classical.byContradiction fun hne => ?_⟩
  obtain ⟨s1, s2, s3, s4⟩ := hs
  have hle := hmin2 e he a2 a4
  have hd2 := (cg_ext K hK k1 hk1 (by omega) k2 hk2).mp (by omega)
  have hlt : cg_ds K k2 < cg_ds K e := by
    rcases Nat.lt_or_eq_of_le hle with h | h
    · exact h
    · exact absurd (cg_uq hK hk2 he (by omega) (by omega) h).symm hne
  refine ho2 (s4 k2 hk2 (cg_btI (by omega) (by omega) hlt) fun e2 => ?_)
  rw [e2, a1, cg_self k1 hk1] at h2; omega
theorem xs_f3 {B : Nat → Nat} {m K d k1 k2 : Nat} (hK : K < 36) (hk1 : k1 < 36) (hk2 : k2 < 36) (hd : d < 8) (h1 : cg_dir K k1 = d) (hmin : ∀ x, x < 36 → cg_dir K x = d → B x ≠ 0 → cg_ds K k1 ≤ cg_ds K x)
    (h2 : cg_dir k1 k2 = d) (hmin2 : ∀ x, x < 36 → cg_dir k1 x = d → B x ≠ 0 → cg_ds K k2 ≤ cg_ds K x) (hen : cd_of (B k2) (1 - m) = true) (hsl : cd_sl (B k2) d = true) : cc_SH B m K k1 k2 := by
  have hd2 := (cg_ext K hK k1 hk1 (by omega) k2 hk2).mp (by omega)
  have hKk2 : cg_dir K k2 = d := by omega
  refine ⟨cg_btI (by omega) (by omega) hd2.2, hen, by rw [hKk2]; exact hsl, fun x hx hb hne => Classical.byContradiction fun hx0 => ?_⟩
  obtain ⟨_, _, b3, b4, b5⟩ := cg_bt0 hK hk2 hx hb
  have hle := hmin x hx (by omega) hx0
  have hlt : cg_ds K k1 < cg_ds K x := by
    rcases Nat.lt_or_eq_of_le hle with h | h
    · exact h
    · exact absurd (cg_uq hK hk1 hx (by omega) (by omega) h).symm hne
  have := hmin2 x hx (by have := (cg_ext K hK k1 hk1 (by omega) x hx).mpr ⟨by omega, hlt⟩; omega) hx0
  omega
def xs_I (B : Nat → Nat) (m K d : Nat) (sh : Int64) (sl : Nat → Int64) : Prop := (∀ f, f < 64 → (cb_h sh f = true ↔ f < 36 ∧ cg_dir K f < d ∧ cd_of (B f) m = true ∧ ∃ e, e < 36 ∧ cc_SH B m K f e)) ∧ (∀ f e, f < 36 → e < 36 → cg_dir K f < d → cd_of (B f) m = true → cc_SH B m K f e → cb_S (sl f) (fun t => (cg_dir K t == cg_dir K e) && decide (cg_ds K t ≤ cg_ds K e)))
theorem xs_no {B : Nat → Nat} {m K d : Nat} {sh : Int64} {sl : Nat → Int64} (h : xs_I B m K d sh sl) (hn : ∀ f e, f < 36 → e < 36 → cg_dir K f = d → cd_of (B f) m = true → cc_SH B m K f e → False) : xs_I B m K (d + 1) sh sl := by
  refine ⟨fun f hf => ?_, fun f e hf he hd ho hs => ?_⟩
  · rw [h.1 f hf]
    refine ⟨fun ⟨a, b, c, e⟩ => ⟨a, by omega, c, e⟩, fun ⟨a, b, c, e, he, hs⟩ => ⟨a, ?_, c, e, he, hs⟩⟩
    have : cg_dir K f ≠ d := fun e1 => hn f e a he e1 c hs
    omega
  · have : cg_dir K f ≠ d := fun e1 => hn f e hf he e1 ho hs
    exact h.2 f e hf he (by omega) ho hs
theorem xs_yes {B : Nat → Nat} {m K d k1 k2 : Nat} {sh v : Int64} {sl : Nat → Int64} (hk1 : k1 < 36) (hk2 : k2 < 36) (h : xs_I B m K d sh sl) (h1 : cg_dir K k1 = d) (hown : cd_of (B k1) m = true) (hs : cc_SH B m K k1 k2)
    (hu : ∀ f e, f < 36 → e < 36 → cg_dir K f = d → cd_of (B f) m = true → cc_SH B m K f e → f = k1 ∧ e = k2) (hv : cb_S v (fun t => (cg_dir K t == cg_dir K k2) && decide (cg_ds K t ≤ cg_ds K k2))) :
    xs_I B m K (d + 1) (sh ||| (1 : Int64) <<< ((nI k1).toInt64 &&& 63)) (vp_updL sl k1 v) := by
  refine ⟨fun f hf => ?_, fun f e hf he hd ho hs' => ?_⟩
  · rw [cb_or, Bool.or_eq_true, h.1 f hf, cb_one (by omega), decide_eq_true_eq]
    constructor
    · rintro (⟨a, b, c, e⟩ | e)
      · exact ⟨a, by omega, c, e⟩
      · rw [e]; exact ⟨hk1, by omega, hown, k2, hk2, hs⟩
    · rintro ⟨a, b, c, e, he, hs'⟩
      by_cases hd : cg_dir K f = d
      · exact Or.inr (hu f e a he hd c hs').1
      · exact Or.inl ⟨a, by omega, c, e, he, hs'⟩
  · by_cases hfd : cg_dir K f = d
    · obtain ⟨e1, e2⟩ := hu f e hf he hfd ho hs'
      rw [e1, e2, pk_uLs]; exact hv
    · rw [pk_uLn (fun e1 => hfd (by rw [e1]; exact h1))]
      exact h.2 f e hf he (by omega) ho hs'
section
variable {f_going f_mover f_made f_played : Int32} {f_shields : Int64} {f_settled f_rootMove : Int32} {f_word0 f_word1 f_word2 f_word3 : Int64} {a_nextTo a_leaps a_pawnHits a_line : Nat → Int64} {a_at : Nat → Int32} {a_squaresOf a_held : Nat → Int64} {a_kingAt a_quiet : Nat → Int32} {a_positions : Nat → Int64} {a_playedMove a_playedPiece a_playedTaken a_moveList a_listEnd a_nextMove : Nat → Int32} {a_shieldLine : Nat → Int64} {a_left a_low a_firstLow a_high a_most a_rows : Nat → Int32} {a_knownWords : Nat → Int64} {a_knownMover a_knownDepth a_knownKind a_knownNumber : Nat → Int32} {B : Nat → Nat} {m K : Nat} {post : SX → Prop}
theorem xs_lay {d k1 : Nat} {sec : Int64} (hT : xt_T a_nextTo a_leaps a_pawnHits a_line) (hB : xb_B B a_at a_squaresOf a_held) (hv : ∀ s, s < 36 → B s ≤ 14 ∧ B s ≠ 7 ∧ B s ≠ 8) (hm : m < 2) (hmo : f_mover = nI m) (hK : K < 36) (hd : d < 8) (hk1 : k1 < 36)
    (h1 : cg_dir K k1 = d) (hown : cd_of (B k1) m = true) (hmin : ∀ x, x < 36 → cg_dir K x = d → B x ≠ 0 → cg_ds K k1 ≤ cg_ds K x) (hsec : cb_S sec (fun t => (cg_dir k1 t == d) && cd_oc B t)) (hne : sec ≠ 0) (hI : xs_I B m K d f_shields a_shieldLine)
    (C : ∀ sh sl, xs_I B m K (d + 1) sh sl → post (f_going, f_mover, f_made, f_played, sh, f_settled, f_rootMove, f_word0, f_word1, f_word2, f_word3, a_nextTo, a_leaps, a_pawnHits, a_line, a_at, a_squaresOf, a_held, a_kingAt, a_quiet, a_positions, a_playedMove, a_playedPiece, a_playedTaken, a_moveList, a_listEnd, a_nextMove, sl, a_left, a_low, a_firstLow, a_high, a_most, a_rows, a_knownWords, a_knownMover, a_knownDepth, a_knownKind, a_knownNumber)) : wpX_layShield post (f_going, f_mover, f_made, f_played, f_shields, f_settled, f_rootMove, f_word0, f_word1, f_word2, f_word3, a_nextTo, a_leaps, a_pawnHits, a_line, a_at, a_squaresOf, a_held, a_kingAt, a_quiet, a_positions, a_playedMove, a_playedPiece, a_playedTaken, a_moveList, a_listEnd, a_nextMove, a_shieldLine, a_left, a_low, a_firstLow, a_high, a_most, a_rows, a_knownWords, a_knownMover, a_knownDepth, a_knownKind, a_knownNumber) (nI d) (nI K) (nI k1) sec := by
  subst hmo
  refine (?_ : wpX_nearest _ (nI d) sec)
  refine cb_nearest hd hne fun k2 hk2 hb hn => ?_
  rw [cb_S_all hsec, Bool.and_eq_true, Bool.and_eq_true, decide_eq_true_eq, beq_iff_eq] at hb
  obtain ⟨h36, hd2, hoc2⟩ := hb
  have ho2 := cd_ocT.mp hoc2
  have ho1 := (cd_of_iff.mp hown).1
  have hKk2 := (cg_ext K hK k1 hk1 (by omega) k2 h36).mp (by omega)
  have hmin2 : ∀ x, x < 36 → cg_dir k1 x = d → B x ≠ 0 → cg_ds K k2 ≤ cg_ds K x := by
    intro x hx hdx hox
    have hKx := (cg_ext K hK k1 hk1 (by omega) x hx).mp (by omega)
    refine xa_near hK h36 hx hd (by omega) (by omega) (hn x ?_)
    rw [cb_S_all hsec, decide_eq_true hx, hdx, beq_self_eq_true, cd_ocT.mpr hox]; rfl
  have hu : ∀ f e, f < 36 → e < 36 → cg_dir K f = d → cd_of (B f) m = true → cc_SH B m K f e → f = k1 ∧ e = k2 :=
    fun f e hf he hfd hfo hs => xs_f2 hK hk1 h36 hf he hd h1 ho1 hmin hd2 ho2 hmin2 hfd hfo hs
  have hhl := hB.2.2 (1 - m) (by omega)
  have H34 : ∀ z : Bool, z = cd_of (B k2) (1 - m) → wX_layShield_34 post (nI d) (nI K) (nI k1) (nI k2) (xb_b z) f_going (nI m) f_made f_played f_shields f_settled f_rootMove f_word0 f_word1 f_word2 f_word3 a_nextTo a_leaps a_pawnHits a_line a_at a_squaresOf a_held a_kingAt a_quiet a_positions a_playedMove a_playedPiece a_playedTaken a_moveList a_listEnd a_nextMove a_shieldLine a_left a_low a_firstLow a_high a_most a_rows a_knownWords a_knownMover a_knownDepth a_knownKind a_knownNumber := by
    intro z hz
    unfold wX_layShield_34
    refine ⟨vp_in_nI h36 (by decide), ?_⟩
    rw [show a_at (nI k2).toNatClampNeg = nI (B k2) from by rw [nI_clamp (by omega), hB.1]]
    refine xa_runs (hv k2 h36) hd ?_
    cases hzz : z with
    | false =>
      refine br_t rfl (C _ _ (xs_no hI fun f e hf he hfd hfo hs => ?_))
      obtain ⟨e1, e2⟩ := hu f e hf he hfd hfo hs
      rw [e2] at hs; rw [hzz] at hz; rw [hs.2.1] at hz; exact absurd hz (by decide)
    | true =>
      refine br_f (by decide) ?_
      cases hsl : cd_sl (B k2) d with
      | false =>
        refine br_t rfl (C _ _ (xs_no hI fun f e hf he hfd hfo hs => ?_))
        obtain ⟨e1, e2⟩ := hu f e hf he hfd hfo hs
        rw [e2] at hs
        have := hs.2.2.1
        rw [show cg_dir K k2 = d from by omega, hsl] at this; exact absurd this (by decide)
      | true =>
        refine br_f (by decide) (nm_e ⟨?_, ?_, ?_, nm_r (e' := vp_updL a_shieldLine k1 (a_line (36 * d + K) ^^^ a_line (36 * d + k2))) ?_ (C _ _ (xs_yes hk1 h36 hI h1 hown (xs_f3 hK hk1 h36 hd h1 hmin hd2 hmin2 (by rw [← hz]; exact hzz) hsl) hu (cb_Se (cb_Sxor (hT.2.2.2 d hd K hK) (hT.2.2.2 d hd k2 h36)) fun t ht => ?_)))⟩)
        · rw [xa_ix]; exact vp_in_nI (by omega) (by decide)
        · rw [xa_ix]; exact vp_in_nI (by omega) (by decide)
        · exact vp_in_nI hk1 (by decide)
        · rw [xa_ix, xa_ix, nI_clamp (by omega), nI_clamp (by omega), nI_clamp (by omega)]
        · have hKd : cg_dir K k2 = d := by omega
          rw [hKd]
          have he := cg_ext K hK k2 h36 (by omega) t ht
          rw [hKd] at he
          by_cases g1 : cg_dir K t = d
          · by_cases g2 : cg_ds K k2 < cg_ds K t
            · rw [g1, he.mpr ⟨g1, g2⟩, decide_eq_false (by omega)]; simp
            · have : cg_dir k2 t ≠ d := fun e => g2 (he.mp e).2
              rw [g1, decide_eq_true (by omega : cg_ds K t ≤ cg_ds K k2), beq_eq_false_iff_ne.mpr this]; simp
          · have : cg_dir k2 t ≠ d := fun e => g1 (he.mp e).1
            rw [beq_eq_false_iff_ne.mpr g1, beq_eq_false_iff_ne.mpr this]; rfl
  refine ⟨by rw [xb_1m hm]; exact vp_in_nI (by omega) (by decide), ?_⟩
  rw [xb_1m hm, nI_clamp (by omega), cb_tst hk2, cb_S_all hhl, decide_eq_true h36, Bool.true_and]
  exact br_c (fun h => H34 true h.symm) (fun h => H34 false (by cases hc : cd_of (B k2) (1 - m) with
    | false => rfl
    | true => exact absurd hc h))
theorem xs_32 (hT : xt_T a_nextTo a_leaps a_pawnHits a_line) (hB : xb_B B a_at a_squaresOf a_held) (hv : ∀ s, s < 36 → B s ≤ 14 ∧ B s ≠ 7 ∧ B s ≠ 8) (hm : m < 2) (hmo : f_mover = nI m) (hK : K < 36) {pc : Int64} (hpc : cb_S pc (cd_oc B))
    (C : ∀ sh sl, xs_I B m K 8 sh sl → post (f_going, f_mover, f_made, f_played, sh, f_settled, f_rootMove, f_word0, f_word1, f_word2, f_word3, a_nextTo, a_leaps, a_pawnHits, a_line, a_at, a_squaresOf, a_held, a_kingAt, a_quiet, a_positions, a_playedMove, a_playedPiece, a_playedTaken, a_moveList, a_listEnd, a_nextMove, sl, a_left, a_low, a_firstLow, a_high, a_most, a_rows, a_knownWords, a_knownMover, a_knownDepth, a_knownKind, a_knownNumber)) : ∀ (j d : Nat) (sh : Int64) (sl : Nat → Int64), d + j = 8 → xs_I B m K d sh sl → wX_findShields_32 post (nI K) pc (j + 1) (nI d) f_going f_mover f_made f_played sh f_settled f_rootMove f_word0 f_word1 f_word2 f_word3 a_nextTo a_leaps a_pawnHits a_line a_at a_squaresOf a_held a_kingAt a_quiet a_positions a_playedMove a_playedPiece a_playedTaken a_moveList a_listEnd a_nextMove sl a_left a_low a_firstLow a_high a_most a_rows a_knownWords a_knownMover a_knownDepth a_knownKind a_knownNumber := by
  intro j
  induction j with
  | zero =>
    intro d sh sl hd hI
    rw [wX_findShields_32]
    exact pk_le 8 d (fun _ => C _ _ (by have : d = 8 := by omega
                                        subst this; exact hI)) (fun h => by omega)
  | succ j ih =>
    intro d sh sl hd hI
    rw [wX_findShields_32]
    have hd8 : d < 8 := by omega
    have hfi := cb_Sand (hT.2.2.2 d hd8 K hK) hpc
    refine pk_le 8 d (fun h => by omega) (fun _ => ⟨by rw [xa_ix]; exact vp_in_nI (by omega) (by decide), nm_r (e' := a_line (36 * d + K) &&& pc) (by rw [xa_ix, nI_clamp (by omega)]) (br_c (fun hz => nm_r (nI_1 d) (ih (d + 1) sh sl (by omega) (xs_no hI fun f e hf he hfd hfo hs => ?_))) (fun hz => cb_nearest hd8 hz fun k1 hk1 hb hn => ?_))⟩)
    · have := (cb_Sz hfi).mp hz f hf
      rw [hfd, beq_self_eq_true, Bool.true_and, cd_of_oc hfo] at this; exact absurd this (by decide)
    · rw [cb_S_all hfi, Bool.and_eq_true, Bool.and_eq_true, decide_eq_true_eq, beq_iff_eq] at hb
      obtain ⟨h36, h1, hoc1⟩ := hb
      have ho1 := cd_ocT.mp hoc1
      have hmin : ∀ x, x < 36 → cg_dir K x = d → B x ≠ 0 → cg_ds K k1 ≤ cg_ds K x := fun x hx hdx hox => xa_near hK h36 hx hd8 h1 hdx (hn x (by
        rw [cb_S_all hfi, decide_eq_true hx, hdx, beq_self_eq_true, cd_ocT.mpr hox]; rfl))
      have hse := cb_Sand (hT.2.2.2 d hd8 k1 h36) hpc
      refine ⟨by rw [xa_ix]; exact vp_in_nI (by omega) (by decide), nm_r (e' := a_line (36 * d + k1) &&& pc) (by rw [xa_ix, nI_clamp (by omega)]) (br_c (fun hz2 => nm_r (nI_1 d) (ih (d + 1) sh sl (by omega) (xs_no hI fun f e hf he hfd hfo hs => ?_))) (fun hz2 => ⟨by rw [hmo]; exact vp_in_nI hm (by decide), ?_⟩))⟩
      · obtain ⟨a1, a2, a3, a4⟩ := xs_f1 hK h36 hf he hd8 h1 ho1 hmin hfd hfo hs
        have := (cb_Sz hse).mp hz2 e he
        rw [a2, beq_self_eq_true, Bool.true_and, cd_ocT.mpr a4] at this; exact absurd this (by decide)
      · rw [show f_mover.toNatClampNeg = m from by rw [hmo, nI_clamp (by omega)], cb_tst hk1, cb_S_all (hB.2.2 m hm), decide_eq_true h36, Bool.true_and]
        refine br_c (fun hown => xs_lay hT hB hv hm hmo hK hd8 h36 h1 hown hmin hse hz2 hI (fun sh' sl' hI' => nm_r (nI_1 d) (ih (d + 1) sh' sl' (by omega) hI'))) (fun hown => nm_r (nI_1 d) (ih (d + 1) sh sl (by omega) (xs_no hI fun f e hf he hfd hfo hs => ?_)))
        obtain ⟨a1, _⟩ := xs_f1 hK h36 hf he hd8 h1 ho1 hmin hfd hfo hs
        rw [a1] at hfo; exact hown hfo
theorem xs_find (hT : xt_T a_nextTo a_leaps a_pawnHits a_line) (hB : xb_B B a_at a_squaresOf a_held) (hv : ∀ s, s < 36 → B s ≤ 14 ∧ B s ≠ 7 ∧ B s ≠ 8) (hm : m < 2) (hmo : f_mover = nI m) (hK : K < 36) (hka : a_kingAt m = nI K)
    (C : ∀ sh sl, xs_I B m K 8 sh sl → post (f_going, f_mover, f_made, f_played, sh, f_settled, f_rootMove, f_word0, f_word1, f_word2, f_word3, a_nextTo, a_leaps, a_pawnHits, a_line, a_at, a_squaresOf, a_held, a_kingAt, a_quiet, a_positions, a_playedMove, a_playedPiece, a_playedTaken, a_moveList, a_listEnd, a_nextMove, sl, a_left, a_low, a_firstLow, a_high, a_most, a_rows, a_knownWords, a_knownMover, a_knownDepth, a_knownKind, a_knownNumber)) : wpX_findShields post (f_going, f_mover, f_made, f_played, f_shields, f_settled, f_rootMove, f_word0, f_word1, f_word2, f_word3, a_nextTo, a_leaps, a_pawnHits, a_line, a_at, a_squaresOf, a_held, a_kingAt, a_quiet, a_positions, a_playedMove, a_playedPiece, a_playedTaken, a_moveList, a_listEnd, a_nextMove, a_shieldLine, a_left, a_low, a_firstLow, a_high, a_most, a_rows, a_knownWords, a_knownMover, a_knownDepth, a_knownKind, a_knownNumber) := by
  refine ⟨by rw [hmo]; exact vp_in_nI hm (by decide), nm_r (e' := nI K) (by rw [hmo, nI_clamp (by omega), hka]) (nm_e ⟨9, xs_32 hT hB hv hm hmo hK (xb_pc hv hB.2.2) C 8 0 0 _ (by omega) ⟨fun f hf => ?_, fun f e _ _ h => absurd h (by omega)⟩⟩)⟩
  rw [cb_0]; exact ⟨fun h => absurd h (by decide), fun h => absurd h.2.1 (by omega)⟩
end
end
section
/-! ===== targets, append, list ===== -/
theorem xl_pawn {B : Nat → Nat} {m f t : Nat} (hm : m < 2) (hf : f < 36) (ht : t < 36) (hv : B t ≤ 14 ∧ B t ≠ 7 ∧ B t ≠ 8) (hof : cd_of (B f) m = true) (hvf : B f ≤ 14) (hk : cd_kd (B f) = 1) (h6 : 6 ≤ f ∧ f < 30) :
    ((cg_pw m f t && cd_of (B t) (1 - m)) || (decide (t = (if m = 0 then f + 6 else f - 6)) && !cd_oc B t)) = cd_cg B m f t := by
  have hBf : B f = 1 + 8 * m := by
    have h1 := cd_of_iff.mp hof
    unfold cd_kd at hk
    split at hk <;> omega
  have hside : (if B f < 8 then 0 else 1) = m := by split <;> omega
  have hat : cd_at (B f) (cd_oc B) f t = cg_pw m f t := by
    unfold cd_at cd_lp cd_sl
    rw [hk, hside]; simp
  have hpw0 : cg_pw m f f = false := cg_pw0 m hm f hf
  by_cases h0 : B t = 0
  · have e1 : cd_oc B t = false := cd_ocF.mpr h0
    have eR : cd_cg B m f t = (!(f == t) && (if B f < 8 then t == f + 6 else t + 6 == f)) := by
      unfold cd_cg
      rw [if_pos (⟨hk, h0⟩ : cd_kd (B f) = 1 ∧ B t = 0), hof, h0, cd_of0]; simp
    rw [eR, h0, e1, cd_of0, Bool.and_false, Bool.false_or, Bool.not_false, Bool.and_true]
    have hm' : m = 0 ∨ m = 1 := by omega
    rcases hm' with rfl | rfl
    · rw [if_pos (rfl : 0 = 0), if_pos (by omega : B f < 8)]
      by_cases e : t = f + 6
      · have e2 : ¬ f = t := by omega
        rw [decide_eq_true e, beq_eq_false_iff_ne.mpr e2, e]; simp
      · rw [decide_eq_false e, beq_eq_false_iff_ne.mpr e, Bool.and_false]
    · rw [if_neg (by decide : ¬ 1 = 0), if_neg (by omega : ¬ B f < 8)]
      by_cases e : t = f - 6
      · have e2 : ¬ f = t := by omega
        have e3 : t + 6 = f := by omega
        rw [decide_eq_true e, beq_eq_false_iff_ne.mpr e2, e3]; simp
      · have e3 : ¬ t + 6 = f := by omega
        rw [decide_eq_false e, beq_eq_false_iff_ne.mpr e3, Bool.and_false]
  · have e1 : cd_oc B t = true := cd_ocT.mpr h0
    have eR : cd_cg B m f t = (!(f == t) && !cd_of (B t) m && cg_pw m f t) := by
      unfold cd_cg
      rw [if_neg (fun h => h0 h.2 : ¬ (cd_kd (B f) = 1 ∧ B t = 0)), hof, hat]; simp
    rw [eR, e1, Bool.not_true, Bool.and_false, Bool.or_false]
    by_cases e : f = t
    · rw [← e, hpw0, Bool.false_and, Bool.and_false]
    · rw [beq_eq_false_iff_ne.mpr e, Bool.not_false, Bool.true_and]
      cases ho : cd_of (B t) m with
      | true => rw [cd_of_x hm ho, Bool.and_false, Bool.not_true, Bool.false_and]
      | false =>
        have : cd_of (B t) (1 - m) = true := by
          rcases cd_of_or hm hv.2.2 h0 with h | h
          · rw [ho] at h; exact absurd h (by decide)
          · exact h
        rw [this, Bool.and_true, Bool.not_false, Bool.true_and]
theorem xl_free {B : Nat → Nat} {m f t : Nat} {x : Bool} (hf : f < 36) (hof : cd_of (B f) m = true) (hk : cd_kd (B f) ≠ 1) (hx : cd_at (B f) (cd_oc B) f t = x) : (x && !cd_of (B t) m) = cd_cg B m f t := by
  unfold cd_cg
  rw [hof, if_neg (fun h => hk h.1), hx]
  by_cases e : f = t
  · subst e
    rw [cd_at_self hf] at hx
    rw [← hx]; simp
  · rw [beq_eq_false_iff_ne.mpr e]; cases x <;> simp
section
variable {f_going f_mover f_made f_played : Int32} {f_shields : Int64} {f_settled f_rootMove : Int32} {f_word0 f_word1 f_word2 f_word3 : Int64} {a_nextTo a_leaps a_pawnHits a_line : Nat → Int64} {a_at : Nat → Int32} {a_squaresOf a_held : Nat → Int64} {a_kingAt a_quiet : Nat → Int32} {a_positions : Nat → Int64} {a_playedMove a_playedPiece a_playedTaken a_moveList a_listEnd a_nextMove : Nat → Int32} {a_shieldLine : Nat → Int64} {a_left a_low a_firstLow a_high a_most a_rows : Nat → Int32} {a_knownWords : Nat → Int64} {a_knownMover a_knownDepth a_knownKind a_knownNumber : Nat → Int32} {B : Nat → Nat} {m : Nat} {post : Int64 → Prop} {pc : Int64} {f : Nat}
theorem xl_targets (hT : xt_T a_nextTo a_leaps a_pawnHits a_line) (hB : xb_B B a_at a_squaresOf a_held) (hok : cd_OK B) (hm : m < 2) (hmo : f_mover = nI m) (hpc : cb_S pc (cd_oc B)) (hf : f < 36) (hof : cd_of (B f) m = true) (hnk : cd_kd (B f) ≠ 6)
    (K : ∀ r, cb_S r (cd_cg B m f) → post r) : wpX_targets post (f_going, f_mover, f_made, f_played, f_shields, f_settled, f_rootMove, f_word0, f_word1, f_word2, f_word3, a_nextTo, a_leaps, a_pawnHits, a_line, a_at, a_squaresOf, a_held, a_kingAt, a_quiet, a_positions, a_playedMove, a_playedPiece, a_playedTaken, a_moveList, a_listEnd, a_nextMove, a_shieldLine, a_left, a_low, a_firstLow, a_high, a_most, a_rows, a_knownWords, a_knownMover, a_knownDepth, a_knownKind, a_knownNumber) (nI f) pc := by
  subst hmo
  have hv := hok.1
  obtain ⟨v1, v2, v3⟩ := hv f hf
  have hmc : (nI m).toNatClampNeg = m := nI_clamp (by omega)
  have hfc : (nI f).toNatClampNeg = f := nI_clamp (by omega)
  have hfi : vp_in (nI f) 36 := vp_in_nI hf (by decide)
  have hmi : vp_in (nI m) 2 := vp_in_nI hm (by decide)
  have e7 : nI (B f) &&& 7 = nI (B f % 8) := pk_andN (by omega) 3 (by decide)
  have ek : cd_kd (B f) = B f % 8 := by unfold cd_kd; split <;> omega
  have hof' := cd_of_iff.mp hof
  rw [ek] at hnk
  have hfree : cb_S ((a_held m ^^^ (-1)) &&& 68719476735) (fun t => !cd_of (B t) m) := fun i hi => by
    rw [cb_and, cb_not _ hi, hB.2.2 m hm i hi, cb_Sfull i hi]; cases decide (i < 36) <;> simp
  have hS : ∀ r, cb_S r (xa_pst (cd_oc B) f 8) → B f % 8 = 4 → cb_S (((a_held m ^^^ (-1)) &&& 68719476735) &&& r) (cd_cg B m f) := fun r hr h4 => cb_Se (cb_Sand hfree hr) fun t ht => by
    rw [Bool.and_comm]
    refine xl_free hf hof (by rw [ek]; omega) ?_
    unfold cd_at cd_lp cd_sl xa_pst
    rw [ek, h4]; simp
  have hD : ∀ r, cb_S r (xa_pdi (cd_oc B) f 8) → B f % 8 = 3 → cb_S (((a_held m ^^^ (-1)) &&& 68719476735) &&& r) (cd_cg B m f) := fun r hr h4 => cb_Se (cb_Sand hfree hr) fun t ht => by
    rw [Bool.and_comm]
    refine xl_free hf hof (by rw [ek]; omega) ?_
    unfold cd_at cd_lp cd_sl xa_pdi
    rw [ek, h4]; simp
  have hQ : ∀ r r', cb_S r (xa_pst (cd_oc B) f 8) → cb_S r' (xa_pdi (cd_oc B) f 8) → B f % 8 = 5 → cb_S (((a_held m ^^^ (-1)) &&& 68719476735) &&& (r ||| r')) (cd_cg B m f) := fun r r' hr hr' h4 => cb_Se (cb_Sand hfree (cb_Sor hr hr')) fun t ht => by
    rw [Bool.and_comm]
    refine xl_free hf hof (by rw [ek]; omega) ?_
    unfold cd_at cd_lp cd_sl xa_pdi xa_pst
    rw [ek, h4]
    by_cases h2 : cg_dir f t % 4 < 2
    · rw [decide_eq_true h2, decide_eq_false (by omega : ¬ 2 ≤ cg_dir f t % 4)]; simp
    · rw [decide_eq_false h2, decide_eq_true (by omega : 2 ≤ cg_dir f t % 4)]; simp
  refine ⟨hmi, nm_r (e' := (a_held m ^^^ (-1)) &&& 68719476735) (by rw [hmc]) ⟨hfi, nm_r (e' := nI (B f % 8)) (by rw [hfc, hB.1]; exact e7) ?_⟩⟩
  refine pk_lt (B f % 8) 1 (fun h => by omega) (fun _ => pk_lt 4 (B f % 8) (fun h => ?_) (fun _ => pk_eq (B f % 8) 1 (fun h => ?_) (fun _ => pk_eq (B f % 8) 2 (fun h => ⟨hfi, ?_⟩) (fun _ => pk_eq (B f % 8) 3 (fun h => ?_) (fun _ => pk_eq (B f % 8) 4 (fun h => ?_) (fun _ => trivial))))))
  · exact xa_straight hT hf hpc fun r hr => xa_diagonal hT hf hpc fun r' hr' => K _ (hQ r r' hr hr' (by omega))
  · obtain ⟨r1, r2⟩ := hok.2.2.1 f hf (by rw [ek]; exact h)
    have e36 : (36 * nI m) + nI f = nI (36 * m + f) := xa_ix
    have hh := cb_Sand (hT.2.2.1 m hm f hf) (hB.2.2 (1 - m) (by omega))
    have hfin : ∀ t0, t0 < 36 → t0 = (if m = 0 then f + 6 else f - 6) → cb_S ((a_pawnHits (36 * m + f) &&& a_held (1 - m)) ||| (((1 : Int64) <<< ((nI t0).toInt64 &&& 63)) &&& (pc ^^^ (-1)))) (cd_cg B m f) := fun t0 h36 ht0 =>
      cb_Se (cb_Sor hh (cb_Sdiff (cb_S1 h36) hpc)) fun t ht => by
        rw [ht0]; exact xl_pawn hm hf ht (hv t ht) hof v1 (by rw [ek]; exact h) ⟨r1, r2⟩
    refine ⟨by rw [e36]; exact vp_in_nI (by omega) (by decide), by rw [xb_1m hm]; exact vp_in_nI (by omega) (by decide), nm_r (e' := a_pawnHits (36 * m + f) &&& a_held (1 - m)) (by rw [e36, xb_1m hm, nI_clamp (by omega), nI_clamp (by omega)]) (pk_eq m 0 (fun h0 => ?_) (fun h0 => ?_))⟩
    · refine (?_ : post (_ ||| ((1 : Int64) <<< ((nI f + 6).toInt64 &&& 63) &&& (pc ^^^ (-1)))))
      rw [show nI f + 6 = nI (f + 6) from nI_add f 6]
      exact K _ (hfin (f + 6) (by omega) (by rw [if_pos h0]))
    · refine (?_ : post (_ ||| ((1 : Int64) <<< ((nI f - 6).toInt64 &&& 63) &&& (pc ^^^ (-1)))))
      rw [show nI f - 6 = nI (f - 6) from pk_sub (b := 6) r1]
      exact K _ (hfin (f - 6) (by omega) (by rw [if_neg h0]))
  · rw [hfc]
    refine K _ (cb_Se (cb_Sand (hT.2.1 f hf) hfree) fun t ht => ?_)
    refine xl_free hf hof (by rw [ek]; omega) ?_
    unfold cd_at cd_lp cd_sl
    rw [ek, h]; simp
  · exact xa_diagonal hT hf hpc fun r hr => K _ (hD r hr h)
  · exact xa_straight hT hf hpc fun r hr => K _ (hS r hr h)
end
section
variable {f_going f_mover f_made f_played : Int32} {f_shields : Int64} {f_settled f_rootMove : Int32} {f_word0 f_word1 f_word2 f_word3 : Int64} {a_nextTo a_leaps a_pawnHits a_line : Nat → Int64} {a_at : Nat → Int32} {a_squaresOf a_held : Nat → Int64} {a_kingAt a_quiet : Nat → Int32} {a_positions : Nat → Int64} {a_playedMove a_playedPiece a_playedTaken a_moveList a_listEnd a_nextMove : Nat → Int32} {a_shieldLine : Nat → Int64} {a_left a_low a_firstLow a_high a_most a_rows : Nat → Int32} {a_knownWords : Nat → Int64} {a_knownMover a_knownDepth a_knownKind a_knownNumber : Nat → Int32} {B : Nat → Nat} {m k : Nat} {post : Int64 → Prop} {pc : Int64}
/-- the king's targets as a list taken off square by square -/
theorem xl_kt39 {oth : Int64} {o : Nat → Bool} (hT : xt_T a_nextTo a_leaps a_pawnHits a_line) (hB : xb_B B a_at a_squaresOf a_held) (hv : ∀ s, s < 36 → B s ≤ 14 ∧ B s ≠ 7 ∧ B s ≠ 8) (hm : m < 2) (hmo : f_mover = nI m) (hoth : cb_S oth o) :
    ∀ (l : List Nat) (x y : Int64) (i : Nat) (q : Nat → Bool), cb_l x = l → (∀ t, t ∈ l → t < 36) → i + l.length ≤ 8 → cb_S y q →
    (∀ r, cb_S r (fun t => q t || (decide (t ∈ l) && !((List.range 36).any (cd_ak B o t (1 - m))))) → post r) → wX_kingTargets_39 post oth f_going f_mover f_made f_played f_shields f_settled f_rootMove f_word0 f_word1 f_word2 f_word3 a_nextTo a_leaps a_pawnHits a_line a_at a_squaresOf a_held a_kingAt a_quiet a_positions a_playedMove a_playedPiece a_playedTaken a_moveList a_listEnd a_nextMove a_shieldLine a_left a_low a_firstLow a_high a_most a_rows a_knownWords a_knownMover a_knownDepth a_knownKind a_knownNumber (l.length + 1) x y (nI i) := by
  intro l
  induction l with
  | nil =>
    intro x y i q hx hl hi hy K
    have := cb_lnil hx; subst this
    have K' := K y (cb_Se hy fun t _ => by simp)
    rw [wX_kingTargets_39]
    exact pk_le 8 i (fun _ => K') (fun _ => br_t rfl K')
  | cons a l ih =>
    intro x y i q hx hl hi hy K
    rw [List.length_cons] at hi
    rw [List.length_cons, wX_kingTargets_39]
    have hne : x ≠ 0 := fun h0 => by rw [h0, cb_l0] at hx; exact absurd hx (by simp)
    refine pk_le 8 i (fun h => by omega) (fun _ => br_f hne (cb_lowest hne fun c hc e _ _ => nm_e ?_))
    rw [hx] at e
    injection e with e1 e2
    subst e1
    have ha := hl a List.mem_cons_self
    rw [show (1 : Int32) - f_mover = nI (1 - m) from by rw [hmo]; exact xb_1m hm]
    refine xa_attackersOf hT hB hv ha (by omega) hoth fun r hr => ?_
    have hany : (r = 0) ↔ (List.range 36).any (cd_ak B o a (1 - m)) = false := by
      rw [cb_Sz hr, List.any_eq_false]
      exact ⟨fun h i hi => by rw [h i (List.mem_range.mp hi)]; decide, fun h i hi => by have := h i (List.mem_range.mpr hi); simpa using this⟩
    refine br_c (fun hz => nm_e (nm_r (nI_1 i) (ih _ _ _ (fun t => q t || decide (t = a)) e2.symm (fun t ht => hl t (List.mem_cons_of_mem _ ht)) (by omega) (cb_Sor hy (cb_S1 ha)) (fun r' hr' => K r' (cb_Se hr' fun t ht => ?_))))) (fun hz => nm_r (nI_1 i) (ih _ _ _ q e2.symm (fun t ht => hl t (List.mem_cons_of_mem _ ht)) (by omega) hy (fun r' hr' => K r' (cb_Se hr' fun t ht => ?_))))
    · by_cases h : t = a
      · subst h; rw [hany.mp hz]; simp
      · simp [h]
    · by_cases h : t = a
      · subst h
        have : (List.range 36).any (cd_ak B o t (1 - m)) = true := by
          cases hc : (List.range 36).any (cd_ak B o t (1 - m)) with
          | true => rfl
          | false => exact absurd (hany.mpr hc) hz
        rw [this]; simp
      · simp [h]
theorem xl_kingTargets (hT : xt_T a_nextTo a_leaps a_pawnHits a_line) (hB : xb_B B a_at a_squaresOf a_held) (hv : ∀ s, s < 36 → B s ≤ 14 ∧ B s ≠ 7 ∧ B s ≠ 8) (hm : m < 2) (hmo : f_mover = nI m) (hK : cd_K B m k) (hpc : cb_S pc (cd_oc B))
    (C : ∀ r, cb_S r (cd_lg B m k) → post r) : wpX_kingTargets post (f_going, f_mover, f_made, f_played, f_shields, f_settled, f_rootMove, f_word0, f_word1, f_word2, f_word3, a_nextTo, a_leaps, a_pawnHits, a_line, a_at, a_squaresOf, a_held, a_kingAt, a_quiet, a_positions, a_playedMove, a_playedPiece, a_playedTaken, a_moveList, a_listEnd, a_nextMove, a_shieldLine, a_left, a_low, a_firstLow, a_high, a_most, a_rows, a_knownWords, a_knownMover, a_knownDepth, a_knownKind, a_knownNumber) (nI k) pc := by
  have hk := hK.1
  have hfr := cb_Sdiff (hT.1 k hk) (hB.2.2 m hm)
  have hoth := cb_Sdiff hpc (cb_S1 hk)
  have hl := cb_Sl hfr
  have hlen : (cb_l (a_nextTo k &&& (a_held m ^^^ (-1)))).length ≤ 8 := by
    rw [hl]
    refine Nat.le_trans (ce_flen (q := fun t => cg_kg k t) fun t _ h => ?_) (ce_cnt8 k hk).2.1
    rw [Bool.and_eq_true] at h; exact h.1
  refine ⟨vp_in_nI hk (by decide), by rw [hmo]; exact vp_in_nI hm (by decide), nm_r (e' := a_nextTo k &&& (a_held m ^^^ (-1))) (by rw [nI_clamp (by omega), hmo, nI_clamp (by omega)]) (nm_e ⟨_, xl_kt39 hT hB hv hm hmo hoth _ _ 0 0 (fun _ => false) rfl (fun t ht => ?_) (by omega) (cb_S0 fun _ _ => rfl) (fun r hr => C r (cb_Se hr fun t ht => ?_))⟩)⟩
  · rw [hl] at ht; exact List.mem_range.mp (List.mem_filter.mp ht).1
  · have hBk : B k = 6 + 8 * m := (hK.2 k hk).mpr rfl
    have hof : cd_of (B k) m = true := by rw [hBk]; exact cd_of6 hm
    have hkd : cd_kd (B k) = 6 := by
      rw [hBk]; have : m = 0 ∨ m = 1 := by omega
      rcases this with rfl | rfl <;> rfl
    have hat : cd_at (B k) (cd_oc B) k t = cg_kg k t := by
      unfold cd_at cd_lp cd_sl; rw [hkd]; simp
    have hcg : (cg_kg k t && !cd_of (B t) m) = cd_cg B m k t := xl_free hk hof (by rw [hkd]; decide) hat
    have hmem : decide (t ∈ cb_l (a_nextTo k &&& (a_held m ^^^ (-1)))) = cd_cg B m k t := by
      rw [hl, ← hcg]
      cases hb : (cg_kg k t && !cd_of (B t) m) with
      | true => exact decide_eq_true (List.mem_filter.mpr ⟨List.mem_range.mpr ht, hb⟩)
      | false => exact decide_eq_false (fun h => by rw [(List.mem_filter.mp h).2] at hb; exact absurd hb (by decide))
    rw [Bool.false_or, hmem]
    unfold cd_lg
    cases hc : cd_cg B m k t with
    | false => rfl
    | true =>
      obtain ⟨c1, _, c3, _⟩ := cd_cg_iff.mp hc
      have := cc_king hm hK c1 ht c3
      rw [Bool.true_and, Bool.true_and]
      congr 1
      rw [Bool.eq_iff_iff, this, List.any_eq_true]
      exact ⟨fun ⟨e, he, h⟩ => ⟨e, List.mem_range.mp he, h⟩, fun ⟨e, he, h⟩ => ⟨e, List.mem_range.mpr he, h⟩⟩
end
/-! appending -/
def xl_M (ml : Nat → Int32) (b : Nat) (L : List Nat) : Prop := ∀ j, j < L.length → ml (b + j) = nI (L.getD j 0)
theorem xl_Mnil (ml : Nat → Int32) (b : Nat) : xl_M ml b [] := fun j h => absurd h (by simp)
theorem xl_Mcons {ml : Nat → Int32} {b a : Nat} {L : List Nat} (h0 : ml b = nI a) (h : xl_M ml (b + 1) L) : xl_M ml b (a :: L) := by
  intro j hj
  cases j with
  | zero => exact h0
  | succ j =>
    rw [List.length_cons] at hj
    rw [show b + (j + 1) = b + 1 + j from by omega, h j (by omega)]; rfl
theorem xl_Mapp {ml : Nat → Int32} : ∀ {L1 L2 : List Nat} {b : Nat}, xl_M ml b L1 → xl_M ml (b + L1.length) L2 → xl_M ml b (L1 ++ L2)
  | [], L2, b, _, h2 => h2
  | a :: L1, L2, b, h1, h2 => by
    refine xl_Mcons (h1 0 (by simp)) (xl_Mapp (fun j hj => ?_) ?_)
    · rw [show b + 1 + j = b + (j + 1) from by omega, h1 (j + 1) (by rw [List.length_cons]; omega)]; rfl
    · rw [List.length_cons] at h2; rw [show b + 1 + L1.length = b + (L1.length + 1) from by omega]; exact h2
theorem xl_Mfr {ml ml' : Nat → Int32} {b : Nat} {L : List Nat} (h : xl_M ml b L) (e : ∀ j, j < b + L.length → ml' j = ml j) : xl_M ml' b L := fun j hj => by
  rw [e (b + j) (by omega)]; exact h j hj
section
variable {f_going f_mover f_made f_played : Int32} {f_shields : Int64} {f_settled f_rootMove : Int32} {f_word0 f_word1 f_word2 f_word3 : Int64} {a_nextTo a_leaps a_pawnHits a_line : Nat → Int64} {a_at : Nat → Int32} {a_squaresOf a_held : Nat → Int64} {a_kingAt a_quiet : Nat → Int32} {a_positions : Nat → Int64} {a_playedMove a_playedPiece a_playedTaken a_moveList a_listEnd a_nextMove : Nat → Int32} {a_shieldLine : Nat → Int64} {a_left a_low a_firstLow a_high a_most a_rows : Nat → Int32} {a_knownWords : Nat → Int64} {a_knownMover a_knownDepth a_knownKind a_knownNumber : Nat → Int32} {post : SX → Prop} {l f : Nat}
theorem xl_app6 (hl : l < 6) (hf : f < 36) : ∀ (ts : List Nat) (x : Int64) (i n : Nat) (ml le : Nat → Int32), cb_l x = ts → i + ts.length ≤ 36 → le l = nI n → n + ts.length ≤ 960 →
    (∀ ml' le' : Nat → Int32, xl_M ml' n (ts.map (fun t => 64 * f + t)) → (∀ j, j < n → ml' j = ml j) → le' l = nI (n + ts.length) → (∀ j, j ≠ l → le' j = le j) → post (f_going, f_mover, f_made, f_played, f_shields, f_settled, f_rootMove, f_word0, f_word1, f_word2, f_word3, a_nextTo, a_leaps, a_pawnHits, a_line, a_at, a_squaresOf, a_held, a_kingAt, a_quiet, a_positions, a_playedMove, a_playedPiece, a_playedTaken, ml', le', a_nextMove, a_shieldLine, a_left, a_low, a_firstLow, a_high, a_most, a_rows, a_knownWords, a_knownMover, a_knownDepth, a_knownKind, a_knownNumber)) →
    wX_append_6 post (nI l) (nI f) f_going f_mover f_made f_played f_shields f_settled f_rootMove f_word0 f_word1 f_word2 f_word3 (ts.length + 1) x (nI i) a_nextTo a_leaps a_pawnHits a_line a_at a_squaresOf a_held a_kingAt a_quiet a_positions a_playedMove a_playedPiece a_playedTaken ml le a_nextMove a_shieldLine a_left a_low a_firstLow a_high a_most a_rows a_knownWords a_knownMover a_knownDepth a_knownKind a_knownNumber := by
  intro ts
  induction ts with
  | nil =>
    intro x i n ml le hx hi hle hn C
    have := cb_lnil hx; subst this
    have C' := C ml le (xl_Mnil _ _) (fun _ _ => rfl) hle (fun _ _ => rfl)
    rw [wX_append_6]
    exact pk_le 36 i (fun _ => C') (fun _ => br_t rfl C')
  | cons a ts ih =>
    intro x i n ml le hx hi hle hn C
    rw [List.length_cons] at hi hn
    rw [List.length_cons, wX_append_6]
    have hne : x ≠ 0 := fun h0 => by rw [h0, cb_l0] at hx; exact absurd hx (by simp)
    have hli : vp_in (nI l) 6 := vp_in_nI hl (by decide)
    have hlc : (nI l).toNatClampNeg = l := nI_clamp (by omega)
    refine pk_le 36 i (fun h => by omega) (fun _ => br_f hne ⟨hli, cb_lowest hne fun c hc e _ _ => ?_⟩)
    rw [hx] at e
    injection e with e1 e2
    subst e1
    have e64 : (64 * nI f) + nI a = nI (64 * f + a) := by
      rw [show (64 : Int32) = nI 64 from rfl, pk_mul, nI_add]
    refine ⟨by rw [hlc, hle]; exact vp_in_nI (by omega) (by decide), nm_r (e' := upd ml n (nI (64 * f + a))) (by rw [hlc, hle, nI_clamp (by omega), e64]) ⟨hli, hli, nm_r (e' := upd le l (nI (n + 1))) (by rw [hlc, hle, nI_1]) (nm_e (nm_r (nI_1 i) (ih _ _ (n + 1) _ _ e2.symm (by omega) pk_us (by omega) (fun ml' le' m1 m2 m3 m4 => C ml' le' ?_ (fun j hj => ?_) ?_ (fun j hj => ?_)))))⟩⟩
    · rw [List.map_cons]; exact xl_Mcons (by rw [m2 n (by omega), pk_us]) m1
    · rw [m2 j (by omega), pk_un (by omega)]
    · rw [m3]; congr 1; rw [List.length_cons]; omega
    · rw [m4 j hj, pk_un hj]
end
end
section
/-! ===== list ===== -/
def xl_row (B : Nat → Nat) (m f : Nat) : List Nat := ((List.range 36).filter (cd_lg B m f)).map (fun t => 64 * f + t)
theorem xl_Lrow (B : Nat → Nat) (m : Nat) : cd_L B m = (List.range 36).flatMap (xl_row B m) := rfl
theorem xl_rowN {B : Nat → Nat} {m f : Nat} (h : cd_of (B f) m = false) : xl_row B m f = [] := by
  unfold xl_row
  have : (List.range 36).filter (cd_lg B m f) = [] := by
    rw [List.filter_eq_nil_iff]; intro t _ h'
    have := (cd_cg_iff.mp (ce_lg h').1).2.1
    rw [h] at this; exact absurd this (by decide)
  rw [this]; rfl
theorem xl_flat {B : Nat → Nat} {m : Nat} : ∀ l : List Nat, (l.filter (fun f => cd_of (B f) m)).flatMap (xl_row B m) = l.flatMap (xl_row B m)
  | [] => rfl
  | a :: l => by
    cases h : cd_of (B a) m with
    | true => rw [List.filter_cons_of_pos (by exact h), List.flatMap_cons, List.flatMap_cons, xl_flat l]
    | false => rw [List.filter_cons_of_neg (by rw [h]; decide), List.flatMap_cons, xl_flat l, xl_rowN h]; rfl
theorem xl_set0 {B : Nat → Nat} {m k f : Nat} {q : Nat → Bool} (hm : m < 2) (hK : cd_K B m k) (hf : f < 36) (hfk : f ≠ k) (hq : ∀ t, t < 36 → (q t = true ↔ cc_HP B m k t)) (hn : ∀ e, e < 36 → ¬ cc_SH B m k f e) (t : Nat) (ht : t < 36) : (q t && cd_cg B m f t) = cd_lg B m f t := by
  unfold cd_lg
  cases hc : cd_cg B m f t with
  | false => rw [Bool.and_false, Bool.false_and]
  | true =>
    obtain ⟨c1, c2, c3, _⟩ := cd_cg_iff.mp hc
    have hco := cc_core hm hK c1 hfk hf ht c2 c3
    rw [Bool.and_true, Bool.true_and, Bool.eq_iff_iff, Bool.not_eq_true', hco, hq t ht]
    exact ⟨fun h => ⟨h, fun e he hs => absurd hs (hn e he)⟩, fun h => h.1⟩
theorem xl_set1 {B : Nat → Nat} {m k f e : Nat} {q s : Nat → Bool} (hm : m < 2) (hK : cd_K B m k) (hf : f < 36) (hfk : f ≠ k) (hq : ∀ t, t < 36 → (q t = true ↔ cc_HP B m k t)) (he : e < 36) (hse : cc_SH B m k f e)
    (hs : ∀ e, e < 36 → cc_SH B m k f e → ∀ t, t < 36 → (s t = true ↔ cc_seg k e t)) (t : Nat) (ht : t < 36) : ((q t && cd_cg B m f t) && s t) = cd_lg B m f t := by
  unfold cd_lg
  cases hc : cd_cg B m f t with
  | false => rw [Bool.and_false, Bool.false_and, Bool.false_and]
  | true =>
    obtain ⟨c1, c2, c3, _⟩ := cd_cg_iff.mp hc
    have hco := cc_core hm hK c1 hfk hf ht c2 c3
    rw [Bool.and_true, Bool.true_and, Bool.eq_iff_iff, Bool.not_eq_true', hco, Bool.and_eq_true, hq t ht]
    exact ⟨fun h => ⟨h.1, fun e' he' hs' => (hs e' he' hs' t ht).mp h.2⟩, fun h => ⟨h.1, (hs e he hse t ht).mpr (h.2 e he hse)⟩⟩
section
variable {f_going f_mover f_made f_played : Int32} {f_shields : Int64} {f_settled f_rootMove : Int32} {f_word0 f_word1 f_word2 f_word3 : Int64} {a_nextTo a_leaps a_pawnHits a_line : Nat → Int64} {a_at : Nat → Int32} {a_squaresOf a_held : Nat → Int64} {a_kingAt a_quiet : Nat → Int32} {a_positions : Nat → Int64} {a_playedMove a_playedPiece a_playedTaken a_moveList a_listEnd a_nextMove : Nat → Int32} {a_shieldLine : Nat → Int64} {a_left a_low a_firstLow a_high a_most a_rows : Nat → Int32} {a_knownWords : Nat → Int64} {a_knownMover a_knownDepth a_knownKind a_knownNumber : Nat → Int32} {post : SX → Prop} {B : Nat → Nat} {m k l : Nat} {pc hp : Int64}
theorem xl_127 {q : Nat → Bool} (hl : l < 6) (hT : xt_T a_nextTo a_leaps a_pawnHits a_line) (hB : xb_B B a_at a_squaresOf a_held) (hok : cd_OK B) (hm : m < 2) (hmo : f_mover = nI m) (hK : cd_K B m k) (hpc : cb_S pc (cd_oc B)) (hhp : cb_S hp q) (hq : ∀ t, t < 36 → (q t = true ↔ cc_HP B m k t)) (hsh : xs_I B m k 8 f_shields a_shieldLine) :
    ∀ (fs : List Nat) (x : Int64) (i : Nat) (dn : List Nat) (ml le : Nat → Int32), cb_l x = fs → (∀ f, f ∈ fs → f < 36 ∧ cd_of (B f) m = true) → i + fs.length ≤ 6 → xl_M ml (160 * l) dn → le l = nI (160 * l + dn.length) → dn.length + (fs.flatMap (xl_row B m)).length ≤ 160 →
    (∀ ml' le' : Nat → Int32, xl_M ml' (160 * l) (dn ++ fs.flatMap (xl_row B m)) → (∀ j, j < 160 * l → ml' j = ml j) → le' l = nI (160 * l + (dn ++ fs.flatMap (xl_row B m)).length) → (∀ j, j ≠ l → le' j = le j) → post (f_going, f_mover, f_made, f_played, f_shields, f_settled, f_rootMove, f_word0, f_word1, f_word2, f_word3, a_nextTo, a_leaps, a_pawnHits, a_line, a_at, a_squaresOf, a_held, a_kingAt, a_quiet, a_positions, a_playedMove, a_playedPiece, a_playedTaken, ml', le', a_nextMove, a_shieldLine, a_left, a_low, a_firstLow, a_high, a_most, a_rows, a_knownWords, a_knownMover, a_knownDepth, a_knownKind, a_knownNumber)) →
    wX_list_127 post (nI l) (nI k) pc hp (fs.length + 1) x (nI i) f_going f_mover f_made f_played f_shields f_settled f_rootMove f_word0 f_word1 f_word2 f_word3 a_nextTo a_leaps a_pawnHits a_line a_at a_squaresOf a_held a_kingAt a_quiet a_positions a_playedMove a_playedPiece a_playedTaken ml le a_nextMove a_shieldLine a_left a_low a_firstLow a_high a_most a_rows a_knownWords a_knownMover a_knownDepth a_knownKind a_knownNumber := by
  intro fs
  induction fs with
  | nil =>
    intro x i dn ml le hx hfs hi hml hle hn C
    have := cb_lnil hx; subst this
    have C' := C ml le (by rw [List.flatMap_nil, List.append_nil]; exact hml) (fun _ _ => rfl) (by rw [List.flatMap_nil, List.append_nil]; exact hle) (fun _ _ => rfl)
    rw [wX_list_127]
    exact pk_le 6 i (fun _ => C') (fun _ => br_t rfl C')
  | cons f fs ih =>
    intro x i dn ml le hx hfs hi hml hle hn C
    rw [List.length_cons] at hi
    rw [List.flatMap_cons, List.length_append] at hn
    rw [List.length_cons, wX_list_127]
    have hne : x ≠ 0 := fun h0 => by rw [h0, cb_l0] at hx; exact absurd hx (by simp)
    refine pk_le 6 i (fun h => by omega) (fun _ => br_f hne (cb_lowest hne fun c hc e _ _ => nm_e ?_))
    rw [hx] at e
    injection e with e1 e2
    subst e1
    obtain ⟨hf, hof⟩ := hfs f List.mem_cons_self
    have H210 : ∀ z : Int64, cb_S z (cd_lg B m f) → wX_list_210 post (wX_list_127 post (nI l) (nI k) pc hp (fs.length + 1)) (nI l) (nI k) pc hp (x &&& (x - 1)) (nI i) (nI f) z f_going f_mover f_made f_played f_shields f_settled f_rootMove f_word0 f_word1 f_word2 f_word3 a_nextTo a_leaps a_pawnHits a_line a_at a_squaresOf a_held a_kingAt a_quiet a_positions a_playedMove a_playedPiece a_playedTaken ml le a_nextMove a_shieldLine a_left a_low a_firstLow a_high a_most a_rows a_knownWords a_knownMover a_knownDepth a_knownKind a_knownNumber := by
      intro z hz
      have hrl : (cb_l z).map (fun t => 64 * f + t) = xl_row B m f := by rw [cb_Sl hz]; rfl
      have hlen : (cb_l z).length = (xl_row B m f).length := by rw [← hrl, List.length_map]
      refine ⟨_, xl_app6 hl hf (cb_l z) z 0 (160 * l + dn.length) ml le rfl (by have := cb_Slen hz; omega) hle (by omega) (fun ml' le' m1 m2 m3 m4 => nm_r (nI_1 i) (ih _ _ (dn ++ xl_row B m f) ml' le' e2.symm (fun g hg => hfs g (List.mem_cons_of_mem _ hg)) (by omega) (xl_Mapp (xl_Mfr hml m2) (by rw [← hrl]; exact m1)) (by rw [m3, hlen, List.length_append, Nat.add_assoc]) (by rw [List.length_append]; omega) (fun ml2 le2 n1 n2 n3 n4 => C ml2 le2 (by rw [List.flatMap_cons, ← List.append_assoc]; exact n1) (fun j hj => by rw [n2 j hj, m2 j (by omega)]) (by rw [List.flatMap_cons, ← List.append_assoc]; exact n3) (fun j hj => by rw [n4 j hj, m4 j hj]))))⟩
    have hshf := hsh.1 f (by omega)
    have H182 : ∀ z : Int64, (cb_h f_shields f = true → cb_S (z &&& a_shieldLine f) (cd_lg B m f)) → (¬ cb_h f_shields f = true → cb_S z (cd_lg B m f)) → wX_list_182 post (wX_list_127 post (nI l) (nI k) pc hp (fs.length + 1)) (nI l) (nI k) pc hp (x &&& (x - 1)) (nI i) (nI f) z f_going f_mover f_made f_played f_shields f_settled f_rootMove f_word0 f_word1 f_word2 f_word3 a_nextTo a_leaps a_pawnHits a_line a_at a_squaresOf a_held a_kingAt a_quiet a_positions a_playedMove a_playedPiece a_playedTaken ml le a_nextMove a_shieldLine a_left a_low a_firstLow a_high a_most a_rows a_knownWords a_knownMover a_knownDepth a_knownKind a_knownNumber := by
      intro z h1 h0
      unfold wX_list_182
      rw [cb_tst (by omega), nI_clamp (by omega)]
      exact br_c (fun h => ⟨vp_in_nI hf (by decide), nm_e (H210 _ (h1 h))⟩) (fun h => H210 _ (h0 h))
    have hk36 := hK.1
    refine pk_eq f k (fun hfk => ?_) (fun hfk => ?_)
    · refine xl_kingTargets hT hB hok.1 hm hmo hK hpc fun r hr => H182 r (fun h => ?_) (fun _ => by rw [hfk]; exact hr)
      obtain ⟨_, _, _, e, he, hs⟩ := hshf.mp h
      exact absurd hfk (cg_bt0 hK.1 he hf hs.1).1
    · have hnk : cd_kd (B f) ≠ 6 := by
        intro h6
        refine hfk ((hK.2 f hf).mp ?_)
        have := hok.1 f hf
        have h1 := cd_of_iff.mp hof
        unfold cd_kd at h6
        split at h6 <;> omega
      refine xl_targets hT hB hok hm hmo hpc hf hof hnk fun r hr => H182 _ (fun h => ?_) (fun h => ?_)
      · obtain ⟨_, hd8, _, e, he, hs⟩ := hshf.mp h
        refine cb_Se (cb_Sand (cb_Sand hhp hr) (hsh.2 f e hf he hd8 hof hs)) fun t ht => ?_
        refine xl_set1 (s := fun t => (cg_dir k t == cg_dir k e) && decide (cg_ds k t ≤ cg_ds k e)) hm hK hf hfk hq he hs (fun e' he' hs' t ht => ?_) t ht
        have a1 := hsh.2 f e hf he hd8 hof hs t (by omega)
        have a2 := hsh.2 f e' hf he' hd8 hof hs' t (by omega)
        rw [a1, decide_eq_true ht, Bool.true_and, Bool.true_and] at a2
        dsimp only at a2
        rw [a2, Bool.and_eq_true, beq_iff_eq, decide_eq_true_eq]; exact Iff.rfl
      · refine cb_Se (cb_Sand hhp hr) fun t ht => xl_set0 hm hK hf hfk hq (fun e he hs => h (hshf.mpr ⟨hf, ?_, hof, e, he, hs⟩)) t ht
        obtain ⟨_, _, b3, b4, _⟩ := cg_bt0 hK.1 he hf hs.1
        omega
end
theorem xl_one {p : Nat → Bool} (h : ((List.range 36).filter p).length = 1) : ∃ e, (List.range 36).filter p = [e] ∧ e < 36 ∧ p e = true ∧ ∀ e', e' < 36 → p e' = true → e' = e := by
  obtain ⟨e, he⟩ := List.length_eq_one_iff.mp h
  have hm : e ∈ (List.range 36).filter p := by rw [he]; exact List.mem_cons_self
  rw [List.mem_filter] at hm
  refine ⟨e, he, List.mem_range.mp hm.1, hm.2, fun e' h1 h2 => ?_⟩
  have : e' ∈ (List.range 36).filter p := List.mem_filter.mpr ⟨List.mem_range.mpr h1, h2⟩
  rw [he] at this; simpa using this
theorem xl_two {p : Nat → Bool} (h : 1 < ((List.range 36).filter p).length) : ∃ e1 e2, e1 < 36 ∧ e2 < 36 ∧ p e1 = true ∧ p e2 = true ∧ e1 ≠ e2 := by
  have hn : ((List.range 36).filter p).Pairwise (· < ·) := List.Pairwise.sublist List.filter_sublist List.pairwise_lt_range
  match hl : (List.range 36).filter p with
  | [] => rw [hl] at h; exact absurd h (by decide)
  | [a] => rw [hl] at h; exact absurd h (by simp)
  | a :: b :: r =>
    have ha : a ∈ (List.range 36).filter p := by rw [hl]; simp
    have hb : b ∈ (List.range 36).filter p := by rw [hl]; simp
    rw [List.mem_filter] at ha hb
    rw [hl, List.pairwise_cons] at hn
    have := hn.1 b (by simp)
    exact ⟨a, b, List.mem_range.mp ha.1, List.mem_range.mp hb.1, ha.2, hb.2, by omega⟩
section
variable {f_going f_mover f_made f_played : Int32} {f_shields : Int64} {f_settled f_rootMove : Int32} {f_word0 f_word1 f_word2 f_word3 : Int64} {a_nextTo a_leaps a_pawnHits a_line : Nat → Int64} {a_at : Nat → Int32} {a_squaresOf a_held : Nat → Int64} {a_kingAt a_quiet : Nat → Int32} {a_positions : Nat → Int64} {a_playedMove a_playedPiece a_playedTaken a_moveList a_listEnd a_nextMove : Nat → Int32} {a_shieldLine : Nat → Int64} {a_left a_low a_firstLow a_high a_most a_rows : Nat → Int32} {a_knownWords : Nat → Int64} {a_knownMover a_knownDepth a_knownKind a_knownNumber : Nat → Int32} {post : SX → Prop} {B : Nat → Nat} {m k l : Nat}
theorem xl_87 {pc hp : Int64} {q : Nat → Bool} (hl : l < 6) (hT : xt_T a_nextTo a_leaps a_pawnHits a_line) (hB : xb_B B a_at a_squaresOf a_held) (hG : cd_G B m) (hmo : f_mover = nI m) (hK : cd_K B m k) (hka : a_kingAt m = nI k) (hpc : cb_S pc (cd_oc B)) (hhp : cb_S hp q) (hq : ∀ t, t < 36 → (q t = true ↔ cc_HP B m k t))
    (C : ∀ (sh : Int64) (sl : Nat → Int64) (ml le nm : Nat → Int32), xl_M ml (160 * l) (cd_L B m) → (∀ j, j < 160 * l → ml j = a_moveList j) → le l = nI (160 * l + (cd_L B m).length) → (∀ j, j ≠ l → le j = a_listEnd j) → nm l = nI (160 * l) → (∀ j, j ≠ l → nm j = a_nextMove j) → post (f_going, f_mover, f_made, f_played, sh, f_settled, f_rootMove, f_word0, f_word1, f_word2, f_word3, a_nextTo, a_leaps, a_pawnHits, a_line, a_at, a_squaresOf, a_held, a_kingAt, a_quiet, a_positions, a_playedMove, a_playedPiece, a_playedTaken, ml, le, nm, sl, a_left, a_low, a_firstLow, a_high, a_most, a_rows, a_knownWords, a_knownMover, a_knownDepth, a_knownKind, a_knownNumber)) :
    wX_list_87 post (nI l) (nI k) pc hp f_going f_mover f_made f_played f_shields f_settled f_rootMove f_word0 f_word1 f_word2 f_word3 a_nextTo a_leaps a_pawnHits a_line a_at a_squaresOf a_held a_kingAt a_quiet a_positions a_playedMove a_playedPiece a_playedTaken a_moveList a_listEnd a_nextMove a_shieldLine a_left a_low a_firstLow a_high a_most a_rows a_knownWords a_knownMover a_knownDepth a_knownKind a_knownNumber := by
  have hm := hG.1
  have hok := hG.2.1
  have hli : vp_in (nI l) 6 := vp_in_nI hl (by decide)
  have hlc : (nI l).toNatClampNeg = l := nI_clamp (by omega)
  have e160 : nI l * 160 = nI (160 * l) := by
    rw [show (160 : Int32) = nI 160 from rfl, pk_mul, Nat.mul_comm]
  have hhl := hB.2.2 m hm
  have hll := cb_Sl hhl
  have hfl : (cb_l (a_held m)).flatMap (xl_row B m) = cd_L B m := by rw [hll, xl_flat, ← xl_Lrow]
  have hcnt : (cb_l (a_held m)).length ≤ 6 := by
    rw [hll, ce_len]
    refine Nat.le_trans (ce_sm_le 36 fun s hs => ?_) hok.2.2.2
    cases h : cd_of (B s) m with
    | false => exact Nat.zero_le _
    | true => rw [cd_of_oc h]; exact Nat.le_refl _
  refine (?_ : wpX_findShields _ (f_going, f_mover, f_made, f_played, f_shields, f_settled, f_rootMove, f_word0, f_word1, f_word2, f_word3, a_nextTo, a_leaps, a_pawnHits, a_line, a_at, a_squaresOf, a_held, a_kingAt, a_quiet, a_positions, a_playedMove, a_playedPiece, a_playedTaken, a_moveList, a_listEnd, a_nextMove, a_shieldLine, a_left, a_low, a_firstLow, a_high, a_most, a_rows, a_knownWords, a_knownMover, a_knownDepth, a_knownKind, a_knownNumber))
  refine xs_find hT hB hok.1 hm hmo hK.1 hka fun sh sl hI => ⟨hli, nm_r (e' := upd a_listEnd l (nI (160 * l))) (by rw [hlc, e160]) ⟨hli, nm_r (e' := upd a_nextMove l (nI (160 * l))) (by rw [hlc, e160]) ⟨by rw [hmo]; exact vp_in_nI hm (by decide), nm_r (e' := a_held m) (by rw [hmo, nI_clamp (by omega)]) ⟨_, xl_127 hl hT hB hok hm hmo hK hpc hhp hq hI (cb_l (a_held m)) _ 0 [] _ _ rfl (fun f hf => ?_) (by omega) (xl_Mnil _ _) pk_us ?_ (fun ml le m1 m2 m3 m4 => C sh sl ml le _ ?_ m2 ?_ (fun j hj => ?_) pk_us (fun j hj => pk_un hj))⟩⟩⟩⟩
  · rw [hll, List.mem_filter] at hf; exact ⟨List.mem_range.mp hf.1, hf.2⟩
  · rw [hfl]
    have := ce_L84 hG
    have e0 : ([] : List Nat).length = 0 := rfl
    omega
  · rw [List.nil_append, hfl] at m1; exact m1
  · rw [List.nil_append, hfl] at m3; exact m3
  · rw [m4 j hj, pk_un hj]
theorem xl_list (hl : l < 6) (hT : xt_T a_nextTo a_leaps a_pawnHits a_line) (hB : xb_B B a_at a_squaresOf a_held) (hG : cd_G B m) (hmo : f_mover = nI m) (hK : cd_K B m k) (hka : a_kingAt m = nI k)
    (C : ∀ (sh : Int64) (sl : Nat → Int64) (ml le nm : Nat → Int32), xl_M ml (160 * l) (cd_L B m) → (∀ j, j < 160 * l → ml j = a_moveList j) → le l = nI (160 * l + (cd_L B m).length) → (∀ j, j ≠ l → le j = a_listEnd j) → nm l = nI (160 * l) → (∀ j, j ≠ l → nm j = a_nextMove j) → post (f_going, f_mover, f_made, f_played, sh, f_settled, f_rootMove, f_word0, f_word1, f_word2, f_word3, a_nextTo, a_leaps, a_pawnHits, a_line, a_at, a_squaresOf, a_held, a_kingAt, a_quiet, a_positions, a_playedMove, a_playedPiece, a_playedTaken, ml, le, nm, sl, a_left, a_low, a_firstLow, a_high, a_most, a_rows, a_knownWords, a_knownMover, a_knownDepth, a_knownKind, a_knownNumber)) :
    wpX_list post (f_going, f_mover, f_made, f_played, f_shields, f_settled, f_rootMove, f_word0, f_word1, f_word2, f_word3, a_nextTo, a_leaps, a_pawnHits, a_line, a_at, a_squaresOf, a_held, a_kingAt, a_quiet, a_positions, a_playedMove, a_playedPiece, a_playedTaken, a_moveList, a_listEnd, a_nextMove, a_shieldLine, a_left, a_low, a_firstLow, a_high, a_most, a_rows, a_knownWords, a_knownMover, a_knownDepth, a_knownKind, a_knownNumber) (nI l) := by
  have hm := hG.1
  have hok := hG.2.1
  have hpc := xb_pc hok.1 hB.2.2
  refine ⟨by rw [hmo]; exact vp_in_nI hm (by decide), nm_r (e' := nI k) (by rw [hmo, nI_clamp (by omega), hka]) (nm_e ?_)⟩
  rw [show (1 : Int32) - f_mover = nI (1 - m) from by rw [hmo]; exact xb_1m hm]
  refine xa_attackersOf hT hB hok.1 hK.1 (by omega) hpc fun r hr => ?_
  have hl1 := cb_Sl hr
  refine cb_ones (cb_Slen hr) ?_
  refine pk_eq (cb_l r).length 1 (fun h1 => ?_) (fun h1 => pk_le (cb_l r).length 1 (fun h2 => ?_) (fun h2 => ?_) (ha := by have := cb_Slen hr; omega)) (ha := by have := cb_Slen hr; omega)
  · have hne : r ≠ 0 := fun h0 => by rw [h0, cb_l0] at h1; exact absurd h1 (by decide)
    rw [hl1] at h1
    obtain ⟨e, he1, he2, he3, he4⟩ := xl_one h1
    refine cb_lowest hne fun c hc hcl _ _ => ?_
    rw [hl1, he1] at hcl
    injection hcl with hc1 _
    subst hc1
    refine xa_between hT hK.1 he2 fun r2 hr2 => nm_e (xl_87 hl hT hB hG hmo hK hka hpc (cb_Sor hr hr2) (fun t ht => ?_) C)
    rw [Bool.or_eq_true]
    constructor
    · rintro (h | h)
      · have := he4 t ht h
        subst this
        exact ⟨fun e' h1' h2' => Or.inl (he4 e' h1' h2').symm, fun e1 e2 a1 a2 b1 b2 => (he4 e1 a1 b1).trans (he4 e2 a2 b2).symm⟩
      · exact ⟨fun e' h1' h2' => Or.inr (by rw [he4 e' h1' h2']; exact h), fun e1 e2 a1 a2 b1 b2 => (he4 e1 a1 b1).trans (he4 e2 a2 b2).symm⟩
    · rintro ⟨h, _⟩
      rcases h e he2 he3 with h | h
      · rw [h]; exact Or.inl he3
      · exact Or.inr h
  · refine xl_87 hl hT hB hG hmo hK hka hpc cb_Sfull (fun t ht => ?_) C
    have h0 : (cb_l r).length = 0 := by omega
    have hr0 : r = 0 := cb_lnil (List.eq_nil_of_length_eq_zero h0)
    have hno := (cb_Sz hr).mp hr0
    exact ⟨fun _ => ⟨fun e he h => by rw [hno e he] at h; exact absurd h (by decide), fun e1 e2 a1 a2 b1 b2 => by rw [hno e1 a1] at b1; exact absurd b1 (by decide)⟩, fun _ => rfl⟩
  · refine xl_87 hl hT hB hG hmo hK hka hpc (q := fun _ => false) (cb_S0 fun _ _ => rfl) (fun t ht => ?_) C
    rw [hl1] at h2
    obtain ⟨e1, e2, a1, a2, b1, b2, hne⟩ := xl_two h2
    exact ⟨fun h => absurd h (by decide), fun h => absurd (h.2 e1 e2 a1 a2 b1 b2) hne⟩
end
end
section
/-! ===== making moves and taking them back ===== -/
def cd_pt (B : Nat → Nat) (s p : Nat) : Nat → Nat := fun i => if i = s then p else B i
theorem cd_pt_s {B : Nat → Nat} {s p : Nat} : cd_pt B s p s = p := if_pos rfl
theorem cd_pt_o {B : Nat → Nat} {s p i : Nat} (h : i ≠ s) : cd_pt B s p i = B i := if_neg h
theorem xm_at {B : Nat → Nat} {s p : Nat} : upd (fun i => nI (B i)) s (nI p) = fun i => nI (cd_pt B s p i) := by
  funext i; unfold upd cd_pt
  by_cases h : i = s
  · rw [if_pos h, if_pos h]
  · rw [if_neg h, if_neg h]
theorem xm_s3 {p : Nat} (hp : p ≤ 15) : nI p >>> ((3 : Int32) &&& 31) = nI (p / 8) := pk_shrN (by omega) _ 3 (by decide)
theorem xm_d8 {p m : Nat} (hp : p ≤ 14 ∧ p ≠ 7 ∧ p ≠ 8) (h0 : p ≠ 0) (hm : m < 2) : cd_of p m = decide (p / 8 = m) := by
  have : ∀ p, p < 15 → p ≠ 7 → p ≠ 8 → p ≠ 0 → ∀ m, m < 2 → cd_of p m = decide (p / 8 = m) := by decide
  exact this p (by omega) hp.2.1 hp.2.2 h0 m hm
section
variable {f_going f_mover f_made f_played : Int32} {f_shields : Int64} {f_settled f_rootMove : Int32} {f_word0 f_word1 f_word2 f_word3 : Int64} {a_nextTo a_leaps a_pawnHits a_line : Nat → Int64} {a_at : Nat → Int32} {a_squaresOf a_held : Nat → Int64} {a_kingAt a_quiet : Nat → Int32} {a_positions : Nat → Int64} {a_playedMove a_playedPiece a_playedTaken a_moveList a_listEnd a_nextMove : Nat → Int32} {a_shieldLine : Nat → Int64} {a_left a_low a_firstLow a_high a_most a_rows : Nat → Int32} {a_knownWords : Nat → Int64} {a_knownMover a_knownDepth a_knownKind a_knownNumber : Nat → Int32} {post : SX → Prop} {B : Nat → Nat} {s p : Nat}
theorem xm_lift (hB : xb_B B a_at a_squaresOf a_held) (hs : s < 36) (h0 : B s ≠ 0) (hv : B s ≤ 14 ∧ B s ≠ 7 ∧ B s ≠ 8)
    (C : ∀ (fa : Nat → Int32) (sq hl : Nat → Int64), xb_B (cd_pt B s 0) fa sq hl → post (f_going, f_mover, f_made, f_played, f_shields, f_settled, f_rootMove, f_word0, f_word1, f_word2, f_word3, a_nextTo, a_leaps, a_pawnHits, a_line, fa, sq, hl, a_kingAt, a_quiet, a_positions, a_playedMove, a_playedPiece, a_playedTaken, a_moveList, a_listEnd, a_nextMove, a_shieldLine, a_left, a_low, a_firstLow, a_high, a_most, a_rows, a_knownWords, a_knownMover, a_knownDepth, a_knownKind, a_knownNumber)) : wpX_lift post (f_going, f_mover, f_made, f_played, f_shields, f_settled, f_rootMove, f_word0, f_word1, f_word2, f_word3, a_nextTo, a_leaps, a_pawnHits, a_line, a_at, a_squaresOf, a_held, a_kingAt, a_quiet, a_positions, a_playedMove, a_playedPiece, a_playedTaken, a_moveList, a_listEnd, a_nextMove, a_shieldLine, a_left, a_low, a_firstLow, a_high, a_most, a_rows, a_knownWords, a_knownMover, a_knownDepth, a_knownKind, a_knownNumber) (nI s) := by
  obtain ⟨b1, b2, b3⟩ := hB
  have hsi : vp_in (nI s) 36 := vp_in_nI hs (by decide)
  have hsc : (nI s).toNatClampNeg = s := nI_clamp (by omega)
  have hpi : vp_in (nI (B s)) 16 := vp_in_nI (by omega) (by decide)
  have hpc : (nI (B s)).toNatClampNeg = B s := nI_clamp (by omega)
  have h3 : nI (B s) >>> ((3 : Int32) &&& 31) = nI (B s / 8) := xm_s3 (by omega)
  have h3i : vp_in (nI (B s) >>> ((3 : Int32) &&& 31)) 2 := by rw [h3]; exact vp_in_nI (by omega) (by decide)
  have h3c : (nI (B s) >>> ((3 : Int32) &&& 31)).toNatClampNeg = B s / 8 := by rw [h3, nI_clamp (by omega)]
  refine ⟨hsi, nm_r (e' := nI (B s)) (by rw [hsc, b1]) ⟨hpi, hpi, nm_r (e' := vp_updL a_squaresOf (B s) (a_squaresOf (B s) &&& (((1 : Int64) <<< ((nI s).toInt64 &&& 63)) ^^^ (-1)))) (by rw [hpc]) ⟨h3i, h3i, nm_r (e' := vp_updL a_held (B s / 8) (a_held (B s / 8) &&& (((1 : Int64) <<< ((nI s).toInt64 &&& 63)) ^^^ (-1)))) (by rw [h3c]) ⟨hsi, nm_r (e' := upd a_at s 0) (by rw [hsc]) (C _ _ _ ⟨?_, fun q hq hq0 => ?_, fun m hm => ?_⟩)⟩⟩⟩⟩
  · rw [b1]; exact xm_at (p := 0)
  · by_cases e : q = B s
    · rw [e, pk_uLs]
      refine cb_Se (cb_Sdiff (b2 (B s) (by omega) h0) (cb_S1 hs)) fun i hi => ?_
      by_cases e2 : i = s
      · rw [e2, cd_pt_s]; simp; omega
      · rw [cd_pt_o e2]; simp [e2]
    · rw [pk_uLn e]
      refine cb_Se (b2 q hq hq0) fun i hi => ?_
      by_cases e2 : i = s
      · rw [e2, cd_pt_s, beq_eq_false_iff_ne.mpr (fun h => e h.symm), beq_eq_false_iff_ne.mpr (fun h => hq0 h.symm)]
      · rw [cd_pt_o e2]
  · by_cases e : m = B s / 8
    · rw [← e, pk_uLs]
      refine cb_Se (cb_Sdiff (b3 m hm) (cb_S1 hs)) fun i hi => ?_
      by_cases e2 : i = s
      · rw [e2, cd_pt_s]; simp [cd_of0]
      · rw [cd_pt_o e2]; simp [e2]
    · rw [pk_uLn e]
      refine cb_Se (b3 m hm) fun i hi => ?_
      by_cases e2 : i = s
      · rw [e2, cd_pt_s, cd_of0, xm_d8 hv h0 hm, decide_eq_false (fun h => e h.symm)]
      · rw [cd_pt_o e2]
theorem xm_set (hB : xb_B B a_at a_squaresOf a_held) (hs : s < 36) (h0 : B s = 0) (hp0 : p ≠ 0) (hv : p ≤ 14 ∧ p ≠ 7 ∧ p ≠ 8)
    (C : ∀ (fa : Nat → Int32) (sq hl : Nat → Int64), xb_B (cd_pt B s p) fa sq hl → post (f_going, f_mover, f_made, f_played, f_shields, f_settled, f_rootMove, f_word0, f_word1, f_word2, f_word3, a_nextTo, a_leaps, a_pawnHits, a_line, fa, sq, hl, (if cd_kd p = 6 then upd a_kingAt (p / 8) (nI s) else a_kingAt), a_quiet, a_positions, a_playedMove, a_playedPiece, a_playedTaken, a_moveList, a_listEnd, a_nextMove, a_shieldLine, a_left, a_low, a_firstLow, a_high, a_most, a_rows, a_knownWords, a_knownMover, a_knownDepth, a_knownKind, a_knownNumber)) : wpX_set post (f_going, f_mover, f_made, f_played, f_shields, f_settled, f_rootMove, f_word0, f_word1, f_word2, f_word3, a_nextTo, a_leaps, a_pawnHits, a_line, a_at, a_squaresOf, a_held, a_kingAt, a_quiet, a_positions, a_playedMove, a_playedPiece, a_playedTaken, a_moveList, a_listEnd, a_nextMove, a_shieldLine, a_left, a_low, a_firstLow, a_high, a_most, a_rows, a_knownWords, a_knownMover, a_knownDepth, a_knownKind, a_knownNumber) (nI s) (nI p) := by
  obtain ⟨b1, b2, b3⟩ := hB
  have hsi : vp_in (nI s) 36 := vp_in_nI hs (by decide)
  have hsc : (nI s).toNatClampNeg = s := nI_clamp (by omega)
  have hpi : vp_in (nI p) 16 := vp_in_nI (by omega) (by decide)
  have hpc : (nI p).toNatClampNeg = p := nI_clamp (by omega)
  have h3 : nI p >>> ((3 : Int32) &&& 31) = nI (p / 8) := xm_s3 (by omega)
  have h3i : vp_in (nI p >>> ((3 : Int32) &&& 31)) 2 := by rw [h3]; exact vp_in_nI (by omega) (by decide)
  have h3c : (nI p >>> ((3 : Int32) &&& 31)).toNatClampNeg = p / 8 := by rw [h3, nI_clamp (by omega)]
  have e7 : nI p &&& 7 = nI (p % 8) := pk_andN (by omega) 3 (by decide)
  have ek : cd_kd p = p % 8 := by unfold cd_kd; split <;> omega
  have hR : xb_B (cd_pt B s p) (upd a_at s (nI p)) (vp_updL a_squaresOf p (a_squaresOf p ||| ((1 : Int64) <<< ((nI s).toInt64 &&& 63)))) (vp_updL a_held (p / 8) (a_held (p / 8) ||| ((1 : Int64) <<< ((nI s).toInt64 &&& 63)))) := by
    refine ⟨?_, fun q hq hq0 => ?_, fun m hm => ?_⟩
    · rw [b1]; exact xm_at
    · by_cases e : q = p
      · rw [e, pk_uLs]
        refine cb_Se (cb_Sor (b2 p (by omega) hp0) (cb_S1 hs)) fun i hi => ?_
        by_cases e2 : i = s
        · rw [e2, cd_pt_s]; simp
        · rw [cd_pt_o e2]; simp [e2]
      · rw [pk_uLn e]
        refine cb_Se (b2 q hq hq0) fun i hi => ?_
        by_cases e2 : i = s
        · rw [e2, cd_pt_s, h0, beq_eq_false_iff_ne.mpr (fun h => e h.symm), beq_eq_false_iff_ne.mpr (fun h => hq0 h.symm)]
        · rw [cd_pt_o e2]
    · by_cases e : m = p / 8
      · rw [← e, pk_uLs]
        refine cb_Se (cb_Sor (b3 m hm) (cb_S1 hs)) fun i hi => ?_
        by_cases e2 : i = s
        · rw [e2, cd_pt_s, xm_d8 hv hp0 hm, decide_eq_true e.symm]; simp
        · rw [cd_pt_o e2]; simp [e2]
      · rw [pk_uLn e]
        refine cb_Se (b3 m hm) fun i hi => ?_
        by_cases e2 : i = s
        · rw [e2, cd_pt_s, h0, cd_of0, xm_d8 hv hp0 hm, decide_eq_false (fun h => e h.symm)]
        · rw [cd_pt_o e2]
  have C' := C _ _ _ hR
  rw [ek] at C'
  refine ⟨hpi, hpi, nm_r (e' := vp_updL a_squaresOf p (a_squaresOf p ||| ((1 : Int64) <<< ((nI s).toInt64 &&& 63)))) (by rw [hpc]) ⟨h3i, h3i, nm_r (e' := vp_updL a_held (p / 8) (a_held (p / 8) ||| ((1 : Int64) <<< ((nI s).toInt64 &&& 63)))) (by rw [h3c]) ⟨hsi, nm_r (e' := upd a_at s (nI p)) (by rw [hsc]) ?_⟩⟩⟩
  rw [e7]
  refine pk_eq (p % 8) 6 (fun h6 => ⟨h3i, nm_r (e' := upd a_kingAt (p / 8) (nI s)) (by rw [h3c]) ?_⟩) (fun h6 => ?_)
  · rw [if_pos h6] at C'; exact C'
  · rw [if_neg h6] at C'; exact C'
end
/-! the kings -/
def xb_K (B : Nat → Nat) (ka : Nat → Int32) : Prop := ∀ q, q < 2 → ∃ k, cd_K B q k ∧ ka q = nI k
theorem xm_Kuq {B : Nat → Nat} {q k k' : Nat} (h : cd_K B q k) (h' : cd_K B q k') : k = k' :=
  (h'.2 k h.1).mp ((h.2 k h.1).mpr rfl)
theorem xm_tk {B : Nat → Nat} {m f t q k : Nat} (hm : m < 2) (hq : q < 2) (hf36 : f < 36) (ht36 : t < 36) (hck : cd_ck B (1 - m) = false) (hc : cd_cg B m f t = true) (hK : cd_K B q k) : t ≠ k := by
  obtain ⟨hft, hf, ht, h4⟩ := cd_cg_iff.mp hc
  intro e
  have hBt : B t = 6 + 8 * q := by rw [e]; exact (hK.2 k hK.1).mpr rfl
  by_cases hqm : q = m
  · rw [hBt, hqm, cd_of6 hm] at ht; exact absurd ht (by decide)
  · have hq1 : q = 1 - m := by omega
    rw [if_neg (by omega)] at h4
    have : cd_ck B (1 - m) = true := cd_ck_iff.mpr ⟨t, ht36, by rw [hBt, hq1], f, hf36, cc_ak_iff.mpr ⟨by rw [cc_x11 hm]; exact hf, h4⟩⟩
    rw [this] at hck; exact absurd hck (by decide)
theorem xm_k6 {p : Nat} (hv : p ≤ 14 ∧ p ≠ 7 ∧ p ≠ 8) : cd_kd p = 6 ↔ p = 6 + 8 * (p / 8) := by
  unfold cd_kd; split <;> omega
/-- kings after a move -/
theorem xm_Kmake {B : Nat → Nat} {m f t : Nat} {ka : Nat → Int32} (hG : cd_G B m) (hf : f < 36) (ht : t < 36) (hl : cd_lg B m f t = true) (hK : xb_K B ka) : xb_K (cd_mv B f t) (if cd_kd (cd_pr (B f) t) = 6 then upd ka (cd_pr (B f) t / 8) (nI t) else ka) := by
  obtain ⟨hc, hck⟩ := ce_lg hl
  have hft := (cd_cg_iff.mp hc).1
  intro q hq
  obtain ⟨k, hk, hkq⟩ := hK q hq
  refine ⟨_, ce_Kmv hG.1 hq hf ht hG.2.2.2.2 hc hk, ?_⟩
  have hv := (ce_OKmv hG.2.1 hf ht hc).1 t ht
  rw [cd_mv_t hft] at hv
  have hpr : cd_pr (B f) t = 6 + 8 * q ↔ f = k := by rw [cd_pr_6]; exact hk.2 f hf
  by_cases e : f = k
  · rw [if_pos e]
    have h6 := hpr.mpr e
    have h8 : cd_pr (B f) t / 8 = q := by omega
    rw [if_pos ((xm_k6 hv).mpr (by omega)), h8, pk_us]
  · rw [if_neg e]
    have h6 : ¬ cd_pr (B f) t = 6 + 8 * q := fun h => e (hpr.mp h)
    by_cases h : cd_kd (cd_pr (B f) t) = 6
    · rw [if_pos h]
      have := (xm_k6 hv).mp h
      rw [pk_un (by omega)]; exact hkq
    · rw [if_neg h]; exact hkq
/-- kings after taking back -/
theorem xm_Kback {B : Nat → Nat} {m f t : Nat} {ka : Nat → Int32} (hG : cd_G B m) (hf : f < 36) (ht : t < 36) (hl : cd_lg B m f t = true) (hK : xb_K (cd_mv B f t) ka) : xb_K B (if cd_kd (B f) = 6 then upd ka (B f / 8) (nI f) else ka) := by
  obtain ⟨hc, hck⟩ := ce_lg hl
  intro q hq
  obtain ⟨k, hk⟩ := cd_G_K hG hq
  refine ⟨k, hk, ?_⟩
  have hv := hG.2.1.1 f hf
  have h2 := ce_Kmv hG.1 hq hf ht hG.2.2.2.2 hc hk
  obtain ⟨k', hk', hkq⟩ := hK q hq
  have hkk := xm_Kuq hk' h2
  have hBf : B f = 6 + 8 * q ↔ f = k := hk.2 f hf
  by_cases e : f = k
  · have h6 := hBf.mpr e
    have h8 : B f / 8 = q := by omega
    rw [if_pos ((xm_k6 hv).mpr (by omega)), h8, pk_us, e]
  · rw [if_neg e] at hkk
    have h6 : ¬ B f = 6 + 8 * q := fun h => e (hBf.mp h)
    by_cases h : cd_kd (B f) = 6
    · rw [if_pos h]
      have := (xm_k6 hv).mp h
      rw [pk_un (by omega), hkq, hkk]
    · rw [if_neg h, hkq, hkk]
theorem xm_mv3 {B : Nat → Nat} {f t : Nat} (hft : f ≠ t) : cd_pt (cd_pt (cd_pt B t 0) f 0) t (cd_pr (B f) t) = cd_mv B f t := by
  funext i; unfold cd_pt cd_mv
  by_cases h1 : i = f
  · have : i ≠ t := fun e => hft (h1.symm.trans e)
    rw [if_neg this, if_pos h1, if_pos h1]
  · by_cases h2 : i = t
    · rw [if_pos h2, if_neg h1, if_pos h2]
    · rw [if_neg h2, if_neg h1, if_neg h2, if_neg h1, if_neg h2]
theorem xm_pt0 {B : Nat → Nat} {t : Nat} (h : B t = 0) : cd_pt B t 0 = B := by
  funext i; unfold cd_pt
  by_cases h1 : i = t
  · rw [if_pos h1, h1, h]
  · rw [if_neg h1]
theorem xm_bk {B : Nat → Nat} {f t : Nat} (hft : f ≠ t) : cd_pt (cd_pt (cd_pt (cd_mv B f t) t 0) f (B f)) t (B t) = B := by
  funext i; unfold cd_pt cd_mv
  by_cases h1 : i = t
  · rw [if_pos h1, h1]
  · by_cases h2 : i = f
    · rw [if_neg h1, if_pos h2, h2]
    · rw [if_neg h1, if_neg h2, if_neg h1, if_neg h2, if_neg h1]
section
variable {f_going f_mover f_made f_played : Int32} {f_shields : Int64} {f_settled f_rootMove : Int32} {f_word0 f_word1 f_word2 f_word3 : Int64} {a_nextTo a_leaps a_pawnHits a_line : Nat → Int64} {a_at : Nat → Int32} {a_squaresOf a_held : Nat → Int64} {a_kingAt a_quiet : Nat → Int32} {a_positions : Nat → Int64} {a_playedMove a_playedPiece a_playedTaken a_moveList a_listEnd a_nextMove : Nat → Int32} {a_shieldLine : Nat → Int64} {a_left a_low a_firstLow a_high a_most a_rows : Nat → Int32} {a_knownWords : Nat → Int64} {a_knownMover a_knownDepth a_knownKind a_knownNumber : Nat → Int32} {post : SX → Prop} {B : Nat → Nat} {m h x : Nat}
theorem xm_129 {p t : Nat} (hB : xb_B B a_at a_squaresOf a_held) (ht : t < 36) (h0 : B t = 0) (hp0 : p ≠ 0) (hv : p ≤ 14 ∧ p ≠ 7 ∧ p ≠ 8) (hm : m < 2) (hmo : f_mover = nI m)
    (C : ∀ (fa : Nat → Int32) (sq hl : Nat → Int64), xb_B (cd_pt B t p) fa sq hl → post (f_going, nI (1 - m), f_made, f_played, f_shields, f_settled, f_rootMove, f_word0, f_word1, f_word2, f_word3, a_nextTo, a_leaps, a_pawnHits, a_line, fa, sq, hl, (if cd_kd p = 6 then upd a_kingAt (p / 8) (nI t) else a_kingAt), a_quiet, a_positions, a_playedMove, a_playedPiece, a_playedTaken, a_moveList, a_listEnd, a_nextMove, a_shieldLine, a_left, a_low, a_firstLow, a_high, a_most, a_rows, a_knownWords, a_knownMover, a_knownDepth, a_knownKind, a_knownNumber)) : wX_make_129 post (nI p) (nI t) f_going f_mover f_made f_played f_shields f_settled f_rootMove f_word0 f_word1 f_word2 f_word3 a_nextTo a_leaps a_pawnHits a_line a_at a_squaresOf a_held a_kingAt a_quiet a_positions a_playedMove a_playedPiece a_playedTaken a_moveList a_listEnd a_nextMove a_shieldLine a_left a_low a_firstLow a_high a_most a_rows a_knownWords a_knownMover a_knownDepth a_knownKind a_knownNumber := by
  unfold wX_make_129
  refine xm_set hB ht h0 hp0 hv fun fa sq hl hR => nm_r (e' := nI (1 - m)) (by rw [hmo]; exact xb_1m hm) (C fa sq hl hR)
theorem xm_pr9 {m p t : Nat} (hv : p ≤ 14 ∧ p ≠ 7 ∧ p ≠ 8) (hof : cd_of p m = true) : cd_pr p t ≤ 14 ∧ cd_pr p t ≠ 7 ∧ cd_pr p t ≠ 8 ∧ cd_pr p t ≠ 0 := by
  have := (cd_of_iff.mp hof).1
  unfold cd_pr; split
  · rename_i hc; omega
  · omega
/-- after the target is empty: lift the piece, set it down -/
theorem xm_78 {f t : Nat} (B0 : Nat → Nat) (hB : xb_B (cd_pt B0 t 0) a_at a_squaresOf a_held) (hok : cd_OK B0) (hm : m < 2) (hmo : f_mover = nI m) (hf : f < 36) (ht : t < 36) (hc : cd_cg B0 m f t = true)
    (C : ∀ (fa : Nat → Int32) (sq hl : Nat → Int64), xb_B (cd_mv B0 f t) fa sq hl → post (f_going, nI (1 - m), f_made, f_played, f_shields, f_settled, f_rootMove, f_word0, f_word1, f_word2, f_word3, a_nextTo, a_leaps, a_pawnHits, a_line, fa, sq, hl, (if cd_kd (cd_pr (B0 f) t) = 6 then upd a_kingAt (cd_pr (B0 f) t / 8) (nI t) else a_kingAt), a_quiet, a_positions, a_playedMove, a_playedPiece, a_playedTaken, a_moveList, a_listEnd, a_nextMove, a_shieldLine, a_left, a_low, a_firstLow, a_high, a_most, a_rows, a_knownWords, a_knownMover, a_knownDepth, a_knownKind, a_knownNumber)) : wX_make_78 post (nI f) (nI t) (nI (B0 f)) f_going f_mover f_made f_played f_shields f_settled f_rootMove f_word0 f_word1 f_word2 f_word3 a_nextTo a_leaps a_pawnHits a_line a_at a_squaresOf a_held a_kingAt a_quiet a_positions a_playedMove a_playedPiece a_playedTaken a_moveList a_listEnd a_nextMove a_shieldLine a_left a_low a_firstLow a_high a_most a_rows a_knownWords a_knownMover a_knownDepth a_knownKind a_knownNumber := by
  obtain ⟨hft, hof, hot, h4⟩ := cd_cg_iff.mp hc
  have hv := hok.1 f hf
  have hB0f : cd_pt B0 t 0 f = B0 f := cd_pt_o hft
  have hn0 := (cd_of_iff.mp hof).1
  obtain ⟨p1, p2, p3, p4⟩ := xm_pr9 (t := t) hv hof
  unfold wX_make_78
  refine xm_lift hB hf (by rw [hB0f]; exact hn0) (by rw [hB0f]; exact hv) fun fa sq hl hR => ?_
  have hRt : cd_pt (cd_pt B0 t 0) f 0 t = 0 := by rw [cd_pt_o (fun e => hft e.symm), cd_pt_s]
  have H129 : ∀ p, p = cd_pr (B0 f) t → wX_make_129 post (nI p) (nI t) f_going f_mover f_made f_played f_shields f_settled f_rootMove f_word0 f_word1 f_word2 f_word3 a_nextTo a_leaps a_pawnHits a_line fa sq hl a_kingAt a_quiet a_positions a_playedMove a_playedPiece a_playedTaken a_moveList a_listEnd a_nextMove a_shieldLine a_left a_low a_firstLow a_high a_most a_rows a_knownWords a_knownMover a_knownDepth a_knownKind a_knownNumber := by
    intro p hp
    subst hp
    refine xm_129 hR ht hRt p4 ⟨p1, p2, p3⟩ hm hmo fun fa' sq' hl' hR' => C fa' sq' hl' ?_
    rw [xm_mv3 hft] at hR'; exact hR'
  have e7 : nI (B0 f) &&& 7 = nI (B0 f % 8) := pk_andN (by omega) 3 (by decide)
  have ek : cd_kd (B0 f) = B0 f % 8 := by unfold cd_kd; split <;> omega
  have e5 : (nI (B0 f) - 1) + 5 = nI (B0 f + 4) := by
    rw [show (1 : Int32) = nI 1 from rfl, pk_sub (by omega), show (5 : Int32) = nI 5 from rfl, nI_add]
    congr 1; omega
  have hno : ¬ ((B0 f = 1 ∧ t / 6 = 5) ∨ (B0 f = 9 ∧ t / 6 = 0)) → wX_make_108 post (nI t) (nI (B0 f)) f_going f_mover f_made f_played f_shields f_settled f_rootMove f_word0 f_word1 f_word2 f_word3 a_nextTo a_leaps a_pawnHits a_line fa sq hl a_kingAt a_quiet a_positions a_playedMove a_playedPiece a_playedTaken a_moveList a_listEnd a_nextMove a_shieldLine a_left a_low a_firstLow a_high a_most a_rows a_knownWords a_knownMover a_knownDepth a_knownKind a_knownNumber := by
    intro hn
    exact br_t rfl (H129 _ (by unfold cd_pr; rw [if_neg hn]))
  have hyes : ((B0 f = 1 ∧ t / 6 = 5) ∨ (B0 f = 9 ∧ t / 6 = 0)) → wX_make_104 post (nI t) (nI (B0 f)) f_going f_mover f_made f_played f_shields f_settled f_rootMove f_word0 f_word1 f_word2 f_word3 a_nextTo a_leaps a_pawnHits a_line fa sq hl a_kingAt a_quiet a_positions a_playedMove a_playedPiece a_playedTaken a_moveList a_listEnd a_nextMove a_shieldLine a_left a_low a_firstLow a_high a_most a_rows a_knownWords a_knownMover a_knownDepth a_knownKind a_knownNumber := by
    intro hn
    refine br_f (by decide) ?_
    rw [e5]
    exact H129 _ (by unfold cd_pr; rw [if_pos hn])
  have hrow : cd_kd (B0 f) = 1 → (B0 f = 1 → 6 ≤ t) ∧ (B0 f = 9 → t < 30) := by
    intro hk
    obtain ⟨r1, r2⟩ := hok.2.2.1 f hf hk
    have hB1 : B0 f = 1 ∨ B0 f = 9 := by unfold cd_kd at hk; split at hk <;> omega
    split at h4
    · split at h4 <;> omega
    · have hlp : cg_pw (if B0 f < 8 then 0 else 1) f t = true := by
        rcases cc_at_iff.mp h4 with h | h
        · unfold cd_lp at h; rw [hk] at h; simpa using h
        · have := h.1; unfold cd_sl at this; rw [hk] at this; simp at this
      unfold cg_pw at hlp
      rw [Bool.and_eq_true] at hlp
      have h6 := hlp.2
      rcases hB1 with h | h
      · rw [h] at h6; simp at h6; omega
      · rw [h] at h6; simp at h6; omega
  rw [e7]
  refine pk_eq (B0 f % 8) 1 (fun h1 => ?_) (fun h1 => hno (by omega))
  have hB1 : B0 f = 1 ∨ B0 f = 9 := by omega
  obtain ⟨r1, r2⟩ := hrow (by rw [ek]; exact h1)
  refine pk_lt t 6 (fun h6 => hyes ?_) (fun h6 => pk_lt t 30 (fun h30 => hno ?_) (fun h30 => hyes ?_))
  · rcases hB1 with h | h
    · have := r1 h; omega
    · exact Or.inr ⟨h, by omega⟩
  · omega
  · rcases hB1 with h | h
    · exact Or.inl ⟨h, by omega⟩
    · have := r2 h; omega
theorem xm_make (hB : xb_B B a_at a_squaresOf a_held) (hK : xb_K B a_kingAt) (hG : cd_G B m) (hmo : f_mover = nI m) (hpl : f_played = nI h) (hh : h < 72) (hx : x ∈ cd_L B m)
    (C : ∀ (fa : Nat → Int32) (sq hl : Nat → Int64) (ka : Nat → Int32), xb_B (cd_nx B x) fa sq hl → xb_K (cd_nx B x) ka → post (f_going, nI (1 - m), f_made, nI (h + 1), f_shields, f_settled, f_rootMove, f_word0, f_word1, f_word2, f_word3, a_nextTo, a_leaps, a_pawnHits, a_line, fa, sq, hl, ka, a_quiet, a_positions, upd a_playedMove h (nI x), upd a_playedPiece h (nI (B (x / 64))), upd a_playedTaken h (nI (B (x % 64))), a_moveList, a_listEnd, a_nextMove, a_shieldLine, a_left, a_low, a_firstLow, a_high, a_most, a_rows, a_knownWords, a_knownMover, a_knownDepth, a_knownKind, a_knownNumber)) : wpX_make post (f_going, f_mover, f_made, f_played, f_shields, f_settled, f_rootMove, f_word0, f_word1, f_word2, f_word3, a_nextTo, a_leaps, a_pawnHits, a_line, a_at, a_squaresOf, a_held, a_kingAt, a_quiet, a_positions, a_playedMove, a_playedPiece, a_playedTaken, a_moveList, a_listEnd, a_nextMove, a_shieldLine, a_left, a_low, a_firstLow, a_high, a_most, a_rows, a_knownWords, a_knownMover, a_knownDepth, a_knownKind, a_knownNumber) (nI x) := by
  obtain ⟨hf, ht, hl⟩ := ce_L_mem.mp hx
  obtain ⟨hc, hck⟩ := ce_lg hl
  have hv := hG.2.1.1
  have hs6 : nI x >>> ((6 : Int32) &&& 31) = nI (x / 64) := pk_shrN (by omega) _ 6 (by decide)
  have ha63 : nI x &&& 63 = nI (x % 64) := pk_andN (by omega) 6 (by decide)
  have hfi : vp_in (nI (x / 64)) 36 := vp_in_nI hf (by decide)
  have hfc : (nI (x / 64)).toNatClampNeg = x / 64 := nI_clamp (by omega)
  have hti : vp_in (nI (x % 64)) 36 := vp_in_nI ht (by decide)
  have htc : (nI (x % 64)).toNatClampNeg = x % 64 := nI_clamp (by omega)
  have hpi : vp_in f_played 72 := by rw [hpl]; exact vp_in_nI hh (by decide)
  have hpc : f_played.toNatClampNeg = h := by rw [hpl, nI_clamp (by omega)]
  have hKm := xm_Kmake hG hf ht hl hK
  have b1 := hB.1
  have C78 : ∀ (fa : Nat → Int32) (sq hl : Nat → Int64), xb_B (cd_pt B (x % 64) 0) fa sq hl → wX_make_78 post (nI (x / 64)) (nI (x % 64)) (nI (B (x / 64))) f_going f_mover f_made (nI (h + 1)) f_shields f_settled f_rootMove f_word0 f_word1 f_word2 f_word3 a_nextTo a_leaps a_pawnHits a_line fa sq hl a_kingAt a_quiet a_positions (upd a_playedMove h (nI x)) (upd a_playedPiece h (nI (B (x / 64)))) (upd a_playedTaken h (nI (B (x % 64)))) a_moveList a_listEnd a_nextMove a_shieldLine a_left a_low a_firstLow a_high a_most a_rows a_knownWords a_knownMover a_knownDepth a_knownKind a_knownNumber :=
    fun fa sq hl hR => xm_78 B hR hG.2.1 hG.1 hmo hf ht hc fun fa' sq' hl' hR' => C fa' sq' hl' _ hR' hKm
  refine nm_r hs6 (nm_r ha63 ⟨hfi, nm_r (e' := nI (B (x / 64))) (by rw [hfc, b1]) ⟨hpi, nm_r (e' := upd a_playedMove h (nI x)) (by rw [hpc]) ⟨hpi, nm_r (e' := upd a_playedPiece h (nI (B (x / 64)))) (by rw [hpc]) ⟨hti, hpi, nm_r (e' := upd a_playedTaken h (nI (B (x % 64)))) (by rw [hpc, htc, b1]) (nm_r (e' := nI (h + 1)) (by rw [hpl, nI_1]) ⟨hti, ?_⟩)⟩⟩⟩⟩)
  rw [htc, show a_at (x % 64) = nI (B (x % 64)) from by rw [b1]]
  refine pk_eq (B (x % 64)) 0 (fun h0 => C78 _ _ _ (by rw [xm_pt0 h0]; exact hB)) (fun h0 => xm_lift hB ht h0 (hv _ ht) fun fa sq hl hR => C78 fa sq hl hR) (ha := by have := hv _ ht; omega)
theorem xm_back (hB : xb_B (cd_nx B x) a_at a_squaresOf a_held) (hK : xb_K (cd_nx B x) a_kingAt) (hG : cd_G B m) (hmo : f_mover = nI (1 - m)) (hpl : f_played = nI (h + 1)) (hh : h < 72) (hx : x ∈ cd_L B m)
    (hm1 : a_playedMove h = nI x) (hm2 : a_playedPiece h = nI (B (x / 64))) (hm3 : a_playedTaken h = nI (B (x % 64)))
    (C : ∀ (fa : Nat → Int32) (sq hl : Nat → Int64) (ka : Nat → Int32), xb_B B fa sq hl → xb_K B ka → post (f_going, nI m, f_made, nI h, f_shields, f_settled, f_rootMove, f_word0, f_word1, f_word2, f_word3, a_nextTo, a_leaps, a_pawnHits, a_line, fa, sq, hl, ka, a_quiet, a_positions, a_playedMove, a_playedPiece, a_playedTaken, a_moveList, a_listEnd, a_nextMove, a_shieldLine, a_left, a_low, a_firstLow, a_high, a_most, a_rows, a_knownWords, a_knownMover, a_knownDepth, a_knownKind, a_knownNumber)) : wpX_takeBack post (f_going, f_mover, f_made, f_played, f_shields, f_settled, f_rootMove, f_word0, f_word1, f_word2, f_word3, a_nextTo, a_leaps, a_pawnHits, a_line, a_at, a_squaresOf, a_held, a_kingAt, a_quiet, a_positions, a_playedMove, a_playedPiece, a_playedTaken, a_moveList, a_listEnd, a_nextMove, a_shieldLine, a_left, a_low, a_firstLow, a_high, a_most, a_rows, a_knownWords, a_knownMover, a_knownDepth, a_knownKind, a_knownNumber) := by
  obtain ⟨hf, ht, hl⟩ := ce_L_mem.mp hx
  obtain ⟨hc, hck⟩ := ce_lg hl
  obtain ⟨hft, hof, hot, h4⟩ := cd_cg_iff.mp hc
  have hv := hG.2.1.1
  have hv' := (ce_OKmv hG.2.1 hf ht hc).1
  have hs6 : nI x >>> ((6 : Int32) &&& 31) = nI (x / 64) := pk_shrN (by omega) _ 6 (by decide)
  have ha63 : nI x &&& 63 = nI (x % 64) := pk_andN (by omega) 6 (by decide)
  have hpi : vp_in (nI h) 72 := vp_in_nI hh (by decide)
  have hpc : (nI h).toNatClampNeg = h := nI_clamp (by omega)
  have hKb := xm_Kback hG hf ht hl hK
  have hn0 := (cd_of_iff.mp hof).1
  have h1m : (1 : Int32) - f_mover = nI m := by rw [hmo, xb_1m (by have := hG.1; omega), cc_x11 hG.1]
  have hnt : cd_nx B x (x % 64) ≠ 0 := by
    unfold cd_nx; rw [cd_mv_t hft]; exact (cd_of_iff.mp (cd_pr_of hof)).1
  refine nm_r (e' := nI h) (by rw [hpl]; exact nI_pred h) ⟨hpi, nm_r (e' := nI (x / 64)) (by rw [hpc, hm1, hs6]) ⟨hpi, nm_r (e' := nI (x % 64)) (by rw [hpc, hm1, ha63]) (xm_lift hB ht hnt (hv' _ ht) fun fa sq hl hR => ⟨hpi, ?_⟩)⟩⟩
  rw [hpc, hm2]
  have hz : cd_pt (cd_nx B x) (x % 64) 0 (x / 64) = 0 := by
    rw [cd_pt_o hft]; exact cd_mv_f
  refine xm_set hR hf hz hn0 (hv _ hf) fun fa2 sq2 hl2 hR2 => ⟨hpi, ?_⟩
  rw [hpc, hm3]
  have hbk := xm_bk (B := B) hft
  refine pk_eq (B (x % 64)) 0 (fun h0 => nm_r h1m (C _ _ _ _ ?_ hKb)) (fun h0 => ⟨hpi, ?_⟩) (ha := by have := hv _ ht; omega)
  · have e : cd_pt (cd_pt (cd_nx B x) (x % 64) 0) (x / 64) (B (x / 64)) = B := by
      rw [h0] at hbk
      rw [← xm_pt0 (B := cd_pt (cd_pt (cd_nx B x) (x % 64) 0) (x / 64) (B (x / 64))) (t := x % 64) (by rw [cd_pt_o (fun e => hft e.symm), cd_pt_s])]
      exact hbk
    rw [e] at hR2; exact hR2
  · refine xm_set hR2 ht (by rw [cd_pt_o (fun e => hft e.symm), cd_pt_s]) h0 (hv _ ht) fun fa3 sq3 hl3 hR3 => nm_r h1m (C _ _ _ _ ?_ ?_)
    · have : cd_pt (cd_pt (cd_pt (cd_nx B x) (x % 64) 0) (x / 64) (B (x / 64))) (x % 64) (B (x % 64)) = B := hbk
      rw [this] at hR3; exact hR3
    · rw [if_neg]
      · exact hKb
      · intro h6
        have hvt := hv _ ht
        have := (xm_k6 hvt).mp h6
        have hq : B (x % 64) / 8 < 2 := by omega
        obtain ⟨k, hk⟩ := cd_G_K hG hq
        exact xm_tk hG.1 hq hf ht hG.2.2.2.2 hc hk ((hk.2 _ ht).mp this)
end
end
section
/-! ===== words of a position, ints of any sign, positions that are remembered ===== -/
def xi (z : Int) : Int32 := Int32.ofInt z
theorem xi_toInt {z : Int} (h1 : -2147483648 ≤ z) (h2 : z < 2147483648) : (xi z).toInt = z := by
  unfold xi; exact Int32.toInt_ofInt_of_le (by omega) (by omega)
theorem xi_le {a b : Int} (ha : -2147483648 ≤ a ∧ a < 2147483648) (hb : -2147483648 ≤ b ∧ b < 2147483648) : xi a ≤ xi b ↔ a ≤ b := by
  rw [Int32.le_iff_toInt_le, xi_toInt ha.1 ha.2, xi_toInt hb.1 hb.2]
theorem xi_lt {a b : Int} (ha : -2147483648 ≤ a ∧ a < 2147483648) (hb : -2147483648 ≤ b ∧ b < 2147483648) : xi a < xi b ↔ a < b := by
  rw [Int32.lt_iff_toInt_lt, xi_toInt ha.1 ha.2, xi_toInt hb.1 hb.2]
theorem xi_eq {a b : Int} (ha : -2147483648 ≤ a ∧ a < 2147483648) (hb : -2147483648 ≤ b ∧ b < 2147483648) : xi a = xi b ↔ a = b := by
  rw [← Int32.toInt_inj, xi_toInt ha.1 ha.2, xi_toInt hb.1 hb.2]
theorem xi_neg (a : Int) : -(xi a) = xi (-a) := (Int32.ofInt_neg a).symm
theorem xi_add (a b : Int) : xi a + xi b = xi (a + b) := (Int32.ofInt_add a b).symm
theorem xi_sub (a b : Int) : xi a - xi b = xi (a - b) := (Int32.ofInt_sub a b).symm
theorem xi_mul (a b : Int) : xi a * xi b = xi (a * b) := (Int32.ofInt_mul a b).symm
theorem xi_nI (n : Nat) : nI n = xi (n : Int) := Int32.ofInt_eq_ofNat.symm
def xk_W (B : Nat → Nat) (w0 w1 w2 w3 : Int64) : Prop := cb_S w0 (fun s => (B s).testBit 0) ∧ cb_S w1 (fun s => (B s).testBit 1) ∧ cb_S w2 (fun s => (B s).testBit 2) ∧ cb_S w3 (fun s => (B s).testBit 3)
theorem xk_inj {B B' : Nat → Nat} {w0 w1 w2 w3 : Int64} (hB : cd_OK B) (hB' : cd_OK B') (h : xk_W B w0 w1 w2 w3) (h' : xk_W B' w0 w1 w2 w3) : B = B' := by
  funext s
  by_cases hs : s < 36
  · have e : ∀ {w : Int64} {j : Nat}, cb_S w (fun s => (B s).testBit j) → cb_S w (fun s => (B' s).testBit j) → (B s).testBit j = (B' s).testBit j := by
      intro w j a b
      have a := a s (by omega)
      have b := b s (by omega)
      rw [a, decide_eq_true hs, Bool.true_and, Bool.true_and] at b
      exact b
    have e0 := e h.1 h'.1
    have e1 := e h.2.1 h'.2.1
    have e2 := e h.2.2.1 h'.2.2.1
    have e3 := e h.2.2.2 h'.2.2.2
    have v := (hB.1 s hs).1
    have v' := (hB'.1 s hs).1
    have : ∀ a, a < 15 → ∀ b, b < 15 → (a.testBit 0 = b.testBit 0 ∧ a.testBit 1 = b.testBit 1 ∧ a.testBit 2 = b.testBit 2 ∧ a.testBit 3 = b.testBit 3) → a = b := by decide +kernel
    exact this (B s) (by omega) (B' s) (by omega) ⟨e0, e1, e2, e3⟩
  · rw [hB.2.1 s (by omega), hB'.2.1 s (by omega)]
theorem xk_bits : ∀ p, p < 15 → p ≠ 7 → p ≠ 8 → ((p == 1 || p == 3 || p == 5 || p == 9 || p == 11 || p == 13) = p.testBit 0 ∧ (p == 2 || p == 3 || p == 6 || p == 10 || p == 11 || p == 14) = p.testBit 1 ∧ (p == 4 || p == 5 || p == 6 || p == 12 || p == 13 || p == 14) = p.testBit 2 ∧ cd_of p 1 = p.testBit 3) := by decide +kernel
theorem xk_8 {v : Nat} (h : v ≤ 14 ∧ v ≠ 7 ∧ v ≠ 8) : v < 15 := by omega
section
variable {f_going f_mover f_made f_played : Int32} {f_shields : Int64} {f_settled f_rootMove : Int32} {f_word0 f_word1 f_word2 f_word3 : Int64} {a_nextTo a_leaps a_pawnHits a_line : Nat → Int64} {a_at : Nat → Int32} {a_squaresOf a_held : Nat → Int64} {a_kingAt a_quiet : Nat → Int32} {a_positions : Nat → Int64} {a_playedMove a_playedPiece a_playedTaken a_moveList a_listEnd a_nextMove : Nat → Int32} {a_shieldLine : Nat → Int64} {a_left a_low a_firstLow a_high a_most a_rows : Nat → Int32} {a_knownWords : Nat → Int64} {a_knownMover a_knownDepth a_knownKind a_knownNumber : Nat → Int32} {post : SX → Prop} {B : Nat → Nat}
theorem xk_lay (hB : xb_B B a_at a_squaresOf a_held) (hv : ∀ s, s < 36 → B s ≤ 14 ∧ B s ≠ 7 ∧ B s ≠ 8)
    (C : ∀ w0 w1 w2 w3, xk_W B w0 w1 w2 w3 → post (f_going, f_mover, f_made, f_played, f_shields, f_settled, f_rootMove, w0, w1, w2, w3, a_nextTo, a_leaps, a_pawnHits, a_line, a_at, a_squaresOf, a_held, a_kingAt, a_quiet, a_positions, a_playedMove, a_playedPiece, a_playedTaken, a_moveList, a_listEnd, a_nextMove, a_shieldLine, a_left, a_low, a_firstLow, a_high, a_most, a_rows, a_knownWords, a_knownMover, a_knownDepth, a_knownKind, a_knownNumber)) : wpX_layWords post (f_going, f_mover, f_made, f_played, f_shields, f_settled, f_rootMove, f_word0, f_word1, f_word2, f_word3, a_nextTo, a_leaps, a_pawnHits, a_line, a_at, a_squaresOf, a_held, a_kingAt, a_quiet, a_positions, a_playedMove, a_playedPiece, a_playedTaken, a_moveList, a_listEnd, a_nextMove, a_shieldLine, a_left, a_low, a_firstLow, a_high, a_most, a_rows, a_knownWords, a_knownMover, a_knownDepth, a_knownKind, a_knownNumber) := by
  have b := fun p h1 h2 => hB.2.1 p h1 h2
  refine nm_e (nm_e (nm_e (nm_e (C _ _ _ _ ⟨?_, ?_, ?_, ?_⟩))))
  · exact cb_Se (cb_Sor (cb_Sor (cb_Sor (cb_Sor (cb_Sor (b 1 (by decide) (by decide)) (b 3 (by decide) (by decide))) (b 5 (by decide) (by decide))) (b 9 (by decide) (by decide))) (b 11 (by decide) (by decide))) (b 13 (by decide) (by decide))) fun s hs => (xk_bits (B s) (xk_8 (hv s hs)) (hv s hs).2.1 (hv s hs).2.2).1
  · exact cb_Se (cb_Sor (cb_Sor (cb_Sor (cb_Sor (cb_Sor (b 2 (by decide) (by decide)) (b 3 (by decide) (by decide))) (b 6 (by decide) (by decide))) (b 10 (by decide) (by decide))) (b 11 (by decide) (by decide))) (b 14 (by decide) (by decide))) fun s hs => (xk_bits (B s) (xk_8 (hv s hs)) (hv s hs).2.1 (hv s hs).2.2).2.1
  · exact cb_Se (cb_Sor (cb_Sor (cb_Sor (cb_Sor (cb_Sor (b 4 (by decide) (by decide)) (b 5 (by decide) (by decide))) (b 6 (by decide) (by decide))) (b 12 (by decide) (by decide))) (b 13 (by decide) (by decide))) (b 14 (by decide) (by decide))) fun s hs => (xk_bits (B s) (xk_8 (hv s hs)) (hv s hs).2.1 (hv s hs).2.2).2.2.1
  · exact cb_Se (hB.2.2 1 (by decide)) fun s hs => (xk_bits (B s) (xk_8 (hv s hs)) (hv s hs).2.1 (hv s hs).2.2).2.2.2
theorem xk_cell {post : Int32 → SX → Prop} (hB : xb_B B a_at a_squaresOf a_held) (hv : ∀ s, s < 36 → B s ≤ 14 ∧ B s ≠ 7 ∧ B s ≠ 8)
    (C : ∀ c w0 w1 w2 w3, c < 64 → xk_W B w0 w1 w2 w3 → post (nI c) (f_going, f_mover, f_made, f_played, f_shields, f_settled, f_rootMove, w0, w1, w2, w3, a_nextTo, a_leaps, a_pawnHits, a_line, a_at, a_squaresOf, a_held, a_kingAt, a_quiet, a_positions, a_playedMove, a_playedPiece, a_playedTaken, a_moveList, a_listEnd, a_nextMove, a_shieldLine, a_left, a_low, a_firstLow, a_high, a_most, a_rows, a_knownWords, a_knownMover, a_knownDepth, a_knownKind, a_knownNumber)) : wpX_cellOf post (f_going, f_mover, f_made, f_played, f_shields, f_settled, f_rootMove, f_word0, f_word1, f_word2, f_word3, a_nextTo, a_leaps, a_pawnHits, a_line, a_at, a_squaresOf, a_held, a_kingAt, a_quiet, a_positions, a_playedMove, a_playedPiece, a_playedTaken, a_moveList, a_listEnd, a_nextMove, a_shieldLine, a_left, a_low, a_firstLow, a_high, a_most, a_rows, a_knownWords, a_knownMover, a_knownDepth, a_knownKind, a_knownNumber) := by
  unfold wpX_cellOf
  refine xk_lay hB hv fun w0 w1 w2 w3 hw => nm_e fun x hx => ?_
  obtain ⟨n, hn, hxn⟩ := wb_of x
  have e : ((x.toUInt64 >>> ((58 : Int32).toInt64.toUInt64 &&& Int64.toUInt64 63)).toInt64).toInt32 = nI (n / 2 ^ 58) := by
    rw [hxn, show (58 : Int32) = nI 58 from rfl, wb_shr hn (by decide), lN_i]
  rw [e]
  exact C _ w0 w1 w2 w3 (by omega) hw
end
/-- what is remembered of a position -/
def xk_E (B : Nat → Nat) (m d : Nat) (kind num : Int32) : Prop := (∃ n : Int, num = xi n ∧ -5000 ≤ n ∧ n ≤ 5000 ∧ ((kind = 1 ∧ cd_val d B m = n) ∨ (kind = 2 ∧ n ≤ cd_val d B m) ∨ (kind = 3 ∧ cd_val d B m ≤ n))) ∨ (kind = 4 ∧ num = nI (cd_pf d B m))
def xk_T (kw : Nat → Int64) (km kd kk kn : Nat → Int32) : Prop := ∀ c, c < 64 → kk c = 0 ∨ ∃ B m d, cd_OK B ∧ m < 2 ∧ d < 100 ∧ xk_W B (kw (4 * c)) (kw (4 * c + 1)) (kw (4 * c + 2)) (kw (4 * c + 3)) ∧ km c = nI m ∧ kd c = nI d ∧ xk_E B m d (kk c) (kn c)
theorem xk_T0 : xk_T (fun _ => 0) (fun _ => 0) (fun _ => 0) (fun _ => 0) (fun _ => 0) := fun _ _ => Or.inl rfl
theorem xk_4 {c j : Nat} : (4 * nI c) + nI j = nI (4 * c + j) := by
  rw [show (4 : Int32) = nI 4 from rfl, pk_mul, nI_add]
theorem xk_40 {c : Nat} : (4 * nI c) = nI (4 * c) := by
  rw [show (4 : Int32) = nI 4 from rfl, pk_mul]
section
variable {f_going f_mover f_made f_played : Int32} {f_shields : Int64} {f_settled f_rootMove : Int32} {f_word0 f_word1 f_word2 f_word3 : Int64} {a_nextTo a_leaps a_pawnHits a_line : Nat → Int64} {a_at : Nat → Int32} {a_squaresOf a_held : Nat → Int64} {a_kingAt a_quiet : Nat → Int32} {a_positions : Nat → Int64} {a_playedMove a_playedPiece a_playedTaken a_moveList a_listEnd a_nextMove : Nat → Int32} {a_shieldLine : Nat → Int64} {a_left a_low a_firstLow a_high a_most a_rows : Nat → Int32} {a_knownWords : Nat → Int64} {a_knownMover a_knownDepth a_knownKind a_knownNumber : Nat → Int32} {B : Nat → Nat} {m d c : Nat}
theorem xk_isKnown {post : Int32 → Prop} (hT : xk_T a_knownWords a_knownMover a_knownDepth a_knownKind a_knownNumber) (hok : cd_OK B) (hm : m < 2) (hd : d < 100) (hmo : f_mover = nI m) (hw : xk_W B f_word0 f_word1 f_word2 f_word3) (hc : c < 64)
    (C0 : post 0) (C1 : xk_E B m d (a_knownKind c) (a_knownNumber c) → post 1) : wpX_isKnown post (f_going, f_mover, f_made, f_played, f_shields, f_settled, f_rootMove, f_word0, f_word1, f_word2, f_word3, a_nextTo, a_leaps, a_pawnHits, a_line, a_at, a_squaresOf, a_held, a_kingAt, a_quiet, a_positions, a_playedMove, a_playedPiece, a_playedTaken, a_moveList, a_listEnd, a_nextMove, a_shieldLine, a_left, a_low, a_firstLow, a_high, a_most, a_rows, a_knownWords, a_knownMover, a_knownDepth, a_knownKind, a_knownNumber) (nI c) (nI d) := by
  have hci : vp_in (nI c) 64 := vp_in_nI hc (by decide)
  have hcc : (nI c).toNatClampNeg = c := nI_clamp (by omega)
  have h4 : vp_in (4 * nI c) 256 := by rw [xk_40]; exact vp_in_nI (by omega) (by decide)
  have h4c : (4 * nI c).toNatClampNeg = 4 * c := by rw [xk_40, nI_clamp (by omega)]
  have h4j : ∀ j, j < 4 → vp_in ((4 * nI c) + nI j) 256 := fun j hj => by rw [xk_4]; exact vp_in_nI (by omega) (by decide)
  have h4k : ∀ j, j < 4 → ((4 * nI c) + nI j).toNatClampNeg = 4 * c + j := fun j hj => by rw [xk_4, nI_clamp (by omega)]
  have e1 : ((4 * nI c) + 1).toNatClampNeg = 4 * c + 1 := h4k 1 (by decide)
  have e2 : ((4 * nI c) + 2).toNatClampNeg = 4 * c + 2 := h4k 2 (by decide)
  have e3 : ((4 * nI c) + 3).toNatClampNeg = 4 * c + 3 := h4k 3 (by decide)
  have h72 : wX_isKnown_72 post (nI c) f_going f_mover f_made f_played f_shields f_settled f_rootMove f_word0 f_word1 f_word2 f_word3 a_nextTo a_leaps a_pawnHits a_line a_at a_squaresOf a_held a_kingAt a_quiet a_positions a_playedMove a_playedPiece a_playedTaken a_moveList a_listEnd a_nextMove a_shieldLine a_left a_low a_firstLow a_high a_most a_rows a_knownWords a_knownMover a_knownDepth a_knownKind a_knownNumber := br_t rfl C0
  refine (?_ : vp_in (nI c) 64 ∧ _)
  rw [hcc, h4c, e1]
  refine ⟨hci, br_c (fun _ => C0) (fun k0 => ⟨hci, br_c (fun k1 => ⟨hci, br_c (fun k2 => ⟨h4, br_c (fun k3 => ⟨h4j 1 (by decide), br_c (fun k4 => ?_) (fun _ => h72)⟩) (fun _ => h72)⟩) (fun _ => C0)⟩) (fun _ => C0)⟩)⟩
  unfold wX_isKnown_73
  rw [e2, e3]
  refine br_f (by decide) ⟨h4j 2 (by decide), br_c (fun k5 => ⟨h4j 3 (by decide), br_c (fun k6 => C1 ?_) (fun _ => C0)⟩) (fun _ => C0)⟩
  rcases hT c hc with h | ⟨B', m', d', g1, g2, g3, g4, g5, g6, g7⟩
  · exact absurd h k0
  · rw [k3, k4, k5, k6] at g4
    have hBB := xk_inj g1 hok g4 hw
    rw [g5, hmo] at k1
    rw [g6] at k2
    have hmm : m' = m := (nI_eq (by omega) (by omega)).mp k1
    have hdd : d' = d := (nI_eq (by omega) (by omega)).mp k2
    rw [hBB, hmm, hdd] at g7; exact g7
theorem xk_remember {post : SX → Prop} {kind num : Int32} (hB : xb_B B a_at a_squaresOf a_held) (hT : xk_T a_knownWords a_knownMover a_knownDepth a_knownKind a_knownNumber) (hok : cd_OK B) (hm : m < 2) (hd : d < 100) (hmo : f_mover = nI m) (hE : xk_E B m d kind num)
    (C : ∀ (f_word0_2 f_word1_2 f_word2_2 f_word3_2 : Int64) (a_knownWords_2 : Nat → Int64) (a_knownMover_2 a_knownDepth_2 a_knownKind_2 a_knownNumber_2 : Nat → Int32), xk_T a_knownWords_2 a_knownMover_2 a_knownDepth_2 a_knownKind_2 a_knownNumber_2 → post (f_going, f_mover, f_made, f_played, f_shields, f_settled, f_rootMove, f_word0_2, f_word1_2, f_word2_2, f_word3_2, a_nextTo, a_leaps, a_pawnHits, a_line, a_at, a_squaresOf, a_held, a_kingAt, a_quiet, a_positions, a_playedMove, a_playedPiece, a_playedTaken, a_moveList, a_listEnd, a_nextMove, a_shieldLine, a_left, a_low, a_firstLow, a_high, a_most, a_rows, a_knownWords_2, a_knownMover_2, a_knownDepth_2, a_knownKind_2, a_knownNumber_2)) : wpX_remember post (f_going, f_mover, f_made, f_played, f_shields, f_settled, f_rootMove, f_word0, f_word1, f_word2, f_word3, a_nextTo, a_leaps, a_pawnHits, a_line, a_at, a_squaresOf, a_held, a_kingAt, a_quiet, a_positions, a_playedMove, a_playedPiece, a_playedTaken, a_moveList, a_listEnd, a_nextMove, a_shieldLine, a_left, a_low, a_firstLow, a_high, a_most, a_rows, a_knownWords, a_knownMover, a_knownDepth, a_knownKind, a_knownNumber) (nI d) kind num := by
  unfold wpX_remember
  refine xk_cell hB hok.1 fun c w0 w1 w2 w3 hc hw => ?_
  have hci : vp_in (nI c) 64 := vp_in_nI hc (by decide)
  have hcc : (nI c).toNatClampNeg = c := nI_clamp (by omega)
  have h4 : vp_in (4 * nI c) 256 := by rw [xk_40]; exact vp_in_nI (by omega) (by decide)
  have h4c : (4 * nI c).toNatClampNeg = 4 * c := by rw [xk_40, nI_clamp (by omega)]
  have h4j : ∀ j, j < 4 → vp_in ((4 * nI c) + nI j) 256 := fun j hj => by rw [xk_4]; exact vp_in_nI (by omega) (by decide)
  have h4k : ∀ j, j < 4 → ((4 * nI c) + nI j).toNatClampNeg = 4 * c + j := fun j hj => by rw [xk_4, nI_clamp (by omega)]
  refine ⟨h4, nm_r (e' := vp_updL a_knownWords (4 * c) w0) (by rw [h4c]) ⟨h4j 1 (by decide), nm_r (e' := vp_updL (vp_updL a_knownWords (4 * c) w0) (4 * c + 1) w1) (congrArg (fun k => vp_updL _ k w1) (h4k 1 (by decide))) ⟨h4j 2 (by decide), nm_r (e' := vp_updL (vp_updL (vp_updL a_knownWords (4 * c) w0) (4 * c + 1) w1) (4 * c + 2) w2) (congrArg (fun k => vp_updL _ k w2) (h4k 2 (by decide))) ⟨h4j 3 (by decide), nm_r (e' := vp_updL (vp_updL (vp_updL (vp_updL a_knownWords (4 * c) w0) (4 * c + 1) w1) (4 * c + 2) w2) (4 * c + 3) w3) (congrArg (fun k => vp_updL _ k w3) (h4k 3 (by decide))) ⟨hci, nm_r (e' := upd a_knownMover c (nI m)) (by rw [hcc, hmo]) ⟨hci, nm_r (e' := upd a_knownDepth c (nI d)) (by rw [hcc]) ⟨hci, nm_r (e' := upd a_knownKind c kind) (by rw [hcc]) ⟨hci, nm_r (e' := upd a_knownNumber c num) (by rw [hcc]) (C _ _ _ _ _ _ _ _ _ fun c' hc' => ?_)⟩⟩⟩⟩⟩⟩⟩⟩
  by_cases e : c' = c
  · subst e
    refine Or.inr ⟨B, m, d, hok, hm, hd, ?_, pk_us, pk_us, ?_⟩
    · rw [pk_uLn (by omega), pk_uLn (by omega), pk_uLn (by omega), pk_uLs, pk_uLn (by omega), pk_uLn (by omega), pk_uLs, pk_uLn (by omega), pk_uLs, pk_uLs]
      exact hw
    · rw [pk_us, pk_us]; exact hE
  · rw [pk_un e, pk_un e, pk_un e, pk_un e]
    have u : ∀ j, j < 4 → vp_updL (vp_updL (vp_updL (vp_updL a_knownWords (4 * c) w0) (4 * c + 1) w1) (4 * c + 2) w2) (4 * c + 3) w3 (4 * c' + j) = a_knownWords (4 * c' + j) := fun j hj => by
      rw [pk_uLn (by omega), pk_uLn (by omega), pk_uLn (by omega), pk_uLn (by omega)]
    have u0 := u 0 (by decide)
    simp only [Nat.add_zero] at u0
    rw [u0, u 1 (by decide), u 2 (by decide), u 3 (by decide)]
    exact hT c' hc'
theorem xk_recallV {post : Int32 → SX → Prop} {lo hi : Int} (hB : xb_B B a_at a_squaresOf a_held) (hT : xk_T a_knownWords a_knownMover a_knownDepth a_knownKind a_knownNumber) (hok : cd_OK B) (hm : m < 2) (hd : d < 100) (hmo : f_mover = nI m) (hlo : -5000 ≤ lo) (hhi : hi ≤ 5000) (hlh : lo < hi)
    (C0 : ∀ (f_settled_2 : Int32) (f_word0_2 f_word1_2 f_word2_2 f_word3_2 : Int64), post 0 (f_going, f_mover, f_made, f_played, f_shields, f_settled_2, f_rootMove, f_word0_2, f_word1_2, f_word2_2, f_word3_2, a_nextTo, a_leaps, a_pawnHits, a_line, a_at, a_squaresOf, a_held, a_kingAt, a_quiet, a_positions, a_playedMove, a_playedPiece, a_playedTaken, a_moveList, a_listEnd, a_nextMove, a_shieldLine, a_left, a_low, a_firstLow, a_high, a_most, a_rows, a_knownWords, a_knownMover, a_knownDepth, a_knownKind, a_knownNumber)) (C1 : ∀ (f_word0_2 f_word1_2 f_word2_2 f_word3_2 : Int64), ∀ s : Int, -5000 ≤ s → s ≤ 5000 → cs_R (cd_val d B m) s lo hi → post 1 (f_going, f_mover, f_made, f_played, f_shields, xi s, f_rootMove, f_word0_2, f_word1_2, f_word2_2, f_word3_2, a_nextTo, a_leaps, a_pawnHits, a_line, a_at, a_squaresOf, a_held, a_kingAt, a_quiet, a_positions, a_playedMove, a_playedPiece, a_playedTaken, a_moveList, a_listEnd, a_nextMove, a_shieldLine, a_left, a_low, a_firstLow, a_high, a_most, a_rows, a_knownWords, a_knownMover, a_knownDepth, a_knownKind, a_knownNumber)) : wpX_recallValue post (f_going, f_mover, f_made, f_played, f_shields, f_settled, f_rootMove, f_word0, f_word1, f_word2, f_word3, a_nextTo, a_leaps, a_pawnHits, a_line, a_at, a_squaresOf, a_held, a_kingAt, a_quiet, a_positions, a_playedMove, a_playedPiece, a_playedTaken, a_moveList, a_listEnd, a_nextMove, a_shieldLine, a_left, a_low, a_firstLow, a_high, a_most, a_rows, a_knownWords, a_knownMover, a_knownDepth, a_knownKind, a_knownNumber) (nI d) (xi lo) (xi hi) := by
  unfold wpX_recallValue
  refine xk_cell hB hok.1 fun c w0 w1 w2 w3 hc hw => ?_
  have hci : vp_in (nI c) 64 := vp_in_nI hc (by decide)
  have hcc : (nI c).toNatClampNeg = c := nI_clamp (by omega)
  refine xk_isKnown hT hok hm hd hmo hw hc (br_t rfl (C0 _ _ _ _ _)) (fun hE => br_f (by decide) ⟨hci, ?_⟩)
  rw [hcc]
  refine br_c (fun _ => C0 _ _ _ _ _) (fun h4 => ⟨hci, nm_e ⟨hci, ?_⟩⟩)
  rcases hE with ⟨n, hn, n1, n2, hE⟩ | ⟨hk, _⟩
  · rw [hn]
    have hlt : ∀ a : Int, -5000 ≤ a ∧ a ≤ 5000 → -2147483648 ≤ a ∧ a < 2147483648 := fun a ha => by omega
    refine br_c (fun h2 => ?_) (fun h2 => ⟨hci, br_c (fun h1 => ?_) (fun h1 => ?_)⟩)
    · rw [xi_lt (hlt n ⟨n1, n2⟩) (hlt hi ⟨by omega, hhi⟩)]
      refine br_c (fun _ => C0 _ _ _ _ _) (fun hge => C1 _ _ _ _ n n1 n2 ⟨fun h => by omega, fun _ => ?_, fun _ h => by omega⟩)
      rcases hE with h | h | h
      · exact absurd (h.1.symm.trans h2) (by decide)
      · exact h.2
      · exact absurd (h.1.symm.trans h2) (by decide)
    · refine C1 _ _ _ _ n n1 n2 ?_
      have hv : cd_val d B m = n := by
        rcases hE with h | h | h
        · exact h.2
        · exact absurd (h.1.symm.trans h1) (by decide)
        · exact absurd (h.1.symm.trans h1) (by decide)
      exact ⟨fun _ => by omega, fun _ => by omega, fun _ _ => hv⟩
    · rw [xi_lt (hlt lo ⟨hlo, by omega⟩) (hlt n ⟨n1, n2⟩)]
      refine br_c (fun _ => C0 _ _ _ _ _) (fun hle => C1 _ _ _ _ n n1 n2 ⟨fun _ => ?_, fun h => by omega, fun h _ => by omega⟩)
      rcases hE with h | h | h
      · exact absurd h.1 h1
      · exact absurd h.1 h2
      · exact h.2
  · exact absurd hk h4
theorem xk_recallR {post : Int32 → SX → Prop} (hB : xb_B B a_at a_squaresOf a_held) (hT : xk_T a_knownWords a_knownMover a_knownDepth a_knownKind a_knownNumber) (hok : cd_OK B) (hm : m < 2) (hd : d < 100) (hmo : f_mover = nI m)
    (C0 : ∀ (f_settled_2 : Int32) (f_word0_2 f_word1_2 f_word2_2 f_word3_2 : Int64), post 0 (f_going, f_mover, f_made, f_played, f_shields, f_settled_2, f_rootMove, f_word0_2, f_word1_2, f_word2_2, f_word3_2, a_nextTo, a_leaps, a_pawnHits, a_line, a_at, a_squaresOf, a_held, a_kingAt, a_quiet, a_positions, a_playedMove, a_playedPiece, a_playedTaken, a_moveList, a_listEnd, a_nextMove, a_shieldLine, a_left, a_low, a_firstLow, a_high, a_most, a_rows, a_knownWords, a_knownMover, a_knownDepth, a_knownKind, a_knownNumber)) (C1 : ∀ (f_word0_2 f_word1_2 f_word2_2 f_word3_2 : Int64), post 1 (f_going, f_mover, f_made, f_played, f_shields, nI (cd_pf d B m), f_rootMove, f_word0_2, f_word1_2, f_word2_2, f_word3_2, a_nextTo, a_leaps, a_pawnHits, a_line, a_at, a_squaresOf, a_held, a_kingAt, a_quiet, a_positions, a_playedMove, a_playedPiece, a_playedTaken, a_moveList, a_listEnd, a_nextMove, a_shieldLine, a_left, a_low, a_firstLow, a_high, a_most, a_rows, a_knownWords, a_knownMover, a_knownDepth, a_knownKind, a_knownNumber)) : wpX_recallRows post (f_going, f_mover, f_made, f_played, f_shields, f_settled, f_rootMove, f_word0, f_word1, f_word2, f_word3, a_nextTo, a_leaps, a_pawnHits, a_line, a_at, a_squaresOf, a_held, a_kingAt, a_quiet, a_positions, a_playedMove, a_playedPiece, a_playedTaken, a_moveList, a_listEnd, a_nextMove, a_shieldLine, a_left, a_low, a_firstLow, a_high, a_most, a_rows, a_knownWords, a_knownMover, a_knownDepth, a_knownKind, a_knownNumber) (nI d) := by
  unfold wpX_recallRows
  refine xk_cell hB hok.1 fun c w0 w1 w2 w3 hc hw => ?_
  have hci : vp_in (nI c) 64 := vp_in_nI hc (by decide)
  have hcc : (nI c).toNatClampNeg = c := nI_clamp (by omega)
  refine xk_isKnown hT hok hm hd hmo hw hc ⟨hci, nm_e (br_t rfl (C0 _ _ _ _ _))⟩ (fun hE => ⟨hci, nm_e (br_f (by decide) ⟨hci, ?_⟩)⟩)
  rw [hcc]
  refine br_c (fun h4 => ?_) (fun _ => C0 _ _ _ _ _)
  rcases hE with ⟨n, hn, n1, n2, hE⟩ | ⟨_, hk⟩
  · rcases hE with h | h | h
    · exact absurd (h.1.symm.trans h4) (by decide)
    · exact absurd (h.1.symm.trans h4) (by decide)
    · exact absurd (h.1.symm.trans h4) (by decide)
  · rw [hk]; exact C1 _ _ _ _
end
end
section
/-! ===== the component's state while it looks ahead ===== -/
def xc_S (B : Nat → Nat) (m h : Nat) (fm fp : Int32) (nt lp ph ln : Nat → Int64) (fa : Nat → Int32) (sq hl : Nat → Int64) (ka : Nat → Int32) (kw : Nat → Int64) (km kd kk kn : Nat → Int32) : Prop :=
  xt_T nt lp ph ln ∧ xb_B B fa sq hl ∧ xb_K B ka ∧ cd_G B m ∧ fm = nI m ∧ fp = nI h ∧ xk_T kw km kd kk kn
def xf_F (l h : Nat) (ml le nm rw pm pp pt ml' le' nm' rw' pm' pp' pt' : Nat → Int32) : Prop :=
  (∀ j, j < 160 * l → ml' j = ml j) ∧ (∀ j, j < l → le' j = le j ∧ nm' j = nm j ∧ rw' j = rw j) ∧ (∀ j, j < h → pm' j = pm j ∧ pp' j = pp j ∧ pt' j = pt j)
theorem xf_refl {l h : Nat} {ml le nm rw pm pp pt : Nat → Int32} : xf_F l h ml le nm rw pm pp pt ml le nm rw pm pp pt :=
  ⟨fun _ _ => rfl, fun _ _ => ⟨rfl, rfl, rfl⟩, fun _ _ => ⟨rfl, rfl, rfl⟩⟩
theorem xf_trans {l h l2 h2 l3 h3 : Nat} {ml le nm rw pm pp pt ml' le' nm' rw' pm' pp' pt' ml2 le2 nm2 rw2 pm2 pp2 pt2 : Nat → Int32} (h1 : l3 ≤ l) (h1' : h3 ≤ h) (h2l : l3 ≤ l2) (h2h : h3 ≤ h2)
    (a : xf_F l h ml le nm rw pm pp pt ml' le' nm' rw' pm' pp' pt') (b : xf_F l2 h2 ml' le' nm' rw' pm' pp' pt' ml2 le2 nm2 rw2 pm2 pp2 pt2) : xf_F l3 h3 ml le nm rw pm pp pt ml2 le2 nm2 rw2 pm2 pp2 pt2 := by
  refine ⟨fun j hj => ?_, fun j hj => ?_, fun j hj => ?_⟩
  · rw [b.1 j (by omega), a.1 j (by omega)]
  · obtain ⟨a1, a2, a3⟩ := a.2.1 j (by omega)
    obtain ⟨b1, b2, b3⟩ := b.2.1 j (by omega)
    exact ⟨b1.trans a1, b2.trans a2, b3.trans a3⟩
  · obtain ⟨a1, a2, a3⟩ := a.2.2 j (by omega)
    obtain ⟨b1, b2, b3⟩ := b.2.2 j (by omega)
    exact ⟨b1.trans a1, b2.trans a2, b3.trans a3⟩
section
variable {f_going f_mover f_made f_played : Int32} {f_shields : Int64} {f_settled f_rootMove : Int32} {f_word0 f_word1 f_word2 f_word3 : Int64} {a_nextTo a_leaps a_pawnHits a_line : Nat → Int64} {a_at : Nat → Int32} {a_squaresOf a_held : Nat → Int64} {a_kingAt a_quiet : Nat → Int32} {a_positions : Nat → Int64} {a_playedMove a_playedPiece a_playedTaken a_moveList a_listEnd a_nextMove : Nat → Int32} {a_shieldLine : Nat → Int64} {a_left a_low a_firstLow a_high a_most a_rows : Nat → Int32} {a_knownWords : Nat → Int64} {a_knownMover a_knownDepth a_knownKind a_knownNumber : Nat → Int32} {post : SX → Prop} {B : Nat → Nat} {m h x l : Nat}
theorem xc_make (hS : (xc_S B m h f_mover f_played a_nextTo a_leaps a_pawnHits a_line a_at a_squaresOf a_held a_kingAt a_knownWords a_knownMover a_knownDepth a_knownKind a_knownNumber)) (hh : h < 72) (hx : x ∈ cd_L B m)
    (C : ∀ (f_mover_2 f_played_2 : Int32) (a_at_2 : Nat → Int32) (a_squaresOf_2 a_held_2 : Nat → Int64) (a_kingAt_2 : Nat → Int32), (xc_S (cd_nx B x) (1 - m) (h + 1) f_mover_2 f_played_2 a_nextTo a_leaps a_pawnHits a_line a_at_2 a_squaresOf_2 a_held_2 a_kingAt_2 a_knownWords a_knownMover a_knownDepth a_knownKind a_knownNumber) → post (f_going, f_mover_2, f_made, f_played_2, f_shields, f_settled, f_rootMove, f_word0, f_word1, f_word2, f_word3, a_nextTo, a_leaps, a_pawnHits, a_line, a_at_2, a_squaresOf_2, a_held_2, a_kingAt_2, a_quiet, a_positions, upd a_playedMove h (nI x), upd a_playedPiece h (nI (B (x / 64))), upd a_playedTaken h (nI (B (x % 64))), a_moveList, a_listEnd, a_nextMove, a_shieldLine, a_left, a_low, a_firstLow, a_high, a_most, a_rows, a_knownWords, a_knownMover, a_knownDepth, a_knownKind, a_knownNumber)) : wpX_make post (f_going, f_mover, f_made, f_played, f_shields, f_settled, f_rootMove, f_word0, f_word1, f_word2, f_word3, a_nextTo, a_leaps, a_pawnHits, a_line, a_at, a_squaresOf, a_held, a_kingAt, a_quiet, a_positions, a_playedMove, a_playedPiece, a_playedTaken, a_moveList, a_listEnd, a_nextMove, a_shieldLine, a_left, a_low, a_firstLow, a_high, a_most, a_rows, a_knownWords, a_knownMover, a_knownDepth, a_knownKind, a_knownNumber) (nI x) := by
  obtain ⟨s1, s2, s3, s4, s5, s6, s7⟩ := hS
  exact xm_make s2 s3 s4 s5 s6 hh hx fun fa sq hl ka c1 c2 => C _ _ fa sq hl ka ⟨s1, c1, c2, ce_Gx s4 hx, rfl, rfl, s7⟩
theorem xc_back (hS : (xc_S (cd_nx B x) (1 - m) (h + 1) f_mover f_played a_nextTo a_leaps a_pawnHits a_line a_at a_squaresOf a_held a_kingAt a_knownWords a_knownMover a_knownDepth a_knownKind a_knownNumber)) (hG : cd_G B m) (hh : h < 72) (hx : x ∈ cd_L B m) (hm1 : a_playedMove h = nI x) (hm2 : a_playedPiece h = nI (B (x / 64))) (hm3 : a_playedTaken h = nI (B (x % 64)))
    (C : ∀ (f_mover_2 f_played_2 : Int32) (a_at_2 : Nat → Int32) (a_squaresOf_2 a_held_2 : Nat → Int64) (a_kingAt_2 : Nat → Int32), (xc_S B m h f_mover_2 f_played_2 a_nextTo a_leaps a_pawnHits a_line a_at_2 a_squaresOf_2 a_held_2 a_kingAt_2 a_knownWords a_knownMover a_knownDepth a_knownKind a_knownNumber) → post (f_going, f_mover_2, f_made, f_played_2, f_shields, f_settled, f_rootMove, f_word0, f_word1, f_word2, f_word3, a_nextTo, a_leaps, a_pawnHits, a_line, a_at_2, a_squaresOf_2, a_held_2, a_kingAt_2, a_quiet, a_positions, a_playedMove, a_playedPiece, a_playedTaken, a_moveList, a_listEnd, a_nextMove, a_shieldLine, a_left, a_low, a_firstLow, a_high, a_most, a_rows, a_knownWords, a_knownMover, a_knownDepth, a_knownKind, a_knownNumber)) : wpX_takeBack post (f_going, f_mover, f_made, f_played, f_shields, f_settled, f_rootMove, f_word0, f_word1, f_word2, f_word3, a_nextTo, a_leaps, a_pawnHits, a_line, a_at, a_squaresOf, a_held, a_kingAt, a_quiet, a_positions, a_playedMove, a_playedPiece, a_playedTaken, a_moveList, a_listEnd, a_nextMove, a_shieldLine, a_left, a_low, a_firstLow, a_high, a_most, a_rows, a_knownWords, a_knownMover, a_knownDepth, a_knownKind, a_knownNumber) := by
  obtain ⟨s1, s2, s3, s4, s5, s6, s7⟩ := hS
  exact xm_back s2 s3 hG s5 s6 hh hx hm1 hm2 hm3 fun fa sq hl ka c1 c2 => C _ _ fa sq hl ka ⟨s1, c1, c2, hG, rfl, rfl, s7⟩
theorem xc_list (hS : (xc_S B m h f_mover f_played a_nextTo a_leaps a_pawnHits a_line a_at a_squaresOf a_held a_kingAt a_knownWords a_knownMover a_knownDepth a_knownKind a_knownNumber)) (hl : l < 6)
    (C : ∀ (f_shields_2 : Int64) (a_moveList_2 a_listEnd_2 a_nextMove_2 : Nat → Int32) (a_shieldLine_2 : Nat → Int64), xl_M a_moveList_2 (160 * l) (cd_L B m) → (∀ j, j < 160 * l → a_moveList_2 j = a_moveList j) → a_listEnd_2 l = nI (160 * l + (cd_L B m).length) → (∀ j, j ≠ l → a_listEnd_2 j = a_listEnd j) → a_nextMove_2 l = nI (160 * l) → (∀ j, j ≠ l → a_nextMove_2 j = a_nextMove j) → post (f_going, f_mover, f_made, f_played, f_shields_2, f_settled, f_rootMove, f_word0, f_word1, f_word2, f_word3, a_nextTo, a_leaps, a_pawnHits, a_line, a_at, a_squaresOf, a_held, a_kingAt, a_quiet, a_positions, a_playedMove, a_playedPiece, a_playedTaken, a_moveList_2, a_listEnd_2, a_nextMove_2, a_shieldLine_2, a_left, a_low, a_firstLow, a_high, a_most, a_rows, a_knownWords, a_knownMover, a_knownDepth, a_knownKind, a_knownNumber)) : wpX_list post (f_going, f_mover, f_made, f_played, f_shields, f_settled, f_rootMove, f_word0, f_word1, f_word2, f_word3, a_nextTo, a_leaps, a_pawnHits, a_line, a_at, a_squaresOf, a_held, a_kingAt, a_quiet, a_positions, a_playedMove, a_playedPiece, a_playedTaken, a_moveList, a_listEnd, a_nextMove, a_shieldLine, a_left, a_low, a_firstLow, a_high, a_most, a_rows, a_knownWords, a_knownMover, a_knownDepth, a_knownKind, a_knownNumber) (nI l) := by
  obtain ⟨s1, s2, s3, s4, s5, s6, s7⟩ := hS
  obtain ⟨k, hk, hka⟩ := s3 m s4.1
  exact xl_list hl s1 s2 s4 s5 hk hka fun sh sl ml le nm c1 c2 c3 c4 c5 c6 => C sh ml le nm sl c1 c2 c3 c4 c5 c6
theorem xc_inCheck {post : Int32 → Prop} {q : Nat} (hS : (xc_S B m h f_mover f_played a_nextTo a_leaps a_pawnHits a_line a_at a_squaresOf a_held a_kingAt a_knownWords a_knownMover a_knownDepth a_knownKind a_knownNumber)) (hq : q < 2) (C : post (xb_b (cd_ck B q))) : wpX_inCheck post (f_going, f_mover, f_made, f_played, f_shields, f_settled, f_rootMove, f_word0, f_word1, f_word2, f_word3, a_nextTo, a_leaps, a_pawnHits, a_line, a_at, a_squaresOf, a_held, a_kingAt, a_quiet, a_positions, a_playedMove, a_playedPiece, a_playedTaken, a_moveList, a_listEnd, a_nextMove, a_shieldLine, a_left, a_low, a_firstLow, a_high, a_most, a_rows, a_knownWords, a_knownMover, a_knownDepth, a_knownKind, a_knownNumber) (nI q) := by
  obtain ⟨s1, s2, s3, s4, s5, s6, s7⟩ := hS
  obtain ⟨k, hk, hka⟩ := s3 q hq
  exact xa_inCheck s1 s2 s4.2.1.1 hq hk hka C
theorem xc_remember {d : Nat} {kind num : Int32} (hS : (xc_S B m h f_mover f_played a_nextTo a_leaps a_pawnHits a_line a_at a_squaresOf a_held a_kingAt a_knownWords a_knownMover a_knownDepth a_knownKind a_knownNumber)) (hd : d < 100) (hE : xk_E B m d kind num)
    (C : ∀ (f_word0_2 f_word1_2 f_word2_2 f_word3_2 : Int64) (a_knownWords_2 : Nat → Int64) (a_knownMover_2 a_knownDepth_2 a_knownKind_2 a_knownNumber_2 : Nat → Int32), (xc_S B m h f_mover f_played a_nextTo a_leaps a_pawnHits a_line a_at a_squaresOf a_held a_kingAt a_knownWords_2 a_knownMover_2 a_knownDepth_2 a_knownKind_2 a_knownNumber_2) → post (f_going, f_mover, f_made, f_played, f_shields, f_settled, f_rootMove, f_word0_2, f_word1_2, f_word2_2, f_word3_2, a_nextTo, a_leaps, a_pawnHits, a_line, a_at, a_squaresOf, a_held, a_kingAt, a_quiet, a_positions, a_playedMove, a_playedPiece, a_playedTaken, a_moveList, a_listEnd, a_nextMove, a_shieldLine, a_left, a_low, a_firstLow, a_high, a_most, a_rows, a_knownWords_2, a_knownMover_2, a_knownDepth_2, a_knownKind_2, a_knownNumber_2)) : wpX_remember post (f_going, f_mover, f_made, f_played, f_shields, f_settled, f_rootMove, f_word0, f_word1, f_word2, f_word3, a_nextTo, a_leaps, a_pawnHits, a_line, a_at, a_squaresOf, a_held, a_kingAt, a_quiet, a_positions, a_playedMove, a_playedPiece, a_playedTaken, a_moveList, a_listEnd, a_nextMove, a_shieldLine, a_left, a_low, a_firstLow, a_high, a_most, a_rows, a_knownWords, a_knownMover, a_knownDepth, a_knownKind, a_knownNumber) (nI d) kind num := by
  obtain ⟨s1, s2, s3, s4, s5, s6, s7⟩ := hS
  refine xk_remember s2 s7 s4.2.1 s4.1 hd s5 hE ?_
  intro f_word0_2 f_word1_2 f_word2_2 f_word3_2 a_knownWords_2 a_knownMover_2 a_knownDepth_2 a_knownKind_2 a_knownNumber_2 hT
  exact C _ _ _ _ _ _ _ _ _ ⟨s1, s2, s3, s4, s5, s6, hT⟩
theorem xc_l1 {l : Nat} : nI l + 1 = nI (l + 1) := nI_1 l
theorem xc_m1 {l : Nat} : nI (l + 1) + (-1) = nI l := pk_m1 l
theorem xc_160 {l : Nat} : nI l * 160 = nI (160 * l) := by
  rw [show (160 : Int32) = nI 160 from rfl, pk_mul, Nat.mul_comm]
end
theorem xc_pf1 (B : Nat → Nat) (m : Nat) : cd_pf 1 B m = (cd_L B m).length := by
  rw [cd_pf]
  generalize cd_L B m = l
  induction l with
  | nil => rfl
  | cons a l ih => rw [cd_su, ih, cd_pf, List.length_cons, Nat.add_comm]
theorem xc_su_app (g : Nat → Nat) : ∀ (l : List Nat) (x : Nat), cd_su g (l ++ [x]) = cd_su g l + g x
  | [], x => by show g x + 0 = 0 + g x; omega
  | a :: l, x => by rw [List.cons_append, cd_su, cd_su, xc_su_app g l x, Nat.add_assoc]
section
variable {f_going f_mover f_made f_played : Int32} {f_shields : Int64} {f_settled f_rootMove : Int32} {f_word0 f_word1 f_word2 f_word3 : Int64} {a_nextTo a_leaps a_pawnHits a_line : Nat → Int64} {a_at : Nat → Int32} {a_squaresOf a_held : Nat → Int64} {a_kingAt a_quiet : Nat → Int32} {a_positions : Nat → Int64} {a_playedMove a_playedPiece a_playedTaken a_moveList a_listEnd a_nextMove : Nat → Int32} {a_shieldLine : Nat → Int64} {a_left a_low a_firstLow a_high a_most a_rows : Nat → Int32} {a_knownWords : Nat → Int64} {a_knownMover a_knownDepth a_knownKind a_knownNumber : Nat → Int32} {post : Int32 → SX → Prop} {B : Nat → Nat} {m h l d : Nat}
theorem xr_17 (hS : (xc_S B m h f_mover f_played a_nextTo a_leaps a_pawnHits a_line a_at a_squaresOf a_held a_kingAt a_knownWords a_knownMover a_knownDepth a_knownKind a_knownNumber)) (hl : l < 6) (hd1 : 1 ≤ d) (hd : d < 100)
    (C0 : d = 1 → ∀ (f_shields_2 : Int64) (f_settled_2 : Int32) (f_word0_2 f_word1_2 f_word2_2 f_word3_2 : Int64) (a_moveList_2 a_listEnd_2 a_nextMove_2 : Nat → Int32) (a_shieldLine_2 : Nat → Int64) (a_rows_2 : Nat → Int32), f_settled_2 = nI (cd_pf d B m) → (∀ j, j < 160 * l → a_moveList_2 j = a_moveList j) → (∀ j, j < l → a_listEnd_2 j = a_listEnd j ∧ a_nextMove_2 j = a_nextMove j ∧ a_rows_2 j = a_rows j) → post 0 (f_going, f_mover, f_made, f_played, f_shields_2, f_settled_2, f_rootMove, f_word0_2, f_word1_2, f_word2_2, f_word3_2, a_nextTo, a_leaps, a_pawnHits, a_line, a_at, a_squaresOf, a_held, a_kingAt, a_quiet, a_positions, a_playedMove, a_playedPiece, a_playedTaken, a_moveList_2, a_listEnd_2, a_nextMove_2, a_shieldLine_2, a_left, a_low, a_firstLow, a_high, a_most, a_rows_2, a_knownWords, a_knownMover, a_knownDepth, a_knownKind, a_knownNumber))
    (C1 : 2 ≤ d → ∀ (f_shields_2 : Int64) (f_settled_2 : Int32) (f_word0_2 f_word1_2 f_word2_2 f_word3_2 : Int64) (a_moveList_2 a_listEnd_2 a_nextMove_2 : Nat → Int32) (a_shieldLine_2 : Nat → Int64) (a_rows_2 : Nat → Int32), (∀ j, j < 160 * l → a_moveList_2 j = a_moveList j) → (∀ j, j < l → a_listEnd_2 j = a_listEnd j ∧ a_nextMove_2 j = a_nextMove j ∧ a_rows_2 j = a_rows j) → xl_M a_moveList_2 (160 * l) (cd_L B m) → a_listEnd_2 l = nI (160 * l + (cd_L B m).length) → a_nextMove_2 l = nI (160 * l) → a_rows_2 l = nI 0 → post 1 (f_going, f_mover, f_made, f_played, f_shields_2, f_settled_2, f_rootMove, f_word0_2, f_word1_2, f_word2_2, f_word3_2, a_nextTo, a_leaps, a_pawnHits, a_line, a_at, a_squaresOf, a_held, a_kingAt, a_quiet, a_positions, a_playedMove, a_playedPiece, a_playedTaken, a_moveList_2, a_listEnd_2, a_nextMove_2, a_shieldLine_2, a_left, a_low, a_firstLow, a_high, a_most, a_rows_2, a_knownWords, a_knownMover, a_knownDepth, a_knownKind, a_knownNumber)) :
    wX_openRows_17 post (nI l) (nI d) f_going f_mover f_made f_played f_shields f_settled f_rootMove f_word0 f_word1 f_word2 f_word3 a_nextTo a_leaps a_pawnHits a_line a_at a_squaresOf a_held a_kingAt a_quiet a_positions a_playedMove a_playedPiece a_playedTaken a_moveList a_listEnd a_nextMove a_shieldLine a_left a_low a_firstLow a_high a_most a_rows a_knownWords a_knownMover a_knownDepth a_knownKind a_knownNumber := by
  have hli : vp_in (nI l) 6 := vp_in_nI hl (by decide)
  have hlc : (nI l).toNatClampNeg = l := nI_clamp (by omega)
  unfold wX_openRows_17
  refine xc_list hS hl ?_
  intro f_shields_2 a_moveList_2 a_listEnd_2 a_nextMove_2 a_shieldLine_2 c1 c2 c3 c4 c5 c6
  refine ⟨hli, nm_r (e' := upd a_rows l (nI 0)) (by rw [hlc]; rfl) ⟨hli, nm_r (e' := nI (cd_L B m).length) ?_ ?_⟩⟩
  · rw [hlc, c3, xc_160, pk_sub (by omega)]; congr 1; omega
  · refine pk_le d 1 (fun h1 => ?_) (fun h1 => ?_)
    · have hd1' : d = 1 := by omega
      refine C0 hd1' _ _ _ _ _ _ _ _ _ _ _ ?_ c2 (fun j hj => ⟨c4 j (by omega), c6 j (by omega), pk_un (by omega)⟩)
      rw [hd1', xc_pf1]
    · exact C1 (by omega) _ _ _ _ _ _ _ _ _ _ _ c2 (fun j hj => ⟨c4 j (by omega), c6 j (by omega), pk_un (by omega)⟩) c1 c3 c5 pk_us
end
end
section
/-! ===== counting rows of moves ===== -/
theorem xc_get {L done rest : List Nat} {x : Nat} (h : done ++ x :: rest = L) : done.length < L.length ∧ L.getD done.length 0 = x ∧ x ∈ L ∧ (done ++ [x]) ++ rest = L ∧ (done ++ [x]).length = done.length + 1 := by
  subst h
  refine ⟨by simp, ?_, by simp, by simp, by simp⟩
  rw [List.getD_eq_getElem?_getD, List.getElem?_append_right (Nat.le_refl _), Nat.sub_self]; rfl
section
variable {f_going f_mover f_made f_played : Int32} {f_shields : Int64} {f_settled f_rootMove : Int32} {f_word0 f_word1 f_word2 f_word3 : Int64} {a_nextTo a_leaps a_pawnHits a_line : Nat → Int64} {a_at : Nat → Int32} {a_squaresOf a_held : Nat → Int64} {a_kingAt a_quiet : Nat → Int32} {a_positions : Nat → Int64} {a_playedMove a_playedPiece a_playedTaken a_moveList a_listEnd a_nextMove : Nat → Int32} {a_shieldLine : Nat → Int64} {a_left a_low a_firstLow a_high a_most a_rows : Nat → Int32} {a_knownWords : Nat → Int64} {a_knownMover a_knownDepth a_knownKind a_knownNumber : Nat → Int32} {post : Int32 → SX → Prop} {B : Nat → Nat} {m h l d : Nat}
theorem xr_open (hS : (xc_S B m h f_mover f_played a_nextTo a_leaps a_pawnHits a_line a_at a_squaresOf a_held a_kingAt a_knownWords a_knownMover a_knownDepth a_knownKind a_knownNumber)) (hl : l < 6) (hd1 : 1 ≤ d) (hd : d < 100)
    (C0 : ∀ (f_shields_2 : Int64) (f_settled_2 : Int32) (f_word0_2 f_word1_2 f_word2_2 f_word3_2 : Int64) (a_moveList_2 a_listEnd_2 a_nextMove_2 : Nat → Int32) (a_shieldLine_2 : Nat → Int64) (a_rows_2 : Nat → Int32), f_settled_2 = nI (cd_pf d B m) → (∀ j, j < 160 * l → a_moveList_2 j = a_moveList j) → (∀ j, j < l → a_listEnd_2 j = a_listEnd j ∧ a_nextMove_2 j = a_nextMove j ∧ a_rows_2 j = a_rows j) → post 0 (f_going, f_mover, f_made, f_played, f_shields_2, f_settled_2, f_rootMove, f_word0_2, f_word1_2, f_word2_2, f_word3_2, a_nextTo, a_leaps, a_pawnHits, a_line, a_at, a_squaresOf, a_held, a_kingAt, a_quiet, a_positions, a_playedMove, a_playedPiece, a_playedTaken, a_moveList_2, a_listEnd_2, a_nextMove_2, a_shieldLine_2, a_left, a_low, a_firstLow, a_high, a_most, a_rows_2, a_knownWords, a_knownMover, a_knownDepth, a_knownKind, a_knownNumber))
    (C1 : 2 ≤ d → ∀ (f_shields_2 : Int64) (f_settled_2 : Int32) (f_word0_2 f_word1_2 f_word2_2 f_word3_2 : Int64) (a_moveList_2 a_listEnd_2 a_nextMove_2 : Nat → Int32) (a_shieldLine_2 : Nat → Int64) (a_rows_2 : Nat → Int32), (∀ j, j < 160 * l → a_moveList_2 j = a_moveList j) → (∀ j, j < l → a_listEnd_2 j = a_listEnd j ∧ a_nextMove_2 j = a_nextMove j ∧ a_rows_2 j = a_rows j) → xl_M a_moveList_2 (160 * l) (cd_L B m) → a_listEnd_2 l = nI (160 * l + (cd_L B m).length) → a_nextMove_2 l = nI (160 * l) → a_rows_2 l = nI 0 → post 1 (f_going, f_mover, f_made, f_played, f_shields_2, f_settled_2, f_rootMove, f_word0_2, f_word1_2, f_word2_2, f_word3_2, a_nextTo, a_leaps, a_pawnHits, a_line, a_at, a_squaresOf, a_held, a_kingAt, a_quiet, a_positions, a_playedMove, a_playedPiece, a_playedTaken, a_moveList_2, a_listEnd_2, a_nextMove_2, a_shieldLine_2, a_left, a_low, a_firstLow, a_high, a_most, a_rows_2, a_knownWords, a_knownMover, a_knownDepth, a_knownKind, a_knownNumber)) :
    wpX_openRows post (f_going, f_mover, f_made, f_played, f_shields, f_settled, f_rootMove, f_word0, f_word1, f_word2, f_word3, a_nextTo, a_leaps, a_pawnHits, a_line, a_at, a_squaresOf, a_held, a_kingAt, a_quiet, a_positions, a_playedMove, a_playedPiece, a_playedTaken, a_moveList, a_listEnd, a_nextMove, a_shieldLine, a_left, a_low, a_firstLow, a_high, a_most, a_rows, a_knownWords, a_knownMover, a_knownDepth, a_knownKind, a_knownNumber) (nI l) (nI d) := by
  refine pk_le d 1 (fun h1 => xr_17 hS hl hd1 hd (fun _ => C0) C1) (fun h1 => ?_)
  have hS' := hS
  obtain ⟨s1, s2, s3, s4, s5, s6, s7⟩ := hS'
  refine xk_recallR s2 s7 s4.2.1 s4.1 hd s5 ?_ ?_
  · intro f_settled_2 f_word0_2 f_word1_2 f_word2_2 f_word3_2
    exact br_t rfl (xr_17 hS hl hd1 hd (fun _ => C0) C1)
  · intro f_word0_2 f_word1_2 f_word2_2 f_word3_2
    exact br_f (by decide) (C0 _ _ _ _ _ _ _ _ _ _ _ rfl (fun _ _ => rfl) (fun _ _ => ⟨rfl, rfl, rfl⟩))
end
section
variable {f_going f_mover f_made f_played : Int32} {f_shields : Int64} {f_settled f_rootMove : Int32} {f_word0 f_word1 f_word2 f_word3 : Int64} {a_nextTo a_leaps a_pawnHits a_line : Nat → Int64} {a_at : Nat → Int32} {a_squaresOf a_held : Nat → Int64} {a_kingAt a_quiet : Nat → Int32} {a_positions : Nat → Int64} {a_playedMove a_playedPiece a_playedTaken a_moveList a_listEnd a_nextMove : Nat → Int32} {a_shieldLine : Nat → Int64} {a_left a_low a_firstLow a_high a_most a_rows : Nat → Int32} {a_knownWords : Nat → Int64} {a_knownMover a_knownDepth a_knownKind a_knownNumber : Nat → Int32} {post : Int32 → SX → Prop} {D : Nat}
theorem xr_loop (hD3 : D ≤ 3) : ∀ (e l : Nat), l + e + 2 = D → ∀ (B : Nat → Nat) (m h w w' : Nat), ce_ws B m ≤ w → ce_ws B (1 - m) ≤ w' → h + e + 2 ≤ 70 → ∀ (rest done : List Nat), done ++ rest = cd_L B m → ∀ (i : Nat), i + rest.length * (1 + cs_C e w' w) < 60000 →
    ∀ (f_mover f_played : Int32) (f_shields : Int64) (f_settled : Int32) (f_word0 f_word1 f_word2 f_word3 : Int64) (a_at : Nat → Int32) (a_squaresOf a_held : Nat → Int64) (a_kingAt a_playedMove a_playedPiece a_playedTaken a_moveList a_listEnd a_nextMove : Nat → Int32) (a_shieldLine : Nat → Int64) (a_rows : Nat → Int32) (a_knownWords : Nat → Int64) (a_knownMover a_knownDepth a_knownKind a_knownNumber : Nat → Int32), (xc_S B m h f_mover f_played a_nextTo a_leaps a_pawnHits a_line a_at a_squaresOf a_held a_kingAt a_knownWords a_knownMover a_knownDepth a_knownKind a_knownNumber) → xl_M a_moveList (160 * l) (cd_L B m) → a_listEnd l = nI (160 * l + (cd_L B m).length) → a_nextMove l = nI (160 * l + done.length) → a_rows l = nI (cd_su (fun x => cd_pf (e + 1) (cd_nx B x) (1 - m)) done) →
    (∀ (f_mover_2 f_played_2 : Int32) (f_shields_2 : Int64) (f_settled_2 : Int32) (f_word0_2 f_word1_2 f_word2_2 f_word3_2 : Int64) (a_at_2 : Nat → Int32) (a_squaresOf_2 a_held_2 : Nat → Int64) (a_kingAt_2 a_playedMove_2 a_playedPiece_2 a_playedTaken_2 a_moveList_2 a_listEnd_2 a_nextMove_2 : Nat → Int32) (a_shieldLine_2 : Nat → Int64) (a_rows_2 : Nat → Int32) (a_knownWords_2 : Nat → Int64) (a_knownMover_2 a_knownDepth_2 a_knownKind_2 a_knownNumber_2 : Nat → Int32), ∀ i' : Nat, i' ≤ i + rest.length * (1 + cs_C e w' w) → (xc_S B m h f_mover_2 f_played_2 a_nextTo a_leaps a_pawnHits a_line a_at_2 a_squaresOf_2 a_held_2 a_kingAt_2 a_knownWords_2 a_knownMover_2 a_knownDepth_2 a_knownKind_2 a_knownNumber_2) → (xf_F l h a_moveList a_listEnd a_nextMove a_rows a_playedMove a_playedPiece a_playedTaken a_moveList_2 a_listEnd_2 a_nextMove_2 a_rows_2 a_playedMove_2 a_playedPiece_2 a_playedTaken_2) → a_listEnd_2 l = nI (160 * l + (cd_L B m).length) → a_nextMove_2 l = nI (160 * l + (cd_L B m).length) → a_rows_2 l = nI (cd_pf (e + 2) B m) → wX_countRows_11 post (nI D) (60001 - i') (nI l) (nI i') f_going f_mover_2 f_made f_played_2 f_shields_2 f_settled_2 f_rootMove f_word0_2 f_word1_2 f_word2_2 f_word3_2 a_nextTo a_leaps a_pawnHits a_line a_at_2 a_squaresOf_2 a_held_2 a_kingAt_2 a_quiet a_positions a_playedMove_2 a_playedPiece_2 a_playedTaken_2 a_moveList_2 a_listEnd_2 a_nextMove_2 a_shieldLine_2 a_left a_low a_firstLow a_high a_most a_rows_2 a_knownWords_2 a_knownMover_2 a_knownDepth_2 a_knownKind_2 a_knownNumber_2) →
    wX_countRows_11 post (nI D) (60001 - i) (nI l) (nI i) f_going f_mover f_made f_played f_shields f_settled f_rootMove f_word0 f_word1 f_word2 f_word3 a_nextTo a_leaps a_pawnHits a_line a_at a_squaresOf a_held a_kingAt a_quiet a_positions a_playedMove a_playedPiece a_playedTaken a_moveList a_listEnd a_nextMove a_shieldLine a_left a_low a_firstLow a_high a_most a_rows a_knownWords a_knownMover a_knownDepth a_knownKind a_knownNumber := by
  intro e
  induction e using Nat.strongRecOn with
  | _ e ihe =>
  intro l hlD B m h w w' hw hw' hh rest
  induction rest with
  | nil =>
    intro done hdr i hi f_mover f_played f_shields f_settled f_word0 f_word1 f_word2 f_word3 a_at a_squaresOf a_held a_kingAt a_playedMove a_playedPiece a_playedTaken a_moveList a_listEnd a_nextMove a_shieldLine a_rows a_knownWords a_knownMover a_knownDepth a_knownKind a_knownNumber hS hml hle hnm hrw K
    rw [List.append_nil] at hdr
    subst hdr
    exact K _ _ _ _ _ _ _ _ _ _ _ _ _ _ _ _ _ _ _ _ _ _ _ _ _ i (by omega) hS xf_refl hle hnm hrw
  | cons x rest ih =>
    intro done hdr i hi f_mover f_played f_shields f_settled f_word0 f_word1 f_word2 f_word3 a_at a_squaresOf a_held a_kingAt a_playedMove a_playedPiece a_playedTaken a_moveList a_listEnd a_nextMove a_shieldLine a_rows a_knownWords a_knownMover a_knownDepth a_knownKind a_knownNumber hS hml hle hnm hrw K
    obtain ⟨g1, g2, g3, g4, g5⟩ := xc_get hdr
    have hG : cd_G B m := hS.2.2.2.1
    have hL84 := ce_L84 hG
    rw [List.length_cons] at hi K
    have hmul : (rest.length + 1) * (1 + cs_C e w' w) = rest.length * (1 + cs_C e w' w) + (1 + cs_C e w' w) := by rw [Nat.add_mul, Nat.one_mul]
    rw [hmul] at hi K
    have hl6 : l < 6 := by omega
    have hli : vp_in (nI l) 6 := vp_in_nI hl6 (by decide)
    have hlc : (nI l).toNatClampNeg = l := nI_clamp (by omega)
    have hGx := ce_Gx hG g3
    have hL84' := ce_L84 hGx
    obtain ⟨hf36, ht36, hlg⟩ := ce_L_mem.mp g3
    have hm2 := hG.1
    have hwx : ∀ q, q < 2 → ce_ws (cd_nx B x) q ≤ ce_ws B q := fun q hq => ce_ws_mv hG.1 hf36 ht36 (ce_lg hlg).1 hq
    have hfuel : 60001 - i = (60001 - (i + 1)) + 1 := by omega
    rw [hfuel, wX_countRows_11]
    -- the next row of the loop, once the move is taken back
    have NEXT : ∀ (f_mover_9 f_played_9 : Int32) (f_shields_9 : Int64) (f_settled_9 : Int32) (f_word0_9 f_word1_9 f_word2_9 f_word3_9 : Int64) (a_at_9 : Nat → Int32) (a_squaresOf_9 a_held_9 : Nat → Int64) (a_kingAt_9 a_playedMove_9 a_playedPiece_9 a_playedTaken_9 a_moveList_9 a_listEnd_9 a_nextMove_9 : Nat → Int32) (a_shieldLine_9 : Nat → Int64) (a_rows_9 : Nat → Int32) (a_knownWords_9 : Nat → Int64) (a_knownMover_9 a_knownDepth_9 a_knownKind_9 a_knownNumber_9 : Nat → Int32), ∀ i9 : Nat, i9 + rest.length * (1 + cs_C e w' w) < 60000 → i9 ≤ i + (1 + cs_C e w' w) → (xc_S B m h f_mover_9 f_played_9 a_nextTo a_leaps a_pawnHits a_line a_at_9 a_squaresOf_9 a_held_9 a_kingAt_9 a_knownWords_9 a_knownMover_9 a_knownDepth_9 a_knownKind_9 a_knownNumber_9) → (xf_F l h a_moveList a_listEnd a_nextMove a_rows a_playedMove a_playedPiece a_playedTaken a_moveList_9 a_listEnd_9 a_nextMove_9 a_rows_9 a_playedMove_9 a_playedPiece_9 a_playedTaken_9) → (∀ j, j < 160 * (l + 1) → a_moveList_9 j = a_moveList j) → a_listEnd_9 l = a_listEnd l → a_nextMove_9 l = nI (160 * l + done.length + 1) → a_rows_9 l = nI (cd_su (fun x => cd_pf (e + 1) (cd_nx B x) (1 - m)) done) + nI (cd_pf (e + 1) (cd_nx B x) (1 - m)) → wX_countRows_11 post (nI D) (60001 - i9) (nI l) (nI i9) f_going f_mover_9 f_made f_played_9 f_shields_9 f_settled_9 f_rootMove f_word0_9 f_word1_9 f_word2_9 f_word3_9 a_nextTo a_leaps a_pawnHits a_line a_at_9 a_squaresOf_9 a_held_9 a_kingAt_9 a_quiet a_positions a_playedMove_9 a_playedPiece_9 a_playedTaken_9 a_moveList_9 a_listEnd_9 a_nextMove_9 a_shieldLine_9 a_left a_low a_firstLow a_high a_most a_rows_9 a_knownWords_9 a_knownMover_9 a_knownDepth_9 a_knownKind_9 a_knownNumber_9 := by
      intro f_mover_9 f_played_9 f_shields_9 f_settled_9 f_word0_9 f_word1_9 f_word2_9 f_word3_9 a_at_9 a_squaresOf_9 a_held_9 a_kingAt_9 a_playedMove_9 a_playedPiece_9 a_playedTaken_9 a_moveList_9 a_listEnd_9 a_nextMove_9 a_shieldLine_9 a_rows_9 a_knownWords_9 a_knownMover_9 a_knownDepth_9 a_knownKind_9 a_knownNumber_9 i9 hi9 hi9' hS9 hF9 hml9 hle9 hnm9 hrw9
      refine ih (done ++ [x]) g4 i9 hi9 _ _ _ _ _ _ _ _ _ _ _ _ _ _ _ _ _ _ _ _ _ _ _ _ _ hS9 (xl_Mfr hml fun j hj => hml9 j (by omega)) (by rw [hle9]; exact hle) (by rw [g5, ← Nat.add_assoc]; exact hnm9) (by rw [xc_su_app, ← nI_add]; exact hrw9) ?_
      intro f_mover_2 f_played_2 f_shields_2 f_settled_2 f_word0_2 f_word1_2 f_word2_2 f_word3_2 a_at_2 a_squaresOf_2 a_held_2 a_kingAt_2 a_playedMove_2 a_playedPiece_2 a_playedTaken_2 a_moveList_2 a_listEnd_2 a_nextMove_2 a_shieldLine_2 a_rows_2 a_knownWords_2 a_knownMover_2 a_knownDepth_2 a_knownKind_2 a_knownNumber_2 i2 hi2 hS2 hF2 hle2 hnm2 hrw2
      exact K _ _ _ _ _ _ _ _ _ _ _ _ _ _ _ _ _ _ _ _ _ _ _ _ _ i2 (by omega) hS2 (xf_trans (Nat.le_refl _) (Nat.le_refl _) (Nat.le_refl _) (Nat.le_refl _) hF9 hF2) hle2 hnm2 hrw2
    refine pk_le 60000 i (fun h => by omega) (fun _ => ⟨hli, hli, ?_⟩)
    rw [hlc, hle, hnm]
    refine pk_le (160 * l + (cd_L B m).length) (160 * l + done.length) (fun h => by omega) (fun _ => ⟨hli, vp_in_nI (by omega) (by decide), ?_⟩)
    rw [nI_clamp (by omega), hml _ g1, g2]
    refine xc_make hS (by omega) g3 ?_
    intro f_mover_3 f_played_3 a_at_3 a_squaresOf_3 a_held_3 a_kingAt_3 hS3
    refine ⟨hli, hli, nm_r (e' := upd a_nextMove l (nI (160 * l + done.length + 1))) (by rw [hnm, nI_1]) ?_⟩
    have eD : (nI D - nI l) - 1 = nI (e + 1) := by
      rw [pk_sub (by omega), show (1 : Int32) = nI 1 from rfl, pk_sub (by omega)]; congr 1; omega
    rw [nI_1 l, eD]
    refine xr_open hS3 (by omega) (by omega) (by omega) ?_ ?_
    · intro f_shields_4 f_settled_4 f_word0_4 f_word1_4 f_word2_4 f_word3_4 a_moveList_4 a_listEnd_4 a_nextMove_4 a_shieldLine_4 a_rows_4 hst hml4 hle4
      obtain ⟨q1, q2, q3⟩ := hle4 l (by omega)
      refine br_t rfl ⟨hli, hli, nm_r (e' := upd a_rows_4 l (nI (cd_su (fun x => cd_pf (e + 1) (cd_nx B x) (1 - m)) done) + nI (cd_pf (e + 1) (cd_nx B x) (1 - m)))) (by rw [q3, hrw, hst]) ?_⟩
      refine xc_back hS3 hG (by omega) g3 pk_us pk_us pk_us ?_
      intro f_mover_5 f_played_5 a_at_5 a_squaresOf_5 a_held_5 a_kingAt_5 hS5
      refine nm_r (nI_1 i) (NEXT _ _ _ _ _ _ _ _ _ _ _ _ _ _ _ _ _ _ _ _ _ _ _ _ _ (i + 1) (by omega) (by omega) hS5 ⟨fun j hj => hml4 j (by omega), fun j hj => ?_, fun j hj => ⟨pk_un (by omega), pk_un (by omega), pk_un (by omega)⟩⟩ hml4 q1 (by rw [q2, pk_us]) pk_us)
      obtain ⟨r1, r2, r3⟩ := hle4 j (by omega)
      exact ⟨r1, by rw [r2, pk_un (by omega)], by rw [pk_un (by omega), r3]⟩
    · intro hd2
      intro f_shields_4 f_settled_4 f_word0_4 f_word1_4 f_word2_4 f_word3_4 a_moveList_4 a_listEnd_4 a_nextMove_4 a_shieldLine_4 a_rows_4 hml4 hle4 hM4 hle4l hnm4l hrw4l
      refine br_f (by decide) (nm_e (nm_r (nI_1 i) ?_))
      rcases e with _ | e
      · omega
      · have hwx1 := hwx (1 - m) (by omega)
        have hwx0 := hwx m hm2
        have hC : cs_C (e + 1) w' w = 1 + w' * (1 + cs_C e w w') := rfl
        have hLw : (cd_L (cd_nx B x) (1 - m)).length * (1 + cs_C e w w') ≤ w' * (1 + cs_C e w w') := Nat.mul_le_mul_right _ (Nat.le_trans (ce_Llen hGx.2.1 hGx.1) (by omega))
        refine ihe e (by omega) (l + 1) (by omega) (cd_nx B x) (1 - m) (h + 1) w' w (by omega) (by rw [cc_x11 hm2]; omega) (by omega) (cd_L (cd_nx B x) (1 - m)) [] rfl (i + 1) (by omega) _ _ _ _ _ _ _ _ _ _ _ _ _ _ _ _ _ _ _ _ _ _ _ _ _ hS3 hM4 hle4l hnm4l hrw4l ?_
        intro f_mover_6 f_played_6 f_shields_6 f_settled_6 f_word0_6 f_word1_6 f_word2_6 f_word3_6 a_at_6 a_squaresOf_6 a_held_6 a_kingAt_6 a_playedMove_6 a_playedPiece_6 a_playedTaken_6 a_moveList_6 a_listEnd_6 a_nextMove_6 a_shieldLine_6 a_rows_6 a_knownWords_6 a_knownMover_6 a_knownDepth_6 a_knownKind_6 a_knownNumber_6 i6 hi6 hS6 hF6 hle6 hnm6 hrw6
        have hl1i : vp_in (nI (l + 1)) 6 := vp_in_nI (by omega) (by decide)
        have hl1c : (nI (l + 1)).toNatClampNeg = l + 1 := nI_clamp (by omega)
        have hfuel6 : 60001 - i6 = (60001 - (i6 + 1)) + 1 := by omega
        rw [hfuel6, wX_countRows_11]
        refine pk_le 60000 i6 (fun h => by omega) (fun _ => ⟨hl1i, hl1i, ?_⟩)
        rw [hl1c, hle6, hnm6]
        refine pk_le (160 * (l + 1) + (cd_L (cd_nx B x) (1 - m)).length) (160 * (l + 1) + (cd_L (cd_nx B x) (1 - m)).length) (fun _ => pk_eq (l + 1) 0 (fun h => by omega) (fun _ => ⟨hl1i, ?_⟩)) (fun h => by omega)
        have eD6 : nI D - nI (l + 1) = nI (e + 2) := by
          rw [pk_sub (by omega)]; congr 1; omega
        rw [eD6, hrw6]
        refine xc_remember hS6 (by omega) (Or.inr ⟨rfl, rfl⟩) ?_
        intro f_word0_7 f_word1_7 f_word2_7 f_word3_7 a_knownWords_7 a_knownMover_7 a_knownDepth_7 a_knownKind_7 a_knownNumber_7 hS7
        obtain ⟨u1, u2, u3⟩ := hF6.2.2 h (by omega)
        refine xc_back hS7 hG (by omega) g3 (by rw [u1, pk_us]) (by rw [u2, pk_us]) (by rw [u3, pk_us]) ?_
        intro f_mover_8 f_played_8 a_at_8 a_squaresOf_8 a_held_8 a_kingAt_8 hS8
        obtain ⟨v1, v2, v3⟩ := hF6.2.1 l (by omega)
        obtain ⟨q1, q2, q3⟩ := hle4 l (by omega)
        refine nm_r (xc_m1 (l := l)) ⟨hli, by rw [nI_1]; exact hl1i, hli, nm_r (e' := upd a_rows_6 l (nI (cd_su (fun x => cd_pf (e + 1 + 1) (cd_nx B x) (1 - m)) done) + nI (cd_pf (e + 1 + 1) (cd_nx B x) (1 - m)))) (by rw [nI_1, hlc, hl1c, hrw6, v3, q3, hrw]) (nm_r (nI_1 i6) (NEXT _ _ _ _ _ _ _ _ _ _ _ _ _ _ _ _ _ _ _ _ _ _ _ _ _ (i6 + 1) (by omega) (by omega) hS8 ⟨fun j hj => ?_, fun j hj => ?_, fun j hj => ?_⟩ (fun j hj => ?_) ?_ ?_ pk_us))⟩
        · rw [hF6.1 j (by omega), hml4 j (by omega)]
        · obtain ⟨a1, a2, a3⟩ := hF6.2.1 j (by omega)
          obtain ⟨b1, b2, b3⟩ := hle4 j (by omega)
          exact ⟨by rw [a1, b1], by rw [a2, b2, pk_un (by omega)], by rw [pk_un (by omega), a3, b3]⟩
        · obtain ⟨a1, a2, a3⟩ := hF6.2.2 j (by omega)
          exact ⟨by rw [a1, pk_un (by omega)], by rw [a2, pk_un (by omega)], by rw [a3, pk_un (by omega)]⟩
        · rw [hF6.1 j hj, hml4 j hj]
        · rw [v1, q1]
        · rw [v2, q2, pk_us]
end
end
section
/-! ===== worth, balance, arrange ===== -/
theorem xw_worth {post : Int32 → Prop} {p : Nat} (hv : p ≤ 14 ∧ p ≠ 7 ∧ p ≠ 8) (C : post (nI (cd_w p))) : wpX_worth post (nI p) := by
  have e7 : nI p &&& 7 = nI (p % 8) := pk_andN (by omega) 3 (by decide)
  have ek : cd_kd p = p % 8 := by unfold cd_kd; split <;> omega
  unfold cd_w at C
  rw [ek] at C
  refine nm_r e7 (pk_lt (p % 8) 1 (fun h => ?_) (fun h0 => pk_lt 5 (p % 8) (fun h => ?_) (fun h5 => pk_eq (p % 8) 1 (fun h => ?_) (fun h1 => pk_eq (p % 8) 2 (fun h => ?_) (fun h2 => pk_eq (p % 8) 3 (fun h => ?_) (fun h3 => pk_eq (p % 8) 4 (fun h => ?_) (fun h4 => pk_eq (p % 8) 5 (fun h => ?_) (fun h5 => trivial))))))))
  · rw [if_neg (by omega), if_neg (by omega), if_neg (by omega), if_neg (by omega), if_neg (by omega)] at C; exact C
  · rw [if_neg (by omega), if_neg (by omega), if_neg (by omega), if_neg (by omega), if_neg (by omega)] at C; exact C
  · rw [if_pos h] at C; exact C
  · rw [if_neg h1, if_pos h] at C; exact C
  · rw [if_neg h1, if_neg h2, if_pos h] at C; exact C
  · rw [if_neg h1, if_neg h2, if_neg h3, if_pos h] at C; exact C
  · rw [if_neg h1, if_neg h2, if_neg h3, if_neg h4, if_pos h] at C; exact C
/-- the sum by kinds -/
def xw_F (m : Nat) (c : Nat → Int) : Nat → Int
  | 0 => 0
  | k + 1 => xw_F m c k + (c (8 * m + (k + 1)) - c (8 * (1 - m) + (k + 1))) * (cd_w (k + 1) : Int)
def xw_c (B : Nat → Nat) (n p : Nat) : Nat := cd_sm (fun s => if B s == p then 1 else 0) n
theorem xw_one : ∀ p, p < 15 → ∀ m, m < 2 → (p = 7 ∨ p = 8 ∨ xw_F m (fun q => if p == q then 1 else 0) 5 = if cd_of p m then (cd_w p : Int) else -(cd_w p : Int)) := by decide +kernel
theorem xw_Fadd (m : Nat) (c c' : Nat → Int) : ∀ k, xw_F m (fun q => c q + c' q) k = xw_F m c k + xw_F m c' k
  | 0 => rfl
  | k + 1 => by
    rw [xw_F, xw_F, xw_F, xw_Fadd m c c' k]
    generalize (cd_w (k + 1) : Int) = w
    generalize c (8 * m + (k + 1)) = a1
    generalize c' (8 * m + (k + 1)) = a2
    generalize c (8 * (1 - m) + (k + 1)) = b1
    generalize c' (8 * (1 - m) + (k + 1)) = b2
    have : (a1 + a2 - (b1 + b2)) * w = (a1 - b1) * w + (a2 - b2) * w := by rw [← Int.add_mul]; congr 1; omega
    rw [this]; omega
theorem xw_bs {B : Nat → Nat} {m : Nat} (hm : m < 2) : ∀ n, (∀ s, s < n → B s ≤ 14 ∧ B s ≠ 7 ∧ B s ≠ 8) → cd_bs B m n = xw_F m (fun p => (xw_c B n p : Int)) 5
  | 0, _ => by
    have : ∀ k, xw_F m (fun p => (xw_c B 0 p : Int)) k = 0 := by
      intro k
      induction k with
      | zero => rfl
      | succ k ih => rw [xw_F, ih]; simp [xw_c, cd_sm]
    rw [this]; rfl
  | n + 1, h => by
    have hv := h n (by omega)
    have e : (fun p => (xw_c B (n + 1) p : Int)) = fun p => (xw_c B n p : Int) + (if B n == p then 1 else 0) := by
      funext p
      unfold xw_c
      rw [cd_sm]
      cases B n == p <;> simp
    rw [cd_bs, xw_bs hm n (fun s hs => h s (by omega)), e, xw_Fadd]
    congr 1
    rcases xw_one (B n) (by omega) m hm with h1 | h1 | h1
    · exact absurd h1 hv.2.1
    · exact absurd h1 hv.2.2
    · exact h1.symm
section
variable {f_going f_mover f_made f_played : Int32} {f_shields : Int64} {f_settled f_rootMove : Int32} {f_word0 f_word1 f_word2 f_word3 : Int64} {a_nextTo a_leaps a_pawnHits a_line : Nat → Int64} {a_at : Nat → Int32} {a_squaresOf a_held : Nat → Int64} {a_kingAt a_quiet : Nat → Int32} {a_positions : Nat → Int64} {a_playedMove a_playedPiece a_playedTaken a_moveList a_listEnd a_nextMove : Nat → Int32} {a_shieldLine : Nat → Int64} {a_left a_low a_firstLow a_high a_most a_rows : Nat → Int32} {a_knownWords : Nat → Int64} {a_knownMover a_knownDepth a_knownKind a_knownNumber : Nat → Int32} {B : Nat → Nat} {m : Nat}
theorem xw_ones {post : Int32 → Prop} {p : Nat} (hB : xb_B B a_at a_squaresOf a_held) (hp : p < 16) (h0 : p ≠ 0) (C : post (nI (xw_c B 36 p))) : wpX_ones post (a_squaresOf p) := by
  have h := hB.2.1 p hp h0
  refine cb_ones (cb_Slen h) ?_
  rw [cb_Sl h, ce_len]; exact C
theorem xw_bal4 {post : Int32 → Prop} (hB : xb_B B a_at a_squaresOf a_held) (hm : m < 2) (hmo : f_mover = nI m) (C : post (xi (xw_F m (fun p => (xw_c B 36 p : Int)) 5))) :
    ∀ (j k : Nat), k + j = 5 → wX_balance_4 post f_going f_mover f_made f_played f_shields f_settled f_rootMove f_word0 f_word1 f_word2 f_word3 a_nextTo a_leaps a_pawnHits a_line a_at a_squaresOf a_held a_kingAt a_quiet a_positions a_playedMove a_playedPiece a_playedTaken a_moveList a_listEnd a_nextMove a_shieldLine a_left a_low a_firstLow a_high a_most a_rows a_knownWords a_knownMover a_knownDepth a_knownKind a_knownNumber (j + 1) (xi (xw_F m (fun p => (xw_c B 36 p : Int)) k)) (nI (k + 1)) := by
  intro j
  induction j with
  | zero =>
    intro k hk
    rw [wX_balance_4]
    have : k = 5 := by omega
    subst this
    exact pk_lt 5 6 (fun _ => C) (fun h => by omega)
  | succ j ih =>
    intro k hk
    rw [wX_balance_4]
    have e1 : (8 * f_mover) + nI (k + 1) = nI (8 * m + (k + 1)) := by
      rw [hmo, show (8 : Int32) = nI 8 from rfl, pk_mul, nI_add]
    have e2 : (8 - (8 * f_mover)) + nI (k + 1) = nI (8 * (1 - m) + (k + 1)) := by
      rw [hmo, show (8 : Int32) = nI 8 from rfl, pk_mul, pk_sub (by omega), nI_add]; congr 1; omega
    refine pk_lt 5 (k + 1) (fun h => by omega) (fun _ => ⟨by rw [e1]; exact vp_in_nI (by omega) (by decide), ?_⟩)
    rw [e1, nI_clamp (by omega)]
    refine xw_ones hB (by omega) (by omega) ⟨by rw [e2]; exact vp_in_nI (by omega) (by decide), ?_⟩
    rw [e2, nI_clamp (by omega)]
    refine xw_ones hB (by omega) (by omega) (xw_worth (by omega) (nm_r (e' := xi (xw_F m (fun p => (xw_c B 36 p : Int)) (k + 1))) ?_ (nm_r (nI_1 (k + 1)) (ih (k + 1) (by omega)))))
    rw [xi_nI, xi_nI, xi_nI, xi_sub, xi_mul, xi_add]; rfl
theorem xw_balance {post : Int32 → Prop} (hB : xb_B B a_at a_squaresOf a_held) (hv : ∀ s, s < 36 → B s ≤ 14 ∧ B s ≠ 7 ∧ B s ≠ 8) (hm : m < 2) (hmo : f_mover = nI m) (C : post (xi (cd_bal B m))) : wpX_balance post (f_going, f_mover, f_made, f_played, f_shields, f_settled, f_rootMove, f_word0, f_word1, f_word2, f_word3, a_nextTo, a_leaps, a_pawnHits, a_line, a_at, a_squaresOf, a_held, a_kingAt, a_quiet, a_positions, a_playedMove, a_playedPiece, a_playedTaken, a_moveList, a_listEnd, a_nextMove, a_shieldLine, a_left, a_low, a_firstLow, a_high, a_most, a_rows, a_knownWords, a_knownMover, a_knownDepth, a_knownKind, a_knownNumber) := by
  refine ⟨6, ?_⟩
  unfold cd_bal at C
  rw [xw_bs hm 36 hv] at C
  exact xw_bal4 hB hm hmo C 5 0 rfl
end
/-! arrange: the same moves in another order -/
def xg_E (n : Nat) (c c' : Nat → Nat) : Prop := ∀ v, (∃ j, j < n ∧ c' j = v) ↔ (∃ j, j < n ∧ c j = v)
def xg_h (c : Nat → Nat) (k v : Nat) : Nat → Nat := fun j => if j = k then v else c j
theorem xg_sw {n k v : Nat} {c : Nat → Nat} (hk : k + 1 < n) : xg_E n (xg_h c (k + 1) v) (xg_h (xg_h c (k + 1) (c k)) k v) := by
  intro u
  constructor
  · rintro ⟨j, hj, e⟩
    unfold xg_h at e
    by_cases h1 : j = k
    · rw [if_pos h1] at e; exact ⟨k + 1, hk, by unfold xg_h; rw [if_pos rfl]; exact e⟩
    · rw [if_neg h1] at e
      by_cases h2 : j = k + 1
      · rw [if_pos h2] at e; exact ⟨k, by omega, by unfold xg_h; rw [if_neg (by omega)]; exact e⟩
      · rw [if_neg h2] at e; exact ⟨j, hj, by unfold xg_h; rw [if_neg h2]; exact e⟩
  · rintro ⟨j, hj, e⟩
    unfold xg_h at e
    by_cases h2 : j = k + 1
    · rw [if_pos h2] at e; exact ⟨k, by omega, by unfold xg_h; rw [if_pos rfl]; exact e⟩
    · rw [if_neg h2] at e
      by_cases h1 : j = k
      · exact ⟨k + 1, hk, by unfold xg_h; rw [if_neg (by omega), if_pos rfl, ← h1]; exact e⟩
      · exact ⟨j, hj, by unfold xg_h; rw [if_neg h1, if_neg h2]; exact e⟩
section
variable {f_going f_mover f_made f_played : Int32} {f_shields : Int64} {f_settled f_rootMove : Int32} {f_word0 f_word1 f_word2 f_word3 : Int64} {a_nextTo a_leaps a_pawnHits a_line : Nat → Int64} {a_at : Nat → Int32} {a_squaresOf a_held : Nat → Int64} {a_kingAt a_quiet : Nat → Int32} {a_positions : Nat → Int64} {a_playedMove a_playedPiece a_playedTaken a_moveList a_listEnd a_nextMove : Nat → Int32} {a_shieldLine : Nat → Int64} {a_left a_low a_firstLow a_high a_most a_rows : Nat → Int32} {a_knownWords : Nat → Int64} {a_knownMover a_knownDepth a_knownKind a_knownNumber : Nat → Int32} {post : SX → Prop} {B : Nat → Nat} {l n : Nat} {L : List Nat}
theorem xg_at {x : Nat} (hB : xb_B B a_at a_squaresOf a_held) (hx : x % 64 < 36) {y : Int32} (hy : y = nI x) : vp_in (y &&& 63) 36 ∧ a_at (y &&& 63).toNatClampNeg = nI (B (x % 64)) := by
  have e : y &&& 63 = nI (x % 64) := by
    rw [hy]
    rw [pk_and _ 6 (by decide), show (nI x).toBitVec.toNat = x % 2 ^ 32 from BitVec.toNat_ofNat _ _]
    congr 1
    omega
  rw [e]
  exact ⟨vp_in_nI hx (by decide), by rw [nI_clamp (by omega), hB.1]⟩
theorem xg_42 {J8 : Int32 → (Nat → Int64) → (Nat → Int64) → (Nat → Int64) → (Nat → Int64) → (Nat → Int32) → (Nat → Int64) → (Nat → Int64) → (Nat → Int32) → (Nat → Int32) → (Nat → Int64) → (Nat → Int32) → (Nat → Int32) → (Nat → Int32) → (Nat → Int32) → (Nat → Int32) → (Nat → Int32) → (Nat → Int64) → (Nat → Int32) → (Nat → Int32) → (Nat → Int32) → (Nat → Int32) → (Nat → Int32) → (Nat → Int32) → (Nat → Int64) → (Nat → Int32) → (Nat → Int32) → (Nat → Int32) → (Nat → Int32) → Prop} {i v : Nat} {gain : Int32} (hB : xb_B B a_at a_squaresOf a_held) (hv : ∀ s, s < 36 → B s ≤ 14 ∧ B s ≠ 7 ∧ B s ≠ 8) (hl : l < 6) (hn : 160 * l + n ≤ 960) (hL : ∀ x, x ∈ L → x % 64 < 36) (hvL : v ∈ L) :
    ∀ (k : Nat) (c : Nat → Nat) (ml : Nat → Int32), k < n → (∀ j, j < n → c j ∈ L) → (∀ j, j < n → ml (160 * l + j) = nI (c j)) →
    (∀ (c' : Nat → Nat) (ml' : Nat → Int32), xg_E n (xg_h c k v) c' → (∀ j, j < n → c' j ∈ L) → (∀ j, j < n → ml' (160 * l + j) = nI (c' j)) → (∀ j, j < 160 * l → ml' j = ml j) → J8 (nI (i + 1)) a_nextTo a_leaps a_pawnHits a_line a_at a_squaresOf a_held a_kingAt a_quiet a_positions a_playedMove a_playedPiece a_playedTaken ml' a_listEnd a_nextMove a_shieldLine a_left a_low a_firstLow a_high a_most a_rows a_knownWords a_knownMover a_knownDepth a_knownKind a_knownNumber) →
    wX_arrange_42 post J8 (nI l) (nI i) (nI v) gain f_going f_mover f_made f_played f_shields f_settled f_rootMove f_word0 f_word1 f_word2 f_word3 (k + 1) (nI (160 * l + k)) a_nextTo a_leaps a_pawnHits a_line a_at a_squaresOf a_held a_kingAt a_quiet a_positions a_playedMove a_playedPiece a_playedTaken ml a_listEnd a_nextMove a_shieldLine a_left a_low a_firstLow a_high a_most a_rows a_knownWords a_knownMover a_knownDepth a_knownKind a_knownNumber := by
  intro k
  induction k with
  | zero =>
    intro c ml hk hc hml K
    rw [wX_arrange_42, xc_160]
    refine pk_le (160 * l + 0) (160 * l) (fun _ => ⟨vp_in_nI (by omega) (by decide), nm_r (e' := upd ml (160 * l + 0) (nI v)) (by rw [nI_clamp (by omega)]) (nm_r (nI_1 i) (K (xg_h c 0 v) _ (fun _ => Iff.rfl) (fun j hj => ?_) (fun j hj => ?_) (fun j hj => pk_un (by omega))))⟩) (fun h => by omega)
    · unfold xg_h; split
      · exact hvL
      · exact hc j hj
    · unfold xg_h; split
      · rename_i h; rw [h, pk_us]
      · rename_i h; rw [pk_un (by omega)]; exact hml j hj
  | succ k ih =>
    intro c ml hk hc hml K
    have hput : ∀ x2 : Int32, x2 = nI i + 1 → J8 x2 a_nextTo a_leaps a_pawnHits a_line a_at a_squaresOf a_held a_kingAt a_quiet a_positions a_playedMove a_playedPiece a_playedTaken (upd ml (160 * l + (k + 1)) (nI v)) a_listEnd a_nextMove a_shieldLine a_left a_low a_firstLow a_high a_most a_rows a_knownWords a_knownMover a_knownDepth a_knownKind a_knownNumber := by
      intro x2 e
      rw [e, nI_1]
      refine K (xg_h c (k + 1) v) _ (fun _ => Iff.rfl) (fun j hj => ?_) (fun j hj => ?_) (fun j hj => pk_un (by omega))
      · unfold xg_h; split
        · exact hvL
        · exact hc j hj
      · unfold xg_h; split
        · rename_i h; rw [h, pk_us]
        · rename_i h; rw [pk_un (by omega)]; exact hml j hj
    rw [wX_arrange_42, xc_160]
    dsimp only
    have ek : nI (160 * l + (k + 1)) - 1 = nI (160 * l + k) := by
      rw [show 160 * l + (k + 1) = (160 * l + k) + 1 from rfl]; exact nI_pred _
    have hck := hml k (by omega)
    obtain ⟨a1, a2⟩ := xg_at hB (hL _ (hc k (by omega))) hck
    rw [ek, nI_clamp (n := 160 * l + k) (by omega), nI_clamp (n := 160 * l + (k + 1)) (by omega)]
    refine pk_le (160 * l + (k + 1)) (160 * l) (fun h => by omega) (fun _ => ⟨vp_in_nI (by omega) (by decide), a1, ?_⟩)
    rw [a2]
    refine xw_worth (hv _ (hL _ (hc k (by omega)))) (br_c (fun _ => ⟨vp_in_nI (by omega) (by decide), nm_e hput⟩) (fun _ => ⟨vp_in_nI (by omega) (by decide), vp_in_nI (by omega) (by decide), nm_r (e' := upd ml (160 * l + (k + 1)) (nI (c k))) (by rw [hck]) (nm_r (e' := nI (160 * l + k)) (pk_m1 (160 * l + k)) ?_)⟩))
    refine ih (xg_h c (k + 1) (c k)) _ (by omega) (fun j hj => ?_) (fun j hj => ?_) (fun c' ml' e1 e2 e3 e4 => K c' ml' (fun u => (e1 u).trans (xg_sw hk u)) e2 e3 (fun j hj => by rw [e4 j hj, pk_un (by omega)]))
    · unfold xg_h; split
      · exact hc k (by omega)
      · exact hc j hj
    · unfold xg_h; split
      · rename_i h; rw [h, pk_us]
      · rename_i h; rw [pk_un (by omega)]; exact hml j hj
theorem xg_8 (hB : xb_B B a_at a_squaresOf a_held) (hv : ∀ s, s < 36 → B s ≤ 14 ∧ B s ≠ 7 ∧ B s ≠ 8) (hl : l < 6) (hn : 160 * l + n ≤ 960) (hL : ∀ x, x ∈ L → x % 64 < 36) (hle : a_listEnd l = nI (160 * l + n)) :
    ∀ (r i : Nat) (c : Nat → Nat) (ml : Nat → Int32), i + r = n → (∀ j, j < n → c j ∈ L) → (∀ j, j < n → ml (160 * l + j) = nI (c j)) →
    (∀ (c' : Nat → Nat) (ml' : Nat → Int32), xg_E n c c' → (∀ j, j < n → c' j ∈ L) → (∀ j, j < n → ml' (160 * l + j) = nI (c' j)) → (∀ j, j < 160 * l → ml' j = ml j) → post (f_going, f_mover, f_made, f_played, f_shields, f_settled, f_rootMove, f_word0, f_word1, f_word2, f_word3, a_nextTo, a_leaps, a_pawnHits, a_line, a_at, a_squaresOf, a_held, a_kingAt, a_quiet, a_positions, a_playedMove, a_playedPiece, a_playedTaken, ml', a_listEnd, a_nextMove, a_shieldLine, a_left, a_low, a_firstLow, a_high, a_most, a_rows, a_knownWords, a_knownMover, a_knownDepth, a_knownKind, a_knownNumber)) →
    wX_arrange_8 post (nI l) f_going f_mover f_made f_played f_shields f_settled f_rootMove f_word0 f_word1 f_word2 f_word3 (r + 1) (nI (160 * l + i)) a_nextTo a_leaps a_pawnHits a_line a_at a_squaresOf a_held a_kingAt a_quiet a_positions a_playedMove a_playedPiece a_playedTaken ml a_listEnd a_nextMove a_shieldLine a_left a_low a_firstLow a_high a_most a_rows a_knownWords a_knownMover a_knownDepth a_knownKind a_knownNumber := by
  have hli : vp_in (nI l) 6 := vp_in_nI hl (by decide)
  have hlc : (nI l).toNatClampNeg = l := nI_clamp (by omega)
  intro r
  induction r with
  | zero =>
    intro i c ml hi hc hml K
    rw [wX_arrange_8]
    dsimp only
    rw [hlc, hle]
    exact ⟨hli, pk_le (160 * l + n) (160 * l + i) (fun _ => K c ml (fun _ => Iff.rfl) hc hml (fun _ _ => rfl)) (fun h => by omega)⟩
  | succ r ih =>
    intro i c ml hi hc hml K
    rw [wX_arrange_8]
    dsimp only
    rw [hlc, hle]
    have hci := hml i (by omega)
    obtain ⟨a1, a2⟩ := xg_at hB (hL _ (hc i (by omega))) hci
    refine ⟨hli, pk_le (160 * l + n) (160 * l + i) (fun h => by omega) (fun _ => ⟨vp_in_nI (by omega) (by decide), nm_r (e' := nI (c i)) (by rw [nI_clamp (by omega), hci]) ?_⟩)⟩
    rw [hci] at a1 a2
    refine ⟨a1, ?_⟩
    rw [a2]
    refine xw_worth (hv _ (hL _ (hc i (by omega)))) ⟨_, xg_42 hB hv hl hn hL (hc i (by omega)) i c ml (by omega) hc hml (fun c' ml' e1 e2 e3 e4 => ih (i + 1) c' ml' (by omega) e2 e3 (fun c2 ml2 g1 g2 g3 g4 => K c2 ml2 (fun u => (g1 u).trans ((e1 u).trans ?_)) g2 g3 (fun j hj => by rw [g4 j hj, e4 j hj])))⟩
    have : xg_h c i (c i) = c := by
      funext j; unfold xg_h; split
      · rename_i h; rw [h]
      · rfl
    rw [this]
theorem xg_arrange (hB : xb_B B a_at a_squaresOf a_held) (hv : ∀ s, s < 36 → B s ≤ 14 ∧ B s ≠ 7 ∧ B s ≠ 8) (hl : l < 6) (hne : L ≠ []) (hn : L.length ≤ 160) (hL : ∀ x, x ∈ L → x % 64 < 36) (hle : a_listEnd l = nI (160 * l + L.length)) (hM : xl_M a_moveList (160 * l) L)
    (K : ∀ (L' : List Nat) (ml' : Nat → Int32), (∀ x, x ∈ L' ↔ x ∈ L) → L'.length = L.length → xl_M ml' (160 * l) L' → (∀ j, j < 160 * l → ml' j = a_moveList j) → post (f_going, f_mover, f_made, f_played, f_shields, f_settled, f_rootMove, f_word0, f_word1, f_word2, f_word3, a_nextTo, a_leaps, a_pawnHits, a_line, a_at, a_squaresOf, a_held, a_kingAt, a_quiet, a_positions, a_playedMove, a_playedPiece, a_playedTaken, ml', a_listEnd, a_nextMove, a_shieldLine, a_left, a_low, a_firstLow, a_high, a_most, a_rows, a_knownWords, a_knownMover, a_knownDepth, a_knownKind, a_knownNumber)) : wpX_arrange post (f_going, f_mover, f_made, f_played, f_shields, f_settled, f_rootMove, f_word0, f_word1, f_word2, f_word3, a_nextTo, a_leaps, a_pawnHits, a_line, a_at, a_squaresOf, a_held, a_kingAt, a_quiet, a_positions, a_playedMove, a_playedPiece, a_playedTaken, a_moveList, a_listEnd, a_nextMove, a_shieldLine, a_left, a_low, a_firstLow, a_high, a_most, a_rows, a_knownWords, a_knownMover, a_knownDepth, a_knownKind, a_knownNumber) (nI l) := by
  have hpos : 0 < L.length := List.length_pos_iff.mpr hne
  have e1 : (nI l * 160) + 1 = nI (160 * l + 1) := by rw [xc_160, nI_1]
  refine nm_r e1 ⟨_, xg_8 (n := L.length) (L := L) hB hv hl (by omega) hL hle (L.length - 1) 1 (fun j => L.getD j 0) a_moveList (by omega) (fun j hj => ?_) hM (fun c' ml' g1 g2 g3 g4 => K ((List.range L.length).map c') ml' (fun x => ?_) (by simp) (fun j hj => ?_) g4)⟩
  · have : L.getD j 0 = L[j] := by rw [List.getD_eq_getElem?_getD, List.getElem?_eq_getElem hj]; rfl
    show L.getD j 0 ∈ L
    rw [this]; exact List.getElem_mem hj
  · rw [List.mem_map]
    have : (∃ a, a ∈ List.range L.length ∧ c' a = x) ↔ ∃ j, j < L.length ∧ c' j = x := ⟨fun ⟨a, h1, h2⟩ => ⟨a, List.mem_range.mp h1, h2⟩, fun ⟨a, h1, h2⟩ => ⟨a, List.mem_range.mpr h1, h2⟩⟩
    rw [this, g1 x]
    constructor
    · rintro ⟨j, hj, e⟩
      have e2 : L.getD j 0 = L[j] := by rw [List.getD_eq_getElem?_getD, List.getElem?_eq_getElem hj]; rfl
      have e : L.getD j 0 = x := e
      rw [← e, e2]; exact List.getElem_mem hj
    · intro hx
      obtain ⟨j, hj, e⟩ := List.getElem_of_mem hx
      refine ⟨j, hj, ?_⟩
      show L.getD j 0 = x
      rw [List.getD_eq_getElem?_getD, List.getElem?_eq_getElem hj]; exact e
  · have hj' : j < L.length := by simpa using hj
    rw [g3 j hj']
    congr 1
    rw [List.getD_eq_getElem?_getD, List.getElem?_map, List.getElem?_range hj']; rfl
end
end
section
/-! ===== open, hear, close ===== -/
def xf_E (l h : Nat) (ml le nm lf lo fl hi mo pm pp pt ml' le' nm' lf' lo' fl' hi' mo' pm' pp' pt' : Nat → Int32) : Prop :=
  (∀ j, j < 160 * l → ml' j = ml j) ∧ (∀ j, j < l → le' j = le j ∧ nm' j = nm j ∧ lf' j = lf j ∧ lo' j = lo j ∧ fl' j = fl j ∧ hi' j = hi j ∧ mo' j = mo j) ∧ (∀ j, j < h → pm' j = pm j ∧ pp' j = pp j ∧ pt' j = pt j)
theorem xe_refl {l h : Nat} {ml le nm lf lo fl hi mo pm pp pt : Nat → Int32} : xf_E l h ml le nm lf lo fl hi mo pm pp pt ml le nm lf lo fl hi mo pm pp pt :=
  ⟨fun _ _ => rfl, fun _ _ => ⟨rfl, rfl, rfl, rfl, rfl, rfl, rfl⟩, fun _ _ => ⟨rfl, rfl, rfl⟩⟩
theorem xe_trans {l h l2 h2 l3 h3 : Nat} {ml le nm lf lo fl hi mo pm pp pt ml' le' nm' lf' lo' fl' hi' mo' pm' pp' pt' ml2 le2 nm2 lf2 lo2 fl2 hi2 mo2 pm2 pp2 pt2 : Nat → Int32} (h1 : l3 ≤ l) (h1' : h3 ≤ h) (h2l : l3 ≤ l2) (h2h : h3 ≤ h2)
    (a : xf_E l h ml le nm lf lo fl hi mo pm pp pt ml' le' nm' lf' lo' fl' hi' mo' pm' pp' pt') (b : xf_E l2 h2 ml' le' nm' lf' lo' fl' hi' mo' pm' pp' pt' ml2 le2 nm2 lf2 lo2 fl2 hi2 mo2 pm2 pp2 pt2) : xf_E l3 h3 ml le nm lf lo fl hi mo pm pp pt ml2 le2 nm2 lf2 lo2 fl2 hi2 mo2 pm2 pp2 pt2 := by
  refine ⟨fun j hj => ?_, fun j hj => ?_, fun j hj => ?_⟩
  · rw [b.1 j (by omega), a.1 j (by omega)]
  · obtain ⟨a1, a2, a3, a4, a5, a6, a7⟩ := a.2.1 j (by omega)
    obtain ⟨b1, b2, b3, b4, b5, b6, b7⟩ := b.2.1 j (by omega)
    exact ⟨b1.trans a1, b2.trans a2, b3.trans a3, b4.trans a4, b5.trans a5, b6.trans a6, b7.trans a7⟩
  · obtain ⟨a1, a2, a3⟩ := a.2.2 j (by omega)
    obtain ⟨b1, b2, b3⟩ := b.2.2 j (by omega)
    exact ⟨b1.trans a1, b2.trans a2, b3.trans a3⟩
theorem cs_Rx {v lo hi : Int} : cs_R v v lo hi := ⟨fun _ => Int.le_refl _, fun _ => Int.le_refl _, fun _ _ => rfl⟩
theorem xi_B {a : Int} (h : -5000 ≤ a) (h2 : a ≤ 5000) : -2147483648 ≤ a ∧ a < 2147483648 := by omega
section
variable {f_going f_mover f_made f_played : Int32} {f_shields : Int64} {f_settled f_rootMove : Int32} {f_word0 f_word1 f_word2 f_word3 : Int64} {a_nextTo a_leaps a_pawnHits a_line : Nat → Int64} {a_at : Nat → Int32} {a_squaresOf a_held : Nat → Int64} {a_kingAt a_quiet : Nat → Int32} {a_positions : Nat → Int64} {a_playedMove a_playedPiece a_playedTaken a_moveList a_listEnd a_nextMove : Nat → Int32} {a_shieldLine : Nat → Int64} {a_left a_low a_firstLow a_high a_most a_rows : Nat → Int32} {a_knownWords : Nat → Int64} {a_knownMover a_knownDepth a_knownKind a_knownNumber : Nat → Int32} {post : Int32 → SX → Prop} {B : Nat → Nat} {m h l d : Nat} {lo hi : Int}
theorem xo_93 {L' : List Nat} (hl : l < 6)
    (C1 : ∀ (f_shields_2 : Int64) (f_settled_2 : Int32) (f_word0_2 f_word1_2 f_word2_2 f_word3_2 : Int64) (a_moveList_2 a_listEnd_2 a_nextMove_2 : Nat → Int32) (a_shieldLine_2 : Nat → Int64) (a_left_2 a_low_2 a_firstLow_2 a_high_2 a_most_2 : Nat → Int32), a_moveList_2 = a_moveList → a_listEnd_2 = a_listEnd → a_nextMove_2 = a_nextMove → a_left_2 l = nI d → a_low_2 l = xi lo → a_firstLow_2 l = xi lo → a_high_2 l = xi hi → a_most_2 l = xi (-5000) → (∀ j, j < l → a_left_2 j = a_left j ∧ a_low_2 j = a_low j ∧ a_firstLow_2 j = a_firstLow j ∧ a_high_2 j = a_high j ∧ a_most_2 j = a_most j) → post 1 (f_going, f_mover, f_made, f_played, f_shields_2, f_settled_2, f_rootMove, f_word0_2, f_word1_2, f_word2_2, f_word3_2, a_nextTo, a_leaps, a_pawnHits, a_line, a_at, a_squaresOf, a_held, a_kingAt, a_quiet, a_positions, a_playedMove, a_playedPiece, a_playedTaken, a_moveList_2, a_listEnd_2, a_nextMove_2, a_shieldLine_2, a_left_2, a_low_2, a_firstLow_2, a_high_2, a_most_2, a_rows, a_knownWords, a_knownMover, a_knownDepth, a_knownKind, a_knownNumber)) : wX_open_93 post (nI l) (nI d) (xi lo) (xi hi) f_going f_mover f_made f_played f_shields f_settled f_rootMove f_word0 f_word1 f_word2 f_word3 a_nextTo a_leaps a_pawnHits a_line a_at a_squaresOf a_held a_kingAt a_quiet a_positions a_playedMove a_playedPiece a_playedTaken a_moveList a_listEnd a_nextMove a_shieldLine a_left a_low a_firstLow a_high a_most a_rows a_knownWords a_knownMover a_knownDepth a_knownKind a_knownNumber := by
  have hli : vp_in (nI l) 6 := vp_in_nI hl (by decide)
  have hlc : (nI l).toNatClampNeg = l := nI_clamp (by omega)
  unfold wX_open_93
  rw [hlc]
  exact ⟨hli, nm_e ⟨hli, nm_e ⟨hli, nm_e ⟨hli, nm_e ⟨hli, nm_e (C1 _ _ _ _ _ _ _ _ _ _ _ _ _ _ _ rfl rfl rfl pk_us pk_us pk_us pk_us pk_us (fun j hj => ⟨pk_un (by omega), pk_un (by omega), pk_un (by omega), pk_un (by omega), pk_un (by omega)⟩))⟩⟩⟩⟩⟩
theorem xo_35 (hS : (xc_S B m h f_mover f_played a_nextTo a_leaps a_pawnHits a_line a_at a_squaresOf a_held a_kingAt a_knownWords a_knownMover a_knownDepth a_knownKind a_knownNumber)) (hl : l < 6) (hd1 : 1 ≤ d) (hd : d ≤ 4)
    (C0 : ∀ (f_shields_2 : Int64) (f_settled_2 : Int32) (f_word0_2 f_word1_2 f_word2_2 f_word3_2 : Int64) (a_moveList_2 a_listEnd_2 a_nextMove_2 : Nat → Int32) (a_shieldLine_2 : Nat → Int64) (a_left_2 a_low_2 a_firstLow_2 a_high_2 a_most_2 : Nat → Int32), ∀ s : Int, f_settled_2 = xi s → -5000 ≤ s → s ≤ 5000 → cs_R (cd_val d B m) s lo hi → (xf_E l h a_moveList a_listEnd a_nextMove a_left a_low a_firstLow a_high a_most a_playedMove a_playedPiece a_playedTaken a_moveList_2 a_listEnd_2 a_nextMove_2 a_left_2 a_low_2 a_firstLow_2 a_high_2 a_most_2 a_playedMove a_playedPiece a_playedTaken) → (l = 0 → 1 ≤ d → cd_L B m = []) → post 0 (f_going, f_mover, f_made, f_played, f_shields_2, f_settled_2, f_rootMove, f_word0_2, f_word1_2, f_word2_2, f_word3_2, a_nextTo, a_leaps, a_pawnHits, a_line, a_at, a_squaresOf, a_held, a_kingAt, a_quiet, a_positions, a_playedMove, a_playedPiece, a_playedTaken, a_moveList_2, a_listEnd_2, a_nextMove_2, a_shieldLine_2, a_left_2, a_low_2, a_firstLow_2, a_high_2, a_most_2, a_rows, a_knownWords, a_knownMover, a_knownDepth, a_knownKind, a_knownNumber))
    (C1 : cd_L B m ≠ [] → ∀ (f_shields_2 : Int64) (f_settled_2 : Int32) (f_word0_2 f_word1_2 f_word2_2 f_word3_2 : Int64) (a_moveList_2 a_listEnd_2 a_nextMove_2 : Nat → Int32) (a_shieldLine_2 : Nat → Int64) (a_left_2 a_low_2 a_firstLow_2 a_high_2 a_most_2 : Nat → Int32), ∀ L' : List Nat, (∀ x, x ∈ L' ↔ x ∈ cd_L B m) → L'.length = (cd_L B m).length → (l = 0 → L' = cd_L B m) → xl_M a_moveList_2 (160 * l) L' → a_listEnd_2 l = nI (160 * l + L'.length) → a_nextMove_2 l = nI (160 * l) → a_left_2 l = nI d → a_low_2 l = xi lo → a_firstLow_2 l = xi lo → a_high_2 l = xi hi → a_most_2 l = xi (-5000) → (xf_E l h a_moveList a_listEnd a_nextMove a_left a_low a_firstLow a_high a_most a_playedMove a_playedPiece a_playedTaken a_moveList_2 a_listEnd_2 a_nextMove_2 a_left_2 a_low_2 a_firstLow_2 a_high_2 a_most_2 a_playedMove a_playedPiece a_playedTaken) → post 1 (f_going, f_mover, f_made, f_played, f_shields_2, f_settled_2, f_rootMove, f_word0_2, f_word1_2, f_word2_2, f_word3_2, a_nextTo, a_leaps, a_pawnHits, a_line, a_at, a_squaresOf, a_held, a_kingAt, a_quiet, a_positions, a_playedMove, a_playedPiece, a_playedTaken, a_moveList_2, a_listEnd_2, a_nextMove_2, a_shieldLine_2, a_left_2, a_low_2, a_firstLow_2, a_high_2, a_most_2, a_rows, a_knownWords, a_knownMover, a_knownDepth, a_knownKind, a_knownNumber)) :
    wX_open_35 post (nI l) (nI d) (xi lo) (xi hi) f_going f_mover f_made f_played f_shields f_settled f_rootMove f_word0 f_word1 f_word2 f_word3 a_nextTo a_leaps a_pawnHits a_line a_at a_squaresOf a_held a_kingAt a_quiet a_positions a_playedMove a_playedPiece a_playedTaken a_moveList a_listEnd a_nextMove a_shieldLine a_left a_low a_firstLow a_high a_most a_rows a_knownWords a_knownMover a_knownDepth a_knownKind a_knownNumber := by
  have hli : vp_in (nI l) 6 := vp_in_nI hl (by decide)
  have hlc : (nI l).toNatClampNeg = l := nI_clamp (by omega)
  have hG : cd_G B m := hS.2.2.2.1
  have hL84 := ce_L84 hG
  unfold wX_open_35
  refine xc_list hS hl ?_
  intro f_shields_2 a_moveList_2 a_listEnd_2 a_nextMove_2 a_shieldLine_2 c1 c2 c3 c4 c5 c6
  refine ⟨hli, ?_⟩
  rw [hlc, c3, xc_160]
  obtain ⟨d1, hd1'⟩ : ∃ d1, d = d1 + 1 := ⟨d - 1, by omega⟩
  refine pk_eq (160 * l + (cd_L B m).length) (160 * l) (fun hz => ?_) (fun hz => ?_)
  · have hL0 : cd_L B m = [] := List.eq_nil_of_length_eq_zero (by omega)
    have hmo : f_mover = nI m := hS.2.2.2.2.1
    rw [show wpX_inCheck _ _ f_mover = wpX_inCheck _ _ (nI m) from by rw [← hmo]]
    refine xc_inCheck hS hG.1 ?_
    cases hck : cd_ck B m with
    | false =>
      have hv : cd_val d B m = 0 := by rw [hd1', cs_val0 hL0, hck]; rfl
      exact br_t rfl (C0 _ _ _ _ _ _ _ _ _ _ _ _ _ _ _ 0 rfl (by decide) (by decide) (by rw [hv]; exact cs_Rx) ⟨c2, fun j hj => ⟨c4 j (by omega), c6 j (by omega), rfl, rfl, rfl, rfl, rfl⟩, fun _ _ => ⟨rfl, rfl, rfl⟩⟩ (fun _ _ => hL0))
    | true =>
      have hv : cd_val d B m = -1000 - (d : Int) := by rw [hd1', cs_val0 hL0, hck]; simp
      refine br_f (by decide) (nm_r (e' := xi (-1000 - (d : Int))) ?_ (C0 _ _ _ _ _ _ _ _ _ _ _ _ _ _ _ _ rfl (by omega) (by omega) (by rw [hv]; exact cs_Rx) ⟨c2, fun j hj => ⟨c4 j (by omega), c6 j (by omega), rfl, rfl, rfl, rfl, rfl⟩, fun _ _ => ⟨rfl, rfl, rfl⟩⟩ (fun _ _ => hL0)))
      rw [xi_nI, show (-1000 : Int32) = xi (-1000) from rfl, xi_sub]
  · have hne : cd_L B m ≠ [] := fun e => hz (by rw [e]; rfl)
    refine pk_le l 0 (fun hl0 => ?_) (fun hl0 => ?_)
    · refine xo_93 (L' := cd_L B m) hl ?_
      intro f_shields_3 f_settled_3 f_word0_3 f_word1_3 f_word2_3 f_word3_3 a_moveList_3 a_listEnd_3 a_nextMove_3 a_shieldLine_3 a_left_3 a_low_3 a_firstLow_3 a_high_3 a_most_3 e1 e2 e3 e4 e5 e6 e7 e8 e9
      subst e1; subst e2; subst e3
      exact C1 hne _ _ _ _ _ _ _ _ _ _ _ _ _ _ _ (cd_L B m) (fun _ => Iff.rfl) rfl (fun _ => rfl) c1 c3 c5 e4 e5 e6 e7 e8 ⟨c2, fun j hj => by omega, fun _ _ => ⟨rfl, rfl, rfl⟩⟩
    · refine xg_arrange hS.2.1 hG.2.1.1 hl hne (by omega) (fun x hx => (ce_L_mem.mp hx).2.1) c3 c1 fun L' ml' g1 g2 g3 g4 => ?_
      refine xo_93 (L' := L') hl ?_
      intro f_shields_3 f_settled_3 f_word0_3 f_word1_3 f_word2_3 f_word3_3 a_moveList_3 a_listEnd_3 a_nextMove_3 a_shieldLine_3 a_left_3 a_low_3 a_firstLow_3 a_high_3 a_most_3 e1 e2 e3 e4 e5 e6 e7 e8 e9
      subst e1; subst e2; subst e3
      refine C1 hne _ _ _ _ _ _ _ _ _ _ _ _ _ _ _ L' g1 g2 (fun h0 => absurd h0 (by omega)) g3 (by rw [g2]; exact c3) c5 e4 e5 e6 e7 e8 ⟨fun j hj => by rw [g4 j hj, c2 j hj], fun j hj => ?_, fun _ _ => ⟨rfl, rfl, rfl⟩⟩
      obtain ⟨q1, q2, q3, q4, q5⟩ := e9 j hj
      exact ⟨c4 j (by omega), c6 j (by omega), q1, q2, q3, q4, q5⟩
theorem xo_open (hS : (xc_S B m h f_mover f_played a_nextTo a_leaps a_pawnHits a_line a_at a_squaresOf a_held a_kingAt a_knownWords a_knownMover a_knownDepth a_knownKind a_knownNumber)) (hl : l < 6) (hd : d ≤ 4) (hlo : -5000 ≤ lo) (hhi : hi ≤ 5000) (hlh : lo < hi)
    (C0 : ∀ (f_shields_2 : Int64) (f_settled_2 : Int32) (f_word0_2 f_word1_2 f_word2_2 f_word3_2 : Int64) (a_moveList_2 a_listEnd_2 a_nextMove_2 : Nat → Int32) (a_shieldLine_2 : Nat → Int64) (a_left_2 a_low_2 a_firstLow_2 a_high_2 a_most_2 : Nat → Int32), ∀ s : Int, f_settled_2 = xi s → -5000 ≤ s → s ≤ 5000 → cs_R (cd_val d B m) s lo hi → (xf_E l h a_moveList a_listEnd a_nextMove a_left a_low a_firstLow a_high a_most a_playedMove a_playedPiece a_playedTaken a_moveList_2 a_listEnd_2 a_nextMove_2 a_left_2 a_low_2 a_firstLow_2 a_high_2 a_most_2 a_playedMove a_playedPiece a_playedTaken) → (l = 0 → 1 ≤ d → cd_L B m = []) → post 0 (f_going, f_mover, f_made, f_played, f_shields_2, f_settled_2, f_rootMove, f_word0_2, f_word1_2, f_word2_2, f_word3_2, a_nextTo, a_leaps, a_pawnHits, a_line, a_at, a_squaresOf, a_held, a_kingAt, a_quiet, a_positions, a_playedMove, a_playedPiece, a_playedTaken, a_moveList_2, a_listEnd_2, a_nextMove_2, a_shieldLine_2, a_left_2, a_low_2, a_firstLow_2, a_high_2, a_most_2, a_rows, a_knownWords, a_knownMover, a_knownDepth, a_knownKind, a_knownNumber))
    (C1 : 1 ≤ d → cd_L B m ≠ [] → ∀ (f_shields_2 : Int64) (f_settled_2 : Int32) (f_word0_2 f_word1_2 f_word2_2 f_word3_2 : Int64) (a_moveList_2 a_listEnd_2 a_nextMove_2 : Nat → Int32) (a_shieldLine_2 : Nat → Int64) (a_left_2 a_low_2 a_firstLow_2 a_high_2 a_most_2 : Nat → Int32), ∀ L' : List Nat, (∀ x, x ∈ L' ↔ x ∈ cd_L B m) → L'.length = (cd_L B m).length → (l = 0 → L' = cd_L B m) → xl_M a_moveList_2 (160 * l) L' → a_listEnd_2 l = nI (160 * l + L'.length) → a_nextMove_2 l = nI (160 * l) → a_left_2 l = nI d → a_low_2 l = xi lo → a_firstLow_2 l = xi lo → a_high_2 l = xi hi → a_most_2 l = xi (-5000) → (xf_E l h a_moveList a_listEnd a_nextMove a_left a_low a_firstLow a_high a_most a_playedMove a_playedPiece a_playedTaken a_moveList_2 a_listEnd_2 a_nextMove_2 a_left_2 a_low_2 a_firstLow_2 a_high_2 a_most_2 a_playedMove a_playedPiece a_playedTaken) → post 1 (f_going, f_mover, f_made, f_played, f_shields_2, f_settled_2, f_rootMove, f_word0_2, f_word1_2, f_word2_2, f_word3_2, a_nextTo, a_leaps, a_pawnHits, a_line, a_at, a_squaresOf, a_held, a_kingAt, a_quiet, a_positions, a_playedMove, a_playedPiece, a_playedTaken, a_moveList_2, a_listEnd_2, a_nextMove_2, a_shieldLine_2, a_left_2, a_low_2, a_firstLow_2, a_high_2, a_most_2, a_rows, a_knownWords, a_knownMover, a_knownDepth, a_knownKind, a_knownNumber)) :
    wpX_open post (f_going, f_mover, f_made, f_played, f_shields, f_settled, f_rootMove, f_word0, f_word1, f_word2, f_word3, a_nextTo, a_leaps, a_pawnHits, a_line, a_at, a_squaresOf, a_held, a_kingAt, a_quiet, a_positions, a_playedMove, a_playedPiece, a_playedTaken, a_moveList, a_listEnd, a_nextMove, a_shieldLine, a_left, a_low, a_firstLow, a_high, a_most, a_rows, a_knownWords, a_knownMover, a_knownDepth, a_knownKind, a_knownNumber) (nI l) (nI d) (xi lo) (xi hi) := by
  have hS' := hS
  obtain ⟨s1, s2, s3, s4, s5, s6, s7⟩ := hS'
  refine pk_eq d 0 (fun h0 => ?_) (fun h0 => pk_le l 0 (fun hl0 => xo_35 hS hl (by omega) hd C0 (C1 (by omega))) (fun hl0 => ?_))
  · refine xw_balance s2 s4.2.1.1 s4.1 s5 ?_
    have hb := cs_bal B m
    refine C0 _ _ _ _ _ _ _ _ _ _ _ _ _ _ _ _ rfl (by omega) (by omega) ?_ xe_refl (fun _ h1 => by omega)
    rw [h0]; exact cs_Rx
  · refine xk_recallV s2 s7 s4.2.1 s4.1 (by omega) s5 hlo hhi hlh ?_ ?_
    · intro f_settled_2 f_word0_2 f_word1_2 f_word2_2 f_word3_2
      exact br_t rfl (xo_35 hS hl (by omega) hd C0 (C1 (by omega)))
    · intro f_word0_2 f_word1_2 f_word2_2 f_word3_2 s h1 h2 h3
      exact br_f (by decide) (C0 _ _ _ _ _ _ _ _ _ _ _ _ _ _ _ _ rfl h1 h2 h3 xe_refl (fun h0 => by omega))
end
section
variable {f_going f_mover f_made f_played : Int32} {f_shields : Int64} {f_settled f_rootMove : Int32} {f_word0 f_word1 f_word2 f_word3 : Int64} {a_nextTo a_leaps a_pawnHits a_line : Nat → Int64} {a_at : Nat → Int32} {a_squaresOf a_held : Nat → Int64} {a_kingAt a_quiet : Nat → Int32} {a_positions : Nat → Int64} {a_playedMove a_playedPiece a_playedTaken a_moveList a_listEnd a_nextMove : Nat → Int32} {a_shieldLine : Nat → Int64} {a_left a_low a_firstLow a_high a_most a_rows : Nat → Int32} {a_knownWords : Nat → Int64} {a_knownMover a_knownDepth a_knownKind a_knownNumber : Nat → Int32} {post : SX → Prop} {B : Nat → Nat} {m h l d x : Nat} {z mo lw hi fl : Int}
theorem xo_38 (hl : l < 6) (hz : -5000 ≤ z ∧ z ≤ 5000) (hlw : -5000 ≤ lw ∧ lw ≤ 5000) (hlo : a_low l = xi lw)
    (C : ∀ lo2 : Nat → Int32, lo2 l = xi (cs_m2 lw z) → (∀ j, j ≠ l → lo2 j = a_low j) → post (f_going, f_mover, f_made, f_played, f_shields, f_settled, f_rootMove, f_word0, f_word1, f_word2, f_word3, a_nextTo, a_leaps, a_pawnHits, a_line, a_at, a_squaresOf, a_held, a_kingAt, a_quiet, a_positions, a_playedMove, a_playedPiece, a_playedTaken, a_moveList, a_listEnd, a_nextMove, a_shieldLine, a_left, lo2, a_firstLow, a_high, a_most, a_rows, a_knownWords, a_knownMover, a_knownDepth, a_knownKind, a_knownNumber)) : wX_hear_38 post (nI l) (xi z) f_going f_mover f_made f_played f_shields f_settled f_rootMove f_word0 f_word1 f_word2 f_word3 a_nextTo a_leaps a_pawnHits a_line a_at a_squaresOf a_held a_kingAt a_quiet a_positions a_playedMove a_playedPiece a_playedTaken a_moveList a_listEnd a_nextMove a_shieldLine a_left a_low a_firstLow a_high a_most a_rows a_knownWords a_knownMover a_knownDepth a_knownKind a_knownNumber := by
  have hli : vp_in (nI l) 6 := vp_in_nI hl (by decide)
  have hlc : (nI l).toNatClampNeg = l := nI_clamp (by omega)
  unfold wX_hear_38
  rw [hlc, hlo, xi_le (xi_B hz.1 hz.2) (xi_B hlw.1 hlw.2)]
  unfold cs_m2 at C
  refine ⟨hli, br_c (fun h1 => C a_low (by rw [if_neg (by omega)]; exact hlo) (fun _ _ => rfl)) (fun h1 => ⟨hli, nm_e (C _ (by rw [if_pos (by omega)]; exact pk_us) (fun j hj => pk_un hj))⟩)⟩
theorem xo_hear (hl : l < 6) (hz : -5000 ≤ z ∧ z ≤ 5000) (hlw : -5000 ≤ lw ∧ lw ≤ 5000) (hmo : -5000 ≤ mo ∧ mo ≤ 5000) (hlo : a_low l = xi lw) (hm : a_most l = xi mo) (hq : l = 0 → ∃ q, q < 960 ∧ a_nextMove 0 = nI (q + 1) ∧ a_moveList q = nI x)
    (C : ∀ (f_rootMove_2 : Int32) (a_low_2 a_most_2 : Nat → Int32), (f_rootMove_2 = if l = 0 ∧ mo < z then nI x else f_rootMove) → a_low_2 l = xi (cs_m2 lw z) → (∀ j, j ≠ l → a_low_2 j = a_low j) → a_most_2 l = xi (cs_m2 mo z) → (∀ j, j ≠ l → a_most_2 j = a_most j) → post (f_going, f_mover, f_made, f_played, f_shields, f_settled, f_rootMove_2, f_word0, f_word1, f_word2, f_word3, a_nextTo, a_leaps, a_pawnHits, a_line, a_at, a_squaresOf, a_held, a_kingAt, a_quiet, a_positions, a_playedMove, a_playedPiece, a_playedTaken, a_moveList, a_listEnd, a_nextMove, a_shieldLine, a_left, a_low_2, a_firstLow, a_high, a_most_2, a_rows, a_knownWords, a_knownMover, a_knownDepth, a_knownKind, a_knownNumber)) : wpX_hear post (f_going, f_mover, f_made, f_played, f_shields, f_settled, f_rootMove, f_word0, f_word1, f_word2, f_word3, a_nextTo, a_leaps, a_pawnHits, a_line, a_at, a_squaresOf, a_held, a_kingAt, a_quiet, a_positions, a_playedMove, a_playedPiece, a_playedTaken, a_moveList, a_listEnd, a_nextMove, a_shieldLine, a_left, a_low, a_firstLow, a_high, a_most, a_rows, a_knownWords, a_knownMover, a_knownDepth, a_knownKind, a_knownNumber) (nI l) (xi z) := by
  have hli : vp_in (nI l) 6 := vp_in_nI hl (by decide)
  have hlc : (nI l).toNatClampNeg = l := nI_clamp (by omega)
  refine (?_ : vp_in (nI l) 6 ∧ _)
  rw [hlc, hm, xi_le (xi_B hz.1 hz.2) (xi_B hmo.1 hmo.2)]
  refine ⟨hli, br_c (fun h1 => ?_) (fun h1 => ⟨hli, nm_e (pk_eq l 0 (fun hl0 => ?_) (fun hl0 => ?_))⟩)⟩
  · refine xo_38 hl hz hlw hlo fun lo2 g1 g2 => C _ _ _ (by rw [if_neg (fun h => by omega)]) g1 g2 ?_ (fun _ _ => rfl)
    unfold cs_m2; rw [if_neg (by omega)]; exact hm
  · obtain ⟨q, q1, q2, q3⟩ := hq hl0
    have eq : a_nextMove 0 - 1 = nI q := by rw [q2]; exact nI_pred q
    rw [eq]
    refine ⟨vp_in_nI q1 (by decide), nm_r (e' := nI x) (by rw [nI_clamp (by omega), q3]) (xo_38 hl hz hlw hlo fun lo2 g1 g2 => C _ _ _ (by rw [if_pos ⟨hl0, by omega⟩]) g1 g2 ?_ (fun j hj => pk_un hj))⟩
    unfold cs_m2; rw [if_pos (by omega)]; exact pk_us
  · refine xo_38 hl hz hlw hlo fun lo2 g1 g2 => C _ _ _ (by rw [if_neg (fun h => hl0 h.1)]) g1 g2 ?_ (fun j hj => pk_un hj)
    unfold cs_m2; rw [if_pos (by omega)]; exact pk_us
theorem xo_close (hS : (xc_S B m h f_mover f_played a_nextTo a_leaps a_pawnHits a_line a_at a_squaresOf a_held a_kingAt a_knownWords a_knownMover a_knownDepth a_knownKind a_knownNumber)) (hl : l < 6) (hd : d < 100) (hmo : -5000 ≤ mo ∧ mo ≤ 5000) (hhi : -5000 ≤ hi ∧ hi ≤ 5000) (hfl : -5000 ≤ fl ∧ fl ≤ 5000) (e1 : a_most l = xi mo) (e2 : a_high l = xi hi) (e3 : a_firstLow l = xi fl) (e4 : a_left l = nI d) (hR : cs_R (cd_val d B m) mo fl hi)
    (C : ∀ (f_word0_2 f_word1_2 f_word2_2 f_word3_2 : Int64) (a_knownWords_2 : Nat → Int64) (a_knownMover_2 a_knownDepth_2 a_knownKind_2 a_knownNumber_2 : Nat → Int32), (xc_S B m h f_mover f_played a_nextTo a_leaps a_pawnHits a_line a_at a_squaresOf a_held a_kingAt a_knownWords_2 a_knownMover_2 a_knownDepth_2 a_knownKind_2 a_knownNumber_2) → post (f_going, f_mover, f_made, f_played, f_shields, f_settled, f_rootMove, f_word0_2, f_word1_2, f_word2_2, f_word3_2, a_nextTo, a_leaps, a_pawnHits, a_line, a_at, a_squaresOf, a_held, a_kingAt, a_quiet, a_positions, a_playedMove, a_playedPiece, a_playedTaken, a_moveList, a_listEnd, a_nextMove, a_shieldLine, a_left, a_low, a_firstLow, a_high, a_most, a_rows, a_knownWords_2, a_knownMover_2, a_knownDepth_2, a_knownKind_2, a_knownNumber_2)) : wpX_close post (f_going, f_mover, f_made, f_played, f_shields, f_settled, f_rootMove, f_word0, f_word1, f_word2, f_word3, a_nextTo, a_leaps, a_pawnHits, a_line, a_at, a_squaresOf, a_held, a_kingAt, a_quiet, a_positions, a_playedMove, a_playedPiece, a_playedTaken, a_moveList, a_listEnd, a_nextMove, a_shieldLine, a_left, a_low, a_firstLow, a_high, a_most, a_rows, a_knownWords, a_knownMover, a_knownDepth, a_knownKind, a_knownNumber) (nI l) := by
  have hli : vp_in (nI l) 6 := vp_in_nI hl (by decide)
  have hlc : (nI l).toNatClampNeg = l := nI_clamp (by omega)
  have H39 : ∀ kind : Int32, xk_E B m d kind (xi mo) → wX_close_39 post (nI l) kind f_going f_mover f_made f_played f_shields f_settled f_rootMove f_word0 f_word1 f_word2 f_word3 a_nextTo a_leaps a_pawnHits a_line a_at a_squaresOf a_held a_kingAt a_quiet a_positions a_playedMove a_playedPiece a_playedTaken a_moveList a_listEnd a_nextMove a_shieldLine a_left a_low a_firstLow a_high a_most a_rows a_knownWords a_knownMover a_knownDepth a_knownKind a_knownNumber := by
    intro kind hE
    unfold wX_close_39
    rw [hlc, e4, e1]
    exact ⟨hli, hli, xc_remember hS hd hE C⟩
  refine (?_ : vp_in (nI l) 6 ∧ _)
  rw [hlc, e1, e2, e3, xi_lt (xi_B hmo.1 hmo.2) (xi_B hhi.1 hhi.2), xi_lt (xi_B hfl.1 hfl.2) (xi_B hmo.1 hmo.2)]
  refine ⟨hli, hli, br_c (fun h1 => ⟨hli, hli, br_c (fun h2 => H39 1 (Or.inl ⟨mo, rfl, hmo.1, hmo.2, Or.inl ⟨rfl, hR.2.2 h2 h1⟩⟩)) (fun h2 => H39 3 (Or.inl ⟨mo, rfl, hmo.1, hmo.2, Or.inr (Or.inr ⟨rfl, hR.1 (by omega)⟩)⟩))⟩) (fun h1 => H39 2 (Or.inl ⟨mo, rfl, hmo.1, hmo.2, Or.inr (Or.inl ⟨rfl, hR.2.1 (by omega)⟩)⟩))⟩
end
end
section
/-! ===== the component's search ===== -/
theorem cs_m2a (a b c : Int) : cs_m2 (cs_m2 a b) c = cs_m2 a (cs_m2 b c) := by
  unfold cs_m2; split <;> split <;> (try split) <;> omega
theorem cs_m2b {a b : Int} (ha : -5000 ≤ a ∧ a ≤ 5000) (hb : -5000 ≤ b ∧ b ≤ 5000) : -5000 ≤ cs_m2 a b ∧ cs_m2 a b ≤ 5000 := by
  unfold cs_m2; split <;> omega
/-- the root's best move -/
theorem xs_rm {g : Nat → Int} {done : List Nat} {mo s b : Int} {x : Nat} (hg : ∀ y, -5000 < -(g y) ∧ -(g y) < 5000) (hI : cs_I g done (-5000) 5000 mo) (hm : -5000 ≤ mo) (hR : cs_R (g x) s (-5000) (-(cs_m2 (-5000) mo))) :
    (if mo < -s then (x : Int) else cd_bm g (-5000) b done) = cd_bm g (-5000) b (done ++ [x]) := by
  have e := cs_root (fun x _ => hg x) hI hm
  have hmm : cs_m2 (-5000) mo = mo := by unfold cs_m2; split <;> omega
  rw [hmm] at hR
  rw [cs_bm_app, ← e]
  obtain ⟨r1, r2, r3⟩ := hR
  have gx := hg x
  by_cases h : mo < -s
  · rw [if_pos h]
    have : mo < -(g x) := by
      by_cases h1 : s ≤ -5000
      · have := r1 h1; omega
      · have := r3 (by omega) (by omega); omega
    rw [if_pos this]
  · rw [if_neg h]
    have : ¬ mo < -(g x) := by have := r2 (by omega); omega
    rw [if_neg this]
section
variable {f_going f_mover f_made f_played : Int32} {f_shields : Int64} {f_settled f_rootMove : Int32} {f_word0 f_word1 f_word2 f_word3 : Int64} {a_nextTo a_leaps a_pawnHits a_line : Nat → Int64} {a_at : Nat → Int32} {a_squaresOf a_held : Nat → Int64} {a_kingAt a_quiet : Nat → Int32} {a_positions : Nat → Int64} {a_playedMove a_playedPiece a_playedTaken a_moveList a_listEnd a_nextMove : Nat → Int32} {a_shieldLine : Nat → Int64} {a_left a_low a_firstLow a_high a_most a_rows : Nat → Int32} {a_knownWords : Nat → Int64} {a_knownMover a_knownDepth a_knownKind a_knownNumber : Nat → Int32} {post : Int32 → SX → Prop}
theorem xs_loop : ∀ (e l : Nat), l + e + 1 ≤ 4 → ∀ (B : Nat → Nat) (m h w w' : Nat), ce_ws B m ≤ w → ce_ws B (1 - m) ≤ w' → h + e + 1 ≤ 70 → cd_L B m ≠ [] → ∀ (fl hi : Int), -5000 ≤ fl → fl < hi → hi ≤ 5000 →
    ∀ (rest done : List Nat), (∀ x, x ∈ done ++ rest ↔ x ∈ cd_L B m) → (done ++ rest).length ≤ 84 → ∀ (i : Nat) (mo : Int), i + rest.length * (1 + cs_C e w' w) < 19999999 → cs_I (fun x => cd_val e (cd_nx B x) (1 - m)) done fl hi mo → -5000 ≤ mo → mo ≤ 5000 →
    ∀ (f_mover f_played : Int32) (f_shields : Int64) (f_settled f_rootMove : Int32) (f_word0 f_word1 f_word2 f_word3 : Int64) (a_at : Nat → Int32) (a_squaresOf a_held : Nat → Int64) (a_kingAt a_playedMove a_playedPiece a_playedTaken a_moveList a_listEnd a_nextMove : Nat → Int32) (a_shieldLine : Nat → Int64) (a_left a_low a_firstLow a_high a_most : Nat → Int32) (a_knownWords : Nat → Int64) (a_knownMover a_knownDepth a_knownKind a_knownNumber : Nat → Int32), (xc_S B m h f_mover f_played a_nextTo a_leaps a_pawnHits a_line a_at a_squaresOf a_held a_kingAt a_knownWords a_knownMover a_knownDepth a_knownKind a_knownNumber) → xl_M a_moveList (160 * l) (done ++ rest) → a_listEnd l = nI (160 * l + (done ++ rest).length) → a_nextMove l = nI (160 * l + done.length) → a_left l = nI (e + 1) → a_low l = xi (cs_m2 fl mo) → a_firstLow l = xi fl → a_high l = xi hi → a_most l = xi mo →
    (l = 0 → fl = -5000 → hi = 5000 → f_rootMove = xi (cd_bm (fun x => cd_val e (cd_nx B x) (1 - m)) (-5000) (-1) done)) →
    (∀ (f_mover_2 f_played_2 : Int32) (f_shields_2 : Int64) (f_settled_2 f_rootMove_2 : Int32) (f_word0_2 f_word1_2 f_word2_2 f_word3_2 : Int64) (a_at_2 : Nat → Int32) (a_squaresOf_2 a_held_2 : Nat → Int64) (a_kingAt_2 a_playedMove_2 a_playedPiece_2 a_playedTaken_2 a_moveList_2 a_listEnd_2 a_nextMove_2 : Nat → Int32) (a_shieldLine_2 : Nat → Int64) (a_left_2 a_low_2 a_firstLow_2 a_high_2 a_most_2 : Nat → Int32) (a_knownWords_2 : Nat → Int64) (a_knownMover_2 a_knownDepth_2 a_knownKind_2 a_knownNumber_2 : Nat → Int32), ∀ (i' : Nat) (mo2 : Int), i' ≤ i + rest.length * (1 + cs_C e w' w) → (xc_S B m h f_mover_2 f_played_2 a_nextTo a_leaps a_pawnHits a_line a_at_2 a_squaresOf_2 a_held_2 a_kingAt_2 a_knownWords_2 a_knownMover_2 a_knownDepth_2 a_knownKind_2 a_knownNumber_2) → (xf_E l h a_moveList a_listEnd a_nextMove a_left a_low a_firstLow a_high a_most a_playedMove a_playedPiece a_playedTaken a_moveList_2 a_listEnd_2 a_nextMove_2 a_left_2 a_low_2 a_firstLow_2 a_high_2 a_most_2 a_playedMove_2 a_playedPiece_2 a_playedTaken_2) → a_left_2 l = nI (e + 1) → a_firstLow_2 l = xi fl → a_high_2 l = xi hi → a_most_2 l = xi mo2 → -5000 ≤ mo2 → mo2 ≤ 5000 → cs_R (cd_val (e + 1) B m) mo2 fl hi →
      (l = 0 → fl = -5000 → hi = 5000 → f_rootMove_2 = xi (cd_bm (fun x => cd_val e (cd_nx B x) (1 - m)) (-5000) (-1) (done ++ rest))) → (l ≠ 0 → f_rootMove_2 = f_rootMove) → wX_search_159 post (wX_search_21 post 1 (20000001 - (i' + 1))) (nI l) 1 (nI i') f_going f_mover_2 f_made f_played_2 f_shields_2 f_settled_2 f_rootMove_2 f_word0_2 f_word1_2 f_word2_2 f_word3_2 a_nextTo a_leaps a_pawnHits a_line a_at_2 a_squaresOf_2 a_held_2 a_kingAt_2 a_quiet a_positions a_playedMove_2 a_playedPiece_2 a_playedTaken_2 a_moveList_2 a_listEnd_2 a_nextMove_2 a_shieldLine_2 a_left_2 a_low_2 a_firstLow_2 a_high_2 a_most_2 a_rows a_knownWords_2 a_knownMover_2 a_knownDepth_2 a_knownKind_2 a_knownNumber_2) →
    wX_search_21 post 1 (20000001 - i) (nI l) (nI i) f_going f_mover f_made f_played f_shields f_settled f_rootMove f_word0 f_word1 f_word2 f_word3 a_nextTo a_leaps a_pawnHits a_line a_at a_squaresOf a_held a_kingAt a_quiet a_positions a_playedMove a_playedPiece a_playedTaken a_moveList a_listEnd a_nextMove a_shieldLine a_left a_low a_firstLow a_high a_most a_rows a_knownWords a_knownMover a_knownDepth a_knownKind a_knownNumber := by
  intro e
  induction e using Nat.strongRecOn with
  | _ e ihe =>
  intro l hlD B m h w w' hw hw' hh hne fl hi hfl hfh hhi rest
  have hV := cs_V (d := e) (by omega) hne
  have hgb : ∀ y, -5000 < -(cd_val e (cd_nx B y) (1 - m)) ∧ -(cd_val e (cd_nx B y) (1 - m)) < 5000 := fun y => by
    have := cs_vb e (cd_nx B y) (1 - m); omega
  have hl6 : l < 6 := by omega
  have hli : vp_in (nI l) 6 := vp_in_nI hl6 (by decide)
  have hlc : (nI l).toNatClampNeg = l := nI_clamp (by omega)
  induction rest with
  | nil =>
    intro done hdr hlen i mo hi' hI hmo1 hmo2 f_mover f_played f_shields f_settled f_rootMove f_word0 f_word1 f_word2 f_word3 a_at a_squaresOf a_held a_kingAt a_playedMove a_playedPiece a_playedTaken a_moveList a_listEnd a_nextMove a_shieldLine a_left a_low a_firstLow a_high a_most a_knownWords a_knownMover a_knownDepth a_knownKind a_knownNumber hS hml hle hnm hlf hlo hfw hhw hmw hrm K
    have hfuel : 20000001 - i = (20000001 - (i + 1)) + 1 := by omega
    rw [hfuel, wX_search_21]
    refine pk_le 20000000 i (fun h => by omega) (fun _ => br_f (by decide) ⟨hli, hli, ?_⟩)
    rw [hlc, hle, hnm, List.append_nil]
    rw [List.append_nil] at hlen
    refine pk_le (160 * l + done.length) (160 * l + done.length) (fun _ => ?_) (fun h => by omega)
    rw [List.append_nil] at K hdr
    refine K _ _ _ _ _ _ _ _ _ _ _ _ _ _ _ _ _ _ _ _ _ _ _ _ _ _ _ _ _ _ i mo (by omega) hS xe_refl hlf hfw hhw hmw hmo1 hmo2 (cs_end hI hfh (Or.inl rfl) (fun x => by rw [List.append_nil]; exact (hdr x).symm) hV.1 hV.2) hrm (fun _ => rfl)
  | cons x rest ih =>
    intro done hdr hlen i mo hi' hI hmo1 hmo2 f_mover f_played f_shields f_settled f_rootMove f_word0 f_word1 f_word2 f_word3 a_at a_squaresOf a_held a_kingAt a_playedMove a_playedPiece a_playedTaken a_moveList a_listEnd a_nextMove a_shieldLine a_left a_low a_firstLow a_high a_most a_knownWords a_knownMover a_knownDepth a_knownKind a_knownNumber hS hml hle hnm hlf hlo hfw hhw hmw hrm K
    obtain ⟨g1, g2, g3, g4, g5⟩ := xc_get (rfl : done ++ x :: rest = done ++ x :: rest)
    have hxL : x ∈ cd_L B m := (hdr x).mp g3
    have hG : cd_G B m := hS.2.2.2.1
    rw [List.length_cons] at hi' K
    have hmul : (rest.length + 1) * (1 + cs_C e w' w) = rest.length * (1 + cs_C e w' w) + (1 + cs_C e w' w) := by rw [Nat.add_mul, Nat.one_mul]
    rw [hmul] at hi' K
    have hGx := ce_Gx hG hxL
    have hL84' := ce_L84 hGx
    obtain ⟨hf36, ht36, hlg⟩ := ce_L_mem.mp hxL
    have hm2 := hG.1
    have hwx : ∀ q, q < 2 → ce_ws (cd_nx B x) q ≤ ce_ws B q := fun q hq => ce_ws_mv hG.1 hf36 ht36 (ce_lg hlg).1 hq
    have hlwb := cs_m2b (a := fl) (b := mo) ⟨hfl, by omega⟩ ⟨hmo1, hmo2⟩
    have hfuel : 20000001 - i = (20000001 - (i + 1)) + 1 := by omega
    rw [hfuel, wX_search_21]
    refine pk_le 20000000 i (fun h => by omega) (fun _ => br_f (by decide) ⟨hli, hli, ?_⟩)
    rw [hlc, hle, hnm]
    refine pk_le (160 * l + (done ++ x :: rest).length) (160 * l + done.length) (fun h => by omega) (fun _ => ⟨hli, hli, ?_⟩)
    rw [hhw, hlo, xi_le (xi_B (by omega) hhi) (xi_B hlwb.1 hlwb.2)]
    refine br_c (fun hcut => ?_) (fun hcut => ⟨hli, vp_in_nI (by omega) (by decide), ?_⟩)
    · refine K _ _ _ _ _ _ _ _ _ _ _ _ _ _ _ _ _ _ _ _ _ _ _ _ _ _ _ _ _ _ i mo (by omega) hS xe_refl hlf hfw hhw hmw hmo1 hmo2 (cs_end hI hfh (Or.inr hcut) (fun y => (hdr y).symm) hV.1 hV.2) (fun h0 h1 h2 => ?_) (fun _ => rfl)
      exfalso
      have : 5000 ≤ mo := by
        rcases (cs_m2le fl mo).2.2 with e1 | e1 <;> omega
      obtain ⟨y, hy, hy2⟩ := hI.1 (by omega)
      have := (hgb y).2
      have hy2 : mo ≤ -(cd_val e (cd_nx B y) (1 - m)) := hy2
      omega
    -- the next row of the loop, once the move is taken back and heard of
    have NEXT : ∀ (f_mover_9 f_played_9 : Int32) (f_shields_9 : Int64) (f_settled_9 f_rootMove_9 : Int32) (f_word0_9 f_word1_9 f_word2_9 f_word3_9 : Int64) (a_at_9 : Nat → Int32) (a_squaresOf_9 a_held_9 : Nat → Int64) (a_kingAt_9 a_playedMove_9 a_playedPiece_9 a_playedTaken_9 a_moveList_9 a_listEnd_9 a_nextMove_9 : Nat → Int32) (a_shieldLine_9 : Nat → Int64) (a_left_9 a_low_9 a_firstLow_9 a_high_9 a_most_9 : Nat → Int32) (a_knownWords_9 : Nat → Int64) (a_knownMover_9 a_knownDepth_9 a_knownKind_9 a_knownNumber_9 : Nat → Int32), ∀ (i9 : Nat) (s : Int), i9 + rest.length * (1 + cs_C e w' w) < 19999999 → i9 ≤ i + (1 + cs_C e w' w) → -5000 ≤ s → s ≤ 5000 → cs_R (cd_val e (cd_nx B x) (1 - m)) s (-hi) (-(cs_m2 fl mo)) → (xc_S B m h f_mover_9 f_played_9 a_nextTo a_leaps a_pawnHits a_line a_at_9 a_squaresOf_9 a_held_9 a_kingAt_9 a_knownWords_9 a_knownMover_9 a_knownDepth_9 a_knownKind_9 a_knownNumber_9) → (xf_E l h a_moveList a_listEnd a_nextMove a_left a_low a_firstLow a_high a_most a_playedMove a_playedPiece a_playedTaken a_moveList_9 a_listEnd_9 a_nextMove_9 a_left_9 a_low_9 a_firstLow_9 a_high_9 a_most_9 a_playedMove_9 a_playedPiece_9 a_playedTaken_9) → (∀ j, j < 160 * (l + 1) → a_moveList_9 j = a_moveList j) → a_listEnd_9 l = a_listEnd l → a_nextMove_9 l = nI (160 * l + done.length + 1) → a_left_9 l = a_left l → a_firstLow_9 l = a_firstLow l → a_high_9 l = a_high l →
        a_low_9 l = xi (cs_m2 (cs_m2 fl mo) (-s)) → a_most_9 l = xi (cs_m2 mo (-s)) → (f_rootMove_9 = if l = 0 ∧ mo < -s then nI x else f_rootMove) → wX_search_21 post 1 (20000001 - i9) (nI l) (nI i9) f_going f_mover_9 f_made f_played_9 f_shields_9 f_settled_9 f_rootMove_9 f_word0_9 f_word1_9 f_word2_9 f_word3_9 a_nextTo a_leaps a_pawnHits a_line a_at_9 a_squaresOf_9 a_held_9 a_kingAt_9 a_quiet a_positions a_playedMove_9 a_playedPiece_9 a_playedTaken_9 a_moveList_9 a_listEnd_9 a_nextMove_9 a_shieldLine_9 a_left_9 a_low_9 a_firstLow_9 a_high_9 a_most_9 a_rows a_knownWords_9 a_knownMover_9 a_knownDepth_9 a_knownKind_9 a_knownNumber_9 := by
      intro f_mover_9 f_played_9 f_shields_9 f_settled_9 f_rootMove_9 f_word0_9 f_word1_9 f_word2_9 f_word3_9 a_at_9 a_squaresOf_9 a_held_9 a_kingAt_9 a_playedMove_9 a_playedPiece_9 a_playedTaken_9 a_moveList_9 a_listEnd_9 a_nextMove_9 a_shieldLine_9 a_left_9 a_low_9 a_firstLow_9 a_high_9 a_most_9 a_knownWords_9 a_knownMover_9 a_knownDepth_9 a_knownKind_9 a_knownNumber_9 i9 s hi9 hi9' hs1 hs2 hR hS9 hE9 hml9 hle9 hnm9 hlf9 hfw9 hhw9 hlo9 hmw9 hrm9
      have hmb := cs_m2b (a := mo) (b := -s) ⟨hmo1, hmo2⟩ ⟨by omega, by omega⟩
      refine ih (done ++ [x]) (by rw [g4]; exact hdr) (by rw [g4]; exact hlen) i9 (cs_m2 mo (-s)) hi9 (cs_step hI (by omega) hR) hmb.1 hmb.2 _ _ _ _ _ _ _ _ _ _ _ _ _ _ _ _ _ _ _ _ _ _ _ _ _ _ _ _ _ _ hS9 (by rw [g4]; exact xl_Mfr hml fun j hj => hml9 j (by omega)) (by rw [g4, hle9]; exact hle) (by rw [g5, ← Nat.add_assoc]; exact hnm9) (by rw [hlf9]; exact hlf) (by rw [hlo9, cs_m2a]) (by rw [hfw9]; exact hfw) (by rw [hhw9]; exact hhw) hmw9 ?_ ?_
      · intro h0 h1 h2
        subst h1; subst h2
        rw [hrm9, ← xs_rm (g := fun x => cd_val e (cd_nx B x) (1 - m)) (s := s) hgb hI hmo1 hR]
        by_cases hc : mo < -s
        · rw [if_pos ⟨h0, hc⟩, if_pos hc, xi_nI]
        · rw [if_neg (fun h => hc h.2), if_neg hc]; exact hrm h0 rfl rfl
      · intro f_mover_2 f_played_2 f_shields_2 f_settled_2 f_rootMove_2 f_word0_2 f_word1_2 f_word2_2 f_word3_2 a_at_2 a_squaresOf_2 a_held_2 a_kingAt_2 a_playedMove_2 a_playedPiece_2 a_playedTaken_2 a_moveList_2 a_listEnd_2 a_nextMove_2 a_shieldLine_2 a_left_2 a_low_2 a_firstLow_2 a_high_2 a_most_2 a_knownWords_2 a_knownMover_2 a_knownDepth_2 a_knownKind_2 a_knownNumber_2 i2 mo2 hi2 hS2 hE2 k1 k2 k3 k4 k5 k6 k7 k8 k9
        refine K _ _ _ _ _ _ _ _ _ _ _ _ _ _ _ _ _ _ _ _ _ _ _ _ _ _ _ _ _ _ i2 mo2 (by omega) hS2 (xe_trans (Nat.le_refl _) (Nat.le_refl _) (Nat.le_refl _) (Nat.le_refl _) hE9 hE2) k1 k2 k3 k4 k5 k6 k7 (by rw [← g4]; exact k8) (fun h0 => ?_)
        rw [k9 h0, hrm9, if_neg (fun h => h0 h.1)]
    rw [nI_clamp (by omega), hml _ g1, g2]
    refine xc_make hS (by omega) hxL ?_
    intro f_mover_3 f_played_3 a_at_3 a_squaresOf_3 a_held_3 a_kingAt_3 hS3
    refine ⟨hli, hli, nm_r (e' := upd a_nextMove l (nI (160 * l + done.length + 1))) (by rw [hnm, nI_1]) ⟨hli, hli, hli, ?_⟩⟩
    have eD : nI (e + 1) - 1 = nI e := nI_pred e
    rw [nI_1 l, hlf, eD, hhw, hlo, xi_neg, xi_neg]
    refine xo_open hS3 (by omega) (by omega) (by omega) (by omega) (by omega) ?_ ?_
    · intro f_shields_4 f_settled_4 f_word0_4 f_word1_4 f_word2_4 f_word3_4 a_moveList_4 a_listEnd_4 a_nextMove_4 a_shieldLine_4 a_left_4 a_low_4 a_firstLow_4 a_high_4 a_most_4 s hst hs1 hs2 hR hE4 _
      refine br_t rfl (xc_back hS3 hG (by omega) hxL pk_us pk_us pk_us ?_)
      intro f_mover_5 f_played_5 a_at_5 a_squaresOf_5 a_held_5 a_kingAt_5 hS5
      obtain ⟨q1, q2, q3, q4, q5, q6, q7⟩ := hE4.2.1 l (by omega)
      subst hst
      dsimp only
      rw [xi_neg]
      refine xo_hear (x := x) hl6 ⟨by omega, by omega⟩ hlwb ⟨hmo1, hmo2⟩ (by rw [q4]; exact hlo) (by rw [q7]; exact hmw) (fun h0 => ⟨160 * l + done.length, by omega, ?_, ?_⟩) ?_
      · have : a_nextMove_4 l = nI (160 * l + done.length + 1) := by rw [q2, pk_us]
        rw [h0] at this ⊢; exact this
      · rw [hE4.1 _ (by omega), hml _ g1, g2]
      · intro f_rootMove_6 a_low_6 a_most_6 r1 r2 r3 r4 r5
        dsimp only
        refine nm_r (nI_1 i) (NEXT _ _ _ _ _ _ _ _ _ _ _ _ _ _ _ _ _ _ _ _ _ _ _ _ _ _ _ _ _ _ (i + 1) s (by omega) (by omega) hs1 hs2 hR hS5 ⟨fun j hj => hE4.1 j (by omega), fun j hj => ?_, fun j hj => ⟨pk_un (by omega), pk_un (by omega), pk_un (by omega)⟩⟩ hE4.1 q1 (by rw [q2, pk_us]) q3 q5 q6 r2 r4 r1)
        obtain ⟨p1, p2, p3, p4, p5, p6, p7⟩ := hE4.2.1 j (by omega)
        exact ⟨p1, by rw [p2, pk_un (by omega)], p3, by rw [r3 j (by omega), p4], p5, p6, by rw [r5 j (by omega), p7]⟩
    · intro hd1 hne'
      intro f_shields_4 f_settled_4 f_word0_4 f_word1_4 f_word2_4 f_word3_4 a_moveList_4 a_listEnd_4 a_nextMove_4 a_shieldLine_4 a_left_4 a_low_4 a_firstLow_4 a_high_4 a_most_4 L' k1 k2 k3 k4 k5 k6 k7 k8 k9 k10 k11 hE4
      refine br_f (by decide) (nm_e (nm_r (nI_1 i) ?_))
      rcases e with _ | e
      · omega
      · have hwx1 := hwx (1 - m) (by omega)
        have hwx0 := hwx m hm2
        have hC : cs_C (e + 1) w' w = 1 + w' * (1 + cs_C e w w') := rfl
        have hLw : L'.length * (1 + cs_C e w w') ≤ w' * (1 + cs_C e w w') := Nat.mul_le_mul_right _ (by rw [k2]; exact Nat.le_trans (ce_Llen hGx.2.1 hGx.1) (by omega))
        have hmw5 : cs_m2 (-hi) (-5000) = -hi := by unfold cs_m2; rw [if_neg (by omega)]
        refine ihe e (by omega) (l + 1) (by omega) (cd_nx B x) (1 - m) (h + 1) w' w (by omega) (by rw [cc_x11 hm2]; omega) (by omega) hne' (-hi) (-(cs_m2 fl mo)) (by omega) (by omega) (by omega) L' [] k1 (by rw [List.nil_append, k2]; exact hL84') (i + 1) (-5000) (by omega) (cs_I0 _ (by omega)) (by omega) (by omega) _ _ _ _ _ _ _ _ _ _ _ _ _ _ _ _ _ _ _ _ _ _ _ _ _ _ _ _ _ _ hS3 k4 k5 k6 k7 (by rw [hmw5]; exact k8) k9 k10 k11 (fun h0 => absurd h0 (by omega)) ?_
        intro f_mover_6 f_played_6 f_shields_6 f_settled_6 f_rootMove_6 f_word0_6 f_word1_6 f_word2_6 f_word3_6 a_at_6 a_squaresOf_6 a_held_6 a_kingAt_6 a_playedMove_6 a_playedPiece_6 a_playedTaken_6 a_moveList_6 a_listEnd_6 a_nextMove_6 a_shieldLine_6 a_left_6 a_low_6 a_firstLow_6 a_high_6 a_most_6 a_knownWords_6 a_knownMover_6 a_knownDepth_6 a_knownKind_6 a_knownNumber_6 i6 mo6 hi6 hS6 hE6 u1 u2 u3 u4 u5 u6 u7 u8 u9
        have hl1i : vp_in (nI (l + 1)) 6 := vp_in_nI (by omega) (by decide)
        have hl1c : (nI (l + 1)).toNatClampNeg = l + 1 := nI_clamp (by omega)
        unfold wX_search_159
        refine xo_close hS6 (by omega) (by omega) ⟨u5, u6⟩ ⟨by omega, by omega⟩ ⟨by omega, by omega⟩ u4 u3 u2 u1 u7 ?_
        intro f_word0_7 f_word1_7 f_word2_7 f_word3_7 a_knownWords_7 a_knownMover_7 a_knownDepth_7 a_knownKind_7 a_knownNumber_7 hS7
        refine pk_eq (l + 1) 0 (fun h => by omega) (fun _ => ?_)
        obtain ⟨v1, v2, v3⟩ := hE6.2.2 h (by omega)
        refine xc_back hS7 hG (by omega) hxL (by rw [v1, pk_us]) (by rw [v2, pk_us]) (by rw [v3, pk_us]) ?_
        intro f_mover_8 f_played_8 a_at_8 a_squaresOf_8 a_held_8 a_kingAt_8 hS8
        refine nm_r (xc_m1 (l := l)) ⟨by rw [nI_1]; exact hl1i, ?_⟩
        rw [nI_1 l, hl1c, u4, xi_neg]
        obtain ⟨a1, a2, a3, a4, a5, a6, a7⟩ := hE6.2.1 l (by omega)
        obtain ⟨q1, q2, q3, q4, q5, q6, q7⟩ := hE4.2.1 l (by omega)
        refine xo_hear (x := x) hl6 ⟨by omega, by omega⟩ hlwb ⟨hmo1, hmo2⟩ (by rw [a4, q4]; exact hlo) (by rw [a7, q7]; exact hmw) (fun h0 => ⟨160 * l + done.length, by omega, ?_, ?_⟩) ?_
        · have : a_nextMove_6 l = nI (160 * l + done.length + 1) := by rw [a2, q2, pk_us]
          rw [h0] at this ⊢; exact this
        · rw [hE6.1 _ (by omega), hE4.1 _ (by omega), hml _ g1, g2]
        · intro f_rootMove_5 a_low_5 a_most_5 r1 r2 r3 r4 r5
          rw [u9 (by omega)] at r1
          refine nm_r (nI_1 i6) (NEXT _ _ _ _ _ _ _ _ _ _ _ _ _ _ _ _ _ _ _ _ _ _ _ _ _ _ _ _ _ _ (i6 + 1) mo6 (by omega) (by omega) u5 u6 u7 hS8 ⟨fun j hj => ?_, fun j hj => ?_, fun j hj => ?_⟩ (fun j hj => ?_) (by rw [a1, q1]) (by rw [a2, q2, pk_us]) (by rw [a3, q3]) (by rw [a5, q5]) (by rw [a6, q6]) r2 r4 r1)
          · rw [hE6.1 j (by omega), hE4.1 j (by omega)]
          · obtain ⟨b1, b2, b3, b4, b5, b6, b7⟩ := hE6.2.1 j (by omega)
            obtain ⟨p1, p2, p3, p4, p5, p6, p7⟩ := hE4.2.1 j (by omega)
            exact ⟨by rw [b1, p1], by rw [b2, p2, pk_un (by omega)], by rw [b3, p3], by rw [r3 j (by omega), b4, p4], by rw [b5, p5], by rw [b6, p6], by rw [r5 j (by omega), b7, p7]⟩
          · obtain ⟨b1, b2, b3⟩ := hE6.2.2 j (by omega)
            exact ⟨by rw [b1, pk_un (by omega)], by rw [b2, pk_un (by omega)], by rw [b3, pk_un (by omega)]⟩
          · rw [hE6.1 j hj, hE4.1 j hj]
end
end
section
/-! ===== the reference: attacks ===== -/
theorem cg_al : ∀ f, f < 36 → ∀ t, t < 36 → (f = t ∨ ((cg_ad (f / 6) (t / 6) = cg_ad (f % 6) (t % 6) ↔ (cg_dir f t < 8 ∧ 2 ≤ cg_dir f t % 4)) ∧ ((cg_ad (f / 6) (t / 6) = 0 ∨ cg_ad (f % 6) (t % 6) = 0) ↔ (cg_dir f t < 8 ∧ cg_dir f t % 4 < 2)))) := by decide +kernel
def cg_sg (a b : Nat) : Int := if a < b then 1 else if b < a then -1 else 0
def cg_sp (f t : Nat) : Int := 6 * cg_sg (f / 6) (t / 6) + cg_sg (f % 6) (t % 6)
def cg_sq (f t j : Nat) : Nat := ((f : Int) + (j : Int) * cg_sp f t).toNat
def cg_sqB (f t j : Nat) : Bool := decide ((cg_sq f t j : Int) = (f : Int) + (j : Int) * cg_sp f t) && decide (cg_sq f t j < 36) && decide (cg_dir f (cg_sq f t j) = cg_dir f t) && decide (cg_ds f (cg_sq f t j) = j)
theorem cg_sqT : ∀ f, f < 36 → ∀ t, t < 36 → ∀ j, j < 6 → (8 ≤ cg_dir f t ∨ j = 0 ∨ cg_ds f t < j ∨ cg_sqB f t j = true) := by decide +kernel
theorem cg_sqF {f t j : Nat} (hf : f < 36) (ht : t < 36) (hd : cg_dir f t < 8) (h1 : 1 ≤ j) (h2 : j ≤ cg_ds f t) : (cg_sq f t j : Int) = (f : Int) + (j : Int) * cg_sp f t ∧ cg_sq f t j < 36 ∧ cg_dir f (cg_sq f t j) = cg_dir f t ∧ cg_ds f (cg_sq f t j) = j := by
  have := cg_ds1 f hf t ht hd
  rcases cg_sqT f hf t ht j (by omega) with h | h | h | h
  · omega
  · omega
  · omega
  · unfold cg_sqB at h
    simp only [Bool.and_eq_true, decide_eq_true_eq] at h
    exact ⟨h.1.1.1, h.1.1.2, h.1.2, h.2⟩
section
variable {g_playing g_mover g_height g_leaves g_answer g_bestMove : Int32} {b_board b_fromOf b_toOf b_moved b_captured b_past b_tried b_top : Nat → Int32} {B : Nat → Nat} {post : Int32 → Prop}
theorem ya_isSq {x : Int32} (h0 : (∀ s : Nat, s < 36 → x ≠ nI s) → post 0) (h1 : ∀ s : Nat, s < 36 → x = nI s → post 1) : wpY_isSquare post (g_playing, g_mover, g_height, g_leaves, g_answer, g_bestMove, b_board, b_fromOf, b_toOf, b_moved, b_captured, b_past, b_tried, b_top) x := by
  rcases pk_ix x (n := 36) (by decide) with h | h | ⟨j, hj, rfl⟩
  · refine br_t h (h0 fun s hs e => ?_)
    rw [e] at h; exact nI_pos (by omega) h
  · have h' : ¬ x < 0 := by
      rw [Int32.lt_iff_toInt_lt]; rw [Int32.le_iff_toInt_le, nI_toInt (by decide)] at h
      have : (0 : Int32).toInt = 0 := rfl
      omega
    refine br_f h' (br_t ?_ (h0 fun s hs e => ?_))
    · rw [Int32.lt_iff_toInt_lt]; rw [Int32.le_iff_toInt_le, nI_toInt (by decide)] at h
      have : (35 : Int32).toInt = 35 := rfl
      omega
    · rw [e, nI_leI (by decide) (by omega)] at h; omega
  · exact br_f (nI_pos (by omega)) (pk_lt 35 j (fun h => by omega) (fun _ => h1 j hj rfl))
theorem ya_kind {p : Nat} (hp : p ≤ 14) (C : post (nI (cd_kd p))) : wpY_kind post (g_playing, g_mover, g_height, g_leaves, g_answer, g_bestMove, b_board, b_fromOf, b_toOf, b_moved, b_captured, b_past, b_tried, b_top) (nI p) := by
  unfold cd_kd at C
  refine pk_le p 8 (fun h => ?_) (fun h => ?_)
  · rw [if_pos h] at C; exact C
  · rw [if_neg (by omega)] at C
    rw [show (8 : Int32) = nI 8 from rfl, pk_sub (by omega)]; exact C
theorem ya_isOf {p m : Nat} (hp : p ≤ 14) (hm : m < 2) (C : post (xb_b (cd_of p m))) : wpY_isOf post (g_playing, g_mover, g_height, g_leaves, g_answer, g_bestMove, b_board, b_fromOf, b_toOf, b_moved, b_captured, b_past, b_tried, b_top) (nI p) (nI m) := by
  refine pk_eq p 0 (fun h => ?_) (fun h0 => pk_eq m 0 (fun hm0 => pk_le 8 p (fun h => ?_) (fun h => ?_)) (fun hm0 => pk_le p 8 (fun h => ?_) (fun h => ?_)))
  · rw [h, cd_of0] at C; exact C
  · have : cd_of p m = false := by
      cases hc : cd_of p m with
      | false => rfl
      | true => have := cd_of_iff.mp hc; omega
    rw [this] at C; exact C
  · rw [cd_of_iff.mpr ⟨h0, fun _ => h, fun h => absurd hm0 h⟩] at C; exact C
  · have : cd_of p m = false := by
      cases hc : cd_of p m with
      | false => rfl
      | true => have := cd_of_iff.mp hc; omega
    rw [this] at C; exact C
  · rw [cd_of_iff.mpr ⟨h0, fun h => absurd h hm0, fun _ => h⟩] at C; exact C
theorem ya_sign {a b : Nat} (ha : a < 36) (hb : b < 36) (C : post (xi (cg_sg a b))) : wpY_sign post (g_playing, g_mover, g_height, g_leaves, g_answer, g_bestMove, b_board, b_fromOf, b_toOf, b_moved, b_captured, b_past, b_tried, b_top) (xi ((b : Int) - (a : Int))) := by
  unfold cg_sg at C
  unfold wpY_sign
  rw [show (0 : Int32) = xi 0 from rfl, xi_le (by omega) (by omega), xi_le (by omega) (by omega)]
  refine br_c (fun h => br_c (fun h2 => ?_) (fun h2 => ?_)) (fun h => ?_)
  · rw [if_neg (by omega), if_neg (by omega)] at C; exact C
  · rw [if_pos (by omega)] at C; exact C
  · rw [if_neg (by omega), if_pos (by omega)] at C; exact C
theorem ya_cl26 {f t : Nat} (hb : b_board = fun s => nI (B s)) (hv : ∀ s, s < 36 → B s ≤ 14) (hf : f < 36) (ht : t < 36) (hd : cg_dir f t < 8) :
    ∀ (k j : Nat), 1 ≤ j → j + k = cg_ds f t → (∀ i, 1 ≤ i → i < j → B (cg_sq f t i) = 0) → post (xb_b (cg_cl (cd_oc B) f t)) → wY_isClear_26 post (nI t) (xi (cg_sp f t)) g_playing g_mover g_height g_leaves g_answer g_bestMove b_board b_fromOf b_toOf b_moved b_captured b_past b_tried b_top (k + 1) (nI (cg_sq f t j)) (nI (j - 1)) := by
  have hds := cg_ds1 f hf t ht hd
  intro k
  induction k with
  | zero =>
    intro j h1 hj hz C
    rw [wY_isClear_26]
    obtain ⟨q1, q2, q3, q4⟩ := cg_sqF hf ht hd h1 (by omega)
    have e : cg_sq f t j = t := (cg_uq hf q2 ht (by omega) q3.symm (by omega))
    have hcl : cg_cl (cd_oc B) f t = true := cg_cl_iff.mpr fun x hx hbx => by
      obtain ⟨b1, b2, b3, b4, b5⟩ := cg_bt0 hf ht hx hbx
      have hx1 := (cg_ds1 f hf x hx (by omega)).1
      obtain ⟨r1, r2, r3, r4⟩ := cg_sqF hf ht hd hx1 (by omega)
      have : cg_sq f t (cg_ds f x) = x := cg_uq hf r2 hx (by omega) (by omega) r4
      rw [cd_ocF, ← this]
      exact hz _ hx1 (by omega)
    rw [hcl] at C
    refine pk_le 6 (j - 1) (fun h => by omega) (fun _ => ?_)
    rw [e]; exact br_t rfl C
  | succ k ih =>
    intro j h1 hj hz C
    rw [wY_isClear_26]
    obtain ⟨q1, q2, q3, q4⟩ := cg_sqF hf ht hd h1 (by omega)
    obtain ⟨p1, p2, p3, p4⟩ := cg_sqF (j := j + 1) hf ht hd (by omega) (by omega)
    have hne : cg_sq f t j ≠ t := fun e => by rw [e] at q4; omega
    refine pk_le 6 (j - 1) (fun h => by omega) (fun _ => pk_eq (cg_sq f t j) t (fun h => absurd h hne) (fun _ => ⟨vp_in_nI q2 (by decide), ?_⟩))
    rw [nI_clamp (by omega), show b_board (cg_sq f t j) = nI (B (cg_sq f t j)) from by rw [hb]]
    refine pk_eq (B (cg_sq f t j)) 0 (fun h0 => nm_r (e' := nI (cg_sq f t (j + 1))) ?_ (nm_r (e' := nI (j + 1 - 1)) ?_ (ih (j + 1) (by omega) (by omega) (fun i hi1 hi2 => ?_) C))) (fun h0 => ?_) (ha := by have := hv _ q2; omega)
    · rw [xi_nI, xi_nI, xi_add, q1, p1]; congr 1
      have : ((j + 1 : Nat) : Int) = (j : Int) + 1 := by omega
      rw [this, Int.add_mul, Int.one_mul]; omega
    · rw [nI_1]; congr 1; omega
    · by_cases e : i = j
      · rw [e]; exact h0
      · exact hz i hi1 (by omega)
    · have hcl : cg_cl (cd_oc B) f t = false := by
        cases hc : cg_cl (cd_oc B) f t with
        | false => rfl
        | true =>
          have := cg_cl_iff.mp hc (cg_sq f t j) q2 (cg_btI (by omega) q3 (by omega))
          rw [cd_ocF] at this; exact absurd this h0
      rw [hcl] at C; exact C
theorem ya_clear {f t : Nat} (hb : b_board = fun s => nI (B s)) (hv : ∀ s, s < 36 → B s ≤ 14) (hf : f < 36) (ht : t < 36) (hd : cg_dir f t < 8) (C : post (xb_b (cg_cl (cd_oc B) f t))) :
    wpY_isClear post (g_playing, g_mover, g_height, g_leaves, g_answer, g_bestMove, b_board, b_fromOf, b_toOf, b_moved, b_captured, b_past, b_tried, b_top) (nI f) (nI t) (xi (((t / 6 : Nat) : Int) - ((f / 6 : Nat) : Int))) (xi (((t % 6 : Nat) : Int) - ((f % 6 : Nat) : Int))) := by
  have hds := cg_ds1 f hf t ht hd
  obtain ⟨q1, q2, q3, q4⟩ := cg_sqF hf ht hd (Nat.le_refl 1) (by omega)
  unfold wpY_isClear
  refine ya_sign (by omega) (by omega) (ya_sign (by omega) (by omega) (nm_r (e' := xi (cg_sp f t)) ?_ (nm_r (e' := nI (cg_sq f t 1)) ?_ ⟨_, ya_cl26 hb hv hf ht hd (cg_ds f t - 1) 1 (Nat.le_refl 1) (by omega) (fun i h1 h2 => by omega) C⟩)))
  · rw [show (6 : Int32) = xi 6 from rfl, xi_mul, xi_add]; rfl
  · rw [xi_nI, xi_nI, xi_add, q1]; congr 1; omega
end
section
variable {g_playing g_mover g_height g_leaves g_answer g_bestMove : Int32} {b_board b_fromOf b_toOf b_moved b_captured b_past b_tried b_top : Nat → Int32} {B : Nat → Nat} {post : Int32 → Prop} {f t : Nat}
theorem ya_b0 {b : Bool} (C : post (xb_b b)) : ((xb_b b) = 0 → post 0) ∧ (¬ (xb_b b) = 0 → post 1) := by
  cases b with
  | false => exact br_t rfl C
  | true => exact br_f (by decide) C
theorem ya_57 (hb : b_board = fun s => nI (B s)) (hv : ∀ s, s < 36 → B s ≤ 14 ∧ B s ≠ 7 ∧ B s ≠ 8) (hf : f < 36) (ht : t < 36) (C : post (xb_b (cd_at (B f) (cd_oc B) f t))) :
    wY_attacks_57 post (nI f) (nI t) (nI (B f)) (xi (((t / 6 : Nat) : Int) - ((f / 6 : Nat) : Int))) (xi (((t % 6 : Nat) : Int) - ((f % 6 : Nat) : Int))) (nI (cg_ad (f / 6) (t / 6))) (nI (cg_ad (f % 6) (t % 6))) g_playing g_mover g_height g_leaves g_answer g_bestMove b_board b_fromOf b_toOf b_moved b_captured b_past b_tried b_top := by
  obtain ⟨v1, v2, v3⟩ := hv f hf
  have hv14 : ∀ s, s < 36 → B s ≤ 14 := fun s hs => (hv s hs).1
  have har : cg_ad (f / 6) (t / 6) < 36 := by unfold cg_ad; omega
  have hac : cg_ad (f % 6) (t % 6) < 36 := by unfold cg_ad; omega
  unfold wY_attacks_57
  refine pk_eq (B f) 0 (fun h0 => ?_) (fun h0 => pk_eq f t (fun hft => ?_) (fun hft => ya_kind v1 ?_))
  · have : cd_at (B f) (cd_oc B) f t = false := by rw [h0]; unfold cd_at cd_lp cd_sl; simp [cd_kd]
    rw [this] at C; exact C
  · rw [← hft, cd_at_self hf] at C; exact C
  have hk1 : 1 ≤ cd_kd (B f) ∧ cd_kd (B f) ≤ 6 := by unfold cd_kd; split <;> omega
  have hal : ((cg_ad (f / 6) (t / 6) = cg_ad (f % 6) (t % 6) ↔ (cg_dir f t < 8 ∧ 2 ≤ cg_dir f t % 4)) ∧ ((cg_ad (f / 6) (t / 6) = 0 ∨ cg_ad (f % 6) (t % 6) = 0) ↔ (cg_dir f t < 8 ∧ cg_dir f t % 4 < 2))) := by
    rcases cg_al f hf t ht with h | h
    · exact absurd h hft
    · exact h
  obtain ⟨al1, al2⟩ := hal
  unfold cd_at cd_lp cd_sl at C
  -- the queen's part
  have HQ : cd_kd (B f) = 5 → wY_attacks_228 post (nI f) (nI t) (xi (((t / 6 : Nat) : Int) - ((f / 6 : Nat) : Int))) (xi (((t % 6 : Nat) : Int) - ((f % 6 : Nat) : Int))) (nI (cg_ad (f / 6) (t / 6))) (nI (cg_ad (f % 6) (t % 6))) g_playing g_mover g_height g_leaves g_answer g_bestMove b_board b_fromOf b_toOf b_moved b_captured b_past b_tried b_top := by
    intro h5
    rw [h5] at C
    have hgo : cg_dir f t < 8 → wY_attacks_245 post (nI f) (nI t) (xi (((t / 6 : Nat) : Int) - ((f / 6 : Nat) : Int))) (xi (((t % 6 : Nat) : Int) - ((f % 6 : Nat) : Int))) g_playing g_mover g_height g_leaves g_answer g_bestMove b_board b_fromOf b_toOf b_moved b_captured b_past b_tried b_top := fun hd => by
      unfold wY_attacks_245
      refine ya_clear hb hv14 hf ht hd (ya_b0 ?_)
      rw [decide_eq_true hd] at C; simpa using C
    unfold wY_attacks_228
    refine pk_eq _ _ (fun h1 => hgo (al1.mp h1).1) (fun h1 => pk_eq _ 0 (fun h2 => hgo (al2.mp (Or.inl h2)).1) (fun h2 => pk_eq _ 0 (fun h3 => hgo (al2.mp (Or.inr h3)).1) (fun h3 => ?_)))
    have : ¬ cg_dir f t < 8 := fun hd => by
      by_cases h4 : cg_dir f t % 4 < 2
      · rcases al2.mpr ⟨hd, h4⟩ with h | h
        · exact h2 h
        · exact h3 h
      · exact h1 (al1.mpr ⟨hd, by omega⟩)
    rw [decide_eq_false this] at C
    have C2 : post (xb_b false) := by simpa using C
    exact C2
  refine pk_lt (cd_kd (B f)) 1 (fun h => by omega) (fun _ => pk_lt 6 (cd_kd (B f)) (fun h => by omega) (fun _ => pk_eq (cd_kd (B f)) 1 (fun hk => ?_) (fun hk1' => pk_eq (cd_kd (B f)) 2 (fun hk => ?_) (fun hk2 => pk_eq (cd_kd (B f)) 3 (fun hk => ?_) (fun hk3 => pk_eq (cd_kd (B f)) 4 (fun hk => ?_) (fun hk4 => pk_eq (cd_kd (B f)) 5 (fun hk => HQ hk) (fun hk5 => pk_eq (cd_kd (B f)) 6 (fun hk => ?_) (fun hk6 => trivial))))))))
  · rw [hk] at C
    have C1 : post (xb_b (cg_pw (if B f < 8 then 0 else 1) f t)) := by simpa using C
    unfold cg_pw at C1
    have H125 : ∀ (z : Int) (b : Bool), -1 ≤ z → z ≤ 1 → (((t / 6 : Nat) : Int) - ((f / 6 : Nat) : Int) = z ↔ b = true) → post (xb_b ((cg_ad (f % 6) (t % 6) == 1) && b)) → wY_attacks_125 post (nI (cg_ad (f % 6) (t % 6))) (xi z) (xi (((t / 6 : Nat) : Int) - ((f / 6 : Nat) : Int))) g_playing g_mover g_height g_leaves g_answer g_bestMove b_board b_fromOf b_toOf b_moved b_captured b_past b_tried b_top := by
      intro z b hz1 hz2 hzb C2
      unfold wY_attacks_125
      rw [xi_eq (by omega) (by omega)]
      refine br_c (fun h => pk_eq _ 1 (fun h1 => ?_) (fun h1 => ?_)) (fun h => ?_)
      · rw [hzb.mp h, h1] at C2; exact C2
      · rw [beq_eq_false_iff_ne.mpr h1] at C2; exact C2
      · have : b = false := by
          cases b with
          | false => rfl
          | true => exact absurd (hzb.mpr rfl) h
        rw [this, Bool.and_false] at C2; exact C2
    refine pk_le 8 (B f) (fun h8 => ?_) (fun h8 => ?_)
    · rw [if_neg (by omega : ¬ B f < 8), if_neg (by decide : ¬ 1 = 0)] at C1
      exact H125 (-1) _ (by omega) (by omega) (by rw [beq_iff_eq]; omega) C1
    · rw [if_pos h8, if_pos rfl] at C1
      exact H125 1 _ (by omega) (by omega) (by rw [beq_iff_eq]; omega) C1
  · rw [hk] at C
    have C1 : post (xb_b (cg_kn f t)) := by simpa using C
    unfold cg_kn at C1
    rw [pk_mul]
    refine pk_eq _ 2 (fun h => ?_) (fun h => ?_) (ha := by have := Nat.mul_le_mul (Nat.le_of_lt har) (Nat.le_of_lt hac); omega)
    · rw [h] at C1; exact C1
    · rw [beq_eq_false_iff_ne.mpr h] at C1; exact C1
  · rw [hk] at C
    refine pk_eq _ _ (fun h => ?_) (fun h => ?_)
    · obtain ⟨hd, h2⟩ := al1.mp h
      refine ya_clear hb hv14 hf ht hd (ya_b0 ?_)
      rw [decide_eq_true hd, decide_eq_true h2] at C; simpa using C
    · have : (decide (cg_dir f t < 8) && decide (2 ≤ cg_dir f t % 4)) = false := by
        cases hc : (decide (cg_dir f t < 8) && decide (2 ≤ cg_dir f t % 4)) with
        | false => rfl
        | true =>
          rw [Bool.and_eq_true, decide_eq_true_eq, decide_eq_true_eq] at hc
          exact absurd (al1.mpr hc) h
      have C2 : post (xb_b ((decide (cg_dir f t < 8) && decide (2 ≤ cg_dir f t % 4)) && cg_cl (cd_oc B) f t)) := by simpa using C
      rw [this] at C2; exact C2
  · rw [hk] at C
    have hgo : (cg_dir f t < 8 ∧ cg_dir f t % 4 < 2) → wY_attacks_209 post (nI f) (nI t) (xi (((t / 6 : Nat) : Int) - ((f / 6 : Nat) : Int))) (xi (((t % 6 : Nat) : Int) - ((f % 6 : Nat) : Int))) g_playing g_mover g_height g_leaves g_answer g_bestMove b_board b_fromOf b_toOf b_moved b_captured b_past b_tried b_top := fun hd => by
      unfold wY_attacks_209
      refine ya_clear hb hv14 hf ht hd.1 (ya_b0 ?_)
      rw [decide_eq_true hd.1, decide_eq_true hd.2] at C; simpa using C
    refine pk_eq _ 0 (fun h => hgo (al2.mp (Or.inl h))) (fun h => pk_eq _ 0 (fun h' => hgo (al2.mp (Or.inr h'))) (fun h' => ?_))
    have : (decide (cg_dir f t < 8) && decide (cg_dir f t % 4 < 2)) = false := by
      cases hc : (decide (cg_dir f t < 8) && decide (cg_dir f t % 4 < 2)) with
      | false => rfl
      | true =>
        rw [Bool.and_eq_true, decide_eq_true_eq, decide_eq_true_eq] at hc
        rcases al2.mpr hc with q | q
        · exact absurd q h
        · exact absurd q h'
    have C2 : post (xb_b ((decide (cg_dir f t < 8) && decide (cg_dir f t % 4 < 2)) && cg_cl (cd_oc B) f t)) := by simpa using C
    rw [this] at C2; exact C2
  · rw [hk] at C
    have C1 : post (xb_b (cg_kg f t)) := by simpa using C
    unfold cg_kg at C1
    rw [beq_eq_false_iff_ne.mpr hft, Bool.not_false, Bool.and_true] at C1
    refine pk_lt 1 _ (fun h => ?_) (fun h => pk_lt 1 _ (fun h' => ?_) (fun h' => ?_))
    · rw [decide_eq_false (by omega), Bool.false_and] at C1; exact C1
    · rw [decide_eq_false (by omega : ¬ cg_ad (f % 6) (t % 6) ≤ 1), Bool.and_false] at C1; exact C1
    · rw [decide_eq_true h, decide_eq_true h'] at C1; exact C1
theorem ya_ab {a b : Nat} (ha : a < 36) (hb : b < 36) {W : Int32 → Prop} (C : W (nI (cg_ad a b))) : (0 ≤ xi ((b : Int) - (a : Int)) → W (xi ((b : Int) - (a : Int)))) ∧ (¬ 0 ≤ xi ((b : Int) - (a : Int)) → W (-(xi ((b : Int) - (a : Int))))) := by
  rw [show (0 : Int32) = xi 0 from rfl, xi_le (by omega) (by omega), xi_neg]
  unfold cg_ad at C
  rw [xi_nI] at C
  refine br_c (fun h => ?_) (fun h => ?_)
  · have : ((a - b + (b - a) : Nat) : Int) = (b : Int) - (a : Int) := by omega
    rw [this] at C; exact C
  · have : ((a - b + (b - a) : Nat) : Int) = -((b : Int) - (a : Int)) := by omega
    rw [this] at C; exact C
theorem ya_attacks (hb : b_board = fun s => nI (B s)) (hv : ∀ s, s < 36 → B s ≤ 14 ∧ B s ≠ 7 ∧ B s ≠ 8) (hf : f < 36) (ht : t < 36) (C : post (xb_b (cd_at (B f) (cd_oc B) f t))) : wpY_attacks post (g_playing, g_mover, g_height, g_leaves, g_answer, g_bestMove, b_board, b_fromOf, b_toOf, b_moved, b_captured, b_past, b_tried, b_top) (nI f) (nI t) := by
  have d6 : ∀ a : Nat, a < 36 → nI a / 6 = nI (a / 6) := fun a ha => pk_div (d := 6) (by omega) (by decide) (by decide)
  have r6 : ∀ a : Nat, a < 36 → nI a - nI a / 6 * 6 = nI (a % 6) := fun a ha => pk_rem (d := 6) (by omega) (by decide) (by decide)
  refine ⟨vp_in_nI hf (by decide), nm_r (e' := nI (B f)) (by rw [nI_clamp (by omega), hb]) ⟨by decide, by decide, nm_r (e' := xi (((t / 6 : Nat) : Int) - ((f / 6 : Nat) : Int))) (by rw [d6 t ht, d6 f hf, xi_nI, xi_nI, xi_sub]) ⟨by decide, by decide, nm_r (e' := xi (((t % 6 : Nat) : Int) - ((f % 6 : Nat) : Int))) (by rw [r6 t ht, r6 f hf, xi_nI, xi_nI, xi_sub]) ?_⟩⟩⟩
  exact ya_ab (W := fun z => wY_attacks_42 post (nI f) (nI t) (nI (B f)) (xi (((t / 6 : Nat) : Int) - ((f / 6 : Nat) : Int))) (xi (((t % 6 : Nat) : Int) - ((f % 6 : Nat) : Int))) z g_playing g_mover g_height g_leaves g_answer g_bestMove b_board b_fromOf b_toOf b_moved b_captured b_past b_tried b_top) (by omega) (by omega) (ya_ab (W := fun z => wY_attacks_57 post (nI f) (nI t) (nI (B f)) (xi (((t / 6 : Nat) : Int) - ((f / 6 : Nat) : Int))) (xi (((t % 6 : Nat) : Int) - ((f % 6 : Nat) : Int))) (nI (cg_ad (f / 6) (t / 6))) z g_playing g_mover g_height g_leaves g_answer g_bestMove b_board b_fromOf b_toOf b_moved b_captured b_past b_tried b_top) (by omega) (by omega) (ya_57 hb hv hf ht C))
end
end
section
/-! ===== the reference: checks, moves, legality ===== -/
def yv_V (B : Nat → Nat) : Prop := ∀ s, s < 36 → B s ≤ 14 ∧ B s ≠ 7 ∧ B s ≠ 8
theorem yv_mv {B : Nat → Nat} {f t : Nat} (h : yv_V B) (hf : f < 36) : yv_V (cd_mv B f t) := by
  intro s hs
  unfold cd_mv
  split
  · omega
  · split
    · have := h f hf
      unfold cd_pr; split
      · rename_i hc; omega
      · exact this
    · exact h s hs
section
variable {g_playing g_mover g_height g_leaves g_answer g_bestMove : Int32} {b_board b_fromOf b_toOf b_moved b_captured b_past b_tried b_top : Nat → Int32} {B : Nat → Nat} {post : Int32 → Prop} {m q : Nat}
theorem ym_att5 (hb : b_board = fun s => nI (B s)) (hv : yv_V B) (hq : q < 36) (hm : m < 2) (C : post (nI (cd_sm (fun e => if cd_ak B (cd_oc B) q m e then 1 else 0) 36))) :
    ∀ (k s : Nat), s + k = 36 → wY_attackersOf_5 post (nI q) (nI m) g_playing g_mover g_height g_leaves g_answer g_bestMove b_board b_fromOf b_toOf b_moved b_captured b_past b_tried b_top (k + 1) (nI (cd_sm (fun e => if cd_ak B (cd_oc B) q m e then 1 else 0) s)) (nI s) := by
  intro k
  induction k with
  | zero =>
    intro s hs
    rw [wY_attackersOf_5]
    have : s = 36 := by omega
    subst this
    exact pk_le 36 36 (fun _ => C) (fun h => by omega)
  | succ k ih =>
    intro s hs
    rw [wY_attackersOf_5]
    have hs36 : s < 36 := by omega
    have hbs : b_board (nI s).toNatClampNeg = nI (B s) := by rw [nI_clamp (by omega), hb]
    have hsm : cd_sm (fun e => if cd_ak B (cd_oc B) q m e then 1 else 0) (s + 1) = cd_sm (fun e => if cd_ak B (cd_oc B) q m e then 1 else 0) s + (if cd_ak B (cd_oc B) q m s then 1 else 0) := rfl
    have ih' := ih (s + 1) (by omega)
    rw [hsm] at ih'
    refine pk_le 36 s (fun h => by omega) (fun _ => ⟨vp_in_nI hs36 (by decide), ?_⟩)
    rw [hbs]
    refine ya_isOf (hv s hs36).1 hm ?_
    cases ho : cd_of (B s) m with
    | false =>
      have hak : cd_ak B (cd_oc B) q m s = false := by unfold cd_ak; rw [ho]; rfl
      rw [hak] at ih'
      exact br_t rfl (nm_r (nI_1 s) ih')
    | true =>
      refine br_f (by decide) (ya_attacks hb hv hs36 hq ?_)
      cases ha : cd_at (B s) (cd_oc B) s q with
      | false =>
        have hak : cd_ak B (cd_oc B) q m s = false := by unfold cd_ak; rw [ha, Bool.and_false]
        rw [hak] at ih'
        exact br_t rfl (nm_r (nI_1 s) ih')
      | true =>
        have hak : cd_ak B (cd_oc B) q m s = true := by unfold cd_ak; rw [ho, ha]; rfl
        rw [hak] at ih'
        exact br_f (by decide) (nm_r (nI_1 _) (nm_r (nI_1 s) ih'))
theorem ym_att (hb : b_board = fun s => nI (B s)) (hv : yv_V B) (hq : q < 36) (hm : m < 2) (C : post (nI (cd_as B q m).length)) : wpY_attackersOf post (g_playing, g_mover, g_height, g_leaves, g_answer, g_bestMove, b_board, b_fromOf, b_toOf, b_moved, b_captured, b_past, b_tried, b_top) (nI q) (nI m) := by
  unfold cd_as at C
  rw [ce_len] at C
  exact ⟨_, ym_att5 hb hv hq hm C 36 0 rfl⟩
theorem ym_k68 {m : Nat} : (6 : Int32) + (8 * nI m) = nI (6 + 8 * m) := by
  rw [show (8 : Int32) = nI 8 from rfl, pk_mul, show (6 : Int32) = nI 6 from rfl, nI_add]
theorem ym_kings4 (hb : b_board = fun s => nI (B s)) (hv : yv_V B) (hm : m < 2) (C : post (nI (cd_sm (fun e => if B e == 6 + 8 * m then 1 else 0) 36))) :
    ∀ (k s : Nat), s + k = 36 → wY_kings_4 post (nI m) g_playing g_mover g_height g_leaves g_answer g_bestMove b_board b_fromOf b_toOf b_moved b_captured b_past b_tried b_top (k + 1) (nI (cd_sm (fun e => if B e == 6 + 8 * m then 1 else 0) s)) (nI s) := by
  intro k
  induction k with
  | zero =>
    intro s hs
    rw [wY_kings_4]
    have : s = 36 := by omega
    subst this
    exact pk_le 36 36 (fun _ => C) (fun h => by omega)
  | succ k ih =>
    intro s hs
    rw [wY_kings_4]
    dsimp only
    have hs36 : s < 36 := by omega
    have hbs : b_board (nI s).toNatClampNeg = nI (B s) := by rw [nI_clamp (by omega), hb]
    have hsm : cd_sm (fun e => if B e == 6 + 8 * m then 1 else 0) (s + 1) = cd_sm (fun e => if B e == 6 + 8 * m then 1 else 0) s + (if B s == 6 + 8 * m then 1 else 0) := rfl
    have ih' := ih (s + 1) (by omega)
    rw [hsm] at ih'
    have hvs := hv s hs36
    rw [hbs, ym_k68]
    refine pk_le 36 s (fun h => by omega) (fun _ => ⟨vp_in_nI hs36 (by decide), pk_eq (B s) (6 + 8 * m) (fun h => ?_) (fun h => ?_)⟩)
    · rw [h, beq_self_eq_true] at ih'
      exact nm_r (nI_1 _) (nm_r (nI_1 s) ih')
    · rw [beq_eq_false_iff_ne.mpr h] at ih'
      exact nm_r (nI_1 s) ih'
theorem ym_kings (hb : b_board = fun s => nI (B s)) (hv : yv_V B) (hm : m < 2) (C : post (nI (xw_c B 36 (6 + 8 * m)))) : wpY_kings post (g_playing, g_mover, g_height, g_leaves, g_answer, g_bestMove, b_board, b_fromOf, b_toOf, b_moved, b_captured, b_past, b_tried, b_top) (nI m) :=
  ⟨_, ym_kings4 hb hv hm C 36 0 rfl⟩
theorem ym_pieces4 (hb : b_board = fun s => nI (B s)) (hv : yv_V B) (C : post (nI (cd_n B))) :
    ∀ (k s : Nat), s + k = 36 → wY_pieces_4 post g_playing g_mover g_height g_leaves g_answer g_bestMove b_board b_fromOf b_toOf b_moved b_captured b_past b_tried b_top (k + 1) (nI (cd_sm (fun e => if cd_oc B e then 1 else 0) s)) (nI s) := by
  intro k
  induction k with
  | zero =>
    intro s hs
    rw [wY_pieces_4]
    have : s = 36 := by omega
    subst this
    exact pk_le 36 36 (fun _ => C) (fun h => by omega)
  | succ k ih =>
    intro s hs
    rw [wY_pieces_4]
    dsimp only
    have hs36 : s < 36 := by omega
    have hbs : b_board (nI s).toNatClampNeg = nI (B s) := by rw [nI_clamp (by omega), hb]
    have hsm : cd_sm (fun e => if cd_oc B e then 1 else 0) (s + 1) = cd_sm (fun e => if cd_oc B e then 1 else 0) s + (if cd_oc B s then 1 else 0) := rfl
    have ih' := ih (s + 1) (by omega)
    rw [hsm] at ih'
    have hvs := hv s hs36
    rw [hbs]
    refine pk_le 36 s (fun h => by omega) (fun _ => ⟨vp_in_nI hs36 (by decide), pk_eq (B s) 0 (fun h => ?_) (fun h => ?_)⟩)
    · rw [cd_ocF.mpr h] at ih'
      exact nm_r (nI_1 s) ih'
    · rw [cd_ocT.mpr h] at ih'
      exact nm_r (nI_1 _) (nm_r (nI_1 s) ih')
theorem ym_pieces (hb : b_board = fun s => nI (B s)) (hv : yv_V B) (C : post (nI (cd_n B))) : wpY_pieces post (g_playing, g_mover, g_height, g_leaves, g_answer, g_bestMove, b_board, b_fromOf, b_toOf, b_moved, b_captured, b_past, b_tried, b_top) :=
  ⟨_, ym_pieces4 hb hv C 36 0 rfl⟩
theorem ym_ck2 (hb : b_board = fun s => nI (B s)) (hv : yv_V B) (hm : m < 2) (C : post (xb_b (cd_ck B m))) :
    ∀ (k s : Nat), s + k = 36 → (∀ j, j < s → ((B j == 6 + 8 * m) && !(cd_as B j (1 - m)).isEmpty) = false) → wY_inCheck_2 post (nI m) g_playing g_mover g_height g_leaves g_answer g_bestMove b_board b_fromOf b_toOf b_moved b_captured b_past b_tried b_top (k + 1) (nI s) := by
  intro k
  induction k with
  | zero =>
    intro s hs hn
    rw [wY_inCheck_2]
    have : cd_ck B m = false := by
      unfold cd_ck; rw [List.any_eq_false]
      intro x hx; rw [hn x (by have := List.mem_range.mp hx; omega)]; decide
    rw [this] at C
    exact pk_le 36 s (fun _ => C) (fun h => by omega)
  | succ k ih =>
    intro s hs hn
    rw [wY_inCheck_2]
    dsimp only
    have hs36 : s < 36 := by omega
    have hbs : b_board (nI s).toNatClampNeg = nI (B s) := by rw [nI_clamp (by omega), hb]
    have hvs := hv s hs36
    have hnext : ((B s == 6 + 8 * m) && !(cd_as B s (1 - m)).isEmpty) = false → wY_inCheck_2 post (nI m) g_playing g_mover g_height g_leaves g_answer g_bestMove b_board b_fromOf b_toOf b_moved b_captured b_past b_tried b_top (k + 1) (nI (s + 1)) := fun h => ih (s + 1) (by omega) fun j hj => by
      by_cases e : j = s
      · rw [e]; exact h
      · exact hn j (by omega)
    rw [hbs, ym_k68]
    refine pk_le 36 s (fun h => by omega) (fun _ => ⟨vp_in_nI hs36 (by decide), pk_eq (B s) (6 + 8 * m) (fun h => ?_) (fun h => nm_r (nI_1 s) (hnext (by rw [beq_eq_false_iff_ne.mpr h]; rfl)))⟩)
    rw [xb_1m hm]
    refine ym_att hb hv hs36 (by omega) ?_
    have hlen : (cd_as B s (1 - m)).length ≤ 36 := by
      unfold cd_as; exact Nat.le_trans (List.length_filter_le _ _) (by rw [List.length_range]; exact Nat.le_refl _)
    refine pk_le (cd_as B s (1 - m)).length 0 (fun h0 => nm_r (nI_1 s) (hnext ?_)) (fun h0 => ?_)
    · have : cd_as B s (1 - m) = [] := List.eq_nil_of_length_eq_zero (by omega)
      rw [this]; simp
    · have : cd_ck B m = true := by
        unfold cd_ck; rw [List.any_eq_true]
        refine ⟨s, List.mem_range.mpr hs36, ?_⟩
        rw [h, beq_self_eq_true, Bool.true_and]
        cases hl : cd_as B s (1 - m) with
        | nil => rw [hl] at h0; exact absurd h0 (by decide)
        | cons a l => rfl
      rw [this] at C; exact C
theorem ym_ck (hb : b_board = fun s => nI (B s)) (hv : yv_V B) (hm : m < 2) (C : post (xb_b (cd_ck B m))) : wpY_inCheck post (g_playing, g_mover, g_height, g_leaves, g_answer, g_bestMove, b_board, b_fromOf, b_toOf, b_moved, b_captured, b_past, b_tried, b_top) (nI m) :=
  ⟨_, ym_ck2 hb hv hm C 36 0 rfl (fun j h => by omega)⟩
theorem ym_canGo {f t : Nat} (hb : b_board = fun s => nI (B s)) (hv : yv_V B) (hmo : g_mover = nI m) (hm : m < 2) (hf : f < 36) (ht : t < 36) (C : post (xb_b (cd_cg B m f t))) : wpY_canGo post (g_playing, g_mover, g_height, g_leaves, g_answer, g_bestMove, b_board, b_fromOf, b_toOf, b_moved, b_captured, b_past, b_tried, b_top) (nI f) (nI t) := by
  subst hmo
  have hbf : b_board (nI f).toNatClampNeg = nI (B f) := by rw [nI_clamp (by omega), hb]
  have hbt : b_board (nI t).toNatClampNeg = nI (B t) := by rw [nI_clamp (by omega), hb]
  have hti : vp_in (nI t) 36 := vp_in_nI ht (by decide)
  have hvf := hv f hf
  have hvt := hv t ht
  have H88 : (f ≠ t ∧ cd_of (B f) m = true ∧ cd_of (B t) m = false ∧ ¬ (cd_kd (B f) = 1 ∧ B t = 0)) → wY_canGo_88 post (nI f) (nI t) g_playing (nI m) g_height g_leaves g_answer g_bestMove b_board b_fromOf b_toOf b_moved b_captured b_past b_tried b_top := by
    rintro ⟨h1, h2, h3, h4⟩
    have e : cd_cg B m f t = cd_at (B f) (cd_oc B) f t := by
      unfold cd_cg; rw [if_neg h4, h2, h3, beq_eq_false_iff_ne.mpr h1]; simp
    rw [e] at C
    unfold wY_canGo_88
    refine ya_attacks hb hv hf ht ⟨?_, C⟩
    cases cd_at (B f) (cd_oc B) f t <;> rfl
  refine ⟨vp_in_nI hf (by decide), nm_r hbf (pk_eq f t (fun h => ?_) (fun hft => ya_isOf hvf.1 hm ?_))⟩
  · have : cd_cg B m f t = false := by unfold cd_cg; rw [h, beq_self_eq_true]; rfl
    rw [this] at C; exact C
  cases ho : cd_of (B f) m with
  | false =>
    have : cd_cg B m f t = false := by unfold cd_cg; rw [ho]; simp
    rw [this] at C; exact br_t rfl C
  | true =>
    refine br_f (by decide) ⟨hti, ?_⟩
    rw [hbt]
    refine ya_isOf hvt.1 hm ?_
    cases hot : cd_of (B t) m with
    | true =>
      have : cd_cg B m f t = false := by unfold cd_cg; rw [hot]; simp
      rw [this] at C; exact br_f (by decide) C
    | false =>
      have hkd : cd_kd (B f) ≤ 14 := by unfold cd_kd; split <;> omega
      refine br_t rfl (ya_kind hvf.1 (pk_eq (cd_kd (B f)) 1 (fun hk => ⟨hti, pk_eq (B t) 0 (fun h0 => ?_) (fun h0 => H88 ⟨hft, ho, hot, fun h => h0 h.2⟩)⟩) (fun hk => H88 ⟨hft, ho, hot, fun h => hk h.1⟩)))
      have e : cd_cg B m f t = (if B f < 8 then t == f + 6 else t + 6 == f) := by
        unfold cd_cg; rw [if_pos (⟨hk, h0⟩ : cd_kd (B f) = 1 ∧ B t = 0), ho, hot, beq_eq_false_iff_ne.mpr hft]; simp
      rw [e] at C
      refine pk_le 8 (B f) (fun h8 => ?_) (fun h8 => ?_)
      · rw [if_neg (by omega)] at C
        unfold wY_canGo_79
        rw [show nI f - 6 = xi ((f : Int) - 6) from by rw [xi_nI, show (6 : Int32) = xi 6 from rfl, xi_sub], xi_nI, xi_eq (by omega) (by omega)]
        refine br_c (fun h => ?_) (fun h => ?_)
        · have : t + 6 = f := by omega
          rw [this, beq_self_eq_true] at C; exact C
        · have : t + 6 ≠ f := by omega
          rw [beq_eq_false_iff_ne.mpr this] at C; exact C
      · rw [if_pos h8] at C
        unfold wY_canGo_79
        rw [show nI f + 6 = nI (f + 6) from nI_add f 6]
        refine pk_eq t (f + 6) (fun h => ?_) (fun h => ?_)
        · rw [h, beq_self_eq_true] at C; exact C
        · rw [beq_eq_false_iff_ne.mpr h] at C; exact C
end
section
variable {g_playing g_mover g_height g_leaves g_answer g_bestMove : Int32} {b_board b_fromOf b_toOf b_moved b_captured b_past b_tried b_top : Nat → Int32} {B : Nat → Nat} {post : SY → Prop} {m h f t : Nat}
theorem ym_mvb (hb : b_board = fun s => nI (B s)) : upd (upd b_board t (nI (cd_pr (B f) t))) f 0 = fun s => nI (cd_mv B f t s) := by
  funext s
  rw [hb]
  unfold upd cd_mv
  by_cases h1 : s = f
  · rw [if_pos h1, if_pos h1]; rfl
  · rw [if_neg h1, if_neg h1]
    by_cases h2 : s = t
    · rw [if_pos h2, if_pos h2]
    · rw [if_neg h2, if_neg h2]
theorem ym_doMove (hb : b_board = fun s => nI (B s)) (hv : yv_V B) (hmo : g_mover = nI m) (hm : m < 2) (hh : g_height = nI h) (hh70 : h < 70) (hf : f < 36) (ht : t < 36)
    (C : post (g_playing, nI (1 - m), nI (h + 1), g_leaves, g_answer, g_bestMove, fun s => nI (cd_mv B f t s), upd b_fromOf h (nI f), upd b_toOf h (nI t), upd b_moved h (nI (B f)), upd b_captured h (nI (B t)), b_past, b_tried, b_top)) : wpY_doMove post (g_playing, g_mover, g_height, g_leaves, g_answer, g_bestMove, b_board, b_fromOf, b_toOf, b_moved, b_captured, b_past, b_tried, b_top) (nI f) (nI t) := by
  have hbf : b_board (nI f).toNatClampNeg = nI (B f) := by rw [nI_clamp (by omega), hb]
  have hbt : b_board (nI t).toNatClampNeg = nI (B t) := by rw [nI_clamp (by omega), hb]
  have hfi : vp_in (nI f) 36 := vp_in_nI hf (by decide)
  have hti : vp_in (nI t) 36 := vp_in_nI ht (by decide)
  have hhi : vp_in g_height 70 := by rw [hh]; exact vp_in_nI hh70 (by decide)
  have hhc : g_height.toNatClampNeg = h := by rw [hh, nI_clamp (by omega)]
  have hvf := hv f hf
  have d6 : nI t / 6 = nI (t / 6) := pk_div (d := 6) (by omega) (by decide) (by decide)
  have H102 : ∀ p, p = cd_pr (B f) t → wY_doMove_102 post (nI f) (nI p) (nI t) g_playing g_mover g_height g_leaves g_answer g_bestMove b_board (upd b_fromOf h (nI f)) (upd b_toOf h (nI t)) (upd b_moved h (nI (B f))) (upd b_captured h (nI (B t))) b_past b_tried b_top := by
    intro p hp
    subst hp
    unfold wY_doMove_102
    refine ⟨hti, nm_e ⟨hfi, nm_r (e' := fun s => nI (cd_mv B f t s)) ?_ (nm_r (e' := nI (h + 1)) (by rw [hh, nI_1]) (nm_r (e' := nI (1 - m)) (by rw [hmo]; exact xb_1m hm) C))⟩⟩
    rw [nI_clamp (by omega), nI_clamp (by omega)]; exact ym_mvb hb
  have hyes : ((B f = 1 ∧ t / 6 = 5) ∨ (B f = 9 ∧ t / 6 = 0)) → wY_doMove_78 post (nI f) (nI t) (nI (B f)) g_playing g_mover g_height g_leaves g_answer g_bestMove b_board (upd b_fromOf h (nI f)) (upd b_toOf h (nI t)) (upd b_moved h (nI (B f))) (upd b_captured h (nI (B t))) b_past b_tried b_top := fun hc => by
    refine br_f (by decide) ?_
    rw [show nI (B f) + 4 = nI (B f + 4) from nI_add _ 4]
    exact H102 _ (by unfold cd_pr; rw [if_pos hc])
  have hno : ¬ ((B f = 1 ∧ t / 6 = 5) ∨ (B f = 9 ∧ t / 6 = 0)) → wY_doMove_82 post (nI f) (nI t) (nI (B f)) g_playing g_mover g_height g_leaves g_answer g_bestMove b_board (upd b_fromOf h (nI f)) (upd b_toOf h (nI t)) (upd b_moved h (nI (B f))) (upd b_captured h (nI (B t))) b_past b_tried b_top := fun hc =>
    br_t rfl (H102 _ (by unfold cd_pr; rw [if_neg hc]))
  have H65 : ¬ (B f = 1 ∧ t / 6 = 5) → wY_doMove_65 post (nI f) (nI t) (nI (B f)) g_playing g_mover g_height g_leaves g_answer g_bestMove b_board (upd b_fromOf h (nI f)) (upd b_toOf h (nI t)) (upd b_moved h (nI (B f))) (upd b_captured h (nI (B t))) b_past b_tried b_top := fun hc => by
    unfold wY_doMove_65
    rw [d6]
    refine pk_eq (B f) 9 (fun h9 => ⟨by decide, pk_eq (t / 6) 0 (fun h0 => hyes (Or.inr ⟨h9, h0⟩)) (fun h0 => hno (by omega))⟩) (fun h9 => hno (by omega))
  refine ⟨hfi, nm_r hbf ⟨hhi, nm_r (e' := upd b_fromOf h (nI f)) (by rw [hhc]) ⟨hhi, nm_r (e' := upd b_toOf h (nI t)) (by rw [hhc]) ⟨hhi, nm_r (e' := upd b_moved h (nI (B f))) (by rw [hhc]) ⟨hti, hhi, nm_r (e' := upd b_captured h (nI (B t))) (by rw [hhc, hbt]) ?_⟩⟩⟩⟩⟩
  rw [d6]
  exact pk_eq (B f) 1 (fun h1 => ⟨by decide, pk_eq (t / 6) 5 (fun h5 => hyes (Or.inl ⟨h1, h5⟩)) (fun h5 => H65 (by omega))⟩) (fun h1 => H65 (by omega))
theorem ym_undo (hb : b_board = fun s => nI (cd_mv B f t s)) (hmo : g_mover = nI (1 - m)) (hm : m < 2) (hh : g_height = nI (h + 1)) (hh70 : h < 70) (hf : f < 36) (ht : t < 36) (e1 : b_fromOf h = nI f) (e2 : b_toOf h = nI t) (e3 : b_moved h = nI (B f)) (e4 : b_captured h = nI (B t))
    (C : post (g_playing, nI m, nI h, g_leaves, g_answer, g_bestMove, fun s => nI (B s), b_fromOf, b_toOf, b_moved, b_captured, b_past, b_tried, b_top)) : wpY_undoMove post (g_playing, g_mover, g_height, g_leaves, g_answer, g_bestMove, b_board, b_fromOf, b_toOf, b_moved, b_captured, b_past, b_tried, b_top) := by
  have hhi : vp_in (nI h) 70 := vp_in_nI hh70 (by decide)
  have hhc : (nI h).toNatClampNeg = h := nI_clamp (by omega)
  refine nm_r (e' := nI h) (by rw [hh]; exact nI_pred h) ?_
  rw [hhc, e1, e2, e3, e4]
  refine ⟨hhi, hhi, vp_in_nI hf (by decide), nm_e ⟨hhi, hhi, vp_in_nI ht (by decide), nm_r (e' := fun s => nI (B s)) ?_ (nm_r (e' := nI m) (by rw [hmo, xb_1m (by omega), cc_x11 hm]) C)⟩⟩
  rw [nI_clamp (by omega), nI_clamp (by omega), hb]
  funext s
  unfold upd cd_mv
  by_cases h1 : s = t
  · rw [if_pos h1, h1]
  · rw [if_neg h1]
    by_cases h2 : s = f
    · rw [if_pos h2, h2]
    · rw [if_neg h2]; dsimp only; rw [if_neg h2, if_neg h1]
end
def yf_Z (h : Nat) (fo to mo ca fo' to' mo' ca' : Nat → Int32) : Prop := ∀ j, j < h → fo' j = fo j ∧ to' j = to j ∧ mo' j = mo j ∧ ca' j = ca j
theorem yz_refl {h : Nat} {fo to mo ca : Nat → Int32} : yf_Z h fo to mo ca fo to mo ca := fun _ _ => ⟨rfl, rfl, rfl, rfl⟩
theorem yz_trans {h h' h3 : Nat} {fo to mo ca fo' to' mo' ca' fo2 to2 mo2 ca2 : Nat → Int32} (l1 : h3 ≤ h) (l2 : h3 ≤ h') (a : yf_Z h fo to mo ca fo' to' mo' ca') (b : yf_Z h' fo' to' mo' ca' fo2 to2 mo2 ca2) : yf_Z h3 fo to mo ca fo2 to2 mo2 ca2 := fun j hj => by
  obtain ⟨a1, a2, a3, a4⟩ := a j (by omega)
  obtain ⟨b1, b2, b3, b4⟩ := b j (by omega)
  exact ⟨b1.trans a1, b2.trans a2, b3.trans a3, b4.trans a4⟩
theorem yz_upd {h : Nat} {fo to mo ca : Nat → Int32} {a b c d : Int32} : yf_Z h fo to mo ca (upd fo h a) (upd to h b) (upd mo h c) (upd ca h d) := fun j hj => ⟨pk_un (by omega), pk_un (by omega), pk_un (by omega), pk_un (by omega)⟩
section
variable {g_playing g_mover g_height g_leaves g_answer g_bestMove : Int32} {b_board b_fromOf b_toOf b_moved b_captured b_past b_tried b_top : Nat → Int32} {B : Nat → Nat} {post : Int32 → SY → Prop} {m h f t : Nat}
theorem ym_legal (hb : b_board = fun s => nI (B s)) (hv : yv_V B) (hmo : g_mover = nI m) (hm : m < 2) (hh : g_height = nI h) (hh70 : h < 70) (hf : f < 36) (ht : t < 36)
    (C : ∀ (b_fromOf_2 b_toOf_2 b_moved_2 b_captured_2 : Nat → Int32), (yf_Z h b_fromOf b_toOf b_moved b_captured b_fromOf_2 b_toOf_2 b_moved_2 b_captured_2) → post (xb_b (cd_lg B m f t)) (g_playing, g_mover, g_height, g_leaves, g_answer, g_bestMove, b_board, b_fromOf_2, b_toOf_2, b_moved_2, b_captured_2, b_past, b_tried, b_top)) : wpY_isLegal post (g_playing, g_mover, g_height, g_leaves, g_answer, g_bestMove, b_board, b_fromOf, b_toOf, b_moved, b_captured, b_past, b_tried, b_top) (nI f) (nI t) := by
  unfold wpY_isLegal
  refine ym_canGo hb hv hmo hm hf ht ?_
  cases hc : cd_cg B m f t with
  | false =>
    have : cd_lg B m f t = false := by unfold cd_lg; rw [hc]; rfl
    rw [this] at C
    exact br_t rfl (C _ _ _ _ yz_refl)
  | true =>
    refine br_f (by decide) (ym_doMove hb hv hmo hm hh hh70 hf ht ?_)
    dsimp only
    rw [xb_1m (by omega), cc_x11 hm]
    refine ym_ck (B := cd_mv B f t) rfl (yv_mv hv hf) hm ?_
    have H35 : ∀ b : Bool, b = cd_lg B m f t → wY_isLegal_35 post (xb_b b) g_playing (nI (1 - m)) (nI (h + 1)) g_leaves g_answer g_bestMove (fun s => nI (cd_mv B f t s)) (upd b_fromOf h (nI f)) (upd b_toOf h (nI t)) (upd b_moved h (nI (B f))) (upd b_captured h (nI (B t))) b_past b_tried b_top := by
      intro b hb'
      unfold wY_isLegal_35
      refine ym_undo rfl rfl hm rfl hh70 hf ht pk_us pk_us pk_us pk_us ⟨by cases b <;> rfl, ?_⟩
      rw [hb', ← hmo, ← hh, ← hb]
      exact C _ _ _ _ yz_upd
    cases hck : cd_ck (cd_mv B f t) m with
    | false => exact br_t rfl (H35 true (by unfold cd_lg; rw [hc, hck]; rfl))
    | true => exact br_f (by decide) (H35 false (by unfold cd_lg; rw [hc, hck]; rfl))
end
end
section
/-! ===== the reference: pairs of squares in order ===== -/
def yl_g (B : Nat → Nat) (m q : Nat) : Bool := cd_lg B m (q / 36) (q % 36)
def yl_c (q : Nat) : Nat := 64 * (q / 36) + q % 36
/-- the legal pairs from p on -/
def yl_F (B : Nat → Nat) (m p : Nat) : List Nat := (List.range 1296).filter (fun q => decide (p ≤ q) && yl_g B m q)
theorem yl_0 (B : Nat → Nat) (m : Nat) : yl_F B m 0 = (List.range 1296).filter (yl_g B m) := by
  unfold yl_F; exact List.filter_congr fun q _ => by simp
theorem yl_blk (B : Nat → Nat) (m : Nat) : ∀ n, ((List.range (36 * n)).filter (yl_g B m)).map yl_c = (List.range n).flatMap (xl_row B m)
  | 0 => rfl
  | n + 1 => by
    rw [show 36 * (n + 1) = 36 * n + 36 from by omega, List.range_add, List.filter_append, List.map_append, yl_blk B m n, List.range_succ (n := n), List.flatMap_append, List.flatMap_cons, List.flatMap_nil, List.append_nil]
    congr 1
    unfold xl_row
    rw [List.filter_map, List.map_map]
    have e : (List.range 36).filter (yl_g B m ∘ fun x => 36 * n + x) = (List.range 36).filter (cd_lg B m n) := List.filter_congr fun t ht => by
      have := List.mem_range.mp ht
      show cd_lg B m ((36 * n + t) / 36) ((36 * n + t) % 36) = _
      rw [show (36 * n + t) / 36 = n from by omega, show (36 * n + t) % 36 = t from by omega]
    rw [e]
    refine List.map_congr_left fun t ht => ?_
    have := List.mem_range.mp (List.mem_filter.mp ht).1
    show 64 * ((36 * n + t) / 36) + (36 * n + t) % 36 = _
    rw [show (36 * n + t) / 36 = n from by omega, show (36 * n + t) % 36 = t from by omega]
theorem yl_L (B : Nat → Nat) (m : Nat) : cd_L B m = (yl_F B m 0).map yl_c := by
  rw [yl_0, xl_Lrow, ← yl_blk B m 36]
theorem yl_nx {B : Nat → Nat} {q : Nat} (hq : q < 1296) : cd_nx B (yl_c q) = cd_mv B (q / 36) (q % 36) := by
  unfold cd_nx yl_c
  rw [show (64 * (q / 36) + q % 36) / 64 = q / 36 from by omega, show (64 * (q / 36) + q % 36) % 64 = q % 36 from by omega]
theorem yl_end {B : Nat → Nat} {m p : Nat} (h : ∀ r, p ≤ r → r < 1296 → yl_g B m r = false) : yl_F B m p = [] := by
  unfold yl_F; rw [List.filter_eq_nil_iff]
  intro r hr
  have := List.mem_range.mp hr
  by_cases hp : p ≤ r
  · rw [h r hp this]; simp
  · rw [decide_eq_false hp]; simp
theorem yl_step {B : Nat → Nat} {m p q : Nat} (hp : p ≤ q) (hq : q < 1296) (hg : yl_g B m q = true) (h : ∀ r, p ≤ r → r < q → yl_g B m r = false) : yl_F B m p = q :: yl_F B m (q + 1) := by
  unfold yl_F
  rw [cb_filt _ q (List.range 1296) List.pairwise_lt_range (List.mem_range.mpr hq) (by rw [decide_eq_true hp, hg]; rfl) (fun r hr => by
    by_cases hpr : p ≤ r
    · rw [h r hpr hr, Bool.and_false]
    · rw [decide_eq_false hpr, Bool.false_and])]
  congr 1
  refine List.filter_congr fun r hr => ?_
  by_cases h1 : q + 1 ≤ r
  · rw [decide_eq_true h1, decide_eq_true (by omega : p ≤ r), decide_eq_true (by omega : r ≠ q)]; simp
  · rw [decide_eq_false h1, Bool.false_and]
    by_cases h2 : r = q
    · rw [decide_eq_false (fun h : r ≠ q => h h2), Bool.and_false]
    · by_cases h3 : p ≤ r
      · rw [h r h3 (by omega)]; simp
      · rw [decide_eq_false h3]; simp
theorem yl_skip {B : Nat → Nat} {m p : Nat} (h : yl_g B m p = false) : yl_F B m p = yl_F B m (p + 1) := by
  unfold yl_F
  refine List.filter_congr fun r hr => ?_
  by_cases h1 : r = p
  · rw [h1, h, Bool.and_false, Bool.and_false]
  · have : decide (p ≤ r) = decide (p + 1 ≤ r) := decide_eq_decide.mpr (by omega)
    rw [this]
theorem yl_take {B : Nat → Nat} {m p : Nat} (hp : p < 1296) (h : yl_g B m p = true) : yl_F B m p = p :: yl_F B m (p + 1) :=
  yl_step (Nat.le_refl _) hp h (fun r h1 h2 => by omega)
theorem yl_mem {B : Nat → Nat} {m p q : Nat} (h : q ∈ yl_F B m p) : p ≤ q ∧ q < 1296 ∧ yl_g B m q = true := by
  unfold yl_F at h
  rw [List.mem_filter, Bool.and_eq_true, decide_eq_true_eq] at h
  exact ⟨h.2.1, List.mem_range.mp h.1, h.2.2⟩
theorem yl_memL {B : Nat → Nat} {m q : Nat} (hq : q < 1296) (h : yl_g B m q = true) : yl_c q ∈ cd_L B m := by
  rw [yl_L]
  refine List.mem_map.mpr ⟨q, ?_, rfl⟩
  unfold yl_F
  rw [List.mem_filter]
  exact ⟨List.mem_range.mpr hq, by rw [h]; simp⟩
theorem yl_d36 {p : Nat} (hp : p < 2000) : nI p / 36 = nI (p / 36) := pk_div (d := 36) (by omega) (by decide) (by decide)
theorem yl_r36 {p : Nat} (hp : p < 2000) : nI p - nI p / 36 * 36 = nI (p % 36) := pk_rem (d := 36) (by omega) (by decide) (by decide)
section
variable {g_playing g_mover g_height g_leaves g_answer g_bestMove : Int32} {b_board b_fromOf b_toOf b_moved b_captured b_past b_tried b_top : Nat → Int32} {B : Nat → Nat} {post : Int32 → SY → Prop} {m h : Nat}
/-- isLegal at a pair -/
theorem yl_leg {p : Nat} (hb : b_board = fun s => nI (B s)) (hv : yv_V B) (hmo : g_mover = nI m) (hm : m < 2) (hh : g_height = nI h) (hh70 : h < 70) (hp : p < 1296)
    (C : ∀ (b_fromOf_2 b_toOf_2 b_moved_2 b_captured_2 : Nat → Int32), (yf_Z h b_fromOf b_toOf b_moved b_captured b_fromOf_2 b_toOf_2 b_moved_2 b_captured_2) → post (xb_b (yl_g B m p)) (g_playing, g_mover, g_height, g_leaves, g_answer, g_bestMove, b_board, b_fromOf_2, b_toOf_2, b_moved_2, b_captured_2, b_past, b_tried, b_top)) : wpY_isLegal post (g_playing, g_mover, g_height, g_leaves, g_answer, g_bestMove, b_board, b_fromOf, b_toOf, b_moved, b_captured, b_past, b_tried, b_top) (nI p / 36) (nI p - nI p / 36 * 36) := by
  rw [yl_r36 (by omega), yl_d36 (by omega)]
  exact ym_legal hb hv hmo hm hh hh70 (by omega) (by omega) C
theorem yl_nl2 (hb : b_board = fun s => nI (B s)) (hv : yv_V B) (hmo : g_mover = nI m) (hm : m < 2) (hh : g_height = nI h) (hh70 : h < 70) :
    ∀ (k p : Nat), p + k = 1296 → ∀ (b_fromOf b_toOf b_moved b_captured : Nat → Int32),
    (∀ (b_fromOf_2 b_toOf_2 b_moved_2 b_captured_2 : Nat → Int32), ∀ q, (yf_Z h b_fromOf b_toOf b_moved b_captured b_fromOf_2 b_toOf_2 b_moved_2 b_captured_2) → (q = 1296 ∧ yl_F B m p = []) ∨ (q < 1296 ∧ yl_g B m q = true ∧ yl_F B m p = q :: yl_F B m (q + 1)) → post (nI q) (g_playing, g_mover, g_height, g_leaves, g_answer, g_bestMove, b_board, b_fromOf_2, b_toOf_2, b_moved_2, b_captured_2, b_past, b_tried, b_top)) → wY_nextLegal_2 post (k + 1) (nI p) g_playing g_mover g_height g_leaves g_answer g_bestMove b_board b_fromOf b_toOf b_moved b_captured b_past b_tried b_top := by
  intro k
  induction k with
  | zero =>
    intro p hp b_fromOf b_toOf b_moved b_captured C
    rw [wY_nextLegal_2]
    exact pk_le 1296 p (fun _ => C _ _ _ _ 1296 yz_refl (Or.inl ⟨rfl, yl_end (fun r h1 h2 => by omega)⟩)) (fun h => by omega)
  | succ k ih =>
    intro p hp b_fromOf b_toOf b_moved b_captured C
    rw [wY_nextLegal_2]
    refine pk_le 1296 p (fun h => by omega) (fun _ => ⟨by decide, by decide, yl_leg hb hv hmo hm hh hh70 (by omega) ?_⟩)
    intro b_fromOf_2 b_toOf_2 b_moved_2 b_captured_2 hZ
    cases hg : yl_g B m p with
    | false =>
      refine br_t rfl (nm_r (nI_1 p) (ih (p + 1) (by omega) _ _ _ _ ?_))
      intro b_fromOf_3 b_toOf_3 b_moved_3 b_captured_3 q hZ3 hq
      rw [← yl_skip hg] at hq
      exact C _ _ _ _ q (yz_trans (Nat.le_refl _) (Nat.le_refl _) hZ hZ3) hq
    | true =>
      exact br_f (by decide) (C _ _ _ _ p hZ (Or.inr ⟨by omega, hg, yl_take (by omega) hg⟩))
theorem yl_nl {p : Nat} (hb : b_board = fun s => nI (B s)) (hv : yv_V B) (hmo : g_mover = nI m) (hm : m < 2) (hh : g_height = nI h) (hh70 : h < 70) (hp : p ≤ 1296)
    (C : ∀ (b_fromOf_2 b_toOf_2 b_moved_2 b_captured_2 : Nat → Int32), ∀ q, (yf_Z h b_fromOf b_toOf b_moved b_captured b_fromOf_2 b_toOf_2 b_moved_2 b_captured_2) → (q = 1296 ∧ yl_F B m p = []) ∨ (q < 1296 ∧ yl_g B m q = true ∧ yl_F B m p = q :: yl_F B m (q + 1)) → post (nI q) (g_playing, g_mover, g_height, g_leaves, g_answer, g_bestMove, b_board, b_fromOf_2, b_toOf_2, b_moved_2, b_captured_2, b_past, b_tried, b_top)) : wpY_nextLegal post (g_playing, g_mover, g_height, g_leaves, g_answer, g_bestMove, b_board, b_fromOf, b_toOf, b_moved, b_captured, b_past, b_tried, b_top) (nI p) :=
  ⟨1296 - p + 1, yl_nl2 hb hv hmo hm hh hh70 (1296 - p) p (by omega) _ _ _ _ C⟩
theorem yl_mv13 (hb : b_board = fun s => nI (B s)) (hv : yv_V B) (hmo : g_mover = nI m) (hm : m < 2) (hh : g_height = nI h) (hh70 : h < 70) :
    ∀ (k p c : Nat), p + k = 1296 → ∀ (b_fromOf b_toOf b_moved b_captured : Nat → Int32),
    (∀ (b_fromOf_2 b_toOf_2 b_moved_2 b_captured_2 : Nat → Int32), (yf_Z h b_fromOf b_toOf b_moved b_captured b_fromOf_2 b_toOf_2 b_moved_2 b_captured_2) → post (nI (c + (yl_F B m p).length)) (g_playing, g_mover, g_height, g_leaves, g_answer, g_bestMove, b_board, b_fromOf_2, b_toOf_2, b_moved_2, b_captured_2, b_past, b_tried, b_top)) → wY_moves_13 post (k + 1) (nI c) (nI p) g_playing g_mover g_height g_leaves g_answer g_bestMove b_board b_fromOf b_toOf b_moved b_captured b_past b_tried b_top := by
  intro k
  induction k with
  | zero =>
    intro p c hp b_fromOf b_toOf b_moved b_captured C
    rw [wY_moves_13]
    rw [yl_end (fun r h1 h2 => by omega)] at C
    exact pk_le 1296 p (fun _ => C _ _ _ _ yz_refl) (fun h => by omega)
  | succ k ih =>
    intro p c hp b_fromOf b_toOf b_moved b_captured C
    rw [wY_moves_13]
    refine pk_le 1296 p (fun h => by omega) (fun _ => ⟨by decide, by decide, yl_leg hb hv hmo hm hh hh70 (by omega) ?_⟩)
    intro b_fromOf_2 b_toOf_2 b_moved_2 b_captured_2 hZ
    cases hg : yl_g B m p with
    | false =>
      refine br_t rfl (nm_r (nI_1 p) (ih (p + 1) c (by omega) _ _ _ _ ?_))
      intro b_fromOf_3 b_toOf_3 b_moved_3 b_captured_3 hZ3
      rw [← yl_skip hg]
      exact C _ _ _ _ (yz_trans (Nat.le_refl _) (Nat.le_refl _) hZ hZ3)
    | true =>
      refine br_f (by decide) (nm_r (nI_1 c) (nm_r (nI_1 p) (ih (p + 1) (c + 1) (by omega) _ _ _ _ ?_)))
      intro b_fromOf_3 b_toOf_3 b_moved_3 b_captured_3 hZ3
      have := C _ _ _ _ (yz_trans (Nat.le_refl _) (Nat.le_refl _) hZ hZ3)
      rw [yl_take (by omega) hg, List.length_cons] at this
      rw [show c + 1 + (yl_F B m (p + 1)).length = c + ((yl_F B m (p + 1)).length + 1) from by omega]
      exact this
theorem yl_Llen (B : Nat → Nat) (m : Nat) : (yl_F B m 0).length = (cd_L B m).length := by rw [yl_L, List.length_map]
theorem yl_moves (hpl : g_playing = 1) (hb : b_board = fun s => nI (B s)) (hv : yv_V B) (hmo : g_mover = nI m) (hm : m < 2) (hh : g_height = nI h) (hh70 : h < 70)
    (C : ∀ (b_fromOf_2 b_toOf_2 b_moved_2 b_captured_2 : Nat → Int32), (yf_Z h b_fromOf b_toOf b_moved b_captured b_fromOf_2 b_toOf_2 b_moved_2 b_captured_2) → post (nI (cd_L B m).length) (g_playing, g_mover, g_height, g_leaves, g_answer, g_bestMove, b_board, b_fromOf_2, b_toOf_2, b_moved_2, b_captured_2, b_past, b_tried, b_top)) : wpY_moves post (g_playing, g_mover, g_height, g_leaves, g_answer, g_bestMove, b_board, b_fromOf, b_toOf, b_moved, b_captured, b_past, b_tried, b_top) := by
  refine br_f (by rw [hpl]; decide) ⟨1297, yl_mv13 hb hv hmo hm hh hh70 1296 0 0 rfl _ _ _ _ ?_⟩
  intro b_fromOf_2 b_toOf_2 b_moved_2 b_captured_2 hZ
  rw [Nat.zero_add, yl_Llen]
  exact C _ _ _ _ hZ
theorem yl_ma13 {j0 : Nat} (hj0 : j0 < 2 ^ 31) (hb : b_board = fun s => nI (B s)) (hv : yv_V B) (hmo : g_mover = nI m) (hm : m < 2) (hh : g_height = nI h) (hh70 : h < 70) :
    ∀ (k p c : Nat), p + k = 1296 → c < 2 ^ 31 → ∀ (b_fromOf b_toOf b_moved b_captured : Nat → Int32),
    (∀ (b_fromOf_2 b_toOf_2 b_moved_2 b_captured_2 : Nat → Int32), (yf_Z h b_fromOf b_toOf b_moved b_captured b_fromOf_2 b_toOf_2 b_moved_2 b_captured_2) → post (if c < (yl_F B m p).length then nI (((yl_F B m p).map yl_c).getD c 0) else -2) (g_playing, g_mover, g_height, g_leaves, g_answer, g_bestMove, b_board, b_fromOf_2, b_toOf_2, b_moved_2, b_captured_2, b_past, b_tried, b_top)) → wY_moveAt_13 post (nI j0) (k + 1) (nI c) (nI p) g_playing g_mover g_height g_leaves g_answer g_bestMove b_board b_fromOf b_toOf b_moved b_captured b_past b_tried b_top := by
  intro k
  induction k with
  | zero =>
    intro p c hp hc b_fromOf b_toOf b_moved b_captured C
    rw [wY_moveAt_13]
    rw [yl_end (fun r h1 h2 => by omega)] at C
    exact pk_le 1296 p (fun _ => C _ _ _ _ yz_refl) (fun h => by omega)
  | succ k ih =>
    intro p c hp hc b_fromOf b_toOf b_moved b_captured C
    rw [wY_moveAt_13]
    refine pk_le 1296 p (fun h => by omega) (fun _ => br_f (nI_pos hj0) ⟨by decide, by decide, yl_leg hb hv hmo hm hh hh70 (by omega) ?_⟩)
    intro b_fromOf_2 b_toOf_2 b_moved_2 b_captured_2 hZ
    cases hg : yl_g B m p with
    | false =>
      refine br_t rfl (nm_r (nI_1 p) (ih (p + 1) c (by omega) hc _ _ _ _ ?_))
      intro b_fromOf_3 b_toOf_3 b_moved_3 b_captured_3 hZ3
      rw [← yl_skip hg]
      exact C _ _ _ _ (yz_trans (Nat.le_refl _) (Nat.le_refl _) hZ hZ3)
    | true =>
      rw [yl_take (by omega) hg] at C
      refine br_f (by decide) (pk_eq c 0 (fun h0 => ⟨by decide, by decide, ?_⟩) (fun h0 => ?_))
      · have := C _ _ _ _ hZ
        subst h0
        rw [if_pos (by simp)] at this
        rw [yl_r36 (by omega), yl_d36 (by omega), show (64 : Int32) = nI 64 from rfl, pk_mul, nI_add]
        exact this
      · obtain ⟨c1, rfl⟩ : ∃ c1, c = c1 + 1 := ⟨c - 1, by omega⟩
        refine nm_r (pk_m1 c1) (nm_r (nI_1 p) (ih (p + 1) c1 (by omega) (by omega) _ _ _ _ ?_))
        intro b_fromOf_3 b_toOf_3 b_moved_3 b_captured_3 hZ3
        have := C _ _ _ _ (yz_trans (Nat.le_refl _) (Nat.le_refl _) hZ hZ3)
        rw [List.length_cons] at this
        by_cases hlt : c1 < (yl_F B m (p + 1)).length
        · rw [if_pos hlt]; rw [if_pos (by omega)] at this; exact this
        · rw [if_neg hlt]; rw [if_neg (by omega)] at this; exact this
end
end
section
/-! ===== the reference: mobile, worth, balance, standings, quiet ===== -/
section
variable {g_playing g_mover g_height g_leaves g_answer g_bestMove : Int32} {b_board b_fromOf b_toOf b_moved b_captured b_past b_tried b_top : Nat → Int32} {B : Nat → Nat} {m h : Nat}
theorem yo_mob {post : Int32 → SY → Prop} {f : Nat} (hf : f < 36) (hb : b_board = fun s => nI (B s)) (hv : yv_V B) (hmo : g_mover = nI m) (hm : m < 2) (hh : g_height = nI h) (hh70 : h < 70) :
    ∀ (k t : Nat), t + k = 36 → ∀ (b_fromOf b_toOf b_moved b_captured : Nat → Int32),
    (∀ (b_fromOf_2 b_toOf_2 b_moved_2 b_captured_2 : Nat → Int32), (yf_Z h b_fromOf b_toOf b_moved b_captured b_fromOf_2 b_toOf_2 b_moved_2 b_captured_2) → post (nI (cd_sm (fun t => if cd_lg B m f t then 1 else 0) 36)) (g_playing, g_mover, g_height, g_leaves, g_answer, g_bestMove, b_board, b_fromOf_2, b_toOf_2, b_moved_2, b_captured_2, b_past, b_tried, b_top)) → wY_mobile_13 post (nI f) (k + 1) (nI (cd_sm (fun t => if cd_lg B m f t then 1 else 0) t)) (nI t) g_playing g_mover g_height g_leaves g_answer g_bestMove b_board b_fromOf b_toOf b_moved b_captured b_past b_tried b_top := by
  intro k
  induction k with
  | zero =>
    intro t ht b_fromOf b_toOf b_moved b_captured C
    rw [wY_mobile_13]
    have : t = 36 := by omega
    subst this
    exact pk_le 36 36 (fun _ => C _ _ _ _ yz_refl) (fun h => by omega)
  | succ k ih =>
    intro t ht b_fromOf b_toOf b_moved b_captured C
    rw [wY_mobile_13]
    have hsm : cd_sm (fun t => if cd_lg B m f t then 1 else 0) (t + 1) = cd_sm (fun t => if cd_lg B m f t then 1 else 0) t + (if cd_lg B m f t then 1 else 0) := rfl
    refine pk_le 36 t (fun h => by omega) (fun _ => ya_isSq (fun h0 => absurd rfl (h0 f hf)) (fun s hs e => br_f (by decide) (ym_legal hb hv hmo hm hh hh70 hf (by omega) ?_)))
    intro b_fromOf_2 b_toOf_2 b_moved_2 b_captured_2 hZ
    have ih' := ih (t + 1) (by omega) b_fromOf_2 b_toOf_2 b_moved_2 b_captured_2 (fun fo to mo ca hZ3 => C _ _ _ _ (yz_trans (Nat.le_refl _) (Nat.le_refl _) hZ hZ3))
    rw [hsm] at ih'
    cases hg : cd_lg B m f t with
    | false => rw [hg] at ih'; exact br_t rfl (nm_r (nI_1 t) ih')
    | true => rw [hg] at ih'; exact br_f (by decide) (nm_r (nI_1 _) (nm_r (nI_1 t) ih'))
theorem yo_worth {post : Int32 → Prop} {p : Nat} (hv : p ≤ 14) (C : post (nI (cd_w p))) : wpY_worth post (g_playing, g_mover, g_height, g_leaves, g_answer, g_bestMove, b_board, b_fromOf, b_toOf, b_moved, b_captured, b_past, b_tried, b_top) (nI p) := by
  unfold wpY_worth
  refine ya_kind hv ?_
  have hk : cd_kd p ≤ 14 := by unfold cd_kd; split <;> omega
  unfold cd_w at C
  refine pk_lt (cd_kd p) 1 (fun h => ?_) (fun h0 => pk_lt 5 (cd_kd p) (fun h => ?_) (fun h5 => pk_eq (cd_kd p) 1 (fun h => ?_) (fun h1 => pk_eq (cd_kd p) 2 (fun h => ?_) (fun h2 => pk_eq (cd_kd p) 3 (fun h => ?_) (fun h3 => pk_eq (cd_kd p) 4 (fun h => ?_) (fun h4 => pk_eq (cd_kd p) 5 (fun h => ?_) (fun h5 => trivial)))))))
  · rw [if_neg (by omega), if_neg (by omega), if_neg (by omega), if_neg (by omega), if_neg (by omega)] at C; exact C
  · rw [if_neg (by omega), if_neg (by omega), if_neg (by omega), if_neg (by omega), if_neg (by omega)] at C; exact C
  · rw [if_pos h] at C; exact C
  · rw [if_neg h1, if_pos h] at C; exact C
  · rw [if_neg h1, if_neg h2, if_pos h] at C; exact C
  · rw [if_neg h1, if_neg h2, if_neg h3, if_pos h] at C; exact C
  · rw [if_neg h1, if_neg h2, if_neg h3, if_neg h4, if_pos h] at C; exact C
theorem yo_bal4 {post : Int32 → Prop} (hb : b_board = fun s => nI (B s)) (hv : yv_V B) (hmo : g_mover = nI m) (hm : m < 2) (C : post (xi (cd_bal B m))) :
    ∀ (k s : Nat), s + k = 36 → wY_balance_4 post g_playing g_mover g_height g_leaves g_answer g_bestMove b_board b_fromOf b_toOf b_moved b_captured b_past b_tried b_top (k + 1) (xi (cd_bs B m s)) (nI s) := by
  intro k
  induction k with
  | zero =>
    intro s hs
    rw [wY_balance_4]
    have : s = 36 := by omega
    subst this
    exact pk_le 36 36 (fun _ => C) (fun h => by omega)
  | succ k ih =>
    intro s hs
    rw [wY_balance_4]
    have hs36 : s < 36 := by omega
    have hbs : b_board (nI s).toNatClampNeg = nI (B s) := by rw [nI_clamp (by omega), hb]
    have ih' := ih (s + 1) (by omega)
    rw [cd_bs] at ih'
    refine pk_le 36 s (fun h => by omega) (fun _ => ⟨vp_in_nI hs36 (by decide), ?_⟩)
    rw [hbs]
    refine yo_worth (hv s hs36).1 ⟨vp_in_nI hs36 (by decide), ?_⟩
    rw [hmo]
    refine ya_isOf (hv s hs36).1 hm ?_
    cases ho : cd_of (B s) m with
    | false =>
      rw [ho] at ih'
      refine br_t rfl (nm_r (e' := xi (cd_bs B m s + -(cd_w (B s) : Int))) (by rw [xi_nI, xi_sub]; rfl) (nm_r (nI_1 s) ?_))
      rw [← hmo]; exact ih'
    | true =>
      rw [ho] at ih'
      refine br_f (by decide) (nm_r (e' := xi (cd_bs B m s + (cd_w (B s) : Int))) (by rw [xi_nI, xi_add]) (nm_r (nI_1 s) ?_))
      rw [← hmo]; exact ih'
theorem yo_balance {post : Int32 → Prop} (hb : b_board = fun s => nI (B s)) (hv : yv_V B) (hmo : g_mover = nI m) (hm : m < 2) (C : post (xi (cd_bal B m))) : wpY_balance post (g_playing, g_mover, g_height, g_leaves, g_answer, g_bestMove, b_board, b_fromOf, b_toOf, b_moved, b_captured, b_past, b_tried, b_top) :=
  ⟨_, yo_bal4 hb hv hmo hm C 36 0 rfl⟩
theorem yo_without {post : Int32 → Prop} {d : Nat} (hb : b_board = fun s => nI (B s)) (hv : yv_V B) (hmo : g_mover = nI m) (hm : m < 2) (C : post (xi (if cd_ck B m then -1000 - (d : Int) else 0))) : wpY_without post (g_playing, g_mover, g_height, g_leaves, g_answer, g_bestMove, b_board, b_fromOf, b_toOf, b_moved, b_captured, b_past, b_tried, b_top) (nI d) := by
  unfold wpY_without
  subst hmo
  refine ym_ck hb hv hm ?_
  cases hc : cd_ck B m with
  | false => rw [hc] at C; exact br_t rfl C
  | true =>
    rw [hc] at C
    refine br_f (by decide) ?_
    rw [xi_nI, show (-1000 : Int32) = xi (-1000) from rfl, xi_sub]
    exact C
end
/-! ===== the game's history ===== -/
def hs_eq (A B : Nat → Nat) : Bool := (List.range 36).all (fun s => A s == B s)
/-- how often B stood among H n, H (n - 2), .. -/
def hs_tm (H : Nat → Nat → Nat) (B : Nat → Nat) : Nat → Nat
  | 0 => if hs_eq (H 0) B then 1 else 0
  | 1 => if hs_eq (H 1) B then 1 else 0
  | n + 2 => (if hs_eq (H (n + 2)) B then 1 else 0) + hs_tm H B n
theorem hs_tm_le (H : Nat → Nat → Nat) (B : Nat → Nat) : ∀ n, hs_tm H B n ≤ n + 1
  | 0 => by rw [hs_tm]; split <;> omega
  | 1 => by rw [hs_tm]; split <;> omega
  | n + 2 => by
    have := hs_tm_le H B n
    rw [hs_tm]; split <;> omega
theorem hs_eq_iff {A B : Nat → Nat} : hs_eq A B = true ↔ ∀ s, s < 36 → A s = B s := by
  unfold hs_eq; rw [List.all_eq_true]
  exact ⟨fun h s hs => beq_iff_eq.mp (h s (List.mem_range.mpr hs)), fun h s hs => beq_iff_eq.mpr (h s (List.mem_range.mp hs))⟩
/-- a move that captures or moves a pawn -/
def hs_ld (B : Nat → Nat) (x : Nat) : Bool := !(B (x % 64) == 0) || (cd_kd (B (x / 64)) == 1)
def hs_q (H : Nat → Nat → Nat) (X : Nat → Nat) : Nat → Nat
  | 0 => 0
  | n + 1 => if hs_ld (H n) (X n) then 0 else hs_q H X n + 1
theorem hs_q_le (H : Nat → Nat → Nat) (X : Nat → Nat) : ∀ n, hs_q H X n ≤ n
  | 0 => Nat.le_refl _
  | n + 1 => by
    have := hs_q_le H X n
    rw [hs_q]; split <;> omega
section
variable {g_playing g_mover g_height g_leaves g_answer g_bestMove : Int32} {b_board b_fromOf b_toOf b_moved b_captured b_past b_tried b_top : Nat → Int32} {post : Int32 → Prop} {H : Nat → Nat → Nat} {X : Nat → Nat} {B : Nat → Nat} {n : Nat}
theorem ys_16 {J7 : Int32 → Int32 → Prop} {k c : Nat} (hb : b_board = fun s => nI (B s)) (hv : yv_V B) (hvH : yv_V (H k)) (hk : k ≤ 61) (hp : ∀ s, s < 36 → b_past (36 * k + s) = nI (H k s))
    (C : J7 (nI (c + (if hs_eq (H k) B then 1 else 0))) (nI k - 2)) :
    ∀ (j s : Nat), s + j = 36 → ∀ b : Bool, (b = true ↔ ∀ i, i < s → H k i = B i) → wY_standings_16 post J7 (nI c) (nI k) g_playing g_mover g_height g_leaves g_answer g_bestMove b_board b_fromOf b_toOf b_moved b_captured b_past b_tried b_top (j + 1) (xb_b b) (nI s) := by
  intro j
  induction j with
  | zero =>
    intro s hs b hbb
    rw [wY_standings_16]
    have : s = 36 := by omega
    subst this
    have hbe : b = hs_eq (H k) B := by rw [Bool.eq_iff_iff, hbb, hs_eq_iff]
    rw [← hbe] at C
    refine pk_le 36 36 (fun _ => ?_) (fun h => by omega)
    cases b with
    | false => exact br_t rfl (nm_e C)
    | true => exact br_f (by decide) (nm_r (nI_1 c) (nm_e C))
  | succ j ih =>
    intro s hs b hbb
    rw [wY_standings_16]
    have hs36 : s < 36 := by omega
    refine pk_le 36 s (fun h => by omega) (fun _ => ?_)
    cases b with
    | false =>
      refine br_t rfl (nm_r (nI_1 s) (ih (s + 1) (by omega) false ?_))
      refine ⟨fun h => absurd h (by decide), fun h => ?_⟩
      exact hbb.mpr fun i hi => h i (by omega)
    | true =>
      have hall := hbb.mp rfl
      have hpi : (36 * nI k) + nI s = nI (36 * k + s) := xa_ix
      have hbs : b_board (nI s).toNatClampNeg = nI (B s) := by rw [nI_clamp (by omega), hb]
      refine br_f (by decide) ⟨by rw [hpi]; exact vp_in_nI (by omega) (by decide), vp_in_nI hs36 (by decide), ?_⟩
      have h1 := hv s hs36
      have h2 := hvH s hs36
      rw [hbs, hpi, nI_clamp (by omega), hp s hs36]
      refine pk_eq (H k s) (B s) (fun he => nm_r (nI_1 s) (ih (s + 1) (by omega) true ?_)) (fun he => nm_r (nI_1 s) (ih (s + 1) (by omega) false ?_))
      · refine ⟨fun _ i hi => ?_, fun _ => rfl⟩
        by_cases e : i = s
        · rw [e]; exact he
        · exact hall i (by omega)
      · exact ⟨fun h => absurd h (by decide), fun h => absurd (h s (by omega)) he⟩
theorem ys_7 (hb : b_board = fun s => nI (B s)) (hv : yv_V B) (hvH : ∀ k, k ≤ n → yv_V (H k)) (hn : n ≤ 60) (hp : ∀ k, k ≤ n → ∀ s, s < 36 → b_past (36 * k + s) = nI (H k s)) :
    ∀ (k f c : Nat), k ≤ n → post (nI (c + hs_tm H B k)) → wY_standings_7 post g_playing g_mover g_height g_leaves g_answer g_bestMove b_board b_fromOf b_toOf b_moved b_captured b_past b_tried b_top (k + f + 2) (nI c) (nI k) := by
  have hneg : ∀ (f c : Nat) (x : Int32), x < 0 → post (nI c) → wY_standings_7 post g_playing g_mover g_height g_leaves g_answer g_bestMove b_board b_fromOf b_toOf b_moved b_captured b_past b_tried b_top (f + 1) (nI c) x := by
    intro f c x hx hpst
    rw [wY_standings_7]
    exact br_t hx hpst
  intro k
  induction k using Nat.strongRecOn with
  | _ k ih =>
  intro f c hkn C
  rw [show k + f + 2 = (k + f + 1) + 1 from rfl, wY_standings_7]
  refine br_f (nI_pos (by omega)) ⟨37, ys_16 hb hv (hvH k hkn) (by omega) (hp k hkn) ?_ 36 0 rfl true ⟨fun _ i hi => by omega, fun _ => rfl⟩⟩
  match k, ih, hkn, C with
  | 0, _, _, C => exact hneg (0 + f) _ _ (by decide) C
  | 1, _, _, C => exact hneg (1 + f) _ _ (by decide) C
  | k + 2, ih, hkn, C =>
    rw [show nI (k + 2) - 2 = nI k from pk_sub (a := k + 2) (b := 2) (by omega)]
    have C' : post (nI ((c + (if hs_eq (H (k + 2)) B then 1 else 0)) + hs_tm H B k)) := by
      rw [hs_tm] at C; rw [Nat.add_assoc]; exact C
    have := ih k (by omega) (f + 1) (c + (if hs_eq (H (k + 2)) B then 1 else 0)) (by omega) C'
    rw [show k + 2 + f + 1 = k + (f + 1) + 2 from by omega]
    exact this
end
end
section
/-! ===== the reference's search ===== -/
section
variable {g_playing g_mover g_height g_leaves g_answer g_bestMove : Int32} {b_board b_fromOf b_toOf b_moved b_captured b_past b_tried b_top : Nat → Int32} {post : Int32 → Prop} {H : Nat → Nat → Nat} {X : Nat → Nat} {n : Nat}
theorem ys_quiet2 (hh : g_height = nI n) (hn : n ≤ 60) (hv : ∀ k, k < n → (H k (X k / 64) ≤ 14 ∧ H k (X k % 64) ≤ 14)) (hc : ∀ k, k < n → b_captured k = nI (H k (X k % 64))) (hm : ∀ k, k < n → b_moved k = nI (H k (X k / 64))) :
    ∀ (k i : Nat), i + k = n → post (nI (i + hs_q H X k)) → wY_quiet_2 post g_playing g_mover g_height g_leaves g_answer g_bestMove b_board b_fromOf b_toOf b_moved b_captured b_past b_tried b_top (k + 1) (nI i) := by
  intro k
  induction k with
  | zero =>
    intro i hi C
    rw [wY_quiet_2]
    dsimp only
    rw [hh]
    exact pk_le n i (fun _ => C) (fun h => by omega)
  | succ k ih =>
    intro i hi C
    rw [wY_quiet_2]
    dsimp only
    have hix : (nI n - 1) - nI i = nI k := by
      rw [show (1 : Int32) = nI 1 from rfl, pk_sub (by omega), pk_sub (by omega)]; congr 1; omega
    have hki : vp_in (nI k) 70 := vp_in_nI (by omega) (by decide)
    have hvk := hv k (by omega)
    rw [hh, hix, nI_clamp (by omega), hc k (by omega), hm k (by omega)]
    rw [hs_q] at C
    unfold hs_ld at C
    refine pk_le n i (fun h => by omega) (fun _ => ⟨hki, pk_eq (H k (X k % 64)) 0 (fun h0 => ⟨hki, ya_kind hvk.1 ?_⟩) (fun h0 => ?_)⟩)
    · have hkd : cd_kd (H k (X k / 64)) ≤ 14 := by unfold cd_kd; split <;> omega
      refine pk_eq (cd_kd (H k (X k / 64))) 1 (fun h1 => ?_) (fun h1 => nm_r (nI_1 i) ?_)
      · rw [h1] at C; simpa using C
      · have hq : ((!(H k (X k % 64) == 0)) || (cd_kd (H k (X k / 64)) == 1)) = false := by
          rw [h0, beq_eq_false_iff_ne.mpr h1]; rfl
        rw [hq] at C
        have := ih (i + 1) (by omega) (by rw [show i + 1 + hs_q H X k = i + (hs_q H X k + 1) from by omega]; exact C)
        rw [hh] at this
        exact this
    · have hq : ((!(H k (X k % 64) == 0)) || (cd_kd (H k (X k / 64)) == 1)) = true := by
        rw [beq_eq_false_iff_ne.mpr h0]; rfl
      rw [hq] at C
      exact C
theorem ys_quiet (hh : g_height = nI n) (hn : n ≤ 60) (hv : ∀ k, k < n → (H k (X k / 64) ≤ 14 ∧ H k (X k % 64) ≤ 14)) (hc : ∀ k, k < n → b_captured k = nI (H k (X k % 64))) (hm : ∀ k, k < n → b_moved k = nI (H k (X k / 64))) (C : post (nI (hs_q H X n))) : wpY_quiet post (g_playing, g_mover, g_height, g_leaves, g_answer, g_bestMove, b_board, b_fromOf, b_toOf, b_moved, b_captured, b_past, b_tried, b_top) :=
  ⟨n + 1, ys_quiet2 hh hn hv hc hm n 0 (by omega) (by rw [Nat.zero_add]; exact C)⟩
end
theorem yl_cmem {B : Nat → Nat} {m q : Nat} (hq : q < 1296) : yl_c q / 64 = q / 36 ∧ yl_c q % 64 = q % 36 := by
  unfold yl_c; constructor <;> omega
section
variable {g_playing g_mover g_height g_leaves g_answer g_bestMove : Int32} {b_board b_fromOf b_toOf b_moved b_captured b_past b_tried b_top : Nat → Int32} {post : SY → Prop} {D : Nat}
/-- goBack at a level: the move is taken back and its value compared -/
theorem yg_back {W : SY → Prop} {B : Nat → Nat} {m h l q : Nat} {a T : Int} (hb : b_board = fun s => nI (cd_mv B (q / 36) (q % 36) s)) (hmo : g_mover = nI (1 - m)) (hm : m < 2) (hh : g_height = nI (h + 1)) (hh70 : h < 70) (hq : q < 1296) (hl : l < 4)
    (e1 : b_fromOf h = nI (q / 36)) (e2 : b_toOf h = nI (q % 36)) (e3 : b_moved h = nI (B (q / 36))) (e4 : b_captured h = nI (B (q % 36))) (ha : g_answer = xi a) (ha1 : -5000 ≤ a ∧ a ≤ 5000) (hT : b_top l = xi T) (hT1 : -5000 ≤ T ∧ T ≤ 5000) (htr : b_tried l = nI (q + 1))
    (C : ∀ (bm : Int32) (tp : Nat → Int32), (bm = if l = 0 ∧ T < -a then nI (yl_c q) else g_bestMove) → tp l = xi (if T < -a then -a else T) → (∀ j, j ≠ l → tp j = b_top j) → W (g_playing, nI m, nI h, g_leaves, g_answer, bm, fun s => nI (B s), b_fromOf, b_toOf, b_moved, b_captured, b_past, b_tried, tp)) : wpY_goBack W (g_playing, g_mover, g_height, g_leaves, g_answer, g_bestMove, b_board, b_fromOf, b_toOf, b_moved, b_captured, b_past, b_tried, b_top) (nI l) := by
  have hli : vp_in (nI l) 4 := vp_in_nI hl (by decide)
  have hlc : (nI l).toNatClampNeg = l := nI_clamp (by omega)
  refine br_t (nI_pos' (by omega)) (ym_undo (B := B) hb hmo hm hh hh70 (by omega) (by omega) e1 e2 e3 e4 ⟨hli, ?_⟩)
  rw [hlc, hT, ha, xi_neg, xi_le (by omega) (by omega)]
  refine br_c (fun h1 => ?_) (fun h1 => ⟨hli, nm_e (pk_eq l 0 (fun h0 => ⟨by decide, by decide, ?_⟩) (fun h0 => ?_))⟩)
  · have := C g_bestMove b_top (by rw [if_neg (fun h => by omega)]) (by rw [if_neg (by omega)]; exact hT) (fun _ _ => rfl)
    rw [ha] at this; exact this
  · have e0 : b_tried 0 - 1 = nI q := by
      rw [← h0, htr]; exact nI_pred q
    have := C (nI (yl_c q)) (upd b_top l (xi (-a))) (by rw [if_pos ⟨h0, by omega⟩]) (by rw [if_pos (by omega)]; exact pk_us) (fun j hj => pk_un hj)
    rw [ha] at this
    refine nm_r (e' := nI (yl_c q)) ?_ this
    rw [e0, yl_r36 (by omega), yl_d36 (by omega), show (64 : Int32) = nI 64 from rfl, pk_mul, nI_add]; rfl
  · have := C g_bestMove (upd b_top l (xi (-a))) (by rw [if_neg (fun h => h0 h.1)]) (by rw [if_pos (by omega)]; exact pk_us) (fun j hj => pk_un hj)
    rw [ha] at this; exact this
theorem yg_156 {J36 : Int32 → Int32 → Int32 → Int32 → Int32 → Int32 → Int32 → Int32 → (Nat → Int32) → (Nat → Int32) → (Nat → Int32) → (Nat → Int32) → (Nat → Int32) → (Nat → Int32) → (Nat → Int32) → (Nat → Int32) → Prop} {B : Nat → Nat} {m l i : Nat} {z : Int32} (hl : l < 4) (hD4 : D < 4) (hb : b_board = fun s => nI (B s)) (hv : yv_V B) (hmo : g_mover = nI m) (hm : m < 2)
    (C0 : l = D → wY_search_182 post J36 (nI D) (nI l) (nI i) g_playing g_mover g_height (g_leaves + 1) (xi (cd_bal B m)) g_bestMove b_board b_fromOf b_toOf b_moved b_captured b_past b_tried b_top) (C1 : l ≠ D → wY_search_182 post J36 (nI D) (nI l) (nI i) g_playing g_mover g_height g_leaves z g_bestMove b_board b_fromOf b_toOf b_moved b_captured b_past b_tried b_top) : wY_search_156 post J36 (nI D) (nI l) (nI i) z g_playing g_mover g_height g_leaves g_answer g_bestMove b_board b_fromOf b_toOf b_moved b_captured b_past b_tried b_top := by
  unfold wY_search_156
  exact pk_eq l D (fun h => nm_e (yo_balance hb hv hmo hm (C0 h))) (fun h => C1 h)
theorem ys_loop (hD : D ≤ 3) : ∀ (d l : Nat), l + d = D → ∀ (B : Nat → Nat) (m h w w' : Nat), ce_ws B m ≤ w → ce_ws B (1 - m) ≤ w' → cd_G B m → h + d ≤ 68 → ∀ (i N : Nat), i + cs_Y d w w' ≤ 999999 →
    ∀ (g_mover g_height g_leaves g_answer g_bestMove : Int32) (b_board b_fromOf b_toOf b_moved b_captured b_tried b_top : Nat → Int32), g_mover = nI m → g_height = nI h → (b_board = fun s => nI (B s)) → g_leaves = nI N → b_tried l = nI 0 → b_top l = xi (-5000) → (l = 0 → g_bestMove = xi (-3)) →
    (∀ (g_mover_2 g_height_2 g_leaves_2 g_answer_2 g_bestMove_2 : Int32) (b_board_2 b_fromOf_2 b_toOf_2 b_moved_2 b_captured_2 b_tried_2 b_top_2 : Nat → Int32), ∀ i' : Nat, i' + 1 ≤ i + cs_Y d w w' → g_mover_2 = nI m → g_height_2 = nI h → (b_board_2 = fun s => nI (B s)) → g_leaves_2 = nI (N + cd_pf d B m) → g_answer_2 = xi (cd_val d B m) → (yf_Z h b_fromOf b_toOf b_moved b_captured b_fromOf_2 b_toOf_2 b_moved_2 b_captured_2) → (∀ j, j < l → b_tried_2 j = b_tried j ∧ b_top_2 j = b_top j) →
      (∀ e, d = e + 1 → l = 0 → g_bestMove_2 = xi (cd_bm (fun x => cd_val e (cd_nx B x) (1 - m)) (-5000) (-3) (cd_L B m))) → (l ≠ 0 → g_bestMove_2 = g_bestMove) →
      wY_search_182 post (wY_search_36 post (nI D) (1000001 - (i' + 1))) (nI D) (nI l) (nI i') g_playing g_mover_2 g_height_2 g_leaves_2 g_answer_2 g_bestMove_2 b_board_2 b_fromOf_2 b_toOf_2 b_moved_2 b_captured_2 b_past b_tried_2 b_top_2) →
    wY_search_36 post (nI D) (1000001 - i) (nI l) (nI i) g_playing g_mover g_height g_leaves g_answer g_bestMove b_board b_fromOf b_toOf b_moved b_captured b_past b_tried b_top := by
  intro d
  induction d with
  | zero =>
    intro l hlD B m h w w' hw hw' hG hh i N hi g_mover g_height g_leaves g_answer g_bestMove b_board b_fromOf b_toOf b_moved b_captured b_tried b_top hmo hht hb hlv htr htp hbm K
    have hi1 : i + 1 ≤ 999999 := hi
    have hl4 : l < 4 := by omega
    have hli : vp_in (nI l) 4 := vp_in_nI hl4 (by decide)
    have hlc : (nI l).toNatClampNeg = l := nI_clamp (by omega)
    have hDl : D = l := by omega
    have hv : yv_V B := hG.2.1.1
    have hfuel : 1000001 - i = (1000001 - (i + 1)) + 1 := by omega
    rw [hfuel, wY_search_36]
    refine pk_le 1000000 i (fun h => by omega) (fun _ => br_f (nI_pos (by omega)) (br_t (by rw [hDl]) ?_))
    unfold wY_search_67
    refine br_t (by decide) ?_
    rw [show nI D - nI l = nI 0 from by rw [hDl, pk_sub (Nat.le_refl _), Nat.sub_self]]
    refine yo_without (d := 0) hb hv hmo hG.1 ⟨hli, ?_⟩
    have HK : ∀ z : Int32, wY_search_156 post (wY_search_36 post (nI D) (1000001 - (i + 1))) (nI D) (nI l) (nI i) z g_playing g_mover g_height g_leaves g_answer g_bestMove b_board b_fromOf b_toOf b_moved b_captured b_past b_tried b_top := by
      intro z
      refine yg_156 hl4 (by omega) hb hv hmo hG.1 (fun _ => ?_) (fun h => absurd hDl.symm h)
      refine K _ _ _ _ _ _ _ _ _ _ _ _ i (Nat.le_refl _) hmo hht hb ?_ rfl yz_refl (fun _ _ => ⟨rfl, rfl⟩) (fun e he => by omega) (fun _ => rfl)
      rw [hlv, nI_1]; rfl
    exact br_c (fun _ => HK _) (fun _ => ⟨hli, HK _⟩)
  | succ d ihd =>
    intro l hlD B m h w w' hw hw' hG hh i N hi
    have hv : yv_V B := hG.2.1.1
    have hm := hG.1
    have hl4 : l < 4 := by omega
    have hli : vp_in (nI l) 4 := vp_in_nI hl4 (by decide)
    have hlc : (nI l).toNatClampNeg = l := nI_clamp (by omega)
    have hY : cs_Y (d + 1) w w' = 1 + w * (1 + cs_Y d w' w) := rfl
    rw [hY] at hi
    have hLw := ce_Llen hG.2.1 hm
    have hgb : ∀ y, -5000 < -(cd_val d (cd_nx B y) (1 - m)) ∧ -(cd_val d (cd_nx B y) (1 - m)) < 5000 := fun y => by
      have := cs_vb d (cd_nx B y) (1 - m); omega
    -- the loop over the pairs from p on
    have LOOP : ∀ (rest : List Nat) (p : Nat) (done : List Nat), yl_F B m p = rest → p ≤ 1296 → done ++ rest.map yl_c = cd_L B m → ∀ (i0 : Nat), i0 + rest.length * (1 + cs_Y d w' w) + 1 ≤ i + (1 + w * (1 + cs_Y d w' w)) →
        ∀ (g_mover g_height g_leaves g_answer g_bestMove : Int32) (b_board b_fromOf b_toOf b_moved b_captured b_tried b_top : Nat → Int32), g_mover = nI m → g_height = nI h → (b_board = fun s => nI (B s)) → g_leaves = nI (N + cd_su (fun x => cd_pf d (cd_nx B x) (1 - m)) done) → b_tried l = nI p → b_top l = xi (cd_mx (fun x => cd_val d (cd_nx B x) (1 - m)) (-5000) done) → (l = 0 → g_bestMove = xi (cd_bm (fun x => cd_val d (cd_nx B x) (1 - m)) (-5000) (-3) done)) →
        (∀ (g_mover_2 g_height_2 g_leaves_2 g_answer_2 g_bestMove_2 : Int32) (b_board_2 b_fromOf_2 b_toOf_2 b_moved_2 b_captured_2 b_tried_2 b_top_2 : Nat → Int32), ∀ i' : Nat, i' + 1 ≤ i + (1 + w * (1 + cs_Y d w' w)) → g_mover_2 = nI m → g_height_2 = nI h → (b_board_2 = fun s => nI (B s)) → g_leaves_2 = nI (N + cd_pf (d + 1) B m) → g_answer_2 = xi (cd_val (d + 1) B m) → (yf_Z h b_fromOf b_toOf b_moved b_captured b_fromOf_2 b_toOf_2 b_moved_2 b_captured_2) → (∀ j, j < l → b_tried_2 j = b_tried j ∧ b_top_2 j = b_top j) →
          (l = 0 → g_bestMove_2 = xi (cd_bm (fun x => cd_val d (cd_nx B x) (1 - m)) (-5000) (-3) (cd_L B m))) → (l ≠ 0 → g_bestMove_2 = g_bestMove) →
          wY_search_182 post (wY_search_36 post (nI D) (1000001 - (i' + 1))) (nI D) (nI l) (nI i') g_playing g_mover_2 g_height_2 g_leaves_2 g_answer_2 g_bestMove_2 b_board_2 b_fromOf_2 b_toOf_2 b_moved_2 b_captured_2 b_past b_tried_2 b_top_2) →
        wY_search_36 post (nI D) (1000001 - i0) (nI l) (nI i0) g_playing g_mover g_height g_leaves g_answer g_bestMove b_board b_fromOf b_toOf b_moved b_captured b_past b_tried b_top := by
      intro rest
      induction rest with
      | nil =>
        intro p done hF hp hdr i0 hi0 g_mover g_height g_leaves g_answer g_bestMove b_board b_fromOf b_toOf b_moved b_captured b_tried b_top hmo hht hb hlv htr htp hbm K
        rw [List.map_nil, List.append_nil] at hdr
        have hi0' : i0 + 1 ≤ i + (1 + w * (1 + cs_Y d w' w)) := by
          have : ([] : List Nat).length * (1 + cs_Y d w' w) = 0 := Nat.zero_mul _
          omega
        have hfuel : 1000001 - i0 = (1000001 - (i0 + 1)) + 1 := by omega
        rw [hfuel, wY_search_36]
        refine pk_le 1000000 i0 (fun h => by omega) (fun _ => br_f (nI_pos (by omega)) (pk_eq l D (fun h => by omega) (fun _ => ⟨hli, ?_⟩)))
        rw [hlc, htr]
        refine yl_nl hb hv hmo hm hht (by omega) hp ?_
        intro b_fromOf_3 b_toOf_3 b_moved_3 b_captured_3 q hZ3 hq
        have hq6 : q = 1296 := by
          rcases hq with h | h
          · exact h.1
          · rw [hF] at h; exact absurd h.2.2 (by simp)
        subst hq6
        dsimp only
        unfold wY_search_67
        refine br_t (by decide) ?_
        rw [show nI D - nI l = nI (d + 1) from by rw [pk_sub (by omega)]; congr 1; omega]
        refine yo_without hb hv hmo hm ⟨hli, ?_⟩
        rw [hlc, htp]
        have hub := cs_is (g := fun x => cd_val d (cd_nx B x) (1 - m)) done (-5000)
        have hTb : -5000 ≤ cd_mx (fun x => cd_val d (cd_nx B x) (1 - m)) (-5000) done ∧ cd_mx (fun x => cd_val d (cd_nx B x) (1 - m)) (-5000) done ≤ 5000 := by
          refine ⟨cs_ge _ _, ?_⟩
          rcases hub with e | ⟨x, _, e⟩
          · rw [e]; decide
          · rw [e]; exact Int.le_of_lt (hgb x).2
        have HK : ∀ z : Int, z = cd_val (d + 1) B m → wY_search_156 post (wY_search_36 post (nI D) (1000001 - (i0 + 1))) (nI D) (nI l) (nI i0) (xi z) g_playing g_mover g_height g_leaves g_answer g_bestMove b_board b_fromOf_3 b_toOf_3 b_moved_3 b_captured_3 b_past b_tried b_top := by
          intro z hz
          refine yg_156 hl4 (by omega) hb hv hmo hm (fun h => by omega) (fun _ => ?_)
          refine K _ _ _ _ _ _ _ _ _ _ _ _ i0 hi0' hmo hht hb ?_ (by rw [hz]) hZ3 (fun _ _ => ⟨rfl, rfl⟩) (fun h0 => by rw [hbm h0, hdr]) (fun _ => rfl)
          rw [hlv, hdr]; rfl
        rw [show (-5000 : Int32) = xi (-5000) from rfl, xi_le (by omega) (by decide)]
        refine br_c (fun hle => HK _ ?_) (fun hle => ⟨hli, HK _ ?_⟩)
        · have hL0 : cd_L B m = [] := by
            cases hl : cd_L B m with
            | nil => rfl
            | cons y ys =>
              exfalso
              have h1 := cs_up (g := fun x => cd_val d (cd_nx B x) (1 - m)) done (-5000) y (by rw [hdr, hl]; exact List.mem_cons_self)
              have h1 : -(cd_val d (cd_nx B y) (1 - m)) ≤ _ := h1
              have := (hgb y).1
              omega
          rw [cs_val0 hL0]
          have : (((d + 1 : Nat) : Int)) = (d : Int) + 1 := by omega
          rw [this]
        · have hL0 : cd_L B m ≠ [] := fun e => by
            rw [hdr, e] at hle
            exact hle (Int.le_refl _)
          rw [cs_val1 hL0, hdr]
      | cons q rest ih =>
        intro p done hF hp hdr i0 hi0 g_mover g_height g_leaves g_answer g_bestMove b_board b_fromOf b_toOf b_moved b_captured b_tried b_top hmo hht hb hlv htr htp hbm K
        have hqm : q ∈ yl_F B m p := by rw [hF]; exact List.mem_cons_self
        obtain ⟨q1, q2, q3⟩ := yl_mem hqm
        have hxL := yl_memL q2 q3
        have hGx := ce_Gx hG hxL
        obtain ⟨hf36, ht36, hlg⟩ := ce_L_mem.mp hxL
        have hwx : ∀ r, r < 2 → ce_ws (cd_nx B (yl_c q)) r ≤ ce_ws B r := fun r hr => ce_ws_mv hm hf36 ht36 (ce_lg hlg).1 hr
        have hwx1 := hwx (1 - m) (by omega)
        have hwx0 := hwx m hm
        have hnx := yl_nx (B := B) q2
        have hrl : (q :: rest).length * (1 + cs_Y d w' w) = rest.length * (1 + cs_Y d w' w) + (1 + cs_Y d w' w) := by rw [List.length_cons, Nat.add_mul, Nat.one_mul]
        rw [hrl] at hi0
        have hfuel : 1000001 - i0 = (1000001 - (i0 + 1)) + 1 := by omega
        rw [hfuel, wY_search_36]
        refine pk_le 1000000 i0 (fun h => by omega) (fun _ => br_f (nI_pos (by omega)) (pk_eq l D (fun h => by omega) (fun _ => ⟨hli, ?_⟩)))
        rw [hlc, htr]
        refine yl_nl hb hv hmo hm hht (by omega) hp ?_
        intro b_fromOf_3 b_toOf_3 b_moved_3 b_captured_3 q' hZ3 hq'
        have hqq : q' = q ∧ yl_F B m (q + 1) = rest := by
          rcases hq' with h | h
          · rw [hF] at h; exact absurd h.2 (by simp)
          · have h3 := h.2.2
            rw [hF] at h3
            injection h3 with e1 e2
            subst e1; exact ⟨rfl, e2.symm⟩
        obtain ⟨hqe, hF'⟩ := hqq
        subst hqe
        dsimp only
        unfold wY_search_67
        refine pk_le 1296 q' (fun h => by omega) (fun _ => ⟨hli, nm_r (e' := upd b_tried l (nI (q' + 1))) (by rw [hlc, nI_1]) ⟨by decide, by decide, ?_⟩⟩)
        rw [yl_r36 (by omega), yl_d36 (by omega)]
        refine ym_doMove hb hv hmo hm hht (by omega) (by omega) (by omega) ?_
        have hl1i : vp_in (nI (l + 1)) 4 := vp_in_nI (by omega) (by decide)
        have hl1c : (nI (l + 1)).toNatClampNeg = l + 1 := nI_clamp (by omega)
        refine nm_r (nI_1 l) ⟨hl1i, nm_r (e' := upd (upd b_tried l (nI (q' + 1))) (l + 1) (nI 0)) (by rw [hl1c]; rfl) ⟨hl1i, nm_r (e' := upd b_top (l + 1) (xi (-5000))) (by rw [hl1c]; rfl) (nm_r (nI_1 i0) ?_)⟩⟩
        refine ihd (l + 1) (by omega) (cd_nx B (yl_c q')) (1 - m) (h + 1) w' w (by omega) (by rw [cc_x11 hm]; omega) hGx (by omega) (i0 + 1) (N + cd_su (fun x => cd_pf d (cd_nx B x) (1 - m)) done) (by omega) _ _ _ _ _ _ _ _ _ _ _ _ rfl rfl (by rw [hnx]) hlv pk_us pk_us (fun h => absurd h (by omega)) ?_
        intro g_mover_4 g_height_4 g_leaves_4 g_answer_4 g_bestMove_4 b_board_4 b_fromOf_4 b_toOf_4 b_moved_4 b_captured_4 b_tried_4 b_top_4 i4 hi4 hmo4 hht4 hb4 hlv4 han4 hZ4 htt4 hbm4 hbm4'
        unfold wY_search_182
        refine nm_r (xc_m1 (l := l)) ?_
        obtain ⟨z1, z2, z3, z4⟩ := hZ4 h (by omega)
        obtain ⟨t1, t2⟩ := htt4 l (by omega)
        have hvb := cs_vb d (cd_nx B (yl_c q')) (1 - m)
        have hTb : -5000 ≤ cd_mx (fun x => cd_val d (cd_nx B x) (1 - m)) (-5000) done ∧ cd_mx (fun x => cd_val d (cd_nx B x) (1 - m)) (-5000) done ≤ 5000 := by
          refine ⟨cs_ge _ _, ?_⟩
          rcases cs_is (g := fun x => cd_val d (cd_nx B x) (1 - m)) done (-5000) with e | ⟨x, _, e⟩
          · rw [e]; decide
          · rw [e]; exact Int.le_of_lt (hgb x).2
        rw [hnx] at hb4
        refine yg_back (B := B) (m := m) (h := h) (q := q') hb4 hmo4 hm hht4 (by omega) q2 hl4 (by rw [z1, pk_us]) (by rw [z2, pk_us]) (by rw [z3, pk_us]) (by rw [z4, pk_us]) han4 ⟨by omega, by omega⟩ (by rw [t2, pk_un (by omega)]; exact htp) hTb (by rw [t1, pk_un (by omega), pk_us]) ?_
        intro bm tp hbm5 htp5 htp5'
        refine nm_r (nI_1 i4) (ih (q' + 1) (done ++ [yl_c q']) hF' (by omega) (by rw [← hdr]; simp) (i4 + 1) (by omega) _ _ _ _ _ _ _ _ _ _ _ _ rfl rfl rfl (by rw [hlv4, xc_su_app, Nat.add_assoc]) (by rw [t1, pk_un (by omega), pk_us]) (by rw [htp5, cs_app]; rfl) (fun h0 => ?_) ?_)
        · rw [hbm5, cs_bm_app, hbm4' (by omega)]
          by_cases hc : cd_mx (fun x => cd_val d (cd_nx B x) (1 - m)) (-5000) done < -(cd_val d (cd_nx B (yl_c q')) (1 - m))
          · rw [if_pos ⟨h0, hc⟩, if_pos hc, xi_nI]
          · rw [if_neg (fun h => hc h.2), if_neg hc]; exact hbm h0
        · intro g_mover_6 g_height_6 g_leaves_6 g_answer_6 g_bestMove_6 b_board_6 b_fromOf_6 b_toOf_6 b_moved_6 b_captured_6 b_tried_6 b_top_6 i6 hi6 hmo6 hht6 hb6 hlv6 han6 hZ6 htt6 hbm6 hbm6'
          refine K _ _ _ _ _ _ _ _ _ _ _ _ i6 hi6 hmo6 hht6 hb6 hlv6 han6 (yz_trans (Nat.le_refl _) (Nat.le_refl _) (yz_trans (Nat.le_refl _) (by omega) (yz_trans (Nat.le_refl _) (Nat.le_refl _) hZ3 yz_upd) hZ4) hZ6) (fun j hj => ?_) hbm6 (fun h0 => ?_)
          · obtain ⟨s1, s2⟩ := htt6 j hj
            obtain ⟨s3, s4⟩ := htt4 j (by omega)
            exact ⟨by rw [s1, s3, pk_un (by omega), pk_un (by omega)], by rw [s2, htp5' j (by omega), s4, pk_un (by omega)]⟩
          · rw [hbm6' h0, hbm5, if_neg (fun h => h0 h.1), hbm4' (by omega)]
    intro g_mover g_height g_leaves g_answer g_bestMove b_board b_fromOf b_toOf b_moved b_captured b_tried b_top hmo hht hb hlv htr htp hbm K
    have hlen : (yl_F B m 0).length * (1 + cs_Y d w' w) ≤ w * (1 + cs_Y d w' w) := Nat.mul_le_mul_right _ (by rw [yl_Llen]; omega)
    refine LOOP (yl_F B m 0) 0 [] rfl (by omega) (by rw [List.nil_append, ← yl_L]) i (by omega) _ _ _ _ _ _ _ _ _ _ _ _ hmo hht hb hlv htr htp hbm ?_
    intro g_mover_2 g_height_2 g_leaves_2 g_answer_2 g_bestMove_2 b_board_2 b_fromOf_2 b_toOf_2 b_moved_2 b_captured_2 b_tried_2 b_top_2 i2 hi2 hmo2 hht2 hb2 hlv2 han2 hZ2 htt2 hbm2 hbm2'
    exact K _ _ _ _ _ _ _ _ _ _ _ _ i2 hi2 hmo2 hht2 hb2 hlv2 han2 hZ2 htt2 (fun e he h0 => by
      have : e = d := by omega
      subst this; exact hbm2 h0) hbm2'
end
end
section
/-! ===== the reference: search as a whole, mates ===== -/
section
variable {g_playing g_mover g_height g_leaves g_answer g_bestMove : Int32} {b_board b_fromOf b_toOf b_moved b_captured b_past b_tried b_top : Nat → Int32} {post : SY → Prop} {D : Nat} {B : Nat → Nat} {m h : Nat}
theorem ys_search (hD : D ≤ 3) (hG : cd_G B m) (hh : h ≤ 60) (hmo : g_mover = nI m) (hht : g_height = nI h) (hb : b_board = fun s => nI (B s))
    (C : ∀ (g_mover_2 g_height_2 g_leaves_2 g_answer_2 g_bestMove_2 : Int32) (b_board_2 b_fromOf_2 b_toOf_2 b_moved_2 b_captured_2 b_tried_2 b_top_2 : Nat → Int32), g_mover_2 = nI m → g_height_2 = nI h → (b_board_2 = fun s => nI (B s)) → g_leaves_2 = nI (cd_pf D B m) → g_answer_2 = xi (cd_val D B m) → (yf_Z h b_fromOf b_toOf b_moved b_captured b_fromOf_2 b_toOf_2 b_moved_2 b_captured_2) → (∀ e, D = e + 1 → g_bestMove_2 = xi (cd_bm (fun x => cd_val e (cd_nx B x) (1 - m)) (-5000) (-3) (cd_L B m))) → post (g_playing, g_mover_2, g_height_2, g_leaves_2, g_answer_2, g_bestMove_2, b_board_2, b_fromOf_2, b_toOf_2, b_moved_2, b_captured_2, b_past, b_tried_2, b_top_2)) : wpY_search post (g_playing, g_mover, g_height, g_leaves, g_answer, g_bestMove, b_board, b_fromOf, b_toOf, b_moved, b_captured, b_past, b_tried, b_top) (nI D) := by
  have h92 := ce_ws92 hG
  have hmm := hG.1
  have hm01 : m = 0 ∨ m = 1 := by omega
  have hws : ce_ws B m + ce_ws B (1 - m) ≤ 92 := by
    rcases hm01 with rfl | rfl
    · exact h92
    · rw [Nat.add_comm]; exact h92
  have hbd : cs_Y D (ce_ws B m) (ce_ws B (1 - m)) ≤ 900000 := by
    have := cs_C4 (ce_ws B m) (by omega) (ce_ws B (1 - m)) (by omega) hws
    have hD4 : D = 0 ∨ D = 1 ∨ D = 2 ∨ D = 3 := by omega
    rcases hD4 with rfl | rfl | rfl | rfl
    · exact (by decide : 1 ≤ 900000)
    · exact this.2.2.2.2.2.2
    · exact this.2.2.2.2.2.1
    · exact this.2.2.2.2.1
  refine nm_e (nm_e ⟨1000001 - 0, ?_⟩)
  refine ys_loop hD D 0 (by omega) B m h _ _ (Nat.le_refl _) (Nat.le_refl _) hG (by omega) 0 0 (by omega) _ _ _ _ _ _ _ _ _ _ _ _ hmo hht hb rfl pk_us pk_us (fun _ => rfl) ?_
  intro g_mover_2 g_height_2 g_leaves_2 g_answer_2 g_bestMove_2 b_board_2 b_fromOf_2 b_toOf_2 b_moved_2 b_captured_2 b_tried_2 b_top_2 i2 hi2 hmo2 hht2 hb2 hlv2 han2 hZ2 htt2 hbm2 hbm2'
  unfold wY_search_182
  refine nm_e (br_f (by decide) (nm_r (nI_1 i2) ?_))
  have hfuel : 1000001 - (i2 + 1) = (1000001 - (i2 + 2)) + 1 := by omega
  rw [hfuel, wY_search_36]
  refine pk_le 1000000 (i2 + 1) (fun h => by omega) (fun _ => br_t (by decide) ?_)
  exact C _ _ _ _ _ _ _ _ _ _ _ _ hmo2 hht2 hb2 (by rw [hlv2, Nat.zero_add]) han2 hZ2 (fun e he => hbm2 e he rfl)
end
theorem ye_cm {B : Nat → Nat} {m : Nat} : cd_cm B m = true ↔ ∃ q, q < 1296 ∧ yl_g B m q = true ∧ cd_md (cd_mv B (q / 36) (q % 36)) (1 - m) = true := by
  unfold cd_cm
  rw [List.any_eq_true, yl_L]
  constructor
  · rintro ⟨x, hx, h⟩
    obtain ⟨q, hq, rfl⟩ := List.mem_map.mp hx
    obtain ⟨_, q2, q3⟩ := yl_mem hq
    rw [yl_nx q2] at h
    exact ⟨q, q2, q3, h⟩
  · rintro ⟨q, q2, q3, h⟩
    refine ⟨yl_c q, List.mem_map.mpr ⟨q, ?_, rfl⟩, by rw [yl_nx q2]; exact h⟩
    unfold yl_F; rw [List.mem_filter]; exact ⟨List.mem_range.mpr q2, by rw [q3]; simp⟩
theorem ye_mt {B : Nat → Nat} {m : Nat} : cd_mt B m = true ↔ ∃ q, q < 1296 ∧ yl_g B m q = true ∧ cd_il (cd_mv B (q / 36) (q % 36)) (1 - m) = true := by
  unfold cd_mt
  rw [List.any_eq_true, yl_L]
  constructor
  · rintro ⟨x, hx, h⟩
    obtain ⟨q, hq, rfl⟩ := List.mem_map.mp hx
    obtain ⟨_, q2, q3⟩ := yl_mem hq
    rw [yl_nx q2] at h
    exact ⟨q, q2, q3, h⟩
  · rintro ⟨q, q2, q3, h⟩
    refine ⟨yl_c q, List.mem_map.mpr ⟨q, ?_, rfl⟩, by rw [yl_nx q2]; exact h⟩
    unfold yl_F; rw [List.mem_filter]; exact ⟨List.mem_range.mpr q2, by rw [q3]; simp⟩
theorem ye_il {B : Nat → Nat} {m : Nat} (hne : cd_L B m ≠ []) : cd_il B m = true ↔ ∀ q, q < 1296 → yl_g B m q = true → cd_cm (cd_mv B (q / 36) (q % 36)) (1 - m) = true := by
  unfold cd_il
  rw [if_neg hne, List.all_eq_true]
  constructor
  · intro h q q2 q3
    have := h (yl_c q) (yl_memL q2 q3)
    rw [yl_nx q2] at this; exact this
  · intro h x hx
    rw [yl_L] at hx
    obtain ⟨q, hq, rfl⟩ := List.mem_map.mp hx
    obtain ⟨_, q2, q3⟩ := yl_mem hq
    rw [yl_nx q2]; exact h q q2 q3
theorem ye_L0 {B : Nat → Nat} {m : Nat} : yl_F B m 0 = [] ↔ cd_L B m = [] := by
  rw [yl_L]; exact ⟨fun h => by rw [h]; rfl, fun h => List.map_eq_nil_iff.mp h⟩
section
variable {g_playing g_mover g_height g_leaves g_answer g_bestMove : Int32} {b_board b_fromOf b_toOf b_moved b_captured b_past b_tried b_top : Nat → Int32} {post : Int32 → SY → Prop} {B : Nat → Nat} {m h : Nat}
theorem ye_cm2 (hv : yv_V B) (hm : m < 2) (hh70 : h + 2 ≤ 70) :
    ∀ (k p : Nat), p + k = 1296 → (∀ q, q < p → yl_g B m q = true → cd_md (cd_mv B (q / 36) (q % 36)) (1 - m) = false) → ∀ (b_fromOf b_toOf b_moved b_captured : Nat → Int32),
    (∀ (b_fromOf_2 b_toOf_2 b_moved_2 b_captured_2 : Nat → Int32), (yf_Z h b_fromOf b_toOf b_moved b_captured b_fromOf_2 b_toOf_2 b_moved_2 b_captured_2) → post (xb_b (cd_cm B m)) (g_playing, nI m, nI h, g_leaves, g_answer, g_bestMove, fun s => nI (B s), b_fromOf_2, b_toOf_2, b_moved_2, b_captured_2, b_past, b_tried, b_top)) → wY_canMate_2 post (k + 1) (nI p) g_playing (nI m) (nI h) g_leaves g_answer g_bestMove (fun s => nI (B s)) b_fromOf b_toOf b_moved b_captured b_past b_tried b_top := by
  intro k
  induction k with
  | zero =>
    intro p hp hno b_fromOf b_toOf b_moved b_captured C
    rw [wY_canMate_2]
    have : cd_cm B m = false := by
      cases hc : cd_cm B m with
      | false => rfl
      | true =>
        obtain ⟨q, q1, q2, q3⟩ := ye_cm.mp hc
        rw [hno q (by omega) q2] at q3; exact absurd q3 (by decide)
    rw [this] at C
    exact pk_le 1296 p (fun _ => C _ _ _ _ yz_refl) (fun h => by omega)
  | succ k ih =>
    intro p hp hno b_fromOf b_toOf b_moved b_captured C
    rw [wY_canMate_2]
    have hp6 : p < 1296 := by omega
    refine pk_le 1296 p (fun h => by omega) (fun _ => ⟨by decide, by decide, yl_leg rfl hv rfl hm rfl (by omega) hp6 ?_⟩)
    intro b_fromOf_2 b_toOf_2 b_moved_2 b_captured_2 hZ
    have NEXT : ∀ (b_fromOf_5 b_toOf_5 b_moved_5 b_captured_5 : Nat → Int32), (yf_Z h b_fromOf b_toOf b_moved b_captured b_fromOf_5 b_toOf_5 b_moved_5 b_captured_5) → (yl_g B m p = true → cd_md (cd_mv B (p / 36) (p % 36)) (1 - m) = false) → wY_canMate_2 post (k + 1) (nI (p + 1)) g_playing (nI m) (nI h) g_leaves g_answer g_bestMove (fun s => nI (B s)) b_fromOf_5 b_toOf_5 b_moved_5 b_captured_5 b_past b_tried b_top := by
      intro b_fromOf_5 b_toOf_5 b_moved_5 b_captured_5 hZ5 hn
      refine ih (p + 1) (by omega) (fun q hq hg => ?_) _ _ _ _ ?_
      · by_cases e : q = p
        · rw [e] at hg ⊢; exact hn hg
        · exact hno q (by omega) hg
      · intro b_fromOf_6 b_toOf_6 b_moved_6 b_captured_6 hZ6
        exact C _ _ _ _ (yz_trans (Nat.le_refl _) (Nat.le_refl _) hZ5 hZ6)
    cases hg : yl_g B m p with
    | false => exact br_t rfl (nm_r (nI_1 p) (NEXT _ _ _ _ hZ (fun h => by rw [hg] at h; exact absurd h (by decide))))
    | true =>
      refine br_f (by decide) ⟨by decide, by decide, ?_⟩
      dsimp only
      rw [yl_r36 (by omega), yl_d36 (by omega)]
      refine ym_doMove rfl hv rfl hm rfl (by omega) (by omega) (by omega) ?_
      dsimp only
      have hv' := yv_mv (t := p % 36) hv (f := p / 36) (by omega)
      have H63 : ∀ (z : Bool), ∀ (b_fromOf_4 b_toOf_4 b_moved_4 b_captured_4 : Nat → Int32), z = cd_md (cd_mv B (p / 36) (p % 36)) (1 - m) → (yf_Z h b_fromOf_2 b_toOf_2 b_moved_2 b_captured_2 b_fromOf_4 b_toOf_4 b_moved_4 b_captured_4) → b_fromOf_4 h = nI (p / 36) → b_toOf_4 h = nI (p % 36) → b_moved_4 h = nI (B (p / 36)) → b_captured_4 h = nI (B (p % 36)) → wY_canMate_63 post (wY_canMate_2 post (k + 1)) (nI p) (xb_b z) g_playing (nI (1 - m)) (nI (h + 1)) g_leaves g_answer g_bestMove (fun s => nI (cd_mv B (p / 36) (p % 36) s)) b_fromOf_4 b_toOf_4 b_moved_4 b_captured_4 b_past b_tried b_top := by
        intro z
        intro b_fromOf_4 b_toOf_4 b_moved_4 b_captured_4 hz hZ4 e1 e2 e3 e4
        unfold wY_canMate_63
        refine ym_undo rfl rfl hm rfl (by omega) (by omega) (by omega) e1 e2 e3 e4 ?_
        cases z with
        | false => exact br_t rfl (nm_r (nI_1 p) (NEXT _ _ _ _ (yz_trans (Nat.le_refl _) (Nat.le_refl _) hZ hZ4) (fun _ => hz.symm)))
        | true =>
          have : cd_cm B m = true := ye_cm.mpr ⟨p, hp6, hg, hz.symm⟩
          rw [this] at C
          exact br_f (by decide) (C _ _ _ _ (yz_trans (Nat.le_refl _) (Nat.le_refl _) hZ hZ4))
      refine ym_ck (B := cd_mv B (p / 36) (p % 36)) rfl hv' (by omega) ?_
      cases hck : cd_ck (cd_mv B (p / 36) (p % 36)) (1 - m) with
      | false => exact br_t rfl (H63 false _ _ _ _ (by unfold cd_md; rw [hck]; rfl) yz_upd pk_us pk_us pk_us pk_us)
      | true =>
        refine br_f (by decide) (yl_nl (p := 0) (h := h + 1) rfl hv' rfl (by omega) rfl (by omega) (by omega) ?_)
        intro b_fromOf_3 b_toOf_3 b_moved_3 b_captured_3 q hZ3 hq
        obtain ⟨z1, z2, z3, z4⟩ := hZ3 h (by omega)
        dsimp only
        have hq6 : q ≤ 1296 := by omega
        refine pk_eq q 1296 (fun hqe => ?_) (fun hqe => ?_)
        · refine H63 true _ _ _ _ ?_ (yz_trans (Nat.le_refl _) (by omega) yz_upd hZ3) (by rw [z1, pk_us]) (by rw [z2, pk_us]) (by rw [z3, pk_us]) (by rw [z4, pk_us])
          have hL0 : cd_L (cd_mv B (p / 36) (p % 36)) (1 - m) = [] := by
            rcases hq with h | h
            · exact ye_L0.mp h.2
            · omega
          unfold cd_md; rw [hck, hL0]; rfl
        · refine H63 false _ _ _ _ ?_ (yz_trans (Nat.le_refl _) (by omega) yz_upd hZ3) (by rw [z1, pk_us]) (by rw [z2, pk_us]) (by rw [z3, pk_us]) (by rw [z4, pk_us])
          have hL0 : cd_L (cd_mv B (p / 36) (p % 36)) (1 - m) ≠ [] := fun e => by
            rcases hq with h | h
            · exact hqe h.1
            · rw [ye_L0.mpr e] at h; exact absurd h.2.2 (by simp)
          unfold cd_md
          have : (cd_L (cd_mv B (p / 36) (p % 36)) (1 - m)).isEmpty = false := by
            cases hl : cd_L (cd_mv B (p / 36) (p % 36)) (1 - m) with
            | nil => exact absurd hl hL0
            | cons a l => rfl
          rw [this, Bool.and_false]
theorem ye_canMate (hv : yv_V B) (hm : m < 2) (hh70 : h + 2 ≤ 70) (C : ∀ (b_fromOf_2 b_toOf_2 b_moved_2 b_captured_2 : Nat → Int32), (yf_Z h b_fromOf b_toOf b_moved b_captured b_fromOf_2 b_toOf_2 b_moved_2 b_captured_2) → post (xb_b (cd_cm B m)) (g_playing, nI m, nI h, g_leaves, g_answer, g_bestMove, fun s => nI (B s), b_fromOf_2, b_toOf_2, b_moved_2, b_captured_2, b_past, b_tried, b_top)) :
    wpY_canMate post (g_playing, nI m, nI h, g_leaves, g_answer, g_bestMove, fun s => nI (B s), b_fromOf, b_toOf, b_moved, b_captured, b_past, b_tried, b_top) :=
  ⟨1297, ye_cm2 hv hm hh70 1296 0 rfl (fun q hq => by omega) _ _ _ _ C⟩
theorem ye_il22 (hne : cd_L B m ≠ []) (hv : yv_V B) (hm : m < 2) (hh70 : h + 3 ≤ 70) :
    ∀ (k p : Nat), p + k = 1296 → (∀ q, q < p → yl_g B m q = true → cd_cm (cd_mv B (q / 36) (q % 36)) (1 - m) = true) → ∀ (b_fromOf b_toOf b_moved b_captured : Nat → Int32),
    (∀ (b_fromOf_2 b_toOf_2 b_moved_2 b_captured_2 : Nat → Int32), (yf_Z h b_fromOf b_toOf b_moved b_captured b_fromOf_2 b_toOf_2 b_moved_2 b_captured_2) → post (xb_b (cd_il B m)) (g_playing, nI m, nI h, g_leaves, g_answer, g_bestMove, fun s => nI (B s), b_fromOf_2, b_toOf_2, b_moved_2, b_captured_2, b_past, b_tried, b_top)) → wY_isLost_22 post (k + 1) (nI p) g_playing (nI m) (nI h) g_leaves g_answer g_bestMove (fun s => nI (B s)) b_fromOf b_toOf b_moved b_captured b_past b_tried b_top := by
  intro k
  induction k with
  | zero =>
    intro p hp hall b_fromOf b_toOf b_moved b_captured C
    rw [wY_isLost_22]
    rw [(ye_il hne).mpr fun q q1 q2 => hall q (by omega) q2] at C
    exact pk_le 1296 p (fun _ => C _ _ _ _ yz_refl) (fun h => by omega)
  | succ k ih =>
    intro p hp hall b_fromOf b_toOf b_moved b_captured C
    rw [wY_isLost_22]
    have hp6 : p < 1296 := by omega
    refine pk_le 1296 p (fun h => by omega) (fun _ => ⟨by decide, by decide, yl_leg rfl hv rfl hm rfl (by omega) hp6 ?_⟩)
    intro b_fromOf_2 b_toOf_2 b_moved_2 b_captured_2 hZ
    have NEXT : ∀ (b_fromOf_5 b_toOf_5 b_moved_5 b_captured_5 : Nat → Int32), (yf_Z h b_fromOf b_toOf b_moved b_captured b_fromOf_5 b_toOf_5 b_moved_5 b_captured_5) → (yl_g B m p = true → cd_cm (cd_mv B (p / 36) (p % 36)) (1 - m) = true) → wY_isLost_22 post (k + 1) (nI (p + 1)) g_playing (nI m) (nI h) g_leaves g_answer g_bestMove (fun s => nI (B s)) b_fromOf_5 b_toOf_5 b_moved_5 b_captured_5 b_past b_tried b_top := by
      intro b_fromOf_5 b_toOf_5 b_moved_5 b_captured_5 hZ5 hn
      refine ih (p + 1) (by omega) (fun q hq hg => ?_) _ _ _ _ ?_
      · by_cases e : q = p
        · rw [e] at hg ⊢; exact hn hg
        · exact hall q (by omega) hg
      · intro b_fromOf_6 b_toOf_6 b_moved_6 b_captured_6 hZ6
        exact C _ _ _ _ (yz_trans (Nat.le_refl _) (Nat.le_refl _) hZ5 hZ6)
    cases hg : yl_g B m p with
    | false => exact br_t rfl (nm_r (nI_1 p) (NEXT _ _ _ _ hZ (fun h => by rw [hg] at h; exact absurd h (by decide))))
    | true =>
      refine br_f (by decide) ⟨by decide, by decide, ?_⟩
      dsimp only
      rw [yl_r36 (by omega), yl_d36 (by omega)]
      refine ym_doMove rfl hv rfl hm rfl (by omega) (by omega) (by omega) ?_
      dsimp only
      have hv' := yv_mv (t := p % 36) hv (f := p / 36) (by omega)
      refine ye_canMate hv' (by omega) (by omega) ?_
      intro b_fromOf_3 b_toOf_3 b_moved_3 b_captured_3 hZ3
      obtain ⟨z1, z2, z3, z4⟩ := hZ3 h (by omega)
      have hZ23 : (yf_Z h b_fromOf b_toOf b_moved b_captured b_fromOf_3 b_toOf_3 b_moved_3 b_captured_3) := yz_trans (Nat.le_refl _) (Nat.le_refl _) hZ (yz_trans (h := h) (Nat.le_refl _) (by omega) yz_upd hZ3)
      dsimp only
      refine ym_undo rfl rfl hm rfl (by omega) (by omega) (by omega) (by rw [z1, pk_us]) (by rw [z2, pk_us]) (by rw [z3, pk_us]) (by rw [z4, pk_us]) ?_
      cases hcm : cd_cm (cd_mv B (p / 36) (p % 36)) (1 - m) with
      | false =>
        have : cd_il B m = false := by
          cases hc : cd_il B m with
          | false => rfl
          | true => rw [(ye_il hne).mp hc p hp6 hg] at hcm; exact absurd hcm (by decide)
        rw [this] at C
        exact br_t rfl (C _ _ _ _ hZ23)
      | true => exact br_f (by decide) (nm_r (nI_1 p) (NEXT _ _ _ _ hZ23 (fun _ => hcm)))
theorem ye_isLost (hv : yv_V B) (hm : m < 2) (hh70 : h + 3 ≤ 70) (C : ∀ (b_fromOf_2 b_toOf_2 b_moved_2 b_captured_2 : Nat → Int32), (yf_Z h b_fromOf b_toOf b_moved b_captured b_fromOf_2 b_toOf_2 b_moved_2 b_captured_2) → post (xb_b (cd_il B m)) (g_playing, nI m, nI h, g_leaves, g_answer, g_bestMove, fun s => nI (B s), b_fromOf_2, b_toOf_2, b_moved_2, b_captured_2, b_past, b_tried, b_top)) :
    wpY_isLost post (g_playing, nI m, nI h, g_leaves, g_answer, g_bestMove, fun s => nI (B s), b_fromOf, b_toOf, b_moved, b_captured, b_past, b_tried, b_top) := by
  unfold wpY_isLost
  refine yl_nl (p := 0) rfl hv rfl hm rfl (by omega) (by omega) ?_
  intro b_fromOf_3 b_toOf_3 b_moved_3 b_captured_3 q hZ3 hq
  dsimp only
  have hq6 : q ≤ 1296 := by omega
  refine pk_eq q 1296 (fun hqe => ?_) (fun hqe => ?_)
  · have hL0 : cd_L B m = [] := by
      rcases hq with h | h
      · exact ye_L0.mp h.2
      · omega
    refine ym_ck rfl hv hm ⟨by cases cd_ck B m <;> rfl, ?_⟩
    have := C _ _ _ _ hZ3
    unfold cd_il at this
    rw [if_pos hL0] at this
    exact this
  · have hL0 : cd_L B m ≠ [] := fun e => by
      rcases hq with h | h
      · exact hqe h.1
      · rw [ye_L0.mpr e] at h; exact absurd h.2.2 (by simp)
    refine ⟨1297, ye_il22 hL0 hv hm hh70 1296 0 rfl (fun q hq => by omega) _ _ _ _ ?_⟩
    intro b_fromOf_4 b_toOf_4 b_moved_4 b_captured_4 hZ4
    exact C _ _ _ _ (yz_trans (Nat.le_refl _) (Nat.le_refl _) hZ3 hZ4)
theorem ye_87 {b : Bool} (C : post (xb_b b) (g_playing, g_mover, g_height, g_leaves, g_answer, g_bestMove, b_board, b_fromOf, b_toOf, b_moved, b_captured, b_past, b_tried, b_top)) : wY_mate_87 post (xb_b b) g_playing g_mover g_height g_leaves g_answer g_bestMove b_board b_fromOf b_toOf b_moved b_captured b_past b_tried b_top := by
  unfold wY_mate_87
  cases b with
  | false => exact br_t rfl C
  | true => exact br_f (by decide) C
theorem ye_m29 (hv : yv_V B) (hm : m < 2) (hh70 : h + 4 ≤ 70) :
    ∀ (k p : Nat), p + k = 1296 → ∀ (b : Bool), (b = true → cd_mt B m = true) → (b = false → ∀ q, q < p → yl_g B m q = true → cd_il (cd_mv B (q / 36) (q % 36)) (1 - m) = false) → ∀ (b_fromOf b_toOf b_moved b_captured : Nat → Int32),
    (∀ (b_fromOf_2 b_toOf_2 b_moved_2 b_captured_2 : Nat → Int32), (yf_Z h b_fromOf b_toOf b_moved b_captured b_fromOf_2 b_toOf_2 b_moved_2 b_captured_2) → post (xb_b (cd_mt B m)) (g_playing, nI m, nI h, g_leaves, g_answer, g_bestMove, fun s => nI (B s), b_fromOf_2, b_toOf_2, b_moved_2, b_captured_2, b_past, b_tried, b_top)) → wY_mate_29 post 2 (k + 1) (xb_b b) (nI p) g_playing (nI m) (nI h) g_leaves g_answer g_bestMove (fun s => nI (B s)) b_fromOf b_toOf b_moved b_captured b_past b_tried b_top := by
  intro k
  induction k with
  | zero =>
    intro p hp b hb1 hb0 b_fromOf b_toOf b_moved b_captured C
    rw [wY_mate_29]
    have : cd_mt B m = b := by
      cases b with
      | true => exact hb1 rfl
      | false =>
        cases hc : cd_mt B m with
        | false => rfl
        | true =>
          obtain ⟨q, q1, q2, q3⟩ := ye_mt.mp hc
          rw [hb0 rfl q (by omega) q2] at q3; exact absurd q3 (by decide)
    rw [this] at C
    exact pk_le 1296 p (fun _ => ye_87 (C _ _ _ _ yz_refl)) (fun h => by omega)
  | succ k ih =>
    intro p hp b hb1 hb0 b_fromOf b_toOf b_moved b_captured C
    rw [wY_mate_29]
    have hp6 : p < 1296 := by omega
    refine pk_le 1296 p (fun h => by omega) (fun _ => br_t rfl ?_)
    cases b with
    | true =>
      rw [hb1 rfl] at C
      exact br_f (by decide) (ye_87 (b := true) (C _ _ _ _ yz_refl))
    | false =>
      refine br_t rfl ⟨by decide, by decide, yl_leg rfl hv rfl hm rfl (by omega) hp6 ?_⟩
      intro b_fromOf_2 b_toOf_2 b_moved_2 b_captured_2 hZ
      cases hg : yl_g B m p with
      | false =>
        refine br_t rfl (nm_r (nI_1 p) (ih (p + 1) (by omega) false (fun h => absurd h (by decide)) (fun _ q hq hgq => ?_) _ _ _ _ ?_))
        · by_cases e : q = p
          · rw [e, hg] at hgq; exact absurd hgq (by decide)
          · exact hb0 rfl q (by omega) hgq
        · intro b_fromOf_6 b_toOf_6 b_moved_6 b_captured_6 hZ6
          exact C _ _ _ _ (yz_trans (Nat.le_refl _) (Nat.le_refl _) hZ hZ6)
      | true =>
        refine br_f (by decide) ⟨by decide, by decide, ?_⟩
        dsimp only
        rw [yl_r36 (by omega), yl_d36 (by omega)]
        refine ym_doMove rfl hv rfl hm rfl (by omega) (by omega) (by omega) ?_
        dsimp only
        have hv' := yv_mv (t := p % 36) hv (f := p / 36) (by omega)
        refine ye_isLost hv' (by omega) (by omega) ?_
        intro b_fromOf_3 b_toOf_3 b_moved_3 b_captured_3 hZ3
        obtain ⟨z1, z2, z3, z4⟩ := hZ3 h (by omega)
        have hZ23 : (yf_Z h b_fromOf b_toOf b_moved b_captured b_fromOf_3 b_toOf_3 b_moved_3 b_captured_3) := yz_trans (Nat.le_refl _) (Nat.le_refl _) hZ (yz_trans (h := h) (Nat.le_refl _) (by omega) yz_upd hZ3)
        dsimp only
        refine ym_undo rfl rfl hm rfl (by omega) (by omega) (by omega) (by rw [z1, pk_us]) (by rw [z2, pk_us]) (by rw [z3, pk_us]) (by rw [z4, pk_us]) ?_
        refine nm_r (nI_1 p) (ih (p + 1) (by omega) _ (fun hi => ye_mt.mpr ⟨p, hp6, hg, hi⟩) (fun hi q hq hgq => ?_) _ _ _ _ ?_)
        · by_cases e : q = p
          · rw [e]; exact hi
          · exact hb0 rfl q (by omega) hgq
        · intro b_fromOf_6 b_toOf_6 b_moved_6 b_captured_6 hZ6
          exact C _ _ _ _ (yz_trans (Nat.le_refl _) (Nat.le_refl _) hZ23 hZ6)
end
end
section
/-! ===== the component: whole searches, positions of the game ===== -/
theorem xp_ws {B : Nat → Nat} {m : Nat} (hG : cd_G B m) : ce_ws B m + ce_ws B (1 - m) ≤ 92 := by
  have h92 := ce_ws92 hG
  have hmm := hG.1
  have hm01 : m = 0 ∨ m = 1 := by omega
  rcases hm01 with rfl | rfl
  · exact h92
  · rw [Nat.add_comm]; exact h92
theorem xp_v {post : Int32 → SX → Prop} {x y : Int32} {u : SX} (e : x = y) (h : post y u) : post x u := by rw [e]; exact h
section
variable {f_going f_mover f_made f_played : Int32} {f_shields : Int64} {f_settled f_rootMove : Int32} {f_word0 f_word1 f_word2 f_word3 : Int64} {a_nextTo a_leaps a_pawnHits a_line : Nat → Int64} {a_at : Nat → Int32} {a_squaresOf a_held : Nat → Int64} {a_kingAt a_quiet : Nat → Int32} {a_positions : Nat → Int64} {a_playedMove a_playedPiece a_playedTaken a_moveList a_listEnd a_nextMove : Nat → Int32} {a_shieldLine : Nat → Int64} {a_left a_low a_firstLow a_high a_most a_rows : Nat → Int32} {a_knownWords : Nat → Int64} {a_knownMover a_knownDepth a_knownKind a_knownNumber : Nat → Int32} {post : Int32 → SX → Prop} {B : Nat → Nat} {m h D : Nat} {lo hi : Int}
theorem xp_search (hS : (xc_S B m h f_mover f_played a_nextTo a_leaps a_pawnHits a_line a_at a_squaresOf a_held a_kingAt a_knownWords a_knownMover a_knownDepth a_knownKind a_knownNumber)) (hD : D ≤ 4) (hh : h ≤ 60) (hlo : -5000 ≤ lo) (hhi : hi ≤ 5000) (hlh : lo < hi)
    (C : ∀ (f_mover_2 f_played_2 : Int32) (f_shields_2 : Int64) (f_settled_2 f_rootMove_2 : Int32) (f_word0_2 f_word1_2 f_word2_2 f_word3_2 : Int64) (a_at_2 : Nat → Int32) (a_squaresOf_2 a_held_2 : Nat → Int64) (a_kingAt_2 a_playedMove_2 a_playedPiece_2 a_playedTaken_2 a_moveList_2 a_listEnd_2 a_nextMove_2 : Nat → Int32) (a_shieldLine_2 : Nat → Int64) (a_left_2 a_low_2 a_firstLow_2 a_high_2 a_most_2 : Nat → Int32) (a_knownWords_2 : Nat → Int64) (a_knownMover_2 a_knownDepth_2 a_knownKind_2 a_knownNumber_2 : Nat → Int32), ∀ r : Int, (xc_S B m h f_mover_2 f_played_2 a_nextTo a_leaps a_pawnHits a_line a_at_2 a_squaresOf_2 a_held_2 a_kingAt_2 a_knownWords_2 a_knownMover_2 a_knownDepth_2 a_knownKind_2 a_knownNumber_2) → (xf_E 0 h a_moveList a_listEnd a_nextMove a_left a_low a_firstLow a_high a_most a_playedMove a_playedPiece a_playedTaken a_moveList_2 a_listEnd_2 a_nextMove_2 a_left_2 a_low_2 a_firstLow_2 a_high_2 a_most_2 a_playedMove_2 a_playedPiece_2 a_playedTaken_2) → -5000 ≤ r → r ≤ 5000 → cs_R (cd_val D B m) r lo hi → (∀ e, D = e + 1 → lo = -5000 → hi = 5000 → f_rootMove_2 = xi (cd_bm (fun x => cd_val e (cd_nx B x) (1 - m)) (-5000) (-1) (cd_L B m))) → post (xi r) (f_going, f_mover_2, f_made, f_played_2, f_shields_2, f_settled_2, f_rootMove_2, f_word0_2, f_word1_2, f_word2_2, f_word3_2, a_nextTo, a_leaps, a_pawnHits, a_line, a_at_2, a_squaresOf_2, a_held_2, a_kingAt_2, a_quiet, a_positions, a_playedMove_2, a_playedPiece_2, a_playedTaken_2, a_moveList_2, a_listEnd_2, a_nextMove_2, a_shieldLine_2, a_left_2, a_low_2, a_firstLow_2, a_high_2, a_most_2, a_rows, a_knownWords_2, a_knownMover_2, a_knownDepth_2, a_knownKind_2, a_knownNumber_2)) :
    wpX_search post (f_going, f_mover, f_made, f_played, f_shields, f_settled, f_rootMove, f_word0, f_word1, f_word2, f_word3, a_nextTo, a_leaps, a_pawnHits, a_line, a_at, a_squaresOf, a_held, a_kingAt, a_quiet, a_positions, a_playedMove, a_playedPiece, a_playedTaken, a_moveList, a_listEnd, a_nextMove, a_shieldLine, a_left, a_low, a_firstLow, a_high, a_most, a_rows, a_knownWords, a_knownMover, a_knownDepth, a_knownKind, a_knownNumber) (nI D) (xi lo) (xi hi) := by
  have hG : cd_G B m := hS.2.2.2.1
  unfold wpX_search
  refine xo_open (l := 0) (h := h) hS (by decide) hD hlo hhi hlh ?_ ?_
  · intro f_shields_2 f_settled_2 f_word0_2 f_word1_2 f_word2_2 f_word3_2 a_moveList_2 a_listEnd_2 a_nextMove_2 a_shieldLine_2 a_left_2 a_low_2 a_firstLow_2 a_high_2 a_most_2 s hst hs1 hs2 hR hE hL
    subst hst
    refine ⟨1, ?_⟩
    rw [wX_search_21]
    refine br_f (by decide) (br_t rfl ?_)
    refine C _ _ _ _ _ _ _ _ _ _ _ _ _ _ _ _ _ _ _ _ _ _ _ _ _ _ _ _ _ _ s hS hE hs1 hs2 hR (fun e he _ _ => ?_)
    rw [hL rfl (by omega)]; rfl
  · intro hd1 hne
    intro f_shields_2 f_settled_2 f_word0_2 f_word1_2 f_word2_2 f_word3_2 a_moveList_2 a_listEnd_2 a_nextMove_2 a_shieldLine_2 a_left_2 a_low_2 a_firstLow_2 a_high_2 a_most_2 L' k1 k2 k3 k4 k5 k6 k7 k8 k9 k10 k11 hE
    obtain ⟨e, rfl⟩ : ∃ e, D = e + 1 := ⟨D - 1, by omega⟩
    have hL' := k3 rfl
    have hws := xp_ws hG
    have hLw := ce_Llen hG.2.1 hG.1
    have hC : cs_C (e + 1) (ce_ws B m) (ce_ws B (1 - m)) = 1 + ce_ws B m * (1 + cs_C e (ce_ws B (1 - m)) (ce_ws B m)) := rfl
    have hbd : cs_C (e + 1) (ce_ws B m) (ce_ws B (1 - m)) ≤ 19000000 := by
      have := cs_C4 (ce_ws B m) (by omega) (ce_ws B (1 - m)) (by omega) hws
      have he4 : e = 0 ∨ e = 1 ∨ e = 2 ∨ e = 3 := by omega
      rcases he4 with rfl | rfl | rfl | rfl
      · exact Nat.le_trans this.2.2.2.1 (by decide)
      · exact Nat.le_trans this.2.2.1 (by decide)
      · exact this.2.1
      · exact this.1
    have hlm : L'.length * (1 + cs_C e (ce_ws B (1 - m)) (ce_ws B m)) ≤ ce_ws B m * (1 + cs_C e (ce_ws B (1 - m)) (ce_ws B m)) := Nat.mul_le_mul_right _ (by omega)
    have hm5 : cs_m2 lo (-5000) = lo := by unfold cs_m2; rw [if_neg (by omega)]
    refine ⟨20000001 - 0, ?_⟩
    refine xs_loop e 0 (by omega) B m h _ _ (Nat.le_refl _) (Nat.le_refl _) (by omega) hne lo hi hlo hlh hhi L' [] k1 (by rw [List.nil_append, k2]; exact ce_L84 hG) 0 (-5000) (by omega) (cs_I0 _ hlo) (by omega) (by omega) _ _ _ _ _ _ _ _ _ _ _ _ _ _ _ _ _ _ _ _ _ _ _ _ _ _ _ _ _ _ hS k4 k5 k6 k7 (by rw [hm5]; exact k8) k9 k10 k11 (fun _ _ _ => rfl) ?_
    intro f_mover_3 f_played_3 f_shields_3 f_settled_3 f_rootMove_3 f_word0_3 f_word1_3 f_word2_3 f_word3_3 a_at_3 a_squaresOf_3 a_held_3 a_kingAt_3 a_playedMove_3 a_playedPiece_3 a_playedTaken_3 a_moveList_3 a_listEnd_3 a_nextMove_3 a_shieldLine_3 a_left_3 a_low_3 a_firstLow_3 a_high_3 a_most_3 a_knownWords_3 a_knownMover_3 a_knownDepth_3 a_knownKind_3 a_knownNumber_3 i3 mo3 hi3 hS3 hE3 u1 u2 u3 u4 u5 u6 u7 u8 u9
    unfold wX_search_159
    refine xo_close (l := 0) hS3 (by decide) (by omega) ⟨u5, u6⟩ ⟨by omega, by omega⟩ ⟨by omega, by omega⟩ u4 u3 u2 u1 u7 ?_
    intro f_word0_4 f_word1_4 f_word2_4 f_word3_4 a_knownWords_4 a_knownMover_4 a_knownDepth_4 a_knownKind_4 a_knownNumber_4 hS4
    refine br_t rfl ?_
    refine xp_v u4 (C _ _ _ _ _ _ _ _ _ _ _ _ _ _ _ _ _ _ _ _ _ _ _ _ _ _ _ _ _ _ mo3 hS4 (xe_trans (Nat.le_refl _) (Nat.le_refl _) (Nat.le_refl _) (Nat.le_refl _) hE hE3) u5 u6 u7 ?_)
    intro e' he' h1 h2
    have he : e' = e := by omega
    subst he
    have h8 := u8 rfl h1 h2
    rw [List.nil_append, hL'] at h8
    exact h8
theorem xp_countRows (hS : (xc_S B m h f_mover f_played a_nextTo a_leaps a_pawnHits a_line a_at a_squaresOf a_held a_kingAt a_knownWords a_knownMover a_knownDepth a_knownKind a_knownNumber)) (hD : D ≤ 3) (hD2 : 2 ≤ D) (hh : h ≤ 60) (hM : xl_M a_moveList (160 * 0) (cd_L B m)) (hle : a_listEnd 0 = nI (160 * 0 + (cd_L B m).length)) (hnm : a_nextMove 0 = nI (160 * 0))
    (C : ∀ (f_mover_2 f_played_2 : Int32) (f_shields_2 : Int64) (f_settled_2 : Int32) (f_word0_2 f_word1_2 f_word2_2 f_word3_2 : Int64) (a_at_2 : Nat → Int32) (a_squaresOf_2 a_held_2 : Nat → Int64) (a_kingAt_2 a_playedMove_2 a_playedPiece_2 a_playedTaken_2 a_moveList_2 a_listEnd_2 a_nextMove_2 : Nat → Int32) (a_shieldLine_2 : Nat → Int64) (a_rows_2 : Nat → Int32) (a_knownWords_2 : Nat → Int64) (a_knownMover_2 a_knownDepth_2 a_knownKind_2 a_knownNumber_2 : Nat → Int32), (xc_S B m h f_mover_2 f_played_2 a_nextTo a_leaps a_pawnHits a_line a_at_2 a_squaresOf_2 a_held_2 a_kingAt_2 a_knownWords_2 a_knownMover_2 a_knownDepth_2 a_knownKind_2 a_knownNumber_2) → (∀ j, j < h → a_playedMove_2 j = a_playedMove j ∧ a_playedPiece_2 j = a_playedPiece j ∧ a_playedTaken_2 j = a_playedTaken j) → post (nI (cd_pf D B m)) (f_going, f_mover_2, f_made, f_played_2, f_shields_2, f_settled_2, f_rootMove, f_word0_2, f_word1_2, f_word2_2, f_word3_2, a_nextTo, a_leaps, a_pawnHits, a_line, a_at_2, a_squaresOf_2, a_held_2, a_kingAt_2, a_quiet, a_positions, a_playedMove_2, a_playedPiece_2, a_playedTaken_2, a_moveList_2, a_listEnd_2, a_nextMove_2, a_shieldLine_2, a_left, a_low, a_firstLow, a_high, a_most, a_rows_2, a_knownWords_2, a_knownMover_2, a_knownDepth_2, a_knownKind_2, a_knownNumber_2)) : wpX_countRows post (f_going, f_mover, f_made, f_played, f_shields, f_settled, f_rootMove, f_word0, f_word1, f_word2, f_word3, a_nextTo, a_leaps, a_pawnHits, a_line, a_at, a_squaresOf, a_held, a_kingAt, a_quiet, a_positions, a_playedMove, a_playedPiece, a_playedTaken, a_moveList, a_listEnd, a_nextMove, a_shieldLine, a_left, a_low, a_firstLow, a_high, a_most, a_rows, a_knownWords, a_knownMover, a_knownDepth, a_knownKind, a_knownNumber) (nI D) := by
  have hG : cd_G B m := hS.2.2.2.1
  obtain ⟨e, rfl⟩ : ∃ e, D = e + 2 := ⟨D - 2, by omega⟩
  have hws := xp_ws hG
  have hLw := ce_Llen hG.2.1 hG.1
  have hC : cs_C (e + 1) (ce_ws B m) (ce_ws B (1 - m)) = 1 + ce_ws B m * (1 + cs_C e (ce_ws B (1 - m)) (ce_ws B m)) := rfl
  have hbd : cs_C (e + 1) (ce_ws B m) (ce_ws B (1 - m)) ≤ 50000 := by
    have := cs_C4 (ce_ws B m) (by omega) (ce_ws B (1 - m)) (by omega) hws
    have he4 : e = 0 ∨ e = 1 := by omega
    rcases he4 with rfl | rfl
    · exact this.2.2.2.1
    · exact this.2.2.1
  have hlm : (cd_L B m).length * (1 + cs_C e (ce_ws B (1 - m)) (ce_ws B m)) ≤ ce_ws B m * (1 + cs_C e (ce_ws B (1 - m)) (ce_ws B m)) := Nat.mul_le_mul_right _ (by omega)
  refine nm_e ⟨60001 - 0, ?_⟩
  refine xr_loop hD e 0 (by omega) B m h _ _ (Nat.le_refl _) (Nat.le_refl _) (by omega) (cd_L B m) [] rfl 0 (by omega) _ _ _ _ _ _ _ _ _ _ _ _ _ _ _ _ _ _ _ _ _ _ _ _ _ hS hM hle hnm pk_us ?_
  intro f_mover_2 f_played_2 f_shields_2 f_settled_2 f_word0_2 f_word1_2 f_word2_2 f_word3_2 a_at_2 a_squaresOf_2 a_held_2 a_kingAt_2 a_playedMove_2 a_playedPiece_2 a_playedTaken_2 a_moveList_2 a_listEnd_2 a_nextMove_2 a_shieldLine_2 a_rows_2 a_knownWords_2 a_knownMover_2 a_knownDepth_2 a_knownKind_2 a_knownNumber_2 i2 hi2 hS2 hF2 hle2 hnm2 hrw2
  have hfuel : 60001 - i2 = (60001 - (i2 + 1)) + 1 := by omega
  rw [hfuel, wX_countRows_11]
  have hl0 : vp_in (nI 0) 6 := vp_in_nI (by decide) (by decide)
  have hL84 := ce_L84 hG
  refine pk_le 60000 i2 (fun h => by omega) (fun _ => ⟨hl0, hl0, ?_⟩)
  rw [show (nI 0).toNatClampNeg = 0 from rfl, hle2, hnm2]
  refine br_t (Int32.le_refl _) (br_t rfl ?_)
  exact xp_v hrw2 (C _ _ _ _ _ _ _ _ _ _ _ _ _ _ _ _ _ _ _ _ _ _ _ _ _ hS2 hF2.2.2)
theorem xp_count (hgo : f_going = 1) (hS : (xc_S B m h f_mover f_played a_nextTo a_leaps a_pawnHits a_line a_at a_squaresOf a_held a_kingAt a_knownWords a_knownMover a_knownDepth a_knownKind a_knownNumber)) (hD : D ≤ 3) (hh : h ≤ 60)
    (C : ∀ (f_mover_2 f_played_2 : Int32) (f_shields_2 : Int64) (f_settled_2 : Int32) (f_word0_2 f_word1_2 f_word2_2 f_word3_2 : Int64) (a_at_2 : Nat → Int32) (a_squaresOf_2 a_held_2 : Nat → Int64) (a_kingAt_2 a_playedMove_2 a_playedPiece_2 a_playedTaken_2 a_moveList_2 a_listEnd_2 a_nextMove_2 : Nat → Int32) (a_shieldLine_2 : Nat → Int64) (a_rows_2 : Nat → Int32) (a_knownWords_2 : Nat → Int64) (a_knownMover_2 a_knownDepth_2 a_knownKind_2 a_knownNumber_2 : Nat → Int32), (xc_S B m h f_mover_2 f_played_2 a_nextTo a_leaps a_pawnHits a_line a_at_2 a_squaresOf_2 a_held_2 a_kingAt_2 a_knownWords_2 a_knownMover_2 a_knownDepth_2 a_knownKind_2 a_knownNumber_2) → (∀ j, j < h → a_playedMove_2 j = a_playedMove j ∧ a_playedPiece_2 j = a_playedPiece j ∧ a_playedTaken_2 j = a_playedTaken j) → post (nI (cd_pf D B m)) (f_going, f_mover_2, f_made, f_played_2, f_shields_2, f_settled_2, f_rootMove, f_word0_2, f_word1_2, f_word2_2, f_word3_2, a_nextTo, a_leaps, a_pawnHits, a_line, a_at_2, a_squaresOf_2, a_held_2, a_kingAt_2, a_quiet, a_positions, a_playedMove_2, a_playedPiece_2, a_playedTaken_2, a_moveList_2, a_listEnd_2, a_nextMove_2, a_shieldLine_2, a_left, a_low, a_firstLow, a_high, a_most, a_rows_2, a_knownWords_2, a_knownMover_2, a_knownDepth_2, a_knownKind_2, a_knownNumber_2)) : wpX_count post (f_going, f_mover, f_made, f_played, f_shields, f_settled, f_rootMove, f_word0, f_word1, f_word2, f_word3, a_nextTo, a_leaps, a_pawnHits, a_line, a_at, a_squaresOf, a_held, a_kingAt, a_quiet, a_positions, a_playedMove, a_playedPiece, a_playedTaken, a_moveList, a_listEnd, a_nextMove, a_shieldLine, a_left, a_low, a_firstLow, a_high, a_most, a_rows, a_knownWords, a_knownMover, a_knownDepth, a_knownKind, a_knownNumber) (nI D) := by
  refine br_f (by rw [hgo]; decide) (br_f (nI_pos (by omega)) (pk_le D 3 (fun _ => pk_eq D 0 (fun h0 => ?_) (fun h0 => ?_)) (fun h => by omega)))
  · subst h0
    exact C _ _ _ _ _ _ _ _ _ _ _ _ _ _ _ _ _ _ _ _ _ _ _ _ _ hS (fun _ _ => ⟨rfl, rfl, rfl⟩)
  · refine xc_list (l := 0) hS (by decide) ?_
    intro f_shields_2 a_moveList_2 a_listEnd_2 a_nextMove_2 a_shieldLine_2 c1 c2 c3 c4 c5 c6
    refine pk_eq D 1 (fun h1 => ?_) (fun h1 => ?_)
    · subst h1
      refine xp_v (y := nI (cd_pf 1 B m)) (by rw [c3, Nat.mul_zero, Nat.zero_add, xc_pf1]) (C _ _ _ _ _ _ _ _ _ _ _ _ _ _ _ _ _ _ _ _ _ _ _ _ _ hS (fun _ _ => ⟨rfl, rfl, rfl⟩))
    · refine xp_countRows hS hD (by omega) hh c1 c3 c5 ?_
      intro f_mover_3 f_played_3 f_shields_3 f_settled_3 f_word0_3 f_word1_3 f_word2_3 f_word3_3 a_at_3 a_squaresOf_3 a_held_3 a_kingAt_3 a_playedMove_3 a_playedPiece_3 a_playedTaken_3 a_moveList_3 a_listEnd_3 a_nextMove_3 a_shieldLine_3 a_rows_3 a_knownWords_3 a_knownMover_3 a_knownDepth_3 a_knownKind_3 a_knownNumber_3 hS3 hP3
      exact C _ _ _ _ _ _ _ _ _ _ _ _ _ _ _ _ _ _ _ _ _ _ _ _ _ hS3 hP3
end
end
section
/-! ===== positions of the game; the relation ===== -/
theorem xk_same {A B : Nat → Nat} {a0 a1 a2 a3 b0 b1 b2 b3 : Int64} (hA : cd_OK A) (hB : cd_OK B) (h : xk_W A a0 a1 a2 a3) (h' : xk_W B b0 b1 b2 b3) : hs_eq A B = true ↔ (a0 = b0 ∧ a1 = b1 ∧ a2 = b2 ∧ a3 = b3) := by
  constructor
  · intro he
    rw [hs_eq_iff] at he
    have e : ∀ {w w' : Int64} {j : Nat}, cb_S w (fun s => (A s).testBit j) → cb_S w' (fun s => (B s).testBit j) → w = w' := fun h1 h2 => cb_Su (cb_Se h1 fun s hs => by rw [he s hs]) h2
    exact ⟨e h.1 h'.1, e h.2.1 h'.2.1, e h.2.2.1 h'.2.2.1, e h.2.2.2 h'.2.2.2⟩
  · rintro ⟨rfl, rfl, rfl, rfl⟩
    have := xk_inj hA hB h h'
    rw [this, hs_eq_iff]; exact fun _ _ => rfl
section
variable {f_going f_mover f_made f_played : Int32} {f_shields : Int64} {f_settled f_rootMove : Int32} {f_word0 f_word1 f_word2 f_word3 : Int64} {a_nextTo a_leaps a_pawnHits a_line : Nat → Int64} {a_at : Nat → Int32} {a_squaresOf a_held : Nat → Int64} {a_kingAt a_quiet : Nat → Int32} {a_positions : Nat → Int64} {a_playedMove a_playedPiece a_playedTaken a_moveList a_listEnd a_nextMove : Nat → Int32} {a_shieldLine : Nat → Int64} {a_left a_low a_firstLow a_high a_most a_rows : Nat → Int32} {a_knownWords : Nat → Int64} {a_knownMover a_knownDepth a_knownKind a_knownNumber : Nat → Int32} {B : Nat → Nat} {n : Nat}
theorem xk_keep {post : SX → Prop} (hB : xb_B B a_at a_squaresOf a_held) (hv : ∀ s, s < 36 → B s ≤ 14 ∧ B s ≠ 7 ∧ B s ≠ 8) (hmd : f_made = nI n) (hn : n ≤ 60)
    (C : ∀ w0 w1 w2 w3 (ps : Nat → Int64), (∀ j, j < 4 * n → ps j = a_positions j) → xk_W B (ps (4 * n)) (ps (4 * n + 1)) (ps (4 * n + 2)) (ps (4 * n + 3)) → post (f_going, f_mover, f_made, f_played, f_shields, f_settled, f_rootMove, w0, w1, w2, w3, a_nextTo, a_leaps, a_pawnHits, a_line, a_at, a_squaresOf, a_held, a_kingAt, a_quiet, ps, a_playedMove, a_playedPiece, a_playedTaken, a_moveList, a_listEnd, a_nextMove, a_shieldLine, a_left, a_low, a_firstLow, a_high, a_most, a_rows, a_knownWords, a_knownMover, a_knownDepth, a_knownKind, a_knownNumber)) : wpX_keepPosition post (f_going, f_mover, f_made, f_played, f_shields, f_settled, f_rootMove, f_word0, f_word1, f_word2, f_word3, a_nextTo, a_leaps, a_pawnHits, a_line, a_at, a_squaresOf, a_held, a_kingAt, a_quiet, a_positions, a_playedMove, a_playedPiece, a_playedTaken, a_moveList, a_listEnd, a_nextMove, a_shieldLine, a_left, a_low, a_firstLow, a_high, a_most, a_rows, a_knownWords, a_knownMover, a_knownDepth, a_knownKind, a_knownNumber) := by
  unfold wpX_keepPosition
  subst hmd
  refine xk_lay hB hv fun w0 w1 w2 w3 hw => ?_
  have h4 : vp_in (4 * nI n) 244 := by rw [xk_40]; exact vp_in_nI (by omega) (by decide)
  have h4c : (4 * nI n).toNatClampNeg = 4 * n := by rw [xk_40, nI_clamp (by omega)]
  have h4j : ∀ j, j < 4 → vp_in ((4 * nI n) + nI j) 244 := fun j hj => by rw [xk_4]; exact vp_in_nI (by omega) (by decide)
  have h4k : ∀ j, j < 4 → ((4 * nI n) + nI j).toNatClampNeg = 4 * n + j := fun j hj => by rw [xk_4, nI_clamp (by omega)]
  refine ⟨h4, nm_r (e' := vp_updL a_positions (4 * n) w0) (by rw [h4c]) ⟨h4j 1 (by decide), nm_r (e' := vp_updL (vp_updL a_positions (4 * n) w0) (4 * n + 1) w1) (congrArg (fun k => vp_updL _ k w1) (h4k 1 (by decide))) ⟨h4j 2 (by decide), nm_r (e' := vp_updL (vp_updL (vp_updL a_positions (4 * n) w0) (4 * n + 1) w1) (4 * n + 2) w2) (congrArg (fun k => vp_updL _ k w2) (h4k 2 (by decide))) ⟨h4j 3 (by decide), nm_r (e' := vp_updL (vp_updL (vp_updL (vp_updL a_positions (4 * n) w0) (4 * n + 1) w1) (4 * n + 2) w2) (4 * n + 3) w3) (congrArg (fun k => vp_updL _ k w3) (h4k 3 (by decide))) (C w0 w1 w2 w3 _ (fun j hj => ?_) ?_)⟩⟩⟩⟩
  · rw [pk_uLn (by omega), pk_uLn (by omega), pk_uLn (by omega), pk_uLn (by omega)]
  · rw [pk_uLn (by omega), pk_uLn (by omega), pk_uLn (by omega), pk_uLs, pk_uLn (by omega), pk_uLn (by omega), pk_uLs, pk_uLn (by omega), pk_uLs, pk_uLs]
    exact hw
theorem xk_t11 {post : Int32 → SX → Prop} {H : Nat → Nat → Nat} (hok : cd_OK B) (hH : ∀ k, k ≤ n → cd_OK (H k)) (hn : n ≤ 60) (hw : xk_W B f_word0 f_word1 f_word2 f_word3) (hps : ∀ k, k ≤ n → xk_W (H k) (a_positions (4 * k)) (a_positions (4 * k + 1)) (a_positions (4 * k + 2)) (a_positions (4 * k + 3))) :
    ∀ (k f c : Nat), k ≤ n → post (nI (c + hs_tm H B k)) (f_going, f_mover, f_made, f_played, f_shields, f_settled, f_rootMove, f_word0, f_word1, f_word2, f_word3, a_nextTo, a_leaps, a_pawnHits, a_line, a_at, a_squaresOf, a_held, a_kingAt, a_quiet, a_positions, a_playedMove, a_playedPiece, a_playedTaken, a_moveList, a_listEnd, a_nextMove, a_shieldLine, a_left, a_low, a_firstLow, a_high, a_most, a_rows, a_knownWords, a_knownMover, a_knownDepth, a_knownKind, a_knownNumber) → wX_times_11 post f_going f_mover f_made f_played f_shields f_settled f_rootMove f_word0 f_word1 f_word2 f_word3 a_nextTo a_leaps a_pawnHits a_line a_at a_squaresOf a_held a_kingAt a_quiet a_positions a_playedMove a_playedPiece a_playedTaken a_moveList a_listEnd a_nextMove a_shieldLine a_left a_low a_firstLow a_high a_most a_rows a_knownWords a_knownMover a_knownDepth a_knownKind a_knownNumber (k + f + 2) (nI c) (nI k) := by
  have hneg : ∀ (f c : Nat) (x : Int32), x < 0 → post (nI c) (f_going, f_mover, f_made, f_played, f_shields, f_settled, f_rootMove, f_word0, f_word1, f_word2, f_word3, a_nextTo, a_leaps, a_pawnHits, a_line, a_at, a_squaresOf, a_held, a_kingAt, a_quiet, a_positions, a_playedMove, a_playedPiece, a_playedTaken, a_moveList, a_listEnd, a_nextMove, a_shieldLine, a_left, a_low, a_firstLow, a_high, a_most, a_rows, a_knownWords, a_knownMover, a_knownDepth, a_knownKind, a_knownNumber) → wX_times_11 post f_going f_mover f_made f_played f_shields f_settled f_rootMove f_word0 f_word1 f_word2 f_word3 a_nextTo a_leaps a_pawnHits a_line a_at a_squaresOf a_held a_kingAt a_quiet a_positions a_playedMove a_playedPiece a_playedTaken a_moveList a_listEnd a_nextMove a_shieldLine a_left a_low a_firstLow a_high a_most a_rows a_knownWords a_knownMover a_knownDepth a_knownKind a_knownNumber (f + 1) (nI c) x := by
    intro f c x hx hp
    rw [wX_times_11]; exact br_t hx hp
  intro k
  induction k using Nat.strongRecOn with
  | _ k ih =>
  intro f c hkn C
  have hs := xk_same (hH k hkn) hok (hps k hkn) hw
  have NEXT : ∀ b : Bool, b = hs_eq (H k) B → ∀ x1 : Int32, x1 = nI (c + (if b then 1 else 0)) → ∀ x2 : Int32, x2 = nI k + (-2) → wX_times_11 post f_going f_mover f_made f_played f_shields f_settled f_rootMove f_word0 f_word1 f_word2 f_word3 a_nextTo a_leaps a_pawnHits a_line a_at a_squaresOf a_held a_kingAt a_quiet a_positions a_playedMove a_playedPiece a_playedTaken a_moveList a_listEnd a_nextMove a_shieldLine a_left a_low a_firstLow a_high a_most a_rows a_knownWords a_knownMover a_knownDepth a_knownKind a_knownNumber (k + f + 1) x1 x2 := by
    intro b hb x1 hx1 x2 hx2
    subst hb
    rw [hx1, hx2]
    by_cases hk2 : k < 2
    · have ht : hs_tm H B k = if hs_eq (H k) B then 1 else 0 := by
        have hk01 : k = 0 ∨ k = 1 := by omega
        rcases hk01 with e | e
        · rw [e]; rfl
        · rw [e]; rfl
      rw [ht] at C
      refine hneg (k + f) _ _ ?_ C
      have hk01 : k = 0 ∨ k = 1 := by omega
      rcases hk01 with e | e
      · rw [e]; decide
      · rw [e]; decide
    · obtain ⟨j, hj⟩ : ∃ j, k = j + 2 := ⟨k - 2, by omega⟩
      subst hj
      rw [show nI (j + 2) + (-2) = nI j from by rw [xi_nI, xi_nI, show (-2 : Int32) = xi (-2) from rfl, xi_add]; congr 1; omega]
      have C' : post (nI ((c + (if hs_eq (H (j + 2)) B then 1 else 0)) + hs_tm H B j)) (f_going, f_mover, f_made, f_played, f_shields, f_settled, f_rootMove, f_word0, f_word1, f_word2, f_word3, a_nextTo, a_leaps, a_pawnHits, a_line, a_at, a_squaresOf, a_held, a_kingAt, a_quiet, a_positions, a_playedMove, a_playedPiece, a_playedTaken, a_moveList, a_listEnd, a_nextMove, a_shieldLine, a_left, a_low, a_firstLow, a_high, a_most, a_rows, a_knownWords, a_knownMover, a_knownDepth, a_knownKind, a_knownNumber) := by
        rw [hs_tm] at C; rw [Nat.add_assoc]; exact C
      have := ih j (by omega) (f + 1) (c + (if hs_eq (H (j + 2)) B then 1 else 0)) (by omega) C'
      rw [show j + 2 + f + 1 = j + (f + 1) + 2 from by omega]
      exact this
  have hno : ¬ (a_positions (4 * k) = f_word0 ∧ a_positions (4 * k + 1) = f_word1 ∧ a_positions (4 * k + 2) = f_word2 ∧ a_positions (4 * k + 3) = f_word3) → hs_eq (H k) B = false := fun h => by
    cases hc : hs_eq (H k) B with
    | false => rfl
    | true => exact absurd (hs.mp hc) h
  have h4 : vp_in (4 * nI k) 244 := by rw [xk_40]; exact vp_in_nI (by omega) (by decide)
  have h4c : (4 * nI k).toNatClampNeg = 4 * k := by rw [xk_40, nI_clamp (by omega)]
  have h4j : ∀ j, j < 4 → vp_in ((4 * nI k) + nI j) 244 := fun j hj => by rw [xk_4]; exact vp_in_nI (by omega) (by decide)
  have h4k : ∀ j, j < 4 → ((4 * nI k) + nI j).toNatClampNeg = 4 * k + j := fun j hj => by rw [xk_4, nI_clamp (by omega)]
  have e1 : ((4 * nI k) + 1).toNatClampNeg = 4 * k + 1 := h4k 1 (by decide)
  have e2 : ((4 * nI k) + 2).toNatClampNeg = 4 * k + 2 := h4k 2 (by decide)
  have e3 : ((4 * nI k) + 3).toNatClampNeg = 4 * k + 3 := h4k 3 (by decide)
  rw [show k + f + 2 = (k + f + 1) + 1 from rfl, wX_times_11]
  dsimp only
  rw [h4c, e1]
  have H53 : hs_eq (H k) B = false → wX_times_53 post (wX_times_11 post f_going f_mover f_made f_played f_shields f_settled f_rootMove f_word0 f_word1 f_word2 f_word3 a_nextTo a_leaps a_pawnHits a_line a_at a_squaresOf a_held a_kingAt a_quiet a_positions a_playedMove a_playedPiece a_playedTaken a_moveList a_listEnd a_nextMove a_shieldLine a_left a_low a_firstLow a_high a_most a_rows a_knownWords a_knownMover a_knownDepth a_knownKind a_knownNumber (k + f + 1)) (nI c) (nI k) f_going f_mover f_made f_played f_shields f_settled f_rootMove f_word0 f_word1 f_word2 f_word3 a_nextTo a_leaps a_pawnHits a_line a_at a_squaresOf a_held a_kingAt a_quiet a_positions a_playedMove a_playedPiece a_playedTaken a_moveList a_listEnd a_nextMove a_shieldLine a_left a_low a_firstLow a_high a_most a_rows a_knownWords a_knownMover a_knownDepth a_knownKind a_knownNumber := fun h => br_t rfl (fun x2 hx2 => NEXT false h.symm _ rfl x2 hx2)
  refine br_f (nI_pos (by omega)) ⟨h4, br_c (fun k0 => ⟨h4j 1 (by decide), br_c (fun k1 => ?_) (fun k1 => H53 (hno fun h => k1 h.2.1))⟩) (fun k0 => H53 (hno fun h => k0 h.1))⟩
  unfold wX_times_54
  rw [e2, e3]
  refine br_f (by decide) ⟨h4j 2 (by decide), br_c (fun k2 => ⟨h4j 3 (by decide), br_c (fun k3 => fun x1 hx1 x2 hx2 => NEXT true (hs.mpr ⟨k0, k1, k2, k3⟩).symm x1 (by rw [hx1, nI_1]; rfl) x2 hx2) (fun k3 => fun x2 hx2 => NEXT false (hno fun h => k3 h.2.2.2).symm _ rfl x2 hx2)⟩) (fun k2 => fun x2 hx2 => NEXT false (hno fun h => k2 h.2.2.1).symm _ rfl x2 hx2)⟩
theorem xk_times {post : Int32 → SX → Prop} {H : Nat → Nat → Nat} (hB : xb_B B a_at a_squaresOf a_held) (hmd : f_made = nI n) (hok : cd_OK B) (hH : ∀ k, k ≤ n → cd_OK (H k)) (hn : n ≤ 60) (hps : ∀ k, k ≤ n → xk_W (H k) (a_positions (4 * k)) (a_positions (4 * k + 1)) (a_positions (4 * k + 2)) (a_positions (4 * k + 3)))
    (C : ∀ w0 w1 w2 w3, post (nI (hs_tm H B n)) (f_going, f_mover, f_made, f_played, f_shields, f_settled, f_rootMove, w0, w1, w2, w3, a_nextTo, a_leaps, a_pawnHits, a_line, a_at, a_squaresOf, a_held, a_kingAt, a_quiet, a_positions, a_playedMove, a_playedPiece, a_playedTaken, a_moveList, a_listEnd, a_nextMove, a_shieldLine, a_left, a_low, a_firstLow, a_high, a_most, a_rows, a_knownWords, a_knownMover, a_knownDepth, a_knownKind, a_knownNumber)) : wpX_times post (f_going, f_mover, f_made, f_played, f_shields, f_settled, f_rootMove, f_word0, f_word1, f_word2, f_word3, a_nextTo, a_leaps, a_pawnHits, a_line, a_at, a_squaresOf, a_held, a_kingAt, a_quiet, a_positions, a_playedMove, a_playedPiece, a_playedTaken, a_moveList, a_listEnd, a_nextMove, a_shieldLine, a_left, a_low, a_firstLow, a_high, a_most, a_rows, a_knownWords, a_knownMover, a_knownDepth, a_knownKind, a_knownNumber) := by
  unfold wpX_times
  refine xk_lay hB hok.1 fun w0 w1 w2 w3 hw => ⟨n + 0 + 2, ?_⟩
  subst hmd
  have C' := C w0 w1 w2 w3
  rw [← Nat.zero_add (hs_tm H B n)] at C'
  exact xk_t11 hok hH hn hw hps n 0 0 (Nat.le_refl _) C'
end
/-- a game under way -/
def zz_P (n m : Nat) (B : Nat → Nat) (H : Nat → Nat → Nat) (X S : Nat → Nat) (pm pp pt qt : Nat → Int32) (ps : Nat → Int64) (fo to mo ca past : Nat → Int32) : Prop :=
  n ≤ 60 ∧ H n = B ∧ S n = m ∧ (∀ j, j ≤ n → cd_G (H j) (S j)) ∧ (∀ j, j < n → S (j + 1) = 1 - S j ∧ X j ∈ cd_L (H j) (S j) ∧ H (j + 1) = cd_nx (H j) (X j)) ∧
  (∀ j, j < n → pm j = nI (X j) ∧ pp j = nI (H j (X j / 64)) ∧ pt j = nI (H j (X j % 64))) ∧
  (∀ j, j < n → fo j = nI (X j / 64) ∧ to j = nI (X j % 64) ∧ mo j = nI (H j (X j / 64)) ∧ ca j = nI (H j (X j % 64))) ∧
  (∀ j, j ≤ n → qt j = nI (hs_q H X j)) ∧
  (∀ j, j ≤ n → xk_W (H j) (ps (4 * j)) (ps (4 * j + 1)) (ps (4 * j + 2)) (ps (4 * j + 3))) ∧
  (∀ j, j ≤ n → ∀ s, s < 36 → past (36 * j + s) = nI (H j s))
/-- the game of both sides -/
def zz_G (B : Nat → Nat) (f_mover f_made f_played : Int32) (ka pm pp pt qt : Nat → Int32) (ps : Nat → Int64) (g_mover g_height : Int32) (fo to mo ca past : Nat → Int32) : Prop :=
  ∃ (n m : Nat) (H : Nat → Nat → Nat) (X S : Nat → Nat), f_mover = nI m ∧ g_mover = nI m ∧ f_made = nI n ∧ f_played = nI n ∧ g_height = nI n ∧ xb_K B ka ∧ zz_P n m B H X S pm pp pt qt ps fo to mo ca past
def zz_R (f_going f_mover f_made f_played : Int32) (f_shields : Int64) (f_settled f_rootMove : Int32) (f_word0 f_word1 f_word2 f_word3 : Int64) (a_nextTo a_leaps a_pawnHits a_line : Nat → Int64) (a_at : Nat → Int32) (a_squaresOf a_held : Nat → Int64) (a_kingAt a_quiet : Nat → Int32) (a_positions : Nat → Int64) (a_playedMove a_playedPiece a_playedTaken a_moveList a_listEnd a_nextMove : Nat → Int32) (a_shieldLine : Nat → Int64) (a_left a_low a_firstLow a_high a_most a_rows : Nat → Int32) (a_knownWords : Nat → Int64) (a_knownMover a_knownDepth a_knownKind a_knownNumber : Nat → Int32) (g_playing g_mover g_height g_leaves g_answer g_bestMove : Int32) (b_board b_fromOf b_toOf b_moved b_captured b_past b_tried b_top : Nat → Int32) : Prop :=
  ∃ B : Nat → Nat, xt_T a_nextTo a_leaps a_pawnHits a_line ∧ xb_B B a_at a_squaresOf a_held ∧ (b_board = fun s => nI (B s)) ∧ cd_OK B ∧ xk_T a_knownWords a_knownMover a_knownDepth a_knownKind a_knownNumber ∧ f_going = g_playing ∧
    (f_going = 0 ∨ (f_going = 1 ∧ zz_G B f_mover f_made f_played a_kingAt a_playedMove a_playedPiece a_playedTaken a_quiet a_positions g_mover g_height b_fromOf b_toOf b_moved b_captured b_past))
/-- the relation at the head of a turn -/
def i_Rel (_ : Nat) (u : SX) (v : SY) : Prop := match u with
  | (f_going, f_mover, f_made, f_played, f_shields, f_settled, f_rootMove, f_word0, f_word1, f_word2, f_word3, a_nextTo, a_leaps, a_pawnHits, a_line, a_at, a_squaresOf, a_held, a_kingAt, a_quiet, a_positions, a_playedMove, a_playedPiece, a_playedTaken, a_moveList, a_listEnd, a_nextMove, a_shieldLine, a_left, a_low, a_firstLow, a_high, a_most, a_rows, a_knownWords, a_knownMover, a_knownDepth, a_knownKind, a_knownNumber) => match v with
    | (g_playing, g_mover, g_height, g_leaves, g_answer, g_bestMove, b_board, b_fromOf, b_toOf, b_moved, b_captured, b_past, b_tried, b_top) => zz_R f_going f_mover f_made f_played f_shields f_settled f_rootMove f_word0 f_word1 f_word2 f_word3 a_nextTo a_leaps a_pawnHits a_line a_at a_squaresOf a_held a_kingAt a_quiet a_positions a_playedMove a_playedPiece a_playedTaken a_moveList a_listEnd a_nextMove a_shieldLine a_left a_low a_firstLow a_high a_most a_rows a_knownWords a_knownMover a_knownDepth a_knownKind a_knownNumber g_playing g_mover g_height g_leaves g_answer g_bestMove b_board b_fromOf b_toOf b_moved b_captured b_past b_tried b_top
theorem i_up {k : Nat} {u : SX} {v : SY} (h : i_Rel k u v) : i_Rel (k + 3) u v := h
theorem zz_el {k : Nat} {u : SX} {v : SY} {P : SX → SY → Prop} (I : i_Rel k u v) (h : ∀ (f_going f_mover f_made f_played : Int32) (f_shields : Int64) (f_settled f_rootMove : Int32) (f_word0 f_word1 f_word2 f_word3 : Int64) (a_nextTo a_leaps a_pawnHits a_line : Nat → Int64) (a_at : Nat → Int32) (a_squaresOf a_held : Nat → Int64) (a_kingAt a_quiet : Nat → Int32) (a_positions : Nat → Int64) (a_playedMove a_playedPiece a_playedTaken a_moveList a_listEnd a_nextMove : Nat → Int32) (a_shieldLine : Nat → Int64) (a_left a_low a_firstLow a_high a_most a_rows : Nat → Int32) (a_knownWords : Nat → Int64) (a_knownMover a_knownDepth a_knownKind a_knownNumber : Nat → Int32) (g_playing g_mover g_height g_leaves g_answer g_bestMove : Int32) (b_board b_fromOf b_toOf b_moved b_captured b_past b_tried b_top : Nat → Int32), zz_R f_going f_mover f_made f_played f_shields f_settled f_rootMove f_word0 f_word1 f_word2 f_word3 a_nextTo a_leaps a_pawnHits a_line a_at a_squaresOf a_held a_kingAt a_quiet a_positions a_playedMove a_playedPiece a_playedTaken a_moveList a_listEnd a_nextMove a_shieldLine a_left a_low a_firstLow a_high a_most a_rows a_knownWords a_knownMover a_knownDepth a_knownKind a_knownNumber g_playing g_mover g_height g_leaves g_answer g_bestMove b_board b_fromOf b_toOf b_moved b_captured b_past b_tried b_top → P (f_going, f_mover, f_made, f_played, f_shields, f_settled, f_rootMove, f_word0, f_word1, f_word2, f_word3, a_nextTo, a_leaps, a_pawnHits, a_line, a_at, a_squaresOf, a_held, a_kingAt, a_quiet, a_positions, a_playedMove, a_playedPiece, a_playedTaken, a_moveList, a_listEnd, a_nextMove, a_shieldLine, a_left, a_low, a_firstLow, a_high, a_most, a_rows, a_knownWords, a_knownMover, a_knownDepth, a_knownKind, a_knownNumber) (g_playing, g_mover, g_height, g_leaves, g_answer, g_bestMove, b_board, b_fromOf, b_toOf, b_moved, b_captured, b_past, b_tried, b_top)) : P u v :=
  match u, v, I with
  | (f_going, f_mover, f_made, f_played, f_shields, f_settled, f_rootMove, f_word0, f_word1, f_word2, f_word3, a_nextTo, a_leaps, a_pawnHits, a_line, a_at, a_squaresOf, a_held, a_kingAt, a_quiet, a_positions, a_playedMove, a_playedPiece, a_playedTaken, a_moveList, a_listEnd, a_nextMove, a_shieldLine, a_left, a_low, a_firstLow, a_high, a_most, a_rows, a_knownWords, a_knownMover, a_knownDepth, a_knownKind, a_knownNumber), (g_playing, g_mover, g_height, g_leaves, g_answer, g_bestMove, b_board, b_fromOf, b_toOf, b_moved, b_captured, b_past, b_tried, b_top), I => h f_going f_mover f_made f_played f_shields f_settled f_rootMove f_word0 f_word1 f_word2 f_word3 a_nextTo a_leaps a_pawnHits a_line a_at a_squaresOf a_held a_kingAt a_quiet a_positions a_playedMove a_playedPiece a_playedTaken a_moveList a_listEnd a_nextMove a_shieldLine a_left a_low a_firstLow a_high a_most a_rows a_knownWords a_knownMover a_knownDepth a_knownKind a_knownNumber g_playing g_mover g_height g_leaves g_answer g_bestMove b_board b_fromOf b_toOf b_moved b_captured b_past b_tried b_top I
theorem i_vc0 : wpX_init (fun u => wpY_init (fun v => i_Rel 0 u v)) := by
  refine xt_init fun nt' lp' ph' ln' hT => ?_
  refine (?_ : ∃ B : Nat → Nat, _)
  refine ⟨fun _ => 0, hT, ⟨rfl, fun p _ hp => cb_S0 fun i _ => ?_, fun m _ => cb_S0 fun i _ => rfl⟩, rfl, ⟨fun s _ => ⟨Nat.zero_le _, (by decide : (0 : Nat) ≠ 7), (by decide : (0 : Nat) ≠ 8)⟩, fun _ _ => rfl, fun s _ h => absurd h (by decide : ¬ cd_kd 0 = 1), by decide⟩, xk_T0, rfl, Or.inl rfl⟩
  exact beq_eq_false_iff_ne.mpr (fun h => hp h.symm)
end
section
/-! ===== the owed statements, first part ===== -/
section
variable {f_going f_mover f_made f_played : Int32} {f_shields : Int64} {f_settled f_rootMove : Int32} {f_word0 f_word1 f_word2 f_word3 : Int64} {a_nextTo a_leaps a_pawnHits a_line : Nat → Int64} {a_at : Nat → Int32} {a_squaresOf a_held : Nat → Int64} {a_kingAt a_quiet : Nat → Int32} {a_positions : Nat → Int64} {a_playedMove a_playedPiece a_playedTaken a_moveList a_listEnd a_nextMove : Nat → Int32} {a_shieldLine : Nat → Int64} {a_left a_low a_firstLow a_high a_most a_rows : Nat → Int32} {a_knownWords : Nat → Int64} {a_knownMover a_knownDepth a_knownKind a_knownNumber : Nat → Int32} {g_playing g_mover g_height g_leaves g_answer g_bestMove : Int32} {b_board b_fromOf b_toOf b_moved b_captured b_past b_tried b_top : Nat → Int32} {k : Nat} {B : Nat → Nat}
theorem zz_i0 (hT : xt_T a_nextTo a_leaps a_pawnHits a_line) (hB : xb_B B a_at a_squaresOf a_held) (hb : b_board = fun s => nI (B s)) (hok : cd_OK B) (hk : xk_T a_knownWords a_knownMover a_knownDepth a_knownKind a_knownNumber) (hg : f_going = 0) (hp : g_playing = 0) : i_Rel k (f_going, f_mover, f_made, f_played, f_shields, f_settled, f_rootMove, f_word0, f_word1, f_word2, f_word3, a_nextTo, a_leaps, a_pawnHits, a_line, a_at, a_squaresOf, a_held, a_kingAt, a_quiet, a_positions, a_playedMove, a_playedPiece, a_playedTaken, a_moveList, a_listEnd, a_nextMove, a_shieldLine, a_left, a_low, a_firstLow, a_high, a_most, a_rows, a_knownWords, a_knownMover, a_knownDepth, a_knownKind, a_knownNumber) (g_playing, g_mover, g_height, g_leaves, g_answer, g_bestMove, b_board, b_fromOf, b_toOf, b_moved, b_captured, b_past, b_tried, b_top) :=
  Exists.intro B ⟨hT, hB, hb, hok, hk, hg.trans hp.symm, Or.inl hg⟩
theorem zz_i1 {n m : Nat} {H : Nat → Nat → Nat} {X S : Nat → Nat} (hT : xt_T a_nextTo a_leaps a_pawnHits a_line) (hB : xb_B B a_at a_squaresOf a_held) (hb : b_board = fun s => nI (B s)) (hok : cd_OK B) (hk : xk_T a_knownWords a_knownMover a_knownDepth a_knownKind a_knownNumber) (hg : f_going = 1) (hp : g_playing = 1)
    (e1 : f_mover = nI m) (e2 : g_mover = nI m) (e3 : f_made = nI n) (e4 : f_played = nI n) (e5 : g_height = nI n) (hK : xb_K B a_kingAt) (hP : zz_P n m B H X S a_playedMove a_playedPiece a_playedTaken a_quiet a_positions b_fromOf b_toOf b_moved b_captured b_past) : i_Rel k (f_going, f_mover, f_made, f_played, f_shields, f_settled, f_rootMove, f_word0, f_word1, f_word2, f_word3, a_nextTo, a_leaps, a_pawnHits, a_line, a_at, a_squaresOf, a_held, a_kingAt, a_quiet, a_positions, a_playedMove, a_playedPiece, a_playedTaken, a_moveList, a_listEnd, a_nextMove, a_shieldLine, a_left, a_low, a_firstLow, a_high, a_most, a_rows, a_knownWords, a_knownMover, a_knownDepth, a_knownKind, a_knownNumber) (g_playing, g_mover, g_height, g_leaves, g_answer, g_bestMove, b_board, b_fromOf, b_toOf, b_moved, b_captured, b_past, b_tried, b_top) :=
  Exists.intro B ⟨hT, hB, hb, hok, hk, hg.trans hp.symm, Or.inr ⟨hg, n, m, H, X, S, e1, e2, e3, e4, e5, hK, hP⟩⟩
end
theorem zz_cs {k : Nat} {u : SX} {v : SY} {P : SX → SY → Prop} (I : i_Rel k u v)
    (h0 : ∀ (f_going f_mover f_made f_played : Int32) (f_shields : Int64) (f_settled f_rootMove : Int32) (f_word0 f_word1 f_word2 f_word3 : Int64) (a_nextTo a_leaps a_pawnHits a_line : Nat → Int64) (a_at : Nat → Int32) (a_squaresOf a_held : Nat → Int64) (a_kingAt a_quiet : Nat → Int32) (a_positions : Nat → Int64) (a_playedMove a_playedPiece a_playedTaken a_moveList a_listEnd a_nextMove : Nat → Int32) (a_shieldLine : Nat → Int64) (a_left a_low a_firstLow a_high a_most a_rows : Nat → Int32) (a_knownWords : Nat → Int64) (a_knownMover a_knownDepth a_knownKind a_knownNumber : Nat → Int32) (g_playing g_mover g_height g_leaves g_answer g_bestMove : Int32) (b_board b_fromOf b_toOf b_moved b_captured b_past b_tried b_top : Nat → Int32) (B : Nat → Nat), xt_T a_nextTo a_leaps a_pawnHits a_line → xb_B B a_at a_squaresOf a_held → cd_OK B → xk_T a_knownWords a_knownMover a_knownDepth a_knownKind a_knownNumber → P (0, f_mover, f_made, f_played, f_shields, f_settled, f_rootMove, f_word0, f_word1, f_word2, f_word3, a_nextTo, a_leaps, a_pawnHits, a_line, a_at, a_squaresOf, a_held, a_kingAt, a_quiet, a_positions, a_playedMove, a_playedPiece, a_playedTaken, a_moveList, a_listEnd, a_nextMove, a_shieldLine, a_left, a_low, a_firstLow, a_high, a_most, a_rows, a_knownWords, a_knownMover, a_knownDepth, a_knownKind, a_knownNumber) (0, g_mover, g_height, g_leaves, g_answer, g_bestMove, fun s => nI (B s), b_fromOf, b_toOf, b_moved, b_captured, b_past, b_tried, b_top))
    (h1 : ∀ (f_going f_mover f_made f_played : Int32) (f_shields : Int64) (f_settled f_rootMove : Int32) (f_word0 f_word1 f_word2 f_word3 : Int64) (a_nextTo a_leaps a_pawnHits a_line : Nat → Int64) (a_at : Nat → Int32) (a_squaresOf a_held : Nat → Int64) (a_kingAt a_quiet : Nat → Int32) (a_positions : Nat → Int64) (a_playedMove a_playedPiece a_playedTaken a_moveList a_listEnd a_nextMove : Nat → Int32) (a_shieldLine : Nat → Int64) (a_left a_low a_firstLow a_high a_most a_rows : Nat → Int32) (a_knownWords : Nat → Int64) (a_knownMover a_knownDepth a_knownKind a_knownNumber : Nat → Int32) (g_playing g_mover g_height g_leaves g_answer g_bestMove : Int32) (b_board b_fromOf b_toOf b_moved b_captured b_past b_tried b_top : Nat → Int32) (B : Nat → Nat) (n m : Nat) (H : Nat → Nat → Nat) (X S : Nat → Nat), (xc_S B m n (nI m) (nI n) a_nextTo a_leaps a_pawnHits a_line a_at a_squaresOf a_held a_kingAt a_knownWords a_knownMover a_knownDepth a_knownKind a_knownNumber) → zz_P n m B H X S a_playedMove a_playedPiece a_playedTaken a_quiet a_positions b_fromOf b_toOf b_moved b_captured b_past → P (1, nI m, nI n, nI n, f_shields, f_settled, f_rootMove, f_word0, f_word1, f_word2, f_word3, a_nextTo, a_leaps, a_pawnHits, a_line, a_at, a_squaresOf, a_held, a_kingAt, a_quiet, a_positions, a_playedMove, a_playedPiece, a_playedTaken, a_moveList, a_listEnd, a_nextMove, a_shieldLine, a_left, a_low, a_firstLow, a_high, a_most, a_rows, a_knownWords, a_knownMover, a_knownDepth, a_knownKind, a_knownNumber) (1, nI m, nI n, g_leaves, g_answer, g_bestMove, fun s => nI (B s), b_fromOf, b_toOf, b_moved, b_captured, b_past, b_tried, b_top)) : P u v := by
  refine zz_el (P := P) I ?_
  intro f_going f_mover f_made f_played f_shields f_settled f_rootMove f_word0 f_word1 f_word2 f_word3 a_nextTo a_leaps a_pawnHits a_line a_at a_squaresOf a_held a_kingAt a_quiet a_positions a_playedMove a_playedPiece a_playedTaken a_moveList a_listEnd a_nextMove a_shieldLine a_left a_low a_firstLow a_high a_most a_rows a_knownWords a_knownMover a_knownDepth a_knownKind a_knownNumber g_playing g_mover g_height g_leaves g_answer g_bestMove b_board b_fromOf b_toOf b_moved b_captured b_past b_tried b_top R
  obtain ⟨B, hT, hB, hb, hok, hk, hgp, hgo⟩ := R
  subst hb
  rcases hgo with hg | ⟨hg, n, m, H, X, S, e1, e2, e3, e4, e5, hK, hP⟩
  · subst hg
    rw [← hgp]
    exact h0 0 f_mover f_made f_played f_shields f_settled f_rootMove f_word0 f_word1 f_word2 f_word3 a_nextTo a_leaps a_pawnHits a_line a_at a_squaresOf a_held a_kingAt a_quiet a_positions a_playedMove a_playedPiece a_playedTaken a_moveList a_listEnd a_nextMove a_shieldLine a_left a_low a_firstLow a_high a_most a_rows a_knownWords a_knownMover a_knownDepth a_knownKind a_knownNumber 0 g_mover g_height g_leaves g_answer g_bestMove (fun s => nI (B s)) b_fromOf b_toOf b_moved b_captured b_past b_tried b_top B hT hB hok hk
  · subst hg
    rw [← hgp]
    subst e1; subst e2; subst e3; subst e4; subst e5
    have hG : cd_G B m := by
      have := hP.2.2.2.1 n (Nat.le_refl _)
      rw [hP.2.1, hP.2.2.1] at this; exact this
    exact h1 1 (nI m) (nI n) (nI n) f_shields f_settled f_rootMove f_word0 f_word1 f_word2 f_word3 a_nextTo a_leaps a_pawnHits a_line a_at a_squaresOf a_held a_kingAt a_quiet a_positions a_playedMove a_playedPiece a_playedTaken a_moveList a_listEnd a_nextMove a_shieldLine a_left a_low a_firstLow a_high a_most a_rows a_knownWords a_knownMover a_knownDepth a_knownKind a_knownNumber 1 (nI m) (nI n) g_leaves g_answer g_bestMove (fun s => nI (B s)) b_fromOf b_toOf b_moved b_captured b_past b_tried b_top B n m H X S ⟨hT, hB, hK, hG, rfl, rfl, hk⟩ hP
theorem zz_Pk {n m : Nat} {B : Nat → Nat} {H : Nat → Nat → Nat} {X S : Nat → Nat} {pm pp pt qt : Nat → Int32} {ps : Nat → Int64} {fo to mo ca past pm' pp' pt' fo' to' mo' ca' : Nat → Int32} (hP : zz_P n m B H X S pm pp pt qt ps fo to mo ca past)
    (h1 : ∀ j, j < n → pm' j = pm j ∧ pp' j = pp j ∧ pt' j = pt j) (h2 : yf_Z n fo to mo ca fo' to' mo' ca') : zz_P n m B H X S pm' pp' pt' qt ps fo' to' mo' ca' past := by
  obtain ⟨p1, p2, p3, p4, p5, p6, p7, p8, p9, p10⟩ := hP
  refine ⟨p1, p2, p3, p4, p5, fun j hj => ?_, fun j hj => ?_, p8, p9, p10⟩
  · obtain ⟨a1, a2, a3⟩ := p6 j hj
    obtain ⟨b1, b2, b3⟩ := h1 j hj
    exact ⟨b1.trans a1, b2.trans a2, b3.trans a3⟩
  · obtain ⟨a1, a2, a3, a4⟩ := p7 j hj
    obtain ⟨b1, b2, b3, b4⟩ := h2 j hj
    exact ⟨b1.trans a1, b2.trans a2, b3.trans a3, b4.trans a4⟩
section
variable {f_going f_mover f_made f_played : Int32} {f_shields : Int64} {f_settled f_rootMove : Int32} {f_word0 f_word1 f_word2 f_word3 : Int64} {a_nextTo a_leaps a_pawnHits a_line : Nat → Int64} {a_at : Nat → Int32} {a_squaresOf a_held : Nat → Int64} {a_kingAt a_quiet : Nat → Int32} {a_positions : Nat → Int64} {a_playedMove a_playedPiece a_playedTaken a_moveList a_listEnd a_nextMove : Nat → Int32} {a_shieldLine : Nat → Int64} {a_left a_low a_firstLow a_high a_most a_rows : Nat → Int32} {a_knownWords : Nat → Int64} {a_knownMover a_knownDepth a_knownKind a_knownNumber : Nat → Int32} {g_playing g_mover g_height g_leaves g_answer g_bestMove : Int32} {b_board b_fromOf b_toOf b_moved b_captured b_past b_tried b_top : Nat → Int32} {k : Nat} {B : Nat → Nat}
/-- the game goes on from the component's state as it looked ahead -/
theorem zz_i2 {n m : Nat} {H : Nat → Nat → Nat} {X S : Nat → Nat} {g_mover0 : Int32} {pm pp pt fo to mo ca : Nat → Int32} (hS : (xc_S B m n f_mover f_played a_nextTo a_leaps a_pawnHits a_line a_at a_squaresOf a_held a_kingAt a_knownWords a_knownMover a_knownDepth a_knownKind a_knownNumber)) (hb : b_board = fun s => nI (B s)) (hg : f_going = 1) (hp : g_playing = 1) (e2 : g_mover = nI m) (e3 : f_made = nI n) (e5 : g_height = nI n)
    (hP : zz_P n m B H X S pm pp pt a_quiet a_positions fo to mo ca b_past) (h1 : ∀ j, j < n → a_playedMove j = pm j ∧ a_playedPiece j = pp j ∧ a_playedTaken j = pt j) (h2 : yf_Z n fo to mo ca b_fromOf b_toOf b_moved b_captured) : i_Rel k (f_going, f_mover, f_made, f_played, f_shields, f_settled, f_rootMove, f_word0, f_word1, f_word2, f_word3, a_nextTo, a_leaps, a_pawnHits, a_line, a_at, a_squaresOf, a_held, a_kingAt, a_quiet, a_positions, a_playedMove, a_playedPiece, a_playedTaken, a_moveList, a_listEnd, a_nextMove, a_shieldLine, a_left, a_low, a_firstLow, a_high, a_most, a_rows, a_knownWords, a_knownMover, a_knownDepth, a_knownKind, a_knownNumber) (g_playing, g_mover, g_height, g_leaves, g_answer, g_bestMove, b_board, b_fromOf, b_toOf, b_moved, b_captured, b_past, b_tried, b_top) := by
  obtain ⟨s1, s2, s3, s4, s5, s6, s7⟩ := hS
  exact zz_i1 s1 s2 hb s4.2.1 s7 hg hp s5 e2 e3 s6 e5 s3 (zz_Pk hP h1 h2)
end
theorem i_vc_stop {k : Nat} {u : SX} {v : SY} (I : i_Rel k u v) (hk : k + 3 ≤ 1536) : wpX_stop (fun r u' => wpY_stop (fun r' v' => r' = r ∧ i_Rel (k + 3) u' v') v) u := by
  refine zz_cs (P := fun u v => wpX_stop (fun r u' => wpY_stop (fun r' v' => r' = r ∧ i_Rel (k + 3) u' v') v) u) I ?_ ?_
  · intro f_going f_mover f_made f_played f_shields f_settled f_rootMove f_word0 f_word1 f_word2 f_word3 a_nextTo a_leaps a_pawnHits a_line a_at a_squaresOf a_held a_kingAt a_quiet a_positions a_playedMove a_playedPiece a_playedTaken a_moveList a_listEnd a_nextMove a_shieldLine a_left a_low a_firstLow a_high a_most a_rows a_knownWords a_knownMover a_knownDepth a_knownKind a_knownNumber g_playing g_mover g_height g_leaves g_answer g_bestMove b_board b_fromOf b_toOf b_moved b_captured b_past b_tried b_top B hT hB hok hkn
    exact br_t rfl (br_t rfl ⟨rfl, zz_i0 hT hB rfl hok hkn rfl rfl⟩)
  · intro f_going f_mover f_made f_played f_shields f_settled f_rootMove f_word0 f_word1 f_word2 f_word3 a_nextTo a_leaps a_pawnHits a_line a_at a_squaresOf a_held a_kingAt a_quiet a_positions a_playedMove a_playedPiece a_playedTaken a_moveList a_listEnd a_nextMove a_shieldLine a_left a_low a_firstLow a_high a_most a_rows a_knownWords a_knownMover a_knownDepth a_knownKind a_knownNumber g_playing g_mover g_height g_leaves g_answer g_bestMove b_board b_fromOf b_toOf b_moved b_captured b_past b_tried b_top B n m H X S hS hP
    obtain ⟨s1, s2, s3, s4, s5, s6, s7⟩ := hS
    exact br_f (by decide) (br_f (by decide) ⟨rfl, zz_i0 s1 s2 rfl s4.2.1 s7 rfl rfl⟩)
theorem i_vc_turn {k : Nat} {u : SX} {v : SY} (I : i_Rel k u v) (hk : k + 3 ≤ 1536) : wpX_turn (fun r => wpY_turn (fun r' => r' = r ∧ i_Rel (k + 3) u v) v) u := by
  refine zz_cs (P := fun u v => wpX_turn (fun r => wpY_turn (fun r' => r' = r ∧ i_Rel (k + 3) u v) v) u) I ?_ ?_
  · intro f_going f_mover f_made f_played f_shields f_settled f_rootMove f_word0 f_word1 f_word2 f_word3 a_nextTo a_leaps a_pawnHits a_line a_at a_squaresOf a_held a_kingAt a_quiet a_positions a_playedMove a_playedPiece a_playedTaken a_moveList a_listEnd a_nextMove a_shieldLine a_left a_low a_firstLow a_high a_most a_rows a_knownWords a_knownMover a_knownDepth a_knownKind a_knownNumber g_playing g_mover g_height g_leaves g_answer g_bestMove b_board b_fromOf b_toOf b_moved b_captured b_past b_tried b_top B hT hB hok hkn
    exact br_t rfl (br_t rfl ⟨rfl, zz_i0 hT hB rfl hok hkn rfl rfl⟩)
  · intro f_going f_mover f_made f_played f_shields f_settled f_rootMove f_word0 f_word1 f_word2 f_word3 a_nextTo a_leaps a_pawnHits a_line a_at a_squaresOf a_held a_kingAt a_quiet a_positions a_playedMove a_playedPiece a_playedTaken a_moveList a_listEnd a_nextMove a_shieldLine a_left a_low a_firstLow a_high a_most a_rows a_knownWords a_knownMover a_knownDepth a_knownKind a_knownNumber g_playing g_mover g_height g_leaves g_answer g_bestMove b_board b_fromOf b_toOf b_moved b_captured b_past b_tried b_top B n m H X S hS hP
    exact br_f (by decide) (br_f (by decide) ⟨rfl, zz_i2 (g_mover0 := 0) hS rfl rfl rfl rfl rfl rfl hP (fun _ _ => ⟨rfl, rfl, rfl⟩) yz_refl⟩)
theorem i_vc_pieceAt {k : Nat} {u : SX} {v : SY} (I : i_Rel k u v) (hk : k + 3 ≤ 1536) (v1 : Int32) : wpX_pieceAt (fun r => wpY_pieceAt (fun r' => r' = r ∧ i_Rel (k + 3) u v) v v1) u v1 := by
  have main : ∀ (f_going f_mover f_made f_played : Int32) (f_shields : Int64) (f_settled f_rootMove : Int32) (f_word0 f_word1 f_word2 f_word3 : Int64) (a_nextTo a_leaps a_pawnHits a_line : Nat → Int64) (a_at : Nat → Int32) (a_squaresOf a_held : Nat → Int64) (a_kingAt a_quiet : Nat → Int32) (a_positions : Nat → Int64) (a_playedMove a_playedPiece a_playedTaken a_moveList a_listEnd a_nextMove : Nat → Int32) (a_shieldLine : Nat → Int64) (a_left a_low a_firstLow a_high a_most a_rows : Nat → Int32) (a_knownWords : Nat → Int64) (a_knownMover a_knownDepth a_knownKind a_knownNumber : Nat → Int32) (g_playing g_mover g_height g_leaves g_answer g_bestMove : Int32) (b_board b_fromOf b_toOf b_moved b_captured b_past b_tried b_top : Nat → Int32) (B : Nat → Nat), xb_B B a_at a_squaresOf a_held → i_Rel (k + 3) (f_going, f_mover, f_made, f_played, f_shields, f_settled, f_rootMove, f_word0, f_word1, f_word2, f_word3, a_nextTo, a_leaps, a_pawnHits, a_line, a_at, a_squaresOf, a_held, a_kingAt, a_quiet, a_positions, a_playedMove, a_playedPiece, a_playedTaken, a_moveList, a_listEnd, a_nextMove, a_shieldLine, a_left, a_low, a_firstLow, a_high, a_most, a_rows, a_knownWords, a_knownMover, a_knownDepth, a_knownKind, a_knownNumber) (g_playing, g_mover, g_height, g_leaves, g_answer, g_bestMove, fun s => nI (B s), b_fromOf, b_toOf, b_moved, b_captured, b_past, b_tried, b_top) → wpX_pieceAt (fun r => wpY_pieceAt (fun r' => r' = r ∧ i_Rel (k + 3) (f_going, f_mover, f_made, f_played, f_shields, f_settled, f_rootMove, f_word0, f_word1, f_word2, f_word3, a_nextTo, a_leaps, a_pawnHits, a_line, a_at, a_squaresOf, a_held, a_kingAt, a_quiet, a_positions, a_playedMove, a_playedPiece, a_playedTaken, a_moveList, a_listEnd, a_nextMove, a_shieldLine, a_left, a_low, a_firstLow, a_high, a_most, a_rows, a_knownWords, a_knownMover, a_knownDepth, a_knownKind, a_knownNumber) (g_playing, g_mover, g_height, g_leaves, g_answer, g_bestMove, fun s => nI (B s), b_fromOf, b_toOf, b_moved, b_captured, b_past, b_tried, b_top)) (g_playing, g_mover, g_height, g_leaves, g_answer, g_bestMove, fun s => nI (B s), b_fromOf, b_toOf, b_moved, b_captured, b_past, b_tried, b_top) v1) (f_going, f_mover, f_made, f_played, f_shields, f_settled, f_rootMove, f_word0, f_word1, f_word2, f_word3, a_nextTo, a_leaps, a_pawnHits, a_line, a_at, a_squaresOf, a_held, a_kingAt, a_quiet, a_positions, a_playedMove, a_playedPiece, a_playedTaken, a_moveList, a_listEnd, a_nextMove, a_shieldLine, a_left, a_low, a_firstLow, a_high, a_most, a_rows, a_knownWords, a_knownMover, a_knownDepth, a_knownKind, a_knownNumber) v1 := by
    intro f_going f_mover f_made f_played f_shields f_settled f_rootMove f_word0 f_word1 f_word2 f_word3 a_nextTo a_leaps a_pawnHits a_line a_at a_squaresOf a_held a_kingAt a_quiet a_positions a_playedMove a_playedPiece a_playedTaken a_moveList a_listEnd a_nextMove a_shieldLine a_left a_low a_firstLow a_high a_most a_rows a_knownWords a_knownMover a_knownDepth a_knownKind a_knownNumber g_playing g_mover g_height g_leaves g_answer g_bestMove b_board b_fromOf b_toOf b_moved b_captured b_past b_tried b_top B hB hR
    have hout : (∀ s : Nat, s < 36 → v1 ≠ nI s) → wpY_pieceAt (fun r' => r' = -1 ∧ i_Rel (k + 3) (f_going, f_mover, f_made, f_played, f_shields, f_settled, f_rootMove, f_word0, f_word1, f_word2, f_word3, a_nextTo, a_leaps, a_pawnHits, a_line, a_at, a_squaresOf, a_held, a_kingAt, a_quiet, a_positions, a_playedMove, a_playedPiece, a_playedTaken, a_moveList, a_listEnd, a_nextMove, a_shieldLine, a_left, a_low, a_firstLow, a_high, a_most, a_rows, a_knownWords, a_knownMover, a_knownDepth, a_knownKind, a_knownNumber) (g_playing, g_mover, g_height, g_leaves, g_answer, g_bestMove, fun s => nI (B s), b_fromOf, b_toOf, b_moved, b_captured, b_past, b_tried, b_top)) (g_playing, g_mover, g_height, g_leaves, g_answer, g_bestMove, fun s => nI (B s), b_fromOf, b_toOf, b_moved, b_captured, b_past, b_tried, b_top) v1 := fun h => by
      unfold wpY_pieceAt
      exact ya_isSq (fun _ => br_t rfl ⟨rfl, hR⟩) (fun s hs e => absurd e (h s hs))
    rcases pk_ix v1 (n := 36) (by decide) with h | h | ⟨j, hj, rfl⟩
    · exact br_t h (hout fun s hs e => nI_pos (n := s) (by omega) (by rw [← e]; exact h))
    · have hn : ¬ v1 < 36 := Int32.not_lt.mpr h
      have hn0 : ¬ v1 < 0 := Int32.not_lt.mpr (Int32.le_trans (by decide) h)
      exact br_f hn0 (br_f hn (hout fun s hs e => hn (by rw [e]; exact nI_lt (b := 36) hs (by decide))))
    · have hji : vp_in (nI j) 36 := vp_in_nI hj (by decide)
      refine br_f (nI_pos (by omega)) (br_t (nI_lt (b := 36) hj (by decide)) ⟨hji, ?_⟩)
      unfold wpY_pieceAt
      refine ya_isSq (fun h => absurd rfl (h j hj)) (fun s hs e => br_f (by decide) ⟨hji, ?_, hR⟩)
      rw [hB.1]
  refine zz_cs (P := fun u v => wpX_pieceAt (fun r => wpY_pieceAt (fun r' => r' = r ∧ i_Rel (k + 3) u v) v v1) u v1) I ?_ ?_
  · intro f_going f_mover f_made f_played f_shields f_settled f_rootMove f_word0 f_word1 f_word2 f_word3 a_nextTo a_leaps a_pawnHits a_line a_at a_squaresOf a_held a_kingAt a_quiet a_positions a_playedMove a_playedPiece a_playedTaken a_moveList a_listEnd a_nextMove a_shieldLine a_left a_low a_firstLow a_high a_most a_rows a_knownWords a_knownMover a_knownDepth a_knownKind a_knownNumber g_playing g_mover g_height g_leaves g_answer g_bestMove b_board b_fromOf b_toOf b_moved b_captured b_past b_tried b_top B hT hB hok hkn
    exact main 0 f_mover f_made f_played f_shields f_settled f_rootMove f_word0 f_word1 f_word2 f_word3 a_nextTo a_leaps a_pawnHits a_line a_at a_squaresOf a_held a_kingAt a_quiet a_positions a_playedMove a_playedPiece a_playedTaken a_moveList a_listEnd a_nextMove a_shieldLine a_left a_low a_firstLow a_high a_most a_rows a_knownWords a_knownMover a_knownDepth a_knownKind a_knownNumber 0 g_mover g_height g_leaves g_answer g_bestMove (fun s => nI (B s)) b_fromOf b_toOf b_moved b_captured b_past b_tried b_top B hB (zz_i0 hT hB rfl hok hkn rfl rfl)
  · intro f_going f_mover f_made f_played f_shields f_settled f_rootMove f_word0 f_word1 f_word2 f_word3 a_nextTo a_leaps a_pawnHits a_line a_at a_squaresOf a_held a_kingAt a_quiet a_positions a_playedMove a_playedPiece a_playedTaken a_moveList a_listEnd a_nextMove a_shieldLine a_left a_low a_firstLow a_high a_most a_rows a_knownWords a_knownMover a_knownDepth a_knownKind a_knownNumber g_playing g_mover g_height g_leaves g_answer g_bestMove b_board b_fromOf b_toOf b_moved b_captured b_past b_tried b_top B n m H X S hS hP
    exact main 1 (nI m) (nI n) (nI n) f_shields f_settled f_rootMove f_word0 f_word1 f_word2 f_word3 a_nextTo a_leaps a_pawnHits a_line a_at a_squaresOf a_held a_kingAt a_quiet a_positions a_playedMove a_playedPiece a_playedTaken a_moveList a_listEnd a_nextMove a_shieldLine a_left a_low a_firstLow a_high a_most a_rows a_knownWords a_knownMover a_knownDepth a_knownKind a_knownNumber 1 (nI m) (nI n) g_leaves g_answer g_bestMove (fun s => nI (B s)) b_fromOf b_toOf b_moved b_captured b_past b_tried b_top B hS.2.1 (zz_i2 (g_mover0 := 0) hS rfl rfl rfl rfl rfl rfl hP (fun _ _ => ⟨rfl, rfl, rfl⟩) yz_refl)
theorem zz_b01 {b : Bool} {P : Int32 → Prop} (h : P (xb_b b)) : ((xb_b b) = 0 → P 0) ∧ (¬ (xb_b b) = 0 → P 1) := by
  cases b with
  | false => exact br_t rfl h
  | true => exact br_f (by decide) h
theorem i_vc_check {k : Nat} {u : SX} {v : SY} (I : i_Rel k u v) (hk : k + 3 ≤ 1536) : wpX_check (fun r => wpY_check (fun r' => r' = r ∧ i_Rel (k + 3) u v) v) u := by
  refine zz_cs (P := fun u v => wpX_check (fun r => wpY_check (fun r' => r' = r ∧ i_Rel (k + 3) u v) v) u) I ?_ ?_
  · intro f_going f_mover f_made f_played f_shields f_settled f_rootMove f_word0 f_word1 f_word2 f_word3 a_nextTo a_leaps a_pawnHits a_line a_at a_squaresOf a_held a_kingAt a_quiet a_positions a_playedMove a_playedPiece a_playedTaken a_moveList a_listEnd a_nextMove a_shieldLine a_left a_low a_firstLow a_high a_most a_rows a_knownWords a_knownMover a_knownDepth a_knownKind a_knownNumber g_playing g_mover g_height g_leaves g_answer g_bestMove b_board b_fromOf b_toOf b_moved b_captured b_past b_tried b_top B hT hB hok hkn
    exact br_t rfl (br_t rfl ⟨rfl, zz_i0 hT hB rfl hok hkn rfl rfl⟩)
  · intro f_going f_mover f_made f_played f_shields f_settled f_rootMove f_word0 f_word1 f_word2 f_word3 a_nextTo a_leaps a_pawnHits a_line a_at a_squaresOf a_held a_kingAt a_quiet a_positions a_playedMove a_playedPiece a_playedTaken a_moveList a_listEnd a_nextMove a_shieldLine a_left a_low a_firstLow a_high a_most a_rows a_knownWords a_knownMover a_knownDepth a_knownKind a_knownNumber g_playing g_mover g_height g_leaves g_answer g_bestMove b_board b_fromOf b_toOf b_moved b_captured b_past b_tried b_top B n m H X S hS hP
    have hG : cd_G B m := hS.2.2.2.1
    have hR : i_Rel (k + 3) (1, nI m, nI n, nI n, f_shields, f_settled, f_rootMove, f_word0, f_word1, f_word2, f_word3, a_nextTo, a_leaps, a_pawnHits, a_line, a_at, a_squaresOf, a_held, a_kingAt, a_quiet, a_positions, a_playedMove, a_playedPiece, a_playedTaken, a_moveList, a_listEnd, a_nextMove, a_shieldLine, a_left, a_low, a_firstLow, a_high, a_most, a_rows, a_knownWords, a_knownMover, a_knownDepth, a_knownKind, a_knownNumber) (1, nI m, nI n, g_leaves, g_answer, g_bestMove, fun s => nI (B s), b_fromOf, b_toOf, b_moved, b_captured, b_past, b_tried, b_top) := zz_i2 (g_mover0 := 0) hS rfl rfl rfl rfl rfl rfl hP (fun _ _ => ⟨rfl, rfl, rfl⟩) yz_refl
    refine br_f (by decide) (xc_inCheck hS hG.1 ?_)
    refine zz_b01 (P := fun r => wpY_check (fun r' => r' = r ∧ i_Rel (k + 3) (1, nI m, nI n, nI n, f_shields, f_settled, f_rootMove, f_word0, f_word1, f_word2, f_word3, a_nextTo, a_leaps, a_pawnHits, a_line, a_at, a_squaresOf, a_held, a_kingAt, a_quiet, a_positions, a_playedMove, a_playedPiece, a_playedTaken, a_moveList, a_listEnd, a_nextMove, a_shieldLine, a_left, a_low, a_firstLow, a_high, a_most, a_rows, a_knownWords, a_knownMover, a_knownDepth, a_knownKind, a_knownNumber) (1, nI m, nI n, g_leaves, g_answer, g_bestMove, fun s => nI (B s), b_fromOf, b_toOf, b_moved, b_captured, b_past, b_tried, b_top)) (1, nI m, nI n, g_leaves, g_answer, g_bestMove, fun s => nI (B s), b_fromOf, b_toOf, b_moved, b_captured, b_past, b_tried, b_top)) ?_
    refine br_f (by decide) (ym_ck rfl hG.2.1.1 hG.1 ?_)
    exact zz_b01 (P := fun r' => r' = xb_b (cd_ck B m) ∧ i_Rel (k + 3) (1, nI m, nI n, nI n, f_shields, f_settled, f_rootMove, f_word0, f_word1, f_word2, f_word3, a_nextTo, a_leaps, a_pawnHits, a_line, a_at, a_squaresOf, a_held, a_kingAt, a_quiet, a_positions, a_playedMove, a_playedPiece, a_playedTaken, a_moveList, a_listEnd, a_nextMove, a_shieldLine, a_left, a_low, a_firstLow, a_high, a_most, a_rows, a_knownWords, a_knownMover, a_knownDepth, a_knownKind, a_knownNumber) (1, nI m, nI n, g_leaves, g_answer, g_bestMove, fun s => nI (B s), b_fromOf, b_toOf, b_moved, b_captured, b_past, b_tried, b_top)) ⟨rfl, hR⟩
theorem i_vc_attackers {k : Nat} {u : SX} {v : SY} (I : i_Rel k u v) (hk : k + 3 ≤ 1536) (v1 : Int32) (v2 : Int32) : wpX_attackers (fun r => wpY_attackers (fun r' => r' = r ∧ i_Rel (k + 3) u v) v v1 v2) u v1 v2 := by
  have main : ∀ (f_going f_mover f_made f_played : Int32) (f_shields : Int64) (f_settled f_rootMove : Int32) (f_word0 f_word1 f_word2 f_word3 : Int64) (a_nextTo a_leaps a_pawnHits a_line : Nat → Int64) (a_at : Nat → Int32) (a_squaresOf a_held : Nat → Int64) (a_kingAt a_quiet : Nat → Int32) (a_positions : Nat → Int64) (a_playedMove a_playedPiece a_playedTaken a_moveList a_listEnd a_nextMove : Nat → Int32) (a_shieldLine : Nat → Int64) (a_left a_low a_firstLow a_high a_most a_rows : Nat → Int32) (a_knownWords : Nat → Int64) (a_knownMover a_knownDepth a_knownKind a_knownNumber : Nat → Int32) (g_playing g_mover g_height g_leaves g_answer g_bestMove : Int32) (b_board b_fromOf b_toOf b_moved b_captured b_past b_tried b_top : Nat → Int32) (B : Nat → Nat), xt_T a_nextTo a_leaps a_pawnHits a_line → xb_B B a_at a_squaresOf a_held → cd_OK B → i_Rel (k + 3) (f_going, f_mover, f_made, f_played, f_shields, f_settled, f_rootMove, f_word0, f_word1, f_word2, f_word3, a_nextTo, a_leaps, a_pawnHits, a_line, a_at, a_squaresOf, a_held, a_kingAt, a_quiet, a_positions, a_playedMove, a_playedPiece, a_playedTaken, a_moveList, a_listEnd, a_nextMove, a_shieldLine, a_left, a_low, a_firstLow, a_high, a_most, a_rows, a_knownWords, a_knownMover, a_knownDepth, a_knownKind, a_knownNumber) (g_playing, g_mover, g_height, g_leaves, g_answer, g_bestMove, fun s => nI (B s), b_fromOf, b_toOf, b_moved, b_captured, b_past, b_tried, b_top) → wpX_attackers (fun r => wpY_attackers (fun r' => r' = r ∧ i_Rel (k + 3) (f_going, f_mover, f_made, f_played, f_shields, f_settled, f_rootMove, f_word0, f_word1, f_word2, f_word3, a_nextTo, a_leaps, a_pawnHits, a_line, a_at, a_squaresOf, a_held, a_kingAt, a_quiet, a_positions, a_playedMove, a_playedPiece, a_playedTaken, a_moveList, a_listEnd, a_nextMove, a_shieldLine, a_left, a_low, a_firstLow, a_high, a_most, a_rows, a_knownWords, a_knownMover, a_knownDepth, a_knownKind, a_knownNumber) (g_playing, g_mover, g_height, g_leaves, g_answer, g_bestMove, fun s => nI (B s), b_fromOf, b_toOf, b_moved, b_captured, b_past, b_tried, b_top)) (g_playing, g_mover, g_height, g_leaves, g_answer, g_bestMove, fun s => nI (B s), b_fromOf, b_toOf, b_moved, b_captured, b_past, b_tried, b_top) v1 v2) (f_going, f_mover, f_made, f_played, f_shields, f_settled, f_rootMove, f_word0, f_word1, f_word2, f_word3, a_nextTo, a_leaps, a_pawnHits, a_line, a_at, a_squaresOf, a_held, a_kingAt, a_quiet, a_positions, a_playedMove, a_playedPiece, a_playedTaken, a_moveList, a_listEnd, a_nextMove, a_shieldLine, a_left, a_low, a_firstLow, a_high, a_most, a_rows, a_knownWords, a_knownMover, a_knownDepth, a_knownKind, a_knownNumber) v1 v2 := by
    intro f_going f_mover f_made f_played f_shields f_settled f_rootMove f_word0 f_word1 f_word2 f_word3 a_nextTo a_leaps a_pawnHits a_line a_at a_squaresOf a_held a_kingAt a_quiet a_positions a_playedMove a_playedPiece a_playedTaken a_moveList a_listEnd a_nextMove a_shieldLine a_left a_low a_firstLow a_high a_most a_rows a_knownWords a_knownMover a_knownDepth a_knownKind a_knownNumber g_playing g_mover g_height g_leaves g_answer g_bestMove b_board b_fromOf b_toOf b_moved b_captured b_past b_tried b_top B hT hB hok hR
    have hout : (∀ s : Nat, s < 36 → v1 ≠ nI s) → wpY_attackers (fun r' => r' = -1 ∧ i_Rel (k + 3) (f_going, f_mover, f_made, f_played, f_shields, f_settled, f_rootMove, f_word0, f_word1, f_word2, f_word3, a_nextTo, a_leaps, a_pawnHits, a_line, a_at, a_squaresOf, a_held, a_kingAt, a_quiet, a_positions, a_playedMove, a_playedPiece, a_playedTaken, a_moveList, a_listEnd, a_nextMove, a_shieldLine, a_left, a_low, a_firstLow, a_high, a_most, a_rows, a_knownWords, a_knownMover, a_knownDepth, a_knownKind, a_knownNumber) (g_playing, g_mover, g_height, g_leaves, g_answer, g_bestMove, fun s => nI (B s), b_fromOf, b_toOf, b_moved, b_captured, b_past, b_tried, b_top)) (g_playing, g_mover, g_height, g_leaves, g_answer, g_bestMove, fun s => nI (B s), b_fromOf, b_toOf, b_moved, b_captured, b_past, b_tried, b_top) v1 v2 := fun h => by
      unfold wpY_attackers
      exact ya_isSq (fun _ => br_t rfl ⟨rfl, hR⟩) (fun s hs e => absurd e (h s hs))
    rcases pk_ix v1 (n := 36) (by decide) with h | h | ⟨j, hj, rfl⟩
    · exact br_t h (hout fun s hs e => nI_pos (n := s) (by omega) (by rw [← e]; exact h))
    · have hn0 : ¬ v1 < 0 := Int32.not_lt.mpr (Int32.le_trans (by decide) h)
      exact br_f hn0 (br_t h (hout fun s hs e => (Int32.not_lt.mpr h) (by rw [e]; exact nI_lt (b := 36) hs (by decide))))
    · have hj36 : ¬ (36 : Int32) ≤ nI j := nI_ge (b := 36) hj (by decide)
      refine br_f (nI_pos (by omega)) (br_f hj36 ?_)
      have hY : ∀ (r : Int32), (∀ w : Nat, w < 2 → v2 ≠ nI w) → r = -1 → wpY_attackers (fun r' => r' = r ∧ i_Rel (k + 3) (f_going, f_mover, f_made, f_played, f_shields, f_settled, f_rootMove, f_word0, f_word1, f_word2, f_word3, a_nextTo, a_leaps, a_pawnHits, a_line, a_at, a_squaresOf, a_held, a_kingAt, a_quiet, a_positions, a_playedMove, a_playedPiece, a_playedTaken, a_moveList, a_listEnd, a_nextMove, a_shieldLine, a_left, a_low, a_firstLow, a_high, a_most, a_rows, a_knownWords, a_knownMover, a_knownDepth, a_knownKind, a_knownNumber) (g_playing, g_mover, g_height, g_leaves, g_answer, g_bestMove, fun s => nI (B s), b_fromOf, b_toOf, b_moved, b_captured, b_past, b_tried, b_top)) (g_playing, g_mover, g_height, g_leaves, g_answer, g_bestMove, fun s => nI (B s), b_fromOf, b_toOf, b_moved, b_captured, b_past, b_tried, b_top) (nI j) v2 := fun r hw hr => by
        unfold wpY_attackers
        exact ya_isSq (fun h => absurd rfl (h j hj)) (fun s hs e => br_f (by decide) (br_f (fun e0 => hw 0 (by decide) e0) (br_f (fun e1 => hw 1 (by decide) e1) ⟨hr.symm, hR⟩)))
      rcases pk_ix v2 (n := 2) (by decide) with h | h | ⟨w, hw, rfl⟩
      · exact br_t h (hY _ (fun w hw e => nI_pos (n := w) (by omega) (by rw [← e]; exact h)) rfl)
      · have hn0 : ¬ v2 < 0 := Int32.not_lt.mpr (Int32.le_trans (by decide) h)
        have hn1 : ¬ v2 ≤ 1 := fun h1 => absurd (Int32.le_trans h h1) (by decide)
        exact br_f hn0 (br_f hn1 (hY _ (fun w hw e => (Int32.not_lt.mpr h) (by rw [e]; exact nI_lt (b := 2) hw (by decide))) rfl))
      · refine br_f (nI_pos (by omega)) (pk_le w 1 (fun _ => ?_) (fun h => by omega))
        refine xa_attackersOf hT hB hok.1 hj hw (xb_pc hok.1 hB.2.2) fun r hr => cb_ones (cb_Slen hr) ?_
        rw [cb_Sl hr]
        have H17 : wY_attackers_17 (fun r' => r' = nI (cd_as B j w).length ∧ i_Rel (k + 3) (f_going, f_mover, f_made, f_played, f_shields, f_settled, f_rootMove, f_word0, f_word1, f_word2, f_word3, a_nextTo, a_leaps, a_pawnHits, a_line, a_at, a_squaresOf, a_held, a_kingAt, a_quiet, a_positions, a_playedMove, a_playedPiece, a_playedTaken, a_moveList, a_listEnd, a_nextMove, a_shieldLine, a_left, a_low, a_firstLow, a_high, a_most, a_rows, a_knownWords, a_knownMover, a_knownDepth, a_knownKind, a_knownNumber) (g_playing, g_mover, g_height, g_leaves, g_answer, g_bestMove, fun s => nI (B s), b_fromOf, b_toOf, b_moved, b_captured, b_past, b_tried, b_top)) (nI j) (nI w) g_playing g_mover g_height g_leaves g_answer g_bestMove (fun s => nI (B s)) b_fromOf b_toOf b_moved b_captured b_past b_tried b_top := by
          unfold wY_attackers_17
          exact ym_att rfl hok.1 hj hw ⟨rfl, hR⟩
        unfold wpY_attackers
        refine ya_isSq (fun h => absurd rfl (h j hj)) (fun s hs e => br_f (by decide) (pk_eq w 0 (fun h0 => H17) (fun h0 => pk_eq w 1 (fun h1 => H17) (fun h1 => by omega))))
  refine zz_cs (P := fun u v => wpX_attackers (fun r => wpY_attackers (fun r' => r' = r ∧ i_Rel (k + 3) u v) v v1 v2) u v1 v2) I ?_ ?_
  · intro f_going f_mover f_made f_played f_shields f_settled f_rootMove f_word0 f_word1 f_word2 f_word3 a_nextTo a_leaps a_pawnHits a_line a_at a_squaresOf a_held a_kingAt a_quiet a_positions a_playedMove a_playedPiece a_playedTaken a_moveList a_listEnd a_nextMove a_shieldLine a_left a_low a_firstLow a_high a_most a_rows a_knownWords a_knownMover a_knownDepth a_knownKind a_knownNumber g_playing g_mover g_height g_leaves g_answer g_bestMove b_board b_fromOf b_toOf b_moved b_captured b_past b_tried b_top B hT hB hok hkn
    exact main 0 f_mover f_made f_played f_shields f_settled f_rootMove f_word0 f_word1 f_word2 f_word3 a_nextTo a_leaps a_pawnHits a_line a_at a_squaresOf a_held a_kingAt a_quiet a_positions a_playedMove a_playedPiece a_playedTaken a_moveList a_listEnd a_nextMove a_shieldLine a_left a_low a_firstLow a_high a_most a_rows a_knownWords a_knownMover a_knownDepth a_knownKind a_knownNumber 0 g_mover g_height g_leaves g_answer g_bestMove (fun s => nI (B s)) b_fromOf b_toOf b_moved b_captured b_past b_tried b_top B hT hB hok (zz_i0 hT hB rfl hok hkn rfl rfl)
  · intro f_going f_mover f_made f_played f_shields f_settled f_rootMove f_word0 f_word1 f_word2 f_word3 a_nextTo a_leaps a_pawnHits a_line a_at a_squaresOf a_held a_kingAt a_quiet a_positions a_playedMove a_playedPiece a_playedTaken a_moveList a_listEnd a_nextMove a_shieldLine a_left a_low a_firstLow a_high a_most a_rows a_knownWords a_knownMover a_knownDepth a_knownKind a_knownNumber g_playing g_mover g_height g_leaves g_answer g_bestMove b_board b_fromOf b_toOf b_moved b_captured b_past b_tried b_top B n m H X S hS hP
    exact main 1 (nI m) (nI n) (nI n) f_shields f_settled f_rootMove f_word0 f_word1 f_word2 f_word3 a_nextTo a_leaps a_pawnHits a_line a_at a_squaresOf a_held a_kingAt a_quiet a_positions a_playedMove a_playedPiece a_playedTaken a_moveList a_listEnd a_nextMove a_shieldLine a_left a_low a_firstLow a_high a_most a_rows a_knownWords a_knownMover a_knownDepth a_knownKind a_knownNumber 1 (nI m) (nI n) g_leaves g_answer g_bestMove (fun s => nI (B s)) b_fromOf b_toOf b_moved b_captured b_past b_tried b_top B hS.1 hS.2.1 hS.2.2.2.1.2.1 (zz_i2 (g_mover0 := 0) hS rfl rfl rfl rfl rfl rfl hP (fun _ _ => ⟨rfl, rfl, rfl⟩) yz_refl)
end
section
/-! ===== the owed statements, second part: lists and searches ===== -/
theorem i_vc_moves {k : Nat} {u : SX} {v : SY} (I : i_Rel k u v) (hk : k + 3 ≤ 1536) : wpX_moves (fun r u' => wpY_moves (fun r' v' => r' = r ∧ i_Rel (k + 3) u' v') v) u := by
  refine zz_cs (P := fun u v => wpX_moves (fun r u' => wpY_moves (fun r' v' => r' = r ∧ i_Rel (k + 3) u' v') v) u) I ?_ ?_
  · intro f_going f_mover f_made f_played f_shields f_settled f_rootMove f_word0 f_word1 f_word2 f_word3 a_nextTo a_leaps a_pawnHits a_line a_at a_squaresOf a_held a_kingAt a_quiet a_positions a_playedMove a_playedPiece a_playedTaken a_moveList a_listEnd a_nextMove a_shieldLine a_left a_low a_firstLow a_high a_most a_rows a_knownWords a_knownMover a_knownDepth a_knownKind a_knownNumber g_playing g_mover g_height g_leaves g_answer g_bestMove b_board b_fromOf b_toOf b_moved b_captured b_past b_tried b_top B hT hB hok hkn
    exact br_t rfl (br_t rfl ⟨rfl, zz_i0 hT hB rfl hok hkn rfl rfl⟩)
  · intro f_going f_mover f_made f_played f_shields f_settled f_rootMove f_word0 f_word1 f_word2 f_word3 a_nextTo a_leaps a_pawnHits a_line a_at a_squaresOf a_held a_kingAt a_quiet a_positions a_playedMove a_playedPiece a_playedTaken a_moveList a_listEnd a_nextMove a_shieldLine a_left a_low a_firstLow a_high a_most a_rows a_knownWords a_knownMover a_knownDepth a_knownKind a_knownNumber g_playing g_mover g_height g_leaves g_answer g_bestMove b_board b_fromOf b_toOf b_moved b_captured b_past b_tried b_top B n m H X S hS hP
    have hG : cd_G B m := hS.2.2.2.1
    refine br_f (by decide) (xc_list (l := 0) hS (by decide) ?_)
    intro f_shields_2 a_moveList_2 a_listEnd_2 a_nextMove_2 a_shieldLine_2 c1 c2 c3 c4 c5 c6
    refine yl_moves rfl rfl hG.2.1.1 rfl hG.1 rfl (by have := hP.1; omega) ?_
    intro b_fromOf_2 b_toOf_2 b_moved_2 b_captured_2 hZ
    exact ⟨by rw [c3, Nat.mul_zero, Nat.zero_add], zz_i2 (g_mover0 := 0) hS rfl rfl rfl rfl rfl rfl hP (fun _ _ => ⟨rfl, rfl, rfl⟩) hZ⟩
theorem i_vc_moveAt {k : Nat} {u : SX} {v : SY} (I : i_Rel k u v) (hk : k + 3 ≤ 1536) (v1 : Int32) : wpX_moveAt (fun r u' => wpY_moveAt (fun r' v' => r' = r ∧ i_Rel (k + 3) u' v') v v1) u v1 := by
  refine zz_cs (P := fun u v => wpX_moveAt (fun r u' => wpY_moveAt (fun r' v' => r' = r ∧ i_Rel (k + 3) u' v') v v1) u v1) I ?_ ?_
  · intro f_going f_mover f_made f_played f_shields f_settled f_rootMove f_word0 f_word1 f_word2 f_word3 a_nextTo a_leaps a_pawnHits a_line a_at a_squaresOf a_held a_kingAt a_quiet a_positions a_playedMove a_playedPiece a_playedTaken a_moveList a_listEnd a_nextMove a_shieldLine a_left a_low a_firstLow a_high a_most a_rows a_knownWords a_knownMover a_knownDepth a_knownKind a_knownNumber g_playing g_mover g_height g_leaves g_answer g_bestMove b_board b_fromOf b_toOf b_moved b_captured b_past b_tried b_top B hT hB hok hkn
    exact br_t rfl (br_t rfl ⟨rfl, zz_i0 hT hB rfl hok hkn rfl rfl⟩)
  · intro f_going f_mover f_made f_played f_shields f_settled f_rootMove f_word0 f_word1 f_word2 f_word3 a_nextTo a_leaps a_pawnHits a_line a_at a_squaresOf a_held a_kingAt a_quiet a_positions a_playedMove a_playedPiece a_playedTaken a_moveList a_listEnd a_nextMove a_shieldLine a_left a_low a_firstLow a_high a_most a_rows a_knownWords a_knownMover a_knownDepth a_knownKind a_knownNumber g_playing g_mover g_height g_leaves g_answer g_bestMove b_board b_fromOf b_toOf b_moved b_captured b_past b_tried b_top B n m H X S hS hP
    have hG : cd_G B m := hS.2.2.2.1
    have hn70 : n < 70 := by have := hP.1; omega
    refine br_f (by decide) (xc_list (l := 0) hS (by decide) ?_)
    intro f_shields_2 a_moveList_2 a_listEnd_2 a_nextMove_2 a_shieldLine_2 c1 c2 c3 c4 c5 c6
    rw [Nat.mul_zero] at c1 c3
    rw [Nat.zero_add] at c3
    have hL84 := ce_L84 hG
    have hR : ∀ (b_fromOf_2 b_toOf_2 b_moved_2 b_captured_2 : Nat → Int32), (yf_Z n b_fromOf b_toOf b_moved b_captured b_fromOf_2 b_toOf_2 b_moved_2 b_captured_2) → i_Rel (k + 3) (1, nI m, nI n, nI n, f_shields_2, f_settled, f_rootMove, f_word0, f_word1, f_word2, f_word3, a_nextTo, a_leaps, a_pawnHits, a_line, a_at, a_squaresOf, a_held, a_kingAt, a_quiet, a_positions, a_playedMove, a_playedPiece, a_playedTaken, a_moveList_2, a_listEnd_2, a_nextMove_2, a_shieldLine_2, a_left, a_low, a_firstLow, a_high, a_most, a_rows, a_knownWords, a_knownMover, a_knownDepth, a_knownKind, a_knownNumber) (1, nI m, nI n, g_leaves, g_answer, g_bestMove, fun s => nI (B s), b_fromOf_2, b_toOf_2, b_moved_2, b_captured_2, b_past, b_tried, b_top) := fun b_fromOf_2 b_toOf_2 b_moved_2 b_captured_2 hZ => zz_i2 (g_mover0 := 0) hS rfl rfl rfl rfl rfl rfl hP (fun _ _ => ⟨rfl, rfl, rfl⟩) hZ
    by_cases h0 : v1 < 0
    · refine br_t h0 (br_f (by decide) ⟨1, ?_⟩)
      rw [wY_moveAt_13]
      exact br_f (by decide) (br_t h0 ⟨rfl, hR _ _ _ _ yz_refl⟩)
    · obtain ⟨j, hj, rfl⟩ := nI_of h0
      have hY : ∀ r : Int32, r = (if j < (cd_L B m).length then nI ((cd_L B m).getD j 0) else -2) → wpY_moveAt (fun r' v' => r' = r ∧ i_Rel (k + 3) (1, nI m, nI n, nI n, f_shields_2, f_settled, f_rootMove, f_word0, f_word1, f_word2, f_word3, a_nextTo, a_leaps, a_pawnHits, a_line, a_at, a_squaresOf, a_held, a_kingAt, a_quiet, a_positions, a_playedMove, a_playedPiece, a_playedTaken, a_moveList_2, a_listEnd_2, a_nextMove_2, a_shieldLine_2, a_left, a_low, a_firstLow, a_high, a_most, a_rows, a_knownWords, a_knownMover, a_knownDepth, a_knownKind, a_knownNumber) v') (1, nI m, nI n, g_leaves, g_answer, g_bestMove, fun s => nI (B s), b_fromOf, b_toOf, b_moved, b_captured, b_past, b_tried, b_top) (nI j) := by
        intro r hr
        refine br_f (by decide) ⟨1297, yl_ma13 hj rfl hG.2.1.1 rfl hG.1 rfl hn70 1296 0 j rfl hj _ _ _ _ ?_⟩
        intro b_fromOf_2 b_toOf_2 b_moved_2 b_captured_2 hZ
        rw [← yl_L, yl_Llen]
        exact ⟨hr.symm, hR _ _ _ _ hZ⟩
      refine br_f h0 ?_
      rw [c3]
      refine pk_lt j (cd_L B m).length (fun hlt => ⟨vp_in_nI (by omega) (by decide), ?_⟩) (fun hge => hY _ (by rw [if_neg (by omega)]))
      rw [nI_clamp hj]
      refine hY _ ?_
      have := c1 j hlt
      rw [Nat.zero_add] at this
      rw [if_pos hlt]; exact this
/-! mobile -/
theorem zz_rowf (B : Nat → Nat) (m s : Nat) : ∀ n, ((List.range n).flatMap (xl_row B m)).filter (fun x => x / 64 == s) = if s < n then xl_row B m s else []
  | 0 => rfl
  | n + 1 => by
    rw [List.range_succ, List.flatMap_append, List.filter_append, zz_rowf B m s n, List.flatMap_cons, List.flatMap_nil, List.append_nil]
    have hrow : ∀ x, x ∈ xl_row B m n → x / 64 = n := by
      intro x hx
      unfold xl_row at hx
      obtain ⟨t, ht, rfl⟩ := List.mem_map.mp hx
      have := List.mem_range.mp (List.mem_filter.mp ht).1
      omega
    by_cases h : s = n
    · subst h
      rw [if_neg (by omega), if_pos (by omega), List.nil_append, List.filter_eq_self]
      intro x hx; rw [hrow x hx]; exact beq_self_eq_true s
    · have : (xl_row B m n).filter (fun x => x / 64 == s) = [] := by
        rw [List.filter_eq_nil_iff]
        intro x hx; rw [hrow x hx]
        rw [beq_eq_false_iff_ne.mpr (fun e => h e.symm)]; decide
      rw [this, List.append_nil]
      by_cases h2 : s < n
      · rw [if_pos h2, if_pos (by omega)]
      · rw [if_neg h2, if_neg (by omega)]
section
variable {f_going f_mover f_made f_played : Int32} {f_shields : Int64} {f_settled f_rootMove : Int32} {f_word0 f_word1 f_word2 f_word3 : Int64} {a_nextTo a_leaps a_pawnHits a_line : Nat → Int64} {a_at : Nat → Int32} {a_squaresOf a_held : Nat → Int64} {a_kingAt a_quiet : Nat → Int32} {a_positions : Nat → Int64} {a_playedMove a_playedPiece a_playedTaken a_moveList a_listEnd a_nextMove : Nat → Int32} {a_shieldLine : Nat → Int64} {a_left a_low a_firstLow a_high a_most a_rows : Nat → Int32} {a_knownWords : Nat → Int64} {a_knownMover a_knownDepth a_knownKind a_knownNumber : Nat → Int32} {post : Int32 → SX → Prop}
theorem xp_mob18 {L : List Nat} {v1 : Int32} (hM : xl_M a_moveList 0 L) (hle : a_listEnd 0 = nI L.length) (hlen : L.length ≤ 84) (hL : ∀ x, x ∈ L → x / 64 < 36) :
    ∀ (rest done : List Nat) (c : Nat), done ++ rest = L → post (nI (c + (rest.filter (fun x => decide (nI (x / 64) = v1))).length)) (f_going, f_mover, f_made, f_played, f_shields, f_settled, f_rootMove, f_word0, f_word1, f_word2, f_word3, a_nextTo, a_leaps, a_pawnHits, a_line, a_at, a_squaresOf, a_held, a_kingAt, a_quiet, a_positions, a_playedMove, a_playedPiece, a_playedTaken, a_moveList, a_listEnd, a_nextMove, a_shieldLine, a_left, a_low, a_firstLow, a_high, a_most, a_rows, a_knownWords, a_knownMover, a_knownDepth, a_knownKind, a_knownNumber) → wX_mobile_18 post v1 f_going f_mover f_made f_played f_shields f_settled f_rootMove f_word0 f_word1 f_word2 f_word3 a_nextTo a_leaps a_pawnHits a_line a_at a_squaresOf a_held a_kingAt a_quiet a_positions a_playedMove a_playedPiece a_playedTaken a_moveList a_listEnd a_nextMove a_shieldLine a_left a_low a_firstLow a_high a_most a_rows a_knownWords a_knownMover a_knownDepth a_knownKind a_knownNumber (rest.length + 1) (nI c) (nI done.length) := by
  intro rest
  induction rest with
  | nil =>
    intro done c hdr C
    rw [List.append_nil] at hdr
    subst hdr
    rw [List.length_nil, wX_mobile_18]
    dsimp only
    rw [hle]
    exact pk_le done.length done.length (fun _ => C) (fun h => by omega)
  | cons x rest ih =>
    intro done c hdr C
    obtain ⟨g1, g2, g3, g4, g5⟩ := xc_get hdr
    have hx := hL x g3
    have hmd := hM _ g1
    rw [Nat.zero_add, g2] at hmd
    rw [List.length_cons, wX_mobile_18]
    dsimp only
    rw [hle, nI_clamp (by omega), hmd]
    refine pk_le L.length done.length (fun h => by omega) (fun _ => ⟨vp_in_nI (by omega) (by decide), ?_⟩)
    rw [show nI x >>> ((6 : Int32) &&& 31) = nI (x / 64) from pk_shrN (by omega) _ 6 (by decide)]
    have ih' := fun c' C' => ih (done ++ [x]) c' g4 C'
    rw [g5] at ih'
    refine br_c (fun he => ?_) (fun he => ?_)
    · rw [List.filter_cons_of_pos (by exact decide_eq_true he), List.length_cons] at C
      refine nm_r (nI_1 c) (nm_r (nI_1 done.length) (ih' (c + 1) ?_))
      rw [show c + 1 + (rest.filter (fun x => decide (nI (x / 64) = v1))).length = c + ((rest.filter (fun x => decide (nI (x / 64) = v1))).length + 1) from by omega]
      exact C
    · rw [List.filter_cons_of_neg (by rw [decide_eq_false he]; decide)] at C
      exact nm_r (nI_1 done.length) (ih' c C)
end
theorem i_vc_mobile {k : Nat} {u : SX} {v : SY} (I : i_Rel k u v) (hk : k + 3 ≤ 1536) (v1 : Int32) : wpX_mobile (fun r u' => wpY_mobile (fun r' v' => r' = r ∧ i_Rel (k + 3) u' v') v v1) u v1 := by
  refine zz_cs (P := fun u v => wpX_mobile (fun r u' => wpY_mobile (fun r' v' => r' = r ∧ i_Rel (k + 3) u' v') v v1) u v1) I ?_ ?_
  · intro f_going f_mover f_made f_played f_shields f_settled f_rootMove f_word0 f_word1 f_word2 f_word3 a_nextTo a_leaps a_pawnHits a_line a_at a_squaresOf a_held a_kingAt a_quiet a_positions a_playedMove a_playedPiece a_playedTaken a_moveList a_listEnd a_nextMove a_shieldLine a_left a_low a_firstLow a_high a_most a_rows a_knownWords a_knownMover a_knownDepth a_knownKind a_knownNumber g_playing g_mover g_height g_leaves g_answer g_bestMove b_board b_fromOf b_toOf b_moved b_captured b_past b_tried b_top B hT hB hok hkn
    exact br_t rfl (br_t rfl ⟨rfl, zz_i0 hT hB rfl hok hkn rfl rfl⟩)
  · intro f_going f_mover f_made f_played f_shields f_settled f_rootMove f_word0 f_word1 f_word2 f_word3 a_nextTo a_leaps a_pawnHits a_line a_at a_squaresOf a_held a_kingAt a_quiet a_positions a_playedMove a_playedPiece a_playedTaken a_moveList a_listEnd a_nextMove a_shieldLine a_left a_low a_firstLow a_high a_most a_rows a_knownWords a_knownMover a_knownDepth a_knownKind a_knownNumber g_playing g_mover g_height g_leaves g_answer g_bestMove b_board b_fromOf b_toOf b_moved b_captured b_past b_tried b_top B n m H X S hS hP
    have hG : cd_G B m := hS.2.2.2.1
    have hn70 : n < 70 := by have := hP.1; omega
    refine br_f (by decide) (xc_list (l := 0) hS (by decide) ?_)
    intro f_shields_2 a_moveList_2 a_listEnd_2 a_nextMove_2 a_shieldLine_2 c1 c2 c3 c4 c5 c6
    rw [Nat.mul_zero] at c1 c3
    rw [Nat.zero_add] at c3
    have hL84 := ce_L84 hG
    have hR : ∀ (b_fromOf_2 b_toOf_2 b_moved_2 b_captured_2 : Nat → Int32), (yf_Z n b_fromOf b_toOf b_moved b_captured b_fromOf_2 b_toOf_2 b_moved_2 b_captured_2) → i_Rel (k + 3) (1, nI m, nI n, nI n, f_shields_2, f_settled, f_rootMove, f_word0, f_word1, f_word2, f_word3, a_nextTo, a_leaps, a_pawnHits, a_line, a_at, a_squaresOf, a_held, a_kingAt, a_quiet, a_positions, a_playedMove, a_playedPiece, a_playedTaken, a_moveList_2, a_listEnd_2, a_nextMove_2, a_shieldLine_2, a_left, a_low, a_firstLow, a_high, a_most, a_rows, a_knownWords, a_knownMover, a_knownDepth, a_knownKind, a_knownNumber) (1, nI m, nI n, g_leaves, g_answer, g_bestMove, fun s => nI (B s), b_fromOf_2, b_toOf_2, b_moved_2, b_captured_2, b_past, b_tried, b_top) := fun b_fromOf_2 b_toOf_2 b_moved_2 b_captured_2 hZ => zz_i2 (g_mover0 := 0) hS rfl rfl rfl rfl rfl rfl hP (fun _ _ => ⟨rfl, rfl, rfl⟩) hZ
    refine ⟨_, xp_mob18 c1 c3 hL84 (fun x hx => (ce_L_mem.mp hx).1) (cd_L B m) [] 0 rfl ?_⟩
    rw [Nat.zero_add]
    by_cases hsq : ∃ s, s < 36 ∧ v1 = nI s
    · obtain ⟨s, hs, rfl⟩ := hsq
      have e : (cd_L B m).filter (fun x => decide (nI (x / 64) = nI s)) = xl_row B m s := by
        have h1 : (cd_L B m).filter (fun x => decide (nI (x / 64) = nI s)) = (cd_L B m).filter (fun x => x / 64 == s) := List.filter_congr fun x hx => by
          have := (ce_L_mem.mp hx).1
          rw [Bool.eq_iff_iff, decide_eq_true_eq, beq_iff_eq]
          exact nI_eq (by omega) (by omega)
        rw [h1, xl_Lrow, zz_rowf, if_pos hs]
      rw [e]
      unfold xl_row
      rw [List.length_map, ce_len]
      refine br_f (by decide) ⟨37, yo_mob hs rfl hG.2.1.1 rfl hG.1 rfl hn70 36 0 rfl _ _ _ _ ?_⟩
      intro b_fromOf_2 b_toOf_2 b_moved_2 b_captured_2 hZ
      exact ⟨rfl, hR _ _ _ _ hZ⟩
    · have e : (cd_L B m).filter (fun x => decide (nI (x / 64) = v1)) = [] := by
        rw [List.filter_eq_nil_iff]
        intro x hx h
        exact hsq ⟨x / 64, (ce_L_mem.mp hx).1, (of_decide_eq_true h).symm⟩
      rw [e]
      refine br_f (by decide) ⟨1, ?_⟩
      rw [wY_mobile_13]
      exact br_f (by decide) (ya_isSq (fun _ => br_t rfl ⟨rfl, hR _ _ _ _ yz_refl⟩) (fun s hs e => absurd ⟨s, hs, e⟩ hsq))
/-! searches -/
theorem zz_d4 (v1 : Int32) : (v1 < 0 ∧ ¬ v1 = 0 ∧ ¬ v1 = 1 ∧ ¬ v1 = 2) ∨ (¬ v1 < 0 ∧ ¬ v1 ≤ 3) ∨ ∃ D : Nat, D ≤ 3 ∧ v1 = nI D := by
  rcases pk_ix v1 (n := 4) (by decide) with h | h | ⟨j, hj, rfl⟩
  · refine Or.inl ⟨h, fun e => ?_, fun e => ?_, fun e => ?_⟩
    · rw [e] at h; exact absurd h (by decide)
    · rw [e] at h; exact absurd h (by decide)
    · rw [e] at h; exact absurd h (by decide)
  · refine Or.inr (Or.inl ⟨Int32.not_lt.mpr (Int32.le_trans (by decide) h), fun h1 => absurd (Int32.le_trans h h1) (by decide)⟩)
  · exact Or.inr (Or.inr ⟨j, by omega, rfl⟩)
theorem i_vc_count {k : Nat} {u : SX} {v : SY} (I : i_Rel k u v) (hk : k + 3 ≤ 1536) (v1 : Int32) : wpX_count (fun r u' => wpY_count (fun r' v' => r' = r ∧ i_Rel (k + 3) u' v') v v1) u v1 := by
  refine zz_cs (P := fun u v => wpX_count (fun r u' => wpY_count (fun r' v' => r' = r ∧ i_Rel (k + 3) u' v') v v1) u v1) I ?_ ?_
  · intro f_going f_mover f_made f_played f_shields f_settled f_rootMove f_word0 f_word1 f_word2 f_word3 a_nextTo a_leaps a_pawnHits a_line a_at a_squaresOf a_held a_kingAt a_quiet a_positions a_playedMove a_playedPiece a_playedTaken a_moveList a_listEnd a_nextMove a_shieldLine a_left a_low a_firstLow a_high a_most a_rows a_knownWords a_knownMover a_knownDepth a_knownKind a_knownNumber g_playing g_mover g_height g_leaves g_answer g_bestMove b_board b_fromOf b_toOf b_moved b_captured b_past b_tried b_top B hT hB hok hkn
    exact br_t rfl (br_t rfl ⟨rfl, zz_i0 hT hB rfl hok hkn rfl rfl⟩)
  · intro f_going f_mover f_made f_played f_shields f_settled f_rootMove f_word0 f_word1 f_word2 f_word3 a_nextTo a_leaps a_pawnHits a_line a_at a_squaresOf a_held a_kingAt a_quiet a_positions a_playedMove a_playedPiece a_playedTaken a_moveList a_listEnd a_nextMove a_shieldLine a_left a_low a_firstLow a_high a_most a_rows a_knownWords a_knownMover a_knownDepth a_knownKind a_knownNumber g_playing g_mover g_height g_leaves g_answer g_bestMove b_board b_fromOf b_toOf b_moved b_captured b_past b_tried b_top B n m H X S hS hP
    have hG : cd_G B m := hS.2.2.2.1
    have hR : i_Rel (k + 3) (1, nI m, nI n, nI n, f_shields, f_settled, f_rootMove, f_word0, f_word1, f_word2, f_word3, a_nextTo, a_leaps, a_pawnHits, a_line, a_at, a_squaresOf, a_held, a_kingAt, a_quiet, a_positions, a_playedMove, a_playedPiece, a_playedTaken, a_moveList, a_listEnd, a_nextMove, a_shieldLine, a_left, a_low, a_firstLow, a_high, a_most, a_rows, a_knownWords, a_knownMover, a_knownDepth, a_knownKind, a_knownNumber) (1, nI m, nI n, g_leaves, g_answer, g_bestMove, fun s => nI (B s), b_fromOf, b_toOf, b_moved, b_captured, b_past, b_tried, b_top) := zz_i2 (g_mover0 := 0) hS rfl rfl rfl rfl rfl rfl hP (fun _ _ => ⟨rfl, rfl, rfl⟩) yz_refl
    rcases zz_d4 v1 with h | h | ⟨D, hD, rfl⟩
    · exact br_f (by decide) (br_t h.1 (br_f (by decide) (br_t h.1 ⟨rfl, hR⟩)))
    · exact br_f (by decide) (br_f h.1 (br_f h.2 (br_f (by decide) (br_f h.1 (br_f h.2 ⟨rfl, hR⟩)))))
    · refine xp_count rfl hS hD hP.1 ?_
      intro f_mover_2 f_played_2 f_shields_2 f_settled_2 f_word0_2 f_word1_2 f_word2_2 f_word3_2 a_at_2 a_squaresOf_2 a_held_2 a_kingAt_2 a_playedMove_2 a_playedPiece_2 a_playedTaken_2 a_moveList_2 a_listEnd_2 a_nextMove_2 a_shieldLine_2 a_rows_2 a_knownWords_2 a_knownMover_2 a_knownDepth_2 a_knownKind_2 a_knownNumber_2 hS2 hP2
      refine br_f (by decide) (br_f (nI_pos (by omega)) (pk_le D 3 (fun _ => ?_) (fun h => by omega)))
      refine ys_search hD hG hP.1 rfl rfl rfl ?_
      intro g_mover_2 g_height_2 g_leaves_2 g_answer_2 g_bestMove_2 b_board_2 b_fromOf_2 b_toOf_2 b_moved_2 b_captured_2 b_tried_2 b_top_2 y1 y2 y3 y4 y5 y6 y7
      exact ⟨y4, zz_i2 (g_mover0 := 0) hS2 y3 rfl rfl y1 rfl y2 hP hP2 y6⟩
end
section
/-! ===== the owed statements, third part: value, best, mate ===== -/
section
variable {f_going f_mover f_made f_played : Int32} {f_shields : Int64} {f_settled f_rootMove : Int32} {f_word0 f_word1 f_word2 f_word3 : Int64} {a_nextTo a_leaps a_pawnHits a_line : Nat → Int64} {a_at : Nat → Int32} {a_squaresOf a_held : Nat → Int64} {a_kingAt a_quiet : Nat → Int32} {a_positions : Nat → Int64} {a_playedMove a_playedPiece a_playedTaken a_moveList a_listEnd a_nextMove : Nat → Int32} {a_shieldLine : Nat → Int64} {a_left a_low a_firstLow a_high a_most a_rows : Nat → Int32} {a_knownWords : Nat → Int64} {a_knownMover a_knownDepth a_knownKind a_knownNumber : Nat → Int32} {post : Int32 → SX → Prop} {B : Nat → Nat} {m h D : Nat} {lo hi : Int} {p1 p2 : Int32}
theorem xp_searchL (e1 : p1 = xi lo) (e2 : p2 = xi hi) (hS : (xc_S B m h f_mover f_played a_nextTo a_leaps a_pawnHits a_line a_at a_squaresOf a_held a_kingAt a_knownWords a_knownMover a_knownDepth a_knownKind a_knownNumber)) (hD : D ≤ 4) (hh : h ≤ 60) (hlo : -5000 ≤ lo) (hhi : hi ≤ 5000) (hlh : lo < hi)
    (C : ∀ (f_mover_2 f_played_2 : Int32) (f_shields_2 : Int64) (f_settled_2 f_rootMove_2 : Int32) (f_word0_2 f_word1_2 f_word2_2 f_word3_2 : Int64) (a_at_2 : Nat → Int32) (a_squaresOf_2 a_held_2 : Nat → Int64) (a_kingAt_2 a_playedMove_2 a_playedPiece_2 a_playedTaken_2 a_moveList_2 a_listEnd_2 a_nextMove_2 : Nat → Int32) (a_shieldLine_2 : Nat → Int64) (a_left_2 a_low_2 a_firstLow_2 a_high_2 a_most_2 : Nat → Int32) (a_knownWords_2 : Nat → Int64) (a_knownMover_2 a_knownDepth_2 a_knownKind_2 a_knownNumber_2 : Nat → Int32), ∀ r : Int, (xc_S B m h f_mover_2 f_played_2 a_nextTo a_leaps a_pawnHits a_line a_at_2 a_squaresOf_2 a_held_2 a_kingAt_2 a_knownWords_2 a_knownMover_2 a_knownDepth_2 a_knownKind_2 a_knownNumber_2) → (xf_E 0 h a_moveList a_listEnd a_nextMove a_left a_low a_firstLow a_high a_most a_playedMove a_playedPiece a_playedTaken a_moveList_2 a_listEnd_2 a_nextMove_2 a_left_2 a_low_2 a_firstLow_2 a_high_2 a_most_2 a_playedMove_2 a_playedPiece_2 a_playedTaken_2) → -5000 ≤ r → r ≤ 5000 → cs_R (cd_val D B m) r lo hi → (∀ e, D = e + 1 → lo = -5000 → hi = 5000 → f_rootMove_2 = xi (cd_bm (fun x => cd_val e (cd_nx B x) (1 - m)) (-5000) (-1) (cd_L B m))) → post (xi r) (f_going, f_mover_2, f_made, f_played_2, f_shields_2, f_settled_2, f_rootMove_2, f_word0_2, f_word1_2, f_word2_2, f_word3_2, a_nextTo, a_leaps, a_pawnHits, a_line, a_at_2, a_squaresOf_2, a_held_2, a_kingAt_2, a_quiet, a_positions, a_playedMove_2, a_playedPiece_2, a_playedTaken_2, a_moveList_2, a_listEnd_2, a_nextMove_2, a_shieldLine_2, a_left_2, a_low_2, a_firstLow_2, a_high_2, a_most_2, a_rows, a_knownWords_2, a_knownMover_2, a_knownDepth_2, a_knownKind_2, a_knownNumber_2)) :
    wpX_search post (f_going, f_mover, f_made, f_played, f_shields, f_settled, f_rootMove, f_word0, f_word1, f_word2, f_word3, a_nextTo, a_leaps, a_pawnHits, a_line, a_at, a_squaresOf, a_held, a_kingAt, a_quiet, a_positions, a_playedMove, a_playedPiece, a_playedTaken, a_moveList, a_listEnd, a_nextMove, a_shieldLine, a_left, a_low, a_firstLow, a_high, a_most, a_rows, a_knownWords, a_knownMover, a_knownDepth, a_knownKind, a_knownNumber) (nI D) p1 p2 := by
  subst e1; subst e2
  exact xp_search hS hD hh hlo hhi hlh C
end
theorem zz_val {V r : Int} {D : Nat} (hD : D ≤ 4) (hV : -(1000 + (D : Int)) ≤ V ∧ V ≤ 1000 + (D : Int)) (h : cs_R V r (-5000) 5000) : V = r := by
  obtain ⟨h1, h2, h3⟩ := h
  by_cases ha : r ≤ -5000
  · have := h1 ha; omega
  · by_cases hb : 5000 ≤ r
    · have := h2 hb; omega
    · exact h3 (by omega) (by omega)
theorem i_vc_value {k : Nat} {u : SX} {v : SY} (I : i_Rel k u v) (hk : k + 3 ≤ 1536) (v1 : Int32) : wpX_value (fun r u' => wpY_value (fun r' v' => r' = r ∧ i_Rel (k + 3) u' v') v v1) u v1 := by
  refine zz_cs (P := fun u v => wpX_value (fun r u' => wpY_value (fun r' v' => r' = r ∧ i_Rel (k + 3) u' v') v v1) u v1) I ?_ ?_
  · intro f_going f_mover f_made f_played f_shields f_settled f_rootMove f_word0 f_word1 f_word2 f_word3 a_nextTo a_leaps a_pawnHits a_line a_at a_squaresOf a_held a_kingAt a_quiet a_positions a_playedMove a_playedPiece a_playedTaken a_moveList a_listEnd a_nextMove a_shieldLine a_left a_low a_firstLow a_high a_most a_rows a_knownWords a_knownMover a_knownDepth a_knownKind a_knownNumber g_playing g_mover g_height g_leaves g_answer g_bestMove b_board b_fromOf b_toOf b_moved b_captured b_past b_tried b_top B hT hB hok hkn
    exact br_t rfl (br_t rfl ⟨rfl, zz_i0 hT hB rfl hok hkn rfl rfl⟩)
  · intro f_going f_mover f_made f_played f_shields f_settled f_rootMove f_word0 f_word1 f_word2 f_word3 a_nextTo a_leaps a_pawnHits a_line a_at a_squaresOf a_held a_kingAt a_quiet a_positions a_playedMove a_playedPiece a_playedTaken a_moveList a_listEnd a_nextMove a_shieldLine a_left a_low a_firstLow a_high a_most a_rows a_knownWords a_knownMover a_knownDepth a_knownKind a_knownNumber g_playing g_mover g_height g_leaves g_answer g_bestMove b_board b_fromOf b_toOf b_moved b_captured b_past b_tried b_top B n m H X S hS hP
    have hG : cd_G B m := hS.2.2.2.1
    have hR : i_Rel (k + 3) (1, nI m, nI n, nI n, f_shields, f_settled, f_rootMove, f_word0, f_word1, f_word2, f_word3, a_nextTo, a_leaps, a_pawnHits, a_line, a_at, a_squaresOf, a_held, a_kingAt, a_quiet, a_positions, a_playedMove, a_playedPiece, a_playedTaken, a_moveList, a_listEnd, a_nextMove, a_shieldLine, a_left, a_low, a_firstLow, a_high, a_most, a_rows, a_knownWords, a_knownMover, a_knownDepth, a_knownKind, a_knownNumber) (1, nI m, nI n, g_leaves, g_answer, g_bestMove, fun s => nI (B s), b_fromOf, b_toOf, b_moved, b_captured, b_past, b_tried, b_top) := zz_i2 (g_mover0 := 0) hS rfl rfl rfl rfl rfl rfl hP (fun _ _ => ⟨rfl, rfl, rfl⟩) yz_refl
    rcases zz_d4 v1 with h | h | ⟨D, hD, rfl⟩
    · exact br_f (by decide) (br_t h.1 (br_f (by decide) (br_t h.1 ⟨rfl, hR⟩)))
    · exact br_f (by decide) (br_f h.1 (br_f h.2 (br_f (by decide) (br_f h.1 (br_f h.2 ⟨rfl, hR⟩)))))
    · refine br_f (by decide) (br_f (nI_pos (by omega)) (pk_le D 3 (fun _ => ?_) (fun h => by omega)))
      refine xp_searchL (lo := -5000) (hi := 5000) (by decide) (by decide) hS (by omega) hP.1 (by omega) (by omega) (by omega) ?_
      intro f_mover_2 f_played_2 f_shields_2 f_settled_2 f_rootMove_2 f_word0_2 f_word1_2 f_word2_2 f_word3_2 a_at_2 a_squaresOf_2 a_held_2 a_kingAt_2 a_playedMove_2 a_playedPiece_2 a_playedTaken_2 a_moveList_2 a_listEnd_2 a_nextMove_2 a_shieldLine_2 a_left_2 a_low_2 a_firstLow_2 a_high_2 a_most_2 a_knownWords_2 a_knownMover_2 a_knownDepth_2 a_knownKind_2 a_knownNumber_2 r hS2 hE2 hr1 hr2 hcs hrm
      refine br_f (by decide) (br_f (nI_pos (by omega)) (pk_le D 3 (fun _ => ?_) (fun h => by omega)))
      refine ys_search hD hG hP.1 rfl rfl rfl ?_
      intro g_mover_2 g_height_2 g_leaves_2 g_answer_2 g_bestMove_2 b_board_2 b_fromOf_2 b_toOf_2 b_moved_2 b_captured_2 b_tried_2 b_top_2 y1 y2 y3 y4 y5 y6 y7
      refine ⟨?_, zz_i2 (g_mover0 := 0) hS2 y3 rfl rfl y1 rfl y2 hP hE2.2.2 y6⟩
      rw [y5, zz_val (D := D) (by omega) (cs_vb D B m) hcs]
theorem zz_bm {g : Nat → Int} : ∀ (l : List Nat) (a b : Int), cd_bm g a b l = b ∨ ∃ x, x ∈ l ∧ cd_bm g a b l = (x : Int)
  | [], _, _ => Or.inl rfl
  | x :: l, a, b => by
    rw [cd_bm]
    split
    · rcases zz_bm (g := g) l (-(g x)) (x : Int) with h | ⟨y, hy, h⟩
      · exact Or.inr ⟨x, List.mem_cons_self, h⟩
      · exact Or.inr ⟨y, List.mem_cons_of_mem _ hy, h⟩
    · rcases zz_bm (g := g) l a b with h | ⟨y, hy, h⟩
      · exact Or.inl h
      · exact Or.inr ⟨y, List.mem_cons_of_mem _ hy, h⟩
theorem i_vc_best {k : Nat} {u : SX} {v : SY} (I : i_Rel k u v) (hk : k + 3 ≤ 1536) (v1 : Int32) : wpX_best (fun r u' => wpY_best (fun r' v' => r' = r ∧ i_Rel (k + 3) u' v') v v1) u v1 := by
  refine zz_cs (P := fun u v => wpX_best (fun r u' => wpY_best (fun r' v' => r' = r ∧ i_Rel (k + 3) u' v') v v1) u v1) I ?_ ?_
  · intro f_going f_mover f_made f_played f_shields f_settled f_rootMove f_word0 f_word1 f_word2 f_word3 a_nextTo a_leaps a_pawnHits a_line a_at a_squaresOf a_held a_kingAt a_quiet a_positions a_playedMove a_playedPiece a_playedTaken a_moveList a_listEnd a_nextMove a_shieldLine a_left a_low a_firstLow a_high a_most a_rows a_knownWords a_knownMover a_knownDepth a_knownKind a_knownNumber g_playing g_mover g_height g_leaves g_answer g_bestMove b_board b_fromOf b_toOf b_moved b_captured b_past b_tried b_top B hT hB hok hkn
    exact br_t rfl (br_t rfl ⟨rfl, zz_i0 hT hB rfl hok hkn rfl rfl⟩)
  · intro f_going f_mover f_made f_played f_shields f_settled f_rootMove f_word0 f_word1 f_word2 f_word3 a_nextTo a_leaps a_pawnHits a_line a_at a_squaresOf a_held a_kingAt a_quiet a_positions a_playedMove a_playedPiece a_playedTaken a_moveList a_listEnd a_nextMove a_shieldLine a_left a_low a_firstLow a_high a_most a_rows a_knownWords a_knownMover a_knownDepth a_knownKind a_knownNumber g_playing g_mover g_height g_leaves g_answer g_bestMove b_board b_fromOf b_toOf b_moved b_captured b_past b_tried b_top B n m H X S hS hP
    have hG : cd_G B m := hS.2.2.2.1
    have hR : i_Rel (k + 3) (1, nI m, nI n, nI n, f_shields, f_settled, f_rootMove, f_word0, f_word1, f_word2, f_word3, a_nextTo, a_leaps, a_pawnHits, a_line, a_at, a_squaresOf, a_held, a_kingAt, a_quiet, a_positions, a_playedMove, a_playedPiece, a_playedTaken, a_moveList, a_listEnd, a_nextMove, a_shieldLine, a_left, a_low, a_firstLow, a_high, a_most, a_rows, a_knownWords, a_knownMover, a_knownDepth, a_knownKind, a_knownNumber) (1, nI m, nI n, g_leaves, g_answer, g_bestMove, fun s => nI (B s), b_fromOf, b_toOf, b_moved, b_captured, b_past, b_tried, b_top) := zz_i2 (g_mover0 := 0) hS rfl rfl rfl rfl rfl rfl hP (fun _ _ => ⟨rfl, rfl, rfl⟩) yz_refl
    rcases zz_d4 v1 with h | h | ⟨D, hD, rfl⟩
    · have h1 : v1 < 1 := Int32.lt_trans h.1 (by decide)
      exact br_f (by decide) (br_t h1 (br_f (by decide) (br_t h1 ⟨rfl, hR⟩)))
    · have h1 : ¬ v1 < 1 := fun h1 => h.2 (Int32.le_of_lt (Int32.lt_trans h1 (by decide)))
      exact br_f (by decide) (br_f h1 (br_f h.2 (br_f (by decide) (br_f h1 (br_f h.2 ⟨rfl, hR⟩)))))
    · refine br_f (by decide) (pk_lt D 1 (fun h0 => ?_) (fun h0 => pk_le D 3 (fun _ => ?_) (fun h => by omega)))
      · exact br_f (by decide) (pk_lt D 1 (fun _ => ⟨rfl, hR⟩) (fun h => by omega))
      · obtain ⟨e, rfl⟩ : ∃ e, D = e + 1 := ⟨D - 1, by omega⟩
        refine xp_searchL (lo := -5000) (hi := 5000) (by decide) (by decide) hS (by omega) hP.1 (by omega) (by omega) (by omega) ?_
        intro f_mover_2 f_played_2 f_shields_2 f_settled_2 f_rootMove_2 f_word0_2 f_word1_2 f_word2_2 f_word3_2 a_at_2 a_squaresOf_2 a_held_2 a_kingAt_2 a_playedMove_2 a_playedPiece_2 a_playedTaken_2 a_moveList_2 a_listEnd_2 a_nextMove_2 a_shieldLine_2 a_left_2 a_low_2 a_firstLow_2 a_high_2 a_most_2 a_knownWords_2 a_knownMover_2 a_knownDepth_2 a_knownKind_2 a_knownNumber_2 r hS2 hE2 hr1 hr2 hcs hrm
        have hrm := hrm e rfl rfl rfl
        have hgb : ∀ x, -5000 < -(cd_val e (cd_nx B x) (1 - m)) := fun x => by have := cs_vb e (cd_nx B x) (1 - m); omega
        have hY : ∀ z : Int32, z = xi (cd_bm (fun x => cd_val e (cd_nx B x) (1 - m)) (-5000) (-3) (cd_L B m)) → wpY_best (fun r' v' => r' = z ∧ i_Rel (k + 3) (1, f_mover_2, nI n, f_played_2, f_shields_2, f_settled_2, f_rootMove_2, f_word0_2, f_word1_2, f_word2_2, f_word3_2, a_nextTo, a_leaps, a_pawnHits, a_line, a_at_2, a_squaresOf_2, a_held_2, a_kingAt_2, a_quiet, a_positions, a_playedMove_2, a_playedPiece_2, a_playedTaken_2, a_moveList_2, a_listEnd_2, a_nextMove_2, a_shieldLine_2, a_left_2, a_low_2, a_firstLow_2, a_high_2, a_most_2, a_rows, a_knownWords_2, a_knownMover_2, a_knownDepth_2, a_knownKind_2, a_knownNumber_2) v') (1, nI m, nI n, g_leaves, g_answer, g_bestMove, fun s => nI (B s), b_fromOf, b_toOf, b_moved, b_captured, b_past, b_tried, b_top) (nI (e + 1)) := by
          intro z hz
          refine br_f (by decide) (pk_lt (e + 1) 1 (fun h => by omega) (fun _ => pk_le (e + 1) 3 (fun _ => ?_) (fun h => by omega)))
          refine ys_search hD hG hP.1 rfl rfl rfl ?_
          intro g_mover_2 g_height_2 g_leaves_2 g_answer_2 g_bestMove_2 b_board_2 b_fromOf_2 b_toOf_2 b_moved_2 b_captured_2 b_tried_2 b_top_2 y1 y2 y3 y4 y5 y6 y7
          exact ⟨by rw [y7 e rfl, hz], zz_i2 (g_mover0 := 0) hS2 y3 rfl rfl y1 rfl y2 hP hE2.2.2 y6⟩
        subst hrm
        by_cases hL : cd_L B m = []
        · refine br_f ?_ (hY _ (by rw [hL]; rfl))
          rw [hL, cd_bm]; decide
        · obtain ⟨q1, q2⟩ := cs_bm_b (g := fun x => cd_val e (cd_nx B x) (1 - m)) hL (fun x _ => hgb x) (-1) (-3)
          refine br_t ?_ (hY _ (by rw [q1]))
          rw [show (0 : Int32) = xi 0 from rfl, xi_le (by omega) ?_]
          · exact q2
          · refine ⟨by omega, ?_⟩
            rcases zz_bm (g := fun x => cd_val e (cd_nx B x) (1 - m)) (cd_L B m) (-5000) (-1) with h | ⟨x, hx, h⟩
            · omega
            · have := (ce_L_mem.mp hx).1; omega
theorem i_vc_mate {k : Nat} {u : SX} {v : SY} (I : i_Rel k u v) (hk : k + 3 ≤ 1536) (v1 : Int32) : wpX_mate (fun r u' => wpY_mate (fun r' v' => r' = r ∧ i_Rel (k + 3) u' v') v v1) u v1 := by
  refine zz_cs (P := fun u v => wpX_mate (fun r u' => wpY_mate (fun r' v' => r' = r ∧ i_Rel (k + 3) u' v') v v1) u v1) I ?_ ?_
  · intro f_going f_mover f_made f_played f_shields f_settled f_rootMove f_word0 f_word1 f_word2 f_word3 a_nextTo a_leaps a_pawnHits a_line a_at a_squaresOf a_held a_kingAt a_quiet a_positions a_playedMove a_playedPiece a_playedTaken a_moveList a_listEnd a_nextMove a_shieldLine a_left a_low a_firstLow a_high a_most a_rows a_knownWords a_knownMover a_knownDepth a_knownKind a_knownNumber g_playing g_mover g_height g_leaves g_answer g_bestMove b_board b_fromOf b_toOf b_moved b_captured b_past b_tried b_top B hT hB hok hkn
    exact br_t rfl (br_t rfl ⟨rfl, zz_i0 hT hB rfl hok hkn rfl rfl⟩)
  · intro f_going f_mover f_made f_played f_shields f_settled f_rootMove f_word0 f_word1 f_word2 f_word3 a_nextTo a_leaps a_pawnHits a_line a_at a_squaresOf a_held a_kingAt a_quiet a_positions a_playedMove a_playedPiece a_playedTaken a_moveList a_listEnd a_nextMove a_shieldLine a_left a_low a_firstLow a_high a_most a_rows a_knownWords a_knownMover a_knownDepth a_knownKind a_knownNumber g_playing g_mover g_height g_leaves g_answer g_bestMove b_board b_fromOf b_toOf b_moved b_captured b_past b_tried b_top B n m H X S hS hP
    have hG : cd_G B m := hS.2.2.2.1
    have hv : yv_V B := hG.2.1.1
    have hR : i_Rel (k + 3) (1, nI m, nI n, nI n, f_shields, f_settled, f_rootMove, f_word0, f_word1, f_word2, f_word3, a_nextTo, a_leaps, a_pawnHits, a_line, a_at, a_squaresOf, a_held, a_kingAt, a_quiet, a_positions, a_playedMove, a_playedPiece, a_playedTaken, a_moveList, a_listEnd, a_nextMove, a_shieldLine, a_left, a_low, a_firstLow, a_high, a_most, a_rows, a_knownWords, a_knownMover, a_knownDepth, a_knownKind, a_knownNumber) (1, nI m, nI n, g_leaves, g_answer, g_bestMove, fun s => nI (B s), b_fromOf, b_toOf, b_moved, b_captured, b_past, b_tried, b_top) := zz_i2 (g_mover0 := 0) hS rfl rfl rfl rfl rfl rfl hP (fun _ _ => ⟨rfl, rfl, rfl⟩) yz_refl
    have hYno : ∀ z : Int32, z = -2 → ¬ v1 = 1 → ¬ v1 = 2 → wpY_mate (fun r' v' => r' = z ∧ i_Rel (k + 3) (1, nI m, nI n, nI n, f_shields, f_settled, f_rootMove, f_word0, f_word1, f_word2, f_word3, a_nextTo, a_leaps, a_pawnHits, a_line, a_at, a_squaresOf, a_held, a_kingAt, a_quiet, a_positions, a_playedMove, a_playedPiece, a_playedTaken, a_moveList, a_listEnd, a_nextMove, a_shieldLine, a_left, a_low, a_firstLow, a_high, a_most, a_rows, a_knownWords, a_knownMover, a_knownDepth, a_knownKind, a_knownNumber) v') (1, nI m, nI n, g_leaves, g_answer, g_bestMove, fun s => nI (B s), b_fromOf, b_toOf, b_moved, b_captured, b_past, b_tried, b_top) v1 := fun z hz h1 h2 => br_f (by decide) (br_f h1 (br_f h2 ⟨hz.symm, hR⟩))
    rcases pk_ix v1 (n := 3) (by decide) with h | h | ⟨j, hj, rfl⟩
    · have h1 : v1 < 1 := Int32.lt_trans h (by decide)
      refine br_f (by decide) (br_t h1 (hYno _ rfl (fun e => ?_) (fun e => ?_)))
      · rw [e] at h; exact absurd h (by decide)
      · rw [e] at h; exact absurd h (by decide)
    · have h1 : ¬ v1 < 1 := fun h1 => absurd (Int32.lt_of_le_of_lt h h1) (by decide)
      have h2 : ¬ v1 ≤ 2 := fun h1 => absurd (Int32.le_trans h h1) (by decide)
      refine br_f (by decide) (br_f h1 (br_f h2 (hYno _ rfl (fun e => ?_) (fun e => ?_))))
      · rw [e] at h; exact absurd h (by decide)
      · rw [e] at h; exact absurd h (by decide)
    · refine br_f (by decide) (pk_lt j 1 (fun h0 => ?_) (fun h0 => pk_le j 2 (fun _ => ?_) (fun h => by omega)))
      · have : j = 0 := by omega
        subst this
        exact hYno _ rfl (by decide) (by decide)
      · rw [show (2 : Int32) * nI j = nI (2 * j) from by rw [show (2 : Int32) = nI 2 from rfl, pk_mul]]
        refine xp_searchL (lo := 999) (hi := 1000) (by decide) (by decide) hS (by omega) hP.1 (by omega) (by omega) (by omega) ?_
        intro f_mover_2 f_played_2 f_shields_2 f_settled_2 f_rootMove_2 f_word0_2 f_word1_2 f_word2_2 f_word3_2 a_at_2 a_squaresOf_2 a_held_2 a_kingAt_2 a_playedMove_2 a_playedPiece_2 a_playedTaken_2 a_moveList_2 a_listEnd_2 a_nextMove_2 a_shieldLine_2 a_left_2 a_low_2 a_firstLow_2 a_high_2 a_most_2 a_knownWords_2 a_knownMover_2 a_knownDepth_2 a_knownKind_2 a_knownNumber_2 r hS2 hE2 hr1 hr2 hcs hrm
        have hlt : (xi r < 1000) ↔ ¬ 1000 ≤ cd_val (2 * j) B m := by
          rw [show (1000 : Int32) = xi 1000 from rfl, xi_lt (by omega) (by omega)]
          constructor
          · intro h1 h2; have := hcs.1 (by omega); omega
          · intro h1
            refine Classical.byContradiction fun h2 => h1 ?_
            have := hcs.2.1 (by omega); omega
        have hRY : ∀ (b_fromOf_2 b_toOf_2 b_moved_2 b_captured_2 : Nat → Int32), (yf_Z n b_fromOf b_toOf b_moved b_captured b_fromOf_2 b_toOf_2 b_moved_2 b_captured_2) → i_Rel (k + 3) (1, f_mover_2, nI n, f_played_2, f_shields_2, f_settled_2, f_rootMove_2, f_word0_2, f_word1_2, f_word2_2, f_word3_2, a_nextTo, a_leaps, a_pawnHits, a_line, a_at_2, a_squaresOf_2, a_held_2, a_kingAt_2, a_quiet, a_positions, a_playedMove_2, a_playedPiece_2, a_playedTaken_2, a_moveList_2, a_listEnd_2, a_nextMove_2, a_shieldLine_2, a_left_2, a_low_2, a_firstLow_2, a_high_2, a_most_2, a_rows, a_knownWords_2, a_knownMover_2, a_knownDepth_2, a_knownKind_2, a_knownNumber_2) (1, nI m, nI n, g_leaves, g_answer, g_bestMove, fun s => nI (B s), b_fromOf_2, b_toOf_2, b_moved_2, b_captured_2, b_past, b_tried, b_top) := fun b_fromOf_2 b_toOf_2 b_moved_2 b_captured_2 hZ => zz_i2 (g_mover0 := 0) hS2 rfl rfl rfl rfl rfl rfl hP hE2.2.2 hZ
        have hn60 := hP.1
        have hj12 : j = 1 ∨ j = 2 := by omega
        rcases hj12 with rfl | rfl
        · have hY : ∀ z : Int32, z = xb_b (cd_cm B m) → wpY_mate (fun r' v' => r' = z ∧ i_Rel (k + 3) (1, f_mover_2, nI n, f_played_2, f_shields_2, f_settled_2, f_rootMove_2, f_word0_2, f_word1_2, f_word2_2, f_word3_2, a_nextTo, a_leaps, a_pawnHits, a_line, a_at_2, a_squaresOf_2, a_held_2, a_kingAt_2, a_quiet, a_positions, a_playedMove_2, a_playedPiece_2, a_playedTaken_2, a_moveList_2, a_listEnd_2, a_nextMove_2, a_shieldLine_2, a_left_2, a_low_2, a_firstLow_2, a_high_2, a_most_2, a_rows, a_knownWords_2, a_knownMover_2, a_knownDepth_2, a_knownKind_2, a_knownNumber_2) v') (1, nI m, nI n, g_leaves, g_answer, g_bestMove, fun s => nI (B s), b_fromOf, b_toOf, b_moved, b_captured, b_past, b_tried, b_top) (nI 1) := by
            intro z hz
            refine br_f (by decide) (br_t rfl ?_)
            unfold wY_mate_22
            refine ye_canMate hv hG.1 (by omega) ?_
            intro b_fromOf_2 b_toOf_2 b_moved_2 b_captured_2 hZ
            refine ⟨1, ?_⟩
            rw [wY_mate_29]
            exact br_f (by decide) (br_f (by decide) (ye_87 ⟨hz.symm, hRY _ _ _ _ hZ⟩))
          have hcm := cs_cm B m
          refine br_c (fun h => hY _ ?_) (fun h => hY _ ?_)
          · have : cd_cm B m = false := by
              cases hc : cd_cm B m with
              | false => rfl
              | true => exact absurd (hcm.mp hc) (hlt.mp h)
            rw [this]; rfl
          · have : cd_cm B m = true := hcm.mpr (Classical.byContradiction fun h' => h (hlt.mpr h'))
            rw [this]; rfl
        · have hY : ∀ z : Int32, z = xb_b (cd_mt B m) → wpY_mate (fun r' v' => r' = z ∧ i_Rel (k + 3) (1, f_mover_2, nI n, f_played_2, f_shields_2, f_settled_2, f_rootMove_2, f_word0_2, f_word1_2, f_word2_2, f_word3_2, a_nextTo, a_leaps, a_pawnHits, a_line, a_at_2, a_squaresOf_2, a_held_2, a_kingAt_2, a_quiet, a_positions, a_playedMove_2, a_playedPiece_2, a_playedTaken_2, a_moveList_2, a_listEnd_2, a_nextMove_2, a_shieldLine_2, a_left_2, a_low_2, a_firstLow_2, a_high_2, a_most_2, a_rows, a_knownWords_2, a_knownMover_2, a_knownDepth_2, a_knownKind_2, a_knownNumber_2) v') (1, nI m, nI n, g_leaves, g_answer, g_bestMove, fun s => nI (B s), b_fromOf, b_toOf, b_moved, b_captured, b_past, b_tried, b_top) (nI 2) := by
            intro z hz
            refine br_f (by decide) (br_f (by decide) (br_t rfl ?_))
            unfold wY_mate_22
            refine ye_canMate hv hG.1 (by omega) ?_
            intro b_fromOf_2 b_toOf_2 b_moved_2 b_captured_2 hZ
            refine ⟨1297, ye_m29 hv hG.1 (by omega) 1296 0 rfl (cd_cm B m) (fun h => cs_cmt h) (fun _ q hq => by omega) _ _ _ _ ?_⟩
            intro b_fromOf_3 b_toOf_3 b_moved_3 b_captured_3 hZ3
            exact ⟨hz.symm, hRY _ _ _ _ (yz_trans (Nat.le_refl _) (Nat.le_refl _) hZ hZ3)⟩
          have hcm := cs_mt B m
          refine br_c (fun h => hY _ ?_) (fun h => hY _ ?_)
          · have : cd_mt B m = false := by
              cases hc : cd_mt B m with
              | false => rfl
              | true => exact absurd (hcm.mp hc) (hlt.mp h)
            rw [this]; rfl
          · have : cd_mt B m = true := hcm.mpr (Classical.byContradiction fun h' => h (hlt.mpr h'))
            rw [this]; rfl
end
section
/-! ===== the owed statements: put, clear ===== -/
theorem zp_pt2 {B : Nat → Nat} {s p : Nat} : cd_pt (cd_pt B s 0) s p = cd_pt B s p := by
  funext i; unfold cd_pt
  by_cases h : i = s
  · rw [if_pos h, if_pos h]
  · rw [if_neg h, if_neg h, if_neg h]
theorem zp_pt0 {B : Nat → Nat} {s p : Nat} (h : B s = p) : cd_pt B s p = B := by
  funext i; unfold cd_pt
  by_cases h1 : i = s
  · rw [if_pos h1, h1, h]
  · rw [if_neg h1]
theorem zp_n {B : Nat → Nat} {s p : Nat} (hs : s < 36) : cd_n (cd_pt B s p) + (if B s = 0 then 0 else 1) = cd_n B + (if p = 0 then 0 else 1) := by
  unfold cd_n
  have h := ce_sm1 (g := fun e => if cd_oc B e then 1 else 0) (g' := fun e => if cd_oc (cd_pt B s p) e then 1 else 0) (f := s) 36 hs (fun e _ he => by
    show (if cd_oc (cd_pt B s p) e then 1 else 0) = (if cd_oc B e then 1 else 0)
    unfold cd_oc; rw [cd_pt_o he])
  have e1 : (if cd_oc B s then 1 else 0) = if B s = 0 then 0 else 1 := by
    by_cases h0 : B s = 0
    · rw [if_pos h0, cd_ocF.mpr h0]; rfl
    · rw [if_neg h0, cd_ocT.mpr h0]; rfl
  have e2 : (if cd_oc (cd_pt B s p) s then 1 else 0) = if p = 0 then 0 else 1 := by
    by_cases h0 : p = 0
    · rw [if_pos h0, cd_ocF.mpr (by rw [cd_pt_s]; exact h0)]; rfl
    · rw [if_neg h0, cd_ocT.mpr (by rw [cd_pt_s]; exact h0)]; rfl
  rw [← e1, ← e2]; exact h
theorem zp_OK {B : Nat → Nat} {s p : Nat} (hok : cd_OK B) (hs : s < 36) (hp : p ≤ 14 ∧ p ≠ 7 ∧ p ≠ 8) (hpw : cd_kd p = 1 → 6 ≤ s ∧ s < 30) (hn : p = 0 ∨ B s ≠ 0 ∨ cd_n B < 6) : cd_OK (cd_pt B s p) := by
  obtain ⟨o1, o2, o3, o4⟩ := hok
  refine ⟨fun i hi => ?_, fun i hi => ?_, fun i hi hk => ?_, ?_⟩
  · by_cases h : i = s
    · rw [h, cd_pt_s]; exact hp
    · rw [cd_pt_o h]; exact o1 i hi
  · rw [cd_pt_o (by omega)]; exact o2 i hi
  · by_cases h : i = s
    · rw [h, cd_pt_s] at hk; rw [h]; exact hpw hk
    · rw [cd_pt_o h] at hk; exact o3 i hi hk
  · have h := zp_n (B := B) (s := s) (p := p) hs
    by_cases h0 : p = 0
    · rw [if_pos h0] at h; omega
    · rw [if_neg h0] at h
      by_cases h1 : B s = 0
      · rw [if_pos h1] at h; omega
      · rw [if_neg h1] at h; omega
section
variable {f_going f_mover f_made f_played : Int32} {f_shields : Int64} {f_settled f_rootMove : Int32} {f_word0 f_word1 f_word2 f_word3 : Int64} {a_nextTo a_leaps a_pawnHits a_line : Nat → Int64} {a_at : Nat → Int32} {a_squaresOf a_held : Nat → Int64} {a_kingAt a_quiet : Nat → Int32} {a_positions : Nat → Int64} {a_playedMove a_playedPiece a_playedTaken a_moveList a_listEnd a_nextMove : Nat → Int32} {a_shieldLine : Nat → Int64} {a_left a_low a_firstLow a_high a_most a_rows : Nat → Int32} {a_knownWords : Nat → Int64} {a_knownMover a_knownDepth a_knownKind a_knownNumber : Nat → Int32} {g_playing g_mover g_height g_leaves g_answer g_bestMove : Int32} {b_board b_fromOf b_toOf b_moved b_captured b_past b_tried b_top : Nat → Int32} {k : Nat} {B : Nat → Nat} {s p : Nat}
theorem zp_70 (hT : xt_T a_nextTo a_leaps a_pawnHits a_line) (hB : xb_B B a_at a_squaresOf a_held) (hok : cd_OK B) (hkn : xk_T a_knownWords a_knownMover a_knownDepth a_knownKind a_knownNumber) (hs : s < 36) (hp : p ≤ 14 ∧ p ≠ 7 ∧ p ≠ 8) (hpw : cd_kd p = 1 → 6 ≤ s ∧ s < 30)
    {W : (Int32 → SY → Prop) → Prop} (hW : ∀ q : Int32 → SY → Prop, wY_put_72 q (nI s) (nI p) 0 g_mover g_height g_leaves g_answer g_bestMove (fun i => nI (B i)) b_fromOf b_toOf b_moved b_captured b_past b_tried b_top → W q) :
    wX_put_70 (fun r u' => W (fun r' v' => r' = r ∧ i_Rel k u' v')) (nI s) (nI p) 0 f_mover f_made f_played f_shields f_settled f_rootMove f_word0 f_word1 f_word2 f_word3 a_nextTo a_leaps a_pawnHits a_line a_at a_squaresOf a_held a_kingAt a_quiet a_positions a_playedMove a_playedPiece a_playedTaken a_moveList a_listEnd a_nextMove a_shieldLine a_left a_low a_firstLow a_high a_most a_rows a_knownWords a_knownMover a_knownDepth a_knownKind a_knownNumber := by
  obtain ⟨o1, o2, o3, o4⟩ := hok
  have hvs := o1 s hs
  have hsi : vp_in (nI s) 36 := vp_in_nI hs (by decide)
  have hsc : (nI s).toNatClampNeg = s := nI_clamp (by omega)
  have has : a_at (nI s).toNatClampNeg = nI (B s) := by rw [hsc, hB.1]
  have hYb : upd (fun i => nI (B i)) s (nI p) = fun i => nI (cd_pt B s p i) := xm_at
  have hR : (p = 0 ∨ B s ≠ 0 ∨ cd_n B < 6) → ∀ (fa : Nat → Int32) (sq hl : Nat → Int64) (ka : Nat → Int32), xb_B (cd_pt B s p) fa sq hl → i_Rel k (0, f_mover, f_made, f_played, f_shields, f_settled, f_rootMove, f_word0, f_word1, f_word2, f_word3, a_nextTo, a_leaps, a_pawnHits, a_line, fa, sq, hl, ka, a_quiet, a_positions, a_playedMove, a_playedPiece, a_playedTaken, a_moveList, a_listEnd, a_nextMove, a_shieldLine, a_left, a_low, a_firstLow, a_high, a_most, a_rows, a_knownWords, a_knownMover, a_knownDepth, a_knownKind, a_knownNumber) (0, g_mover, g_height, g_leaves, g_answer, g_bestMove, fun i => nI (cd_pt B s p i), b_fromOf, b_toOf, b_moved, b_captured, b_past, b_tried, b_top) := fun hn fa sq hl ka hR => zz_i0 hT hR rfl (zp_OK ⟨o1, o2, o3, o4⟩ hs hp hpw hn) hkn rfl rfl
  have H97 : ∀ q : Int32 → SY → Prop, q (nI (B s)) (0, g_mover, g_height, g_leaves, g_answer, g_bestMove, fun i => nI (cd_pt B s p i), b_fromOf, b_toOf, b_moved, b_captured, b_past, b_tried, b_top) → wY_put_97 q (nI s) (nI p) 0 g_mover g_height g_leaves g_answer g_bestMove (fun i => nI (B i)) b_fromOf b_toOf b_moved b_captured b_past b_tried b_top := fun q hq => by
    unfold wY_put_97
    refine ⟨hsi, nm_r (e' := nI (B s)) (by rw [hsc]) ⟨hsi, nm_r (e' := fun i => nI (cd_pt B s p i)) (by rw [hsc]; exact hYb) hq⟩⟩
  have HY : (p = 0 ∨ B s ≠ 0 ∨ cd_n B < 6) → ∀ q : Int32 → SY → Prop, q (nI (B s)) (0, g_mover, g_height, g_leaves, g_answer, g_bestMove, fun i => nI (cd_pt B s p i), b_fromOf, b_toOf, b_moved, b_captured, b_past, b_tried, b_top) → wY_put_72 q (nI s) (nI p) 0 g_mover g_height g_leaves g_answer g_bestMove (fun i => nI (B i)) b_fromOf b_toOf b_moved b_captured b_past b_tried b_top := fun hn q hq => by
    unfold wY_put_72
    refine pk_eq p 0 (fun _ => H97 q hq) (fun h0 => ⟨hsi, ?_⟩)
    rw [hsc]
    exact pk_eq (B s) 0 (fun h1 => ym_pieces rfl o1 (pk_lt (cd_n B) 6 (fun _ => H97 q hq) (fun h6 => by omega))) (fun h1 => H97 q hq)
  have HX : (p = 0 ∨ B s ≠ 0 ∨ cd_n B < 6) → wX_put_113 (fun r u' => W (fun r' v' => r' = r ∧ i_Rel k u' v')) (nI s) (nI p) (nI (B s)) 0 f_mover f_made f_played f_shields f_settled f_rootMove f_word0 f_word1 f_word2 f_word3 a_nextTo a_leaps a_pawnHits a_line a_at a_squaresOf a_held a_kingAt a_quiet a_positions a_playedMove a_playedPiece a_playedTaken a_moveList a_listEnd a_nextMove a_shieldLine a_left a_low a_firstLow a_high a_most a_rows a_knownWords a_knownMover a_knownDepth a_knownKind a_knownNumber := fun hn => by
    have H122 : ∀ (B1 : Nat → Nat) (fa : Nat → Int32) (sq hl : Nat → Int64), xb_B B1 fa sq hl → B1 s = 0 → cd_pt B1 s p = cd_pt B s p → wX_put_122 (fun r u' => W (fun r' v' => r' = r ∧ i_Rel k u' v')) (nI s) (nI p) (nI (B s)) 0 f_mover f_made f_played f_shields f_settled f_rootMove f_word0 f_word1 f_word2 f_word3 a_nextTo a_leaps a_pawnHits a_line fa sq hl a_kingAt a_quiet a_positions a_playedMove a_playedPiece a_playedTaken a_moveList a_listEnd a_nextMove a_shieldLine a_left a_low a_firstLow a_high a_most a_rows a_knownWords a_knownMover a_knownDepth a_knownKind a_knownNumber := by
      intro B1 fa sq hl h1 h2 h3
      unfold wX_put_122
      refine pk_eq p 0 (fun h0 => hW _ (HY hn _ ⟨rfl, hR hn fa sq hl a_kingAt ?_⟩)) (fun h0 => xm_set h1 hs h2 h0 hp fun fa2 sq2 hl2 hR2 => hW _ (HY hn _ ⟨rfl, hR hn fa2 sq2 hl2 _ (by rw [← h3]; exact hR2)⟩))
      rw [← h3, zp_pt0 (by rw [h2, h0])]; exact h1
    unfold wX_put_113
    exact pk_eq (B s) 0 (fun h0 => H122 B a_at a_squaresOf a_held hB h0 rfl) (fun h0 => xm_lift hB hs h0 hvs fun fa sq hl hR1 => H122 _ fa sq hl hR1 cd_pt_s zp_pt2)
  unfold wX_put_70
  refine ⟨hsi, nm_r has ?_⟩
  have hpc := xb_pc o1 hB.2.2
  refine cb_ones (cb_Slen hpc) ?_
  rw [cb_Sl hpc, ce_len]
  refine pk_eq p 0 (fun h0 => HX (Or.inl h0)) (fun h0 => pk_eq (B s) 0 (fun h1 => pk_lt (cd_n B) 6 (fun h6 => HX (Or.inr (Or.inr h6))) (fun h6 => hW _ ?_)) (fun h1 => HX (Or.inr (Or.inl h1))))
  unfold wY_put_72
  refine pk_eq p 0 (fun h => absurd h h0) (fun _ => ⟨hsi, ?_⟩)
  rw [hsc]
  exact pk_eq (B s) 0 (fun _ => ym_pieces rfl o1 (pk_lt (cd_n B) 6 (fun h => by omega) (fun _ => ⟨rfl, zz_i0 hT hB rfl ⟨o1, o2, o3, o4⟩ hkn rfl rfl⟩))) (fun h => absurd h1 h)
end
theorem zp_p15 (v2 : Int32) : (v2 < 0) ∨ (¬ v2 < 0 ∧ 14 < v2) ∨ ∃ p : Nat, p ≤ 14 ∧ v2 = nI p := by
  rcases pk_ix v2 (n := 15) (by decide) with h | h | ⟨j, hj, rfl⟩
  · exact Or.inl h
  · refine Or.inr (Or.inl ⟨Int32.not_lt.mpr (Int32.le_trans (by decide) h), Int32.lt_of_lt_of_le (by decide) h⟩)
  · exact Or.inr (Or.inr ⟨j, by omega, rfl⟩)
section
variable {g_playing g_mover g_height g_leaves g_answer g_bestMove : Int32} {b_board b_fromOf b_toOf b_moved b_captured b_past b_tried b_top : Nat → Int32} {post : Int32 → SY → Prop}
/-- the reference's put up to the board -/
theorem zp_Y {s p : Nat} (hs : s < 36) (hp : p ≤ 14 ∧ p ≠ 7 ∧ p ≠ 8) (hg : g_playing = 0) (h4 : cd_kd p = 1 → ¬ (6 ≤ s ∧ s < 30) → post (-4) (g_playing, g_mover, g_height, g_leaves, g_answer, g_bestMove, b_board, b_fromOf, b_toOf, b_moved, b_captured, b_past, b_tried, b_top)) (h72 : (cd_kd p = 1 → 6 ≤ s ∧ s < 30) → wY_put_72 post (nI s) (nI p) g_playing g_mover g_height g_leaves g_answer g_bestMove b_board b_fromOf b_toOf b_moved b_captured b_past b_tried b_top) : wpY_put post (g_playing, g_mover, g_height, g_leaves, g_answer, g_bestMove, b_board, b_fromOf, b_toOf, b_moved, b_captured, b_past, b_tried, b_top) (nI s) (nI p) := by
  unfold wpY_put
  have d6 : nI s / 6 = nI (s / 6) := pk_div (d := 6) (by omega) (by decide) (by decide)
  refine ya_isSq (fun h => absurd rfl (h s hs)) (fun _ _ _ => br_f (by decide) (br_f (nI_pos (by omega)) (pk_lt 14 p (fun h => by omega) (fun _ => pk_eq p 7 (fun h => absurd h hp.2.1) (fun _ => pk_eq p 8 (fun h => absurd h hp.2.2) (fun _ => br_t hg (ya_kind hp.1 ?_)))))))
  rw [d6]
  have hkd : cd_kd p ≤ 14 := by unfold cd_kd; split <;> omega
  refine pk_eq (cd_kd p) 1 (fun h1 => ⟨by decide, pk_eq (s / 6) 0 (fun h0 => h4 h1 (by omega)) (fun h0 => ⟨by decide, pk_eq (s / 6) 5 (fun h5 => h4 h1 (by omega)) (fun h5 => h72 (fun _ => by omega))⟩)⟩) (fun h1 => h72 (fun h => absurd h h1))
end
theorem i_vc_put {k : Nat} {u : SX} {v : SY} (I : i_Rel k u v) (hk : k + 3 ≤ 1536) (v1 : Int32) (v2 : Int32) : wpX_put (fun r u' => wpY_put (fun r' v' => r' = r ∧ i_Rel (k + 3) u' v') v v1 v2) u v1 v2 := by
  -- answers that leave everything as it is
  have hsame : ∀ (f_going f_mover f_made f_played : Int32) (f_shields : Int64) (f_settled f_rootMove : Int32) (f_word0 f_word1 f_word2 f_word3 : Int64) (a_nextTo a_leaps a_pawnHits a_line : Nat → Int64) (a_at : Nat → Int32) (a_squaresOf a_held : Nat → Int64) (a_kingAt a_quiet : Nat → Int32) (a_positions : Nat → Int64) (a_playedMove a_playedPiece a_playedTaken a_moveList a_listEnd a_nextMove : Nat → Int32) (a_shieldLine : Nat → Int64) (a_left a_low a_firstLow a_high a_most a_rows : Nat → Int32) (a_knownWords : Nat → Int64) (a_knownMover a_knownDepth a_knownKind a_knownNumber : Nat → Int32) (g_playing g_mover g_height g_leaves g_answer g_bestMove : Int32) (b_board b_fromOf b_toOf b_moved b_captured b_past b_tried b_top : Nat → Int32), i_Rel (k + 3) (f_going, f_mover, f_made, f_played, f_shields, f_settled, f_rootMove, f_word0, f_word1, f_word2, f_word3, a_nextTo, a_leaps, a_pawnHits, a_line, a_at, a_squaresOf, a_held, a_kingAt, a_quiet, a_positions, a_playedMove, a_playedPiece, a_playedTaken, a_moveList, a_listEnd, a_nextMove, a_shieldLine, a_left, a_low, a_firstLow, a_high, a_most, a_rows, a_knownWords, a_knownMover, a_knownDepth, a_knownKind, a_knownNumber) (g_playing, g_mover, g_height, g_leaves, g_answer, g_bestMove, b_board, b_fromOf, b_toOf, b_moved, b_captured, b_past, b_tried, b_top) → ((∀ s : Nat, s < 36 → v1 ≠ nI s) → wpY_put (fun r' v' => r' = -1 ∧ i_Rel (k + 3) (f_going, f_mover, f_made, f_played, f_shields, f_settled, f_rootMove, f_word0, f_word1, f_word2, f_word3, a_nextTo, a_leaps, a_pawnHits, a_line, a_at, a_squaresOf, a_held, a_kingAt, a_quiet, a_positions, a_playedMove, a_playedPiece, a_playedTaken, a_moveList, a_listEnd, a_nextMove, a_shieldLine, a_left, a_low, a_firstLow, a_high, a_most, a_rows, a_knownWords, a_knownMover, a_knownDepth, a_knownKind, a_knownNumber) v') (g_playing, g_mover, g_height, g_leaves, g_answer, g_bestMove, b_board, b_fromOf, b_toOf, b_moved, b_captured, b_past, b_tried, b_top) v1 v2) ∧ ((∃ s : Nat, s < 36 ∧ v1 = nI s) → ((v2 < 0 ∨ (¬ v2 < 0 ∧ 14 < v2) ∨ v2 = 7 ∨ v2 = 8) → wpY_put (fun r' v' => r' = -2 ∧ i_Rel (k + 3) (f_going, f_mover, f_made, f_played, f_shields, f_settled, f_rootMove, f_word0, f_word1, f_word2, f_word3, a_nextTo, a_leaps, a_pawnHits, a_line, a_at, a_squaresOf, a_held, a_kingAt, a_quiet, a_positions, a_playedMove, a_playedPiece, a_playedTaken, a_moveList, a_listEnd, a_nextMove, a_shieldLine, a_left, a_low, a_firstLow, a_high, a_most, a_rows, a_knownWords, a_knownMover, a_knownDepth, a_knownKind, a_knownNumber) v') (g_playing, g_mover, g_height, g_leaves, g_answer, g_bestMove, b_board, b_fromOf, b_toOf, b_moved, b_captured, b_past, b_tried, b_top) v1 v2)) ∧ ((∃ s : Nat, s < 36 ∧ v1 = nI s) → (¬ v2 < 0 ∧ ¬ 14 < v2 ∧ ¬ v2 = 7 ∧ ¬ v2 = 8) → ¬ g_playing = 0 → wpY_put (fun r' v' => r' = -3 ∧ i_Rel (k + 3) (f_going, f_mover, f_made, f_played, f_shields, f_settled, f_rootMove, f_word0, f_word1, f_word2, f_word3, a_nextTo, a_leaps, a_pawnHits, a_line, a_at, a_squaresOf, a_held, a_kingAt, a_quiet, a_positions, a_playedMove, a_playedPiece, a_playedTaken, a_moveList, a_listEnd, a_nextMove, a_shieldLine, a_left, a_low, a_firstLow, a_high, a_most, a_rows, a_knownWords, a_knownMover, a_knownDepth, a_knownKind, a_knownNumber) v') (g_playing, g_mover, g_height, g_leaves, g_answer, g_bestMove, b_board, b_fromOf, b_toOf, b_moved, b_captured, b_past, b_tried, b_top) v1 v2) := by
    intro f_going f_mover f_made f_played f_shields f_settled f_rootMove f_word0 f_word1 f_word2 f_word3 a_nextTo a_leaps a_pawnHits a_line a_at a_squaresOf a_held a_kingAt a_quiet a_positions a_playedMove a_playedPiece a_playedTaken a_moveList a_listEnd a_nextMove a_shieldLine a_left a_low a_firstLow a_high a_most a_rows a_knownWords a_knownMover a_knownDepth a_knownKind a_knownNumber g_playing g_mover g_height g_leaves g_answer g_bestMove b_board b_fromOf b_toOf b_moved b_captured b_past b_tried b_top hR
    refine ⟨fun h => ?_, fun ⟨s, hs, e⟩ h => ?_, fun ⟨s, hs, e⟩ h hp => ?_⟩
    · unfold wpY_put; exact ya_isSq (fun _ => br_t rfl ⟨rfl, hR⟩) (fun s hs e => absurd e (h s hs))
    · unfold wpY_put
      refine ya_isSq (fun h => absurd e (h s hs)) (fun _ _ _ => br_f (by decide) ?_)
      by_cases h0 : v2 < 0
      · exact br_t h0 ⟨rfl, hR⟩
      · refine br_f h0 ?_
        by_cases h1 : 14 < v2
        · exact br_t h1 ⟨rfl, hR⟩
        · refine br_f h1 ?_
          by_cases h7 : v2 = 7
          · exact br_t h7 ⟨rfl, hR⟩
          · refine br_f h7 (br_t ?_ ⟨rfl, hR⟩)
            rcases h with h | h | h | h
            · exact absurd h h0
            · exact absurd h.2 h1
            · exact absurd h h7
            · exact h
    · unfold wpY_put
      exact ya_isSq (fun h => absurd e (h s hs)) (fun _ _ _ => br_f (by decide) (br_f h.1 (br_f h.2.1 (br_f h.2.2.1 (br_f h.2.2.2 (br_f hp ⟨rfl, hR⟩))))))
  have main : ∀ (f_going f_mover f_made f_played : Int32) (f_shields : Int64) (f_settled f_rootMove : Int32) (f_word0 f_word1 f_word2 f_word3 : Int64) (a_nextTo a_leaps a_pawnHits a_line : Nat → Int64) (a_at : Nat → Int32) (a_squaresOf a_held : Nat → Int64) (a_kingAt a_quiet : Nat → Int32) (a_positions : Nat → Int64) (a_playedMove a_playedPiece a_playedTaken a_moveList a_listEnd a_nextMove : Nat → Int32) (a_shieldLine : Nat → Int64) (a_left a_low a_firstLow a_high a_most a_rows : Nat → Int32) (a_knownWords : Nat → Int64) (a_knownMover a_knownDepth a_knownKind a_knownNumber : Nat → Int32) (g_playing g_mover g_height g_leaves g_answer g_bestMove : Int32) (b_board b_fromOf b_toOf b_moved b_captured b_past b_tried b_top : Nat → Int32) (B : Nat → Nat), i_Rel (k + 3) (f_going, f_mover, f_made, f_played, f_shields, f_settled, f_rootMove, f_word0, f_word1, f_word2, f_word3, a_nextTo, a_leaps, a_pawnHits, a_line, a_at, a_squaresOf, a_held, a_kingAt, a_quiet, a_positions, a_playedMove, a_playedPiece, a_playedTaken, a_moveList, a_listEnd, a_nextMove, a_shieldLine, a_left, a_low, a_firstLow, a_high, a_most, a_rows, a_knownWords, a_knownMover, a_knownDepth, a_knownKind, a_knownNumber) (g_playing, g_mover, g_height, g_leaves, g_answer, g_bestMove, fun s => nI (B s), b_fromOf, b_toOf, b_moved, b_captured, b_past, b_tried, b_top) → ((∃ s p : Nat, s < 36 ∧ v1 = nI s ∧ p ≤ 14 ∧ p ≠ 7 ∧ p ≠ 8 ∧ v2 = nI p) → wpX_put (fun r u' => wpY_put (fun r' v' => r' = r ∧ i_Rel (k + 3) u' v') (g_playing, g_mover, g_height, g_leaves, g_answer, g_bestMove, fun s => nI (B s), b_fromOf, b_toOf, b_moved, b_captured, b_past, b_tried, b_top) v1 v2) (f_going, f_mover, f_made, f_played, f_shields, f_settled, f_rootMove, f_word0, f_word1, f_word2, f_word3, a_nextTo, a_leaps, a_pawnHits, a_line, a_at, a_squaresOf, a_held, a_kingAt, a_quiet, a_positions, a_playedMove, a_playedPiece, a_playedTaken, a_moveList, a_listEnd, a_nextMove, a_shieldLine, a_left, a_low, a_firstLow, a_high, a_most, a_rows, a_knownWords, a_knownMover, a_knownDepth, a_knownKind, a_knownNumber) v1 v2) → wpX_put (fun r u' => wpY_put (fun r' v' => r' = r ∧ i_Rel (k + 3) u' v') (g_playing, g_mover, g_height, g_leaves, g_answer, g_bestMove, fun s => nI (B s), b_fromOf, b_toOf, b_moved, b_captured, b_past, b_tried, b_top) v1 v2) (f_going, f_mover, f_made, f_played, f_shields, f_settled, f_rootMove, f_word0, f_word1, f_word2, f_word3, a_nextTo, a_leaps, a_pawnHits, a_line, a_at, a_squaresOf, a_held, a_kingAt, a_quiet, a_positions, a_playedMove, a_playedPiece, a_playedTaken, a_moveList, a_listEnd, a_nextMove, a_shieldLine, a_left, a_low, a_firstLow, a_high, a_most, a_rows, a_knownWords, a_knownMover, a_knownDepth, a_knownKind, a_knownNumber) v1 v2 := by
    intro f_going f_mover f_made f_played f_shields f_settled f_rootMove f_word0 f_word1 f_word2 f_word3 a_nextTo a_leaps a_pawnHits a_line a_at a_squaresOf a_held a_kingAt a_quiet a_positions a_playedMove a_playedPiece a_playedTaken a_moveList a_listEnd a_nextMove a_shieldLine a_left a_low a_firstLow a_high a_most a_rows a_knownWords a_knownMover a_knownDepth a_knownKind a_knownNumber g_playing g_mover g_height g_leaves g_answer g_bestMove b_board b_fromOf b_toOf b_moved b_captured b_past b_tried b_top B hR hin
    obtain ⟨y1, y2, y3⟩ := hsame f_going f_mover f_made f_played f_shields f_settled f_rootMove f_word0 f_word1 f_word2 f_word3 a_nextTo a_leaps a_pawnHits a_line a_at a_squaresOf a_held a_kingAt a_quiet a_positions a_playedMove a_playedPiece a_playedTaken a_moveList a_listEnd a_nextMove a_shieldLine a_left a_low a_firstLow a_high a_most a_rows a_knownWords a_knownMover a_knownDepth a_knownKind a_knownNumber g_playing g_mover g_height g_leaves g_answer g_bestMove (fun s => nI (B s)) b_fromOf b_toOf b_moved b_captured b_past b_tried b_top hR
    rcases pk_ix v1 (n := 36) (by decide) with h | h | ⟨s, hs, hv1⟩
    · exact br_t h (y1 fun s hs e => nI_pos (n := s) (by omega) (by rw [← e]; exact h))
    · have hn : ¬ v1 < 36 := Int32.not_lt.mpr h
      have hn0 : ¬ v1 < 0 := Int32.not_lt.mpr (Int32.le_trans (by decide) h)
      exact br_f hn0 (br_f hn (y1 fun s hs e => hn (by rw [e]; exact nI_lt (b := 36) hs (by decide))))
    · have hn0 : ¬ v1 < 0 := by rw [hv1]; exact nI_pos (by omega)
      have hn36 : v1 < 36 := by rw [hv1]; exact nI_lt (b := 36) hs (by decide)
      rcases zp_p15 v2 with h | h | ⟨p, hp, hv2⟩
      · exact br_f hn0 (br_t hn36 (br_t h (y2 ⟨s, hs, hv1⟩ (Or.inl h))))
      · exact br_f hn0 (br_t hn36 (br_f h.1 (br_t h.2 (y2 ⟨s, hs, hv1⟩ (Or.inr (Or.inl h))))))
      · have h0 : ¬ v2 < 0 := by rw [hv2]; exact nI_pos (by omega)
        have h14 : ¬ 14 < v2 := by rw [hv2]; exact nI_nlt (a := 14) hp (by decide)
        by_cases h7 : v2 = 7
        · exact br_f hn0 (br_t hn36 (br_f h0 (br_f h14 (br_t h7 (y2 ⟨s, hs, hv1⟩ (Or.inr (Or.inr (Or.inl h7))))))))
        · by_cases h8 : v2 = 8
          · exact br_f hn0 (br_t hn36 (br_f h0 (br_f h14 (br_f h7 (br_t h8 (y2 ⟨s, hs, hv1⟩ (Or.inr (Or.inr (Or.inr h8)))))))))
          · exact hin ⟨s, p, hs, hv1, hp, fun e => h7 (by rw [hv2, e]; rfl), fun e => h8 (by rw [hv2, e]; rfl), hv2⟩
  refine zz_cs (P := fun u v => wpX_put (fun r u' => wpY_put (fun r' v' => r' = r ∧ i_Rel (k + 3) u' v') v v1 v2) u v1 v2) I ?_ ?_
  · intro f_going f_mover f_made f_played f_shields f_settled f_rootMove f_word0 f_word1 f_word2 f_word3 a_nextTo a_leaps a_pawnHits a_line a_at a_squaresOf a_held a_kingAt a_quiet a_positions a_playedMove a_playedPiece a_playedTaken a_moveList a_listEnd a_nextMove a_shieldLine a_left a_low a_firstLow a_high a_most a_rows a_knownWords a_knownMover a_knownDepth a_knownKind a_knownNumber g_playing g_mover g_height g_leaves g_answer g_bestMove b_board b_fromOf b_toOf b_moved b_captured b_past b_tried b_top B hT hB hok hkn
    have hR : i_Rel (k + 3) (0, f_mover, f_made, f_played, f_shields, f_settled, f_rootMove, f_word0, f_word1, f_word2, f_word3, a_nextTo, a_leaps, a_pawnHits, a_line, a_at, a_squaresOf, a_held, a_kingAt, a_quiet, a_positions, a_playedMove, a_playedPiece, a_playedTaken, a_moveList, a_listEnd, a_nextMove, a_shieldLine, a_left, a_low, a_firstLow, a_high, a_most, a_rows, a_knownWords, a_knownMover, a_knownDepth, a_knownKind, a_knownNumber) (0, g_mover, g_height, g_leaves, g_answer, g_bestMove, fun s => nI (B s), b_fromOf, b_toOf, b_moved, b_captured, b_past, b_tried, b_top) := zz_i0 hT hB rfl hok hkn rfl rfl
    refine main 0 f_mover f_made f_played f_shields f_settled f_rootMove f_word0 f_word1 f_word2 f_word3 a_nextTo a_leaps a_pawnHits a_line a_at a_squaresOf a_held a_kingAt a_quiet a_positions a_playedMove a_playedPiece a_playedTaken a_moveList a_listEnd a_nextMove a_shieldLine a_left a_low a_firstLow a_high a_most a_rows a_knownWords a_knownMover a_knownDepth a_knownKind a_knownNumber 0 g_mover g_height g_leaves g_answer g_bestMove (fun s => nI (B s)) b_fromOf b_toOf b_moved b_captured b_past b_tried b_top B hR ?_
    rintro ⟨s, p, hs, rfl, hp, hp7, hp8, rfl⟩
    have ek : cd_kd p = p % 8 := by unfold cd_kd; split <;> omega
    have e7 : nI p &&& 7 = nI (p % 8) := pk_andN (by omega) 3 (by decide)
    have H70 : (cd_kd p = 1 → 6 ≤ s ∧ s < 30) → wX_put_70 (fun r u' => wpY_put (fun r' v' => r' = r ∧ i_Rel (k + 3) u' v') (0, g_mover, g_height, g_leaves, g_answer, g_bestMove, fun s => nI (B s), b_fromOf, b_toOf, b_moved, b_captured, b_past, b_tried, b_top) (nI s) (nI p)) (nI s) (nI p) 0 f_mover f_made f_played f_shields f_settled f_rootMove f_word0 f_word1 f_word2 f_word3 a_nextTo a_leaps a_pawnHits a_line a_at a_squaresOf a_held a_kingAt a_quiet a_positions a_playedMove a_playedPiece a_playedTaken a_moveList a_listEnd a_nextMove a_shieldLine a_left a_low a_firstLow a_high a_most a_rows a_knownWords a_knownMover a_knownDepth a_knownKind a_knownNumber := fun hpw =>
      zp_70 (W := fun q => wpY_put q (0, g_mover, g_height, g_leaves, g_answer, g_bestMove, fun s => nI (B s), b_fromOf, b_toOf, b_moved, b_captured, b_past, b_tried, b_top) (nI s) (nI p)) hT hB hok hkn hs ⟨hp, hp7, hp8⟩ hpw (fun q hq => zp_Y hs ⟨hp, hp7, hp8⟩ rfl (fun h1 h2 => absurd (hpw h1) h2) (fun _ => hq))
    have HY4 : cd_kd p = 1 → ¬ (6 ≤ s ∧ s < 30) → ∀ z : Int32, z = -4 → wpY_put (fun r' v' => r' = z ∧ i_Rel (k + 3) (0, f_mover, f_made, f_played, f_shields, f_settled, f_rootMove, f_word0, f_word1, f_word2, f_word3, a_nextTo, a_leaps, a_pawnHits, a_line, a_at, a_squaresOf, a_held, a_kingAt, a_quiet, a_positions, a_playedMove, a_playedPiece, a_playedTaken, a_moveList, a_listEnd, a_nextMove, a_shieldLine, a_left, a_low, a_firstLow, a_high, a_most, a_rows, a_knownWords, a_knownMover, a_knownDepth, a_knownKind, a_knownNumber) v') (0, g_mover, g_height, g_leaves, g_answer, g_bestMove, fun s => nI (B s), b_fromOf, b_toOf, b_moved, b_captured, b_past, b_tried, b_top) (nI s) (nI p) := fun h1 h2 z hz => zp_Y hs ⟨hp, hp7, hp8⟩ rfl (fun _ _ => ⟨hz.symm, hR⟩) (fun h => absurd (h h1) h2)
    refine br_f (nI_pos (by omega)) (br_t (nI_lt (b := 36) hs (by decide)) (br_f (nI_pos (by omega)) (pk_lt 14 p (fun h => by omega) (fun _ => pk_eq p 7 (fun h => absurd h hp7) (fun _ => pk_eq p 8 (fun h => absurd h hp8) (fun _ => br_t rfl ?_))))))
    rw [e7]
    refine pk_eq (p % 8) 1 (fun h1 => pk_lt s 6 (fun h6 => HY4 (by rw [ek]; exact h1) (by omega) _ rfl) (fun h6 => pk_lt s 30 (fun h30 => H70 (fun _ => by omega)) (fun h30 => HY4 (by rw [ek]; exact h1) (by omega) _ rfl))) (fun h1 => H70 (fun h => by rw [ek] at h; exact absurd h h1))
  · intro f_going f_mover f_made f_played f_shields f_settled f_rootMove f_word0 f_word1 f_word2 f_word3 a_nextTo a_leaps a_pawnHits a_line a_at a_squaresOf a_held a_kingAt a_quiet a_positions a_playedMove a_playedPiece a_playedTaken a_moveList a_listEnd a_nextMove a_shieldLine a_left a_low a_firstLow a_high a_most a_rows a_knownWords a_knownMover a_knownDepth a_knownKind a_knownNumber g_playing g_mover g_height g_leaves g_answer g_bestMove b_board b_fromOf b_toOf b_moved b_captured b_past b_tried b_top B n m H X S hS hP
    have hR : i_Rel (k + 3) (1, nI m, nI n, nI n, f_shields, f_settled, f_rootMove, f_word0, f_word1, f_word2, f_word3, a_nextTo, a_leaps, a_pawnHits, a_line, a_at, a_squaresOf, a_held, a_kingAt, a_quiet, a_positions, a_playedMove, a_playedPiece, a_playedTaken, a_moveList, a_listEnd, a_nextMove, a_shieldLine, a_left, a_low, a_firstLow, a_high, a_most, a_rows, a_knownWords, a_knownMover, a_knownDepth, a_knownKind, a_knownNumber) (1, nI m, nI n, g_leaves, g_answer, g_bestMove, fun s => nI (B s), b_fromOf, b_toOf, b_moved, b_captured, b_past, b_tried, b_top) := zz_i2 (g_mover0 := 0) hS rfl rfl rfl rfl rfl rfl hP (fun _ _ => ⟨rfl, rfl, rfl⟩) yz_refl
    refine main 1 (nI m) (nI n) (nI n) f_shields f_settled f_rootMove f_word0 f_word1 f_word2 f_word3 a_nextTo a_leaps a_pawnHits a_line a_at a_squaresOf a_held a_kingAt a_quiet a_positions a_playedMove a_playedPiece a_playedTaken a_moveList a_listEnd a_nextMove a_shieldLine a_left a_low a_firstLow a_high a_most a_rows a_knownWords a_knownMover a_knownDepth a_knownKind a_knownNumber 1 (nI m) (nI n) g_leaves g_answer g_bestMove (fun s => nI (B s)) b_fromOf b_toOf b_moved b_captured b_past b_tried b_top B hR ?_
    rintro ⟨s, p, hs, rfl, hp, hp7, hp8, rfl⟩
    obtain ⟨y1, y2, y3⟩ := hsame 1 (nI m) (nI n) (nI n) f_shields f_settled f_rootMove f_word0 f_word1 f_word2 f_word3 a_nextTo a_leaps a_pawnHits a_line a_at a_squaresOf a_held a_kingAt a_quiet a_positions a_playedMove a_playedPiece a_playedTaken a_moveList a_listEnd a_nextMove a_shieldLine a_left a_low a_firstLow a_high a_most a_rows a_knownWords a_knownMover a_knownDepth a_knownKind a_knownNumber 1 (nI m) (nI n) g_leaves g_answer g_bestMove (fun s => nI (B s)) b_fromOf b_toOf b_moved b_captured b_past b_tried b_top hR
    refine br_f (nI_pos (by omega)) (br_t (nI_lt (b := 36) hs (by decide)) (br_f (nI_pos (by omega)) (pk_lt 14 p (fun h => by omega) (fun _ => pk_eq p 7 (fun h => absurd h hp7) (fun _ => pk_eq p 8 (fun h => absurd h hp8) (fun _ => br_f (by decide) ?_))))))
    exact y3 ⟨s, hs, rfl⟩ ⟨nI_pos (by omega), nI_nlt (a := 14) hp (by decide), fun e => hp7 ((nI_eq (b := 7) (by omega) (by decide)).mp e), fun e => hp8 ((nI_eq (b := 8) (by omega) (by decide)).mp e)⟩ (by decide)
end
section
/-! ===== the owed statements: clear, begin ===== -/
def zc_B (B : Nat → Nat) (i : Nat) : Nat → Nat := fun j => if j < i then 0 else B j
theorem zc_0 (B : Nat → Nat) : zc_B B 0 = B := by funext j; unfold zc_B; rw [if_neg (by omega)]
theorem zc_s (B : Nat → Nat) (i : Nat) : zc_B B i i = B i := by unfold zc_B; rw [if_neg (by omega)]
theorem zc_pt (B : Nat → Nat) (i : Nat) : cd_pt (zc_B B i) i 0 = zc_B B (i + 1) := by
  funext j; unfold cd_pt zc_B
  by_cases h : j = i
  · rw [if_pos h, if_pos (by omega)]
  · rw [if_neg h]
    by_cases h2 : j < i
    · rw [if_pos h2, if_pos (by omega)]
    · rw [if_neg h2, if_neg (by omega)]
theorem zc_36 {B : Nat → Nat} (hok : cd_OK B) : zc_B B 36 = fun _ => 0 := by
  funext j; unfold zc_B
  by_cases h : j < 36
  · rw [if_pos h]
  · rw [if_neg h]; exact hok.2.1 j (by omega)
theorem zc_OK0 : cd_OK (fun _ => 0) := ⟨fun s _ => ⟨Nat.zero_le _, (by decide : (0 : Nat) ≠ 7), (by decide : (0 : Nat) ≠ 8)⟩, fun _ _ => rfl, fun s _ h => absurd h (by decide : ¬ cd_kd 0 = 1), by decide⟩
section
variable {f_going f_mover f_made f_played : Int32} {f_shields : Int64} {f_settled f_rootMove : Int32} {f_word0 f_word1 f_word2 f_word3 : Int64} {a_nextTo a_leaps a_pawnHits a_line : Nat → Int64} {a_at : Nat → Int32} {a_squaresOf a_held : Nat → Int64} {a_kingAt a_quiet : Nat → Int32} {a_positions : Nat → Int64} {a_playedMove a_playedPiece a_playedTaken a_moveList a_listEnd a_nextMove : Nat → Int32} {a_shieldLine : Nat → Int64} {a_left a_low a_firstLow a_high a_most a_rows : Nat → Int32} {a_knownWords : Nat → Int64} {a_knownMover a_knownDepth a_knownKind a_knownNumber : Nat → Int32} {post : Int32 → SX → Prop} {B : Nat → Nat}
theorem zc_X (hok : cd_OK B) (C : ∀ (fa : Nat → Int32) (sq hl : Nat → Int64), xb_B (fun _ => 0) fa sq hl → post (nI (cd_n B)) (f_going, f_mover, f_made, f_played, f_shields, f_settled, f_rootMove, f_word0, f_word1, f_word2, f_word3, a_nextTo, a_leaps, a_pawnHits, a_line, fa, sq, hl, a_kingAt, a_quiet, a_positions, a_playedMove, a_playedPiece, a_playedTaken, a_moveList, a_listEnd, a_nextMove, a_shieldLine, a_left, a_low, a_firstLow, a_high, a_most, a_rows, a_knownWords, a_knownMover, a_knownDepth, a_knownKind, a_knownNumber)) :
    ∀ (k s : Nat), s + k = 36 → ∀ (fa : Nat → Int32) (sq hl : Nat → Int64), xb_B (zc_B B s) fa sq hl → wX_clear_13 post (k + 1) (nI (cd_sm (fun e => if cd_oc B e then 1 else 0) s)) (nI s) f_going f_mover f_made f_played f_shields f_settled f_rootMove f_word0 f_word1 f_word2 f_word3 a_nextTo a_leaps a_pawnHits a_line fa sq hl a_kingAt a_quiet a_positions a_playedMove a_playedPiece a_playedTaken a_moveList a_listEnd a_nextMove a_shieldLine a_left a_low a_firstLow a_high a_most a_rows a_knownWords a_knownMover a_knownDepth a_knownKind a_knownNumber := by
  intro k
  induction k with
  | zero =>
    intro s hs fa sq hl hB
    rw [wX_clear_13]
    have : s = 36 := by omega
    subst this
    rw [zc_36 hok] at hB
    exact pk_le 36 36 (fun _ => C fa sq hl hB) (fun h => by omega)
  | succ k ih =>
    intro s hs fa sq hl hB
    rw [wX_clear_13]
    dsimp only
    have hs36 : s < 36 := by omega
    have hvs := hok.1 s hs36
    have hfs : fa (nI s).toNatClampNeg = nI (B s) := by rw [nI_clamp (by omega), hB.1]; show nI (zc_B B s s) = _; rw [zc_s]
    have hsm : cd_sm (fun e => if cd_oc B e then 1 else 0) (s + 1) = cd_sm (fun e => if cd_oc B e then 1 else 0) s + (if cd_oc B s then 1 else 0) := rfl
    have ih' := fun fa sq hl h => ih (s + 1) (by omega) fa sq hl h
    rw [hsm] at ih'
    rw [hfs]
    refine pk_le 36 s (fun h => by omega) (fun _ => ⟨vp_in_nI hs36 (by decide), pk_eq (B s) 0 (fun h0 => nm_r (nI_1 s) ?_) (fun h0 => ?_)⟩)
    · rw [cd_ocF.mpr h0] at ih'
      refine ih' fa sq hl ?_
      rw [← zc_pt, zp_pt0 (by rw [zc_s]; exact h0)]; exact hB
    · rw [cd_ocT.mpr h0] at ih'
      refine xm_lift hB hs36 (by rw [zc_s]; exact h0) (by rw [zc_s]; exact hvs) fun fa2 sq2 hl2 hR => ?_
      rw [zc_pt] at hR
      exact nm_r (nI_1 _) (nm_r (nI_1 s) (ih' fa2 sq2 hl2 hR))
end
section
variable {g_playing g_mover g_height g_leaves g_answer g_bestMove : Int32} {b_board b_fromOf b_toOf b_moved b_captured b_past b_tried b_top : Nat → Int32} {post : Int32 → SY → Prop} {B : Nat → Nat}
theorem zc_Y {c : Int32} (hok : cd_OK B) (C : post c (g_playing, g_mover, g_height, g_leaves, g_answer, g_bestMove, fun _ => nI 0, b_fromOf, b_toOf, b_moved, b_captured, b_past, b_tried, b_top)) : ∀ (k s : Nat), s + k = 36 → wY_clear_16 post c g_playing g_mover g_height g_leaves g_answer g_bestMove (k + 1) (nI s) (fun i => nI (zc_B B s i)) b_fromOf b_toOf b_moved b_captured b_past b_tried b_top := by
  intro k
  induction k with
  | zero =>
    intro s hs
    rw [wY_clear_16]
    have : s = 36 := by omega
    subst this
    rw [zc_36 hok]
    exact pk_le 36 36 (fun _ => C) (fun h => by omega)
  | succ k ih =>
    intro s hs
    rw [wY_clear_16]
    have hs36 : s < 36 := by omega
    refine pk_le 36 s (fun h => by omega) (fun _ => ⟨vp_in_nI hs36 (by decide), nm_r (e' := fun i => nI (zc_B B (s + 1) i)) ?_ (nm_r (nI_1 s) (ih (s + 1) (by omega)))⟩)
    rw [nI_clamp (by omega), ← zc_pt]; exact xm_at (p := 0)
end
theorem i_vc_clear {k : Nat} {u : SX} {v : SY} (I : i_Rel k u v) (hk : k + 3 ≤ 1536) : wpX_clear (fun r u' => wpY_clear (fun r' v' => r' = r ∧ i_Rel (k + 3) u' v') v) u := by
  refine zz_cs (P := fun u v => wpX_clear (fun r u' => wpY_clear (fun r' v' => r' = r ∧ i_Rel (k + 3) u' v') v) u) I ?_ ?_
  · intro f_going f_mover f_made f_played f_shields f_settled f_rootMove f_word0 f_word1 f_word2 f_word3 a_nextTo a_leaps a_pawnHits a_line a_at a_squaresOf a_held a_kingAt a_quiet a_positions a_playedMove a_playedPiece a_playedTaken a_moveList a_listEnd a_nextMove a_shieldLine a_left a_low a_firstLow a_high a_most a_rows a_knownWords a_knownMover a_knownDepth a_knownKind a_knownNumber g_playing g_mover g_height g_leaves g_answer g_bestMove b_board b_fromOf b_toOf b_moved b_captured b_past b_tried b_top B hT hB hok hkn
    refine br_t rfl ⟨37, zc_X hok ?_ 36 0 rfl a_at a_squaresOf a_held (by rw [zc_0]; exact hB)⟩
    intro fa sq hl hR
    refine br_t rfl (ym_pieces rfl hok.1 ⟨37, ?_⟩)
    have := zc_Y (g_playing := 0) (g_mover := g_mover) (g_height := g_height) (g_leaves := g_leaves) (g_answer := g_answer) (g_bestMove := g_bestMove) (b_fromOf := b_fromOf) (b_toOf := b_toOf) (b_moved := b_moved) (b_captured := b_captured) (b_past := b_past) (b_tried := b_tried) (b_top := b_top) (post := fun r' v' => r' = nI (cd_n B) ∧ i_Rel (k + 3) (0, f_mover, f_made, f_played, f_shields, f_settled, f_rootMove, f_word0, f_word1, f_word2, f_word3, a_nextTo, a_leaps, a_pawnHits, a_line, fa, sq, hl, a_kingAt, a_quiet, a_positions, a_playedMove, a_playedPiece, a_playedTaken, a_moveList, a_listEnd, a_nextMove, a_shieldLine, a_left, a_low, a_firstLow, a_high, a_most, a_rows, a_knownWords, a_knownMover, a_knownDepth, a_knownKind, a_knownNumber) v') (c := nI (cd_n B)) hok ⟨rfl, zz_i0 hT hR rfl zc_OK0 hkn rfl rfl⟩ 36 0 rfl
    rw [zc_0] at this
    exact this
  · intro f_going f_mover f_made f_played f_shields f_settled f_rootMove f_word0 f_word1 f_word2 f_word3 a_nextTo a_leaps a_pawnHits a_line a_at a_squaresOf a_held a_kingAt a_quiet a_positions a_playedMove a_playedPiece a_playedTaken a_moveList a_listEnd a_nextMove a_shieldLine a_left a_low a_firstLow a_high a_most a_rows a_knownWords a_knownMover a_knownDepth a_knownKind a_knownNumber g_playing g_mover g_height g_leaves g_answer g_bestMove b_board b_fromOf b_toOf b_moved b_captured b_past b_tried b_top B n m H X S hS hP
    exact br_f (by decide) (br_f (by decide) ⟨rfl, zz_i2 (g_mover0 := 0) hS rfl rfl rfl rfl rfl rfl hP (fun _ _ => ⟨rfl, rfl, rfl⟩) yz_refl⟩)
section
variable {g_playing g_mover g_height g_leaves g_answer g_bestMove : Int32} {b_board b_fromOf b_toOf b_moved b_captured b_past b_tried b_top : Nat → Int32} {post : SY → Prop} {B : Nat → Nat} {n : Nat}
theorem yb_k2 (hb : b_board = fun s => nI (B s)) (hh : g_height = nI n) (hn : n ≤ 61) (C : ∀ past : Nat → Int32, (∀ j, j < 36 * n → past j = b_past j) → (∀ s, s < 36 → past (36 * n + s) = nI (B s)) → post (g_playing, g_mover, g_height, g_leaves, g_answer, g_bestMove, b_board, b_fromOf, b_toOf, b_moved, b_captured, past, b_tried, b_top)) :
    ∀ (k s : Nat), s + k = 36 → ∀ past : Nat → Int32, (∀ j, j < 36 * n → past j = b_past j) → (∀ i, i < s → past (36 * n + i) = nI (B i)) → wY_keepBoard_2 post g_playing g_mover g_height g_leaves g_answer g_bestMove (k + 1) (nI s) b_board b_fromOf b_toOf b_moved b_captured past b_tried b_top := by
  subst hh
  intro k
  induction k with
  | zero =>
    intro s hs past h1 h2
    rw [wY_keepBoard_2]
    have : s = 36 := by omega
    subst this
    exact pk_le 36 36 (fun _ => C past h1 h2) (fun h => by omega)
  | succ k ih =>
    intro s hs past h1 h2
    rw [wY_keepBoard_2]
    have hs36 : s < 36 := by omega
    have e : (36 * nI n) + nI s = nI (36 * n + s) := xa_ix
    refine pk_le 36 s (fun h => by omega) (fun _ => ⟨vp_in_nI hs36 (by decide), by rw [e]; exact vp_in_nI (by omega) (by decide), nm_r (e' := upd past (36 * n + s) (nI (B s))) ?_ (nm_r (nI_1 s) (ih (s + 1) (by omega) _ (fun j hj => ?_) (fun i hi => ?_)))⟩)
    · rw [e, nI_clamp (by omega), nI_clamp (by omega), hb]
    · rw [pk_un (by omega)]; exact h1 j hj
    · by_cases h : i = s
      · rw [h, pk_us]
      · rw [pk_un (by omega)]; exact h2 i (by omega)
theorem yb_keep (hb : b_board = fun s => nI (B s)) (hh : g_height = nI n) (hn : n ≤ 61) (C : ∀ past : Nat → Int32, (∀ j, j < 36 * n → past j = b_past j) → (∀ s, s < 36 → past (36 * n + s) = nI (B s)) → post (g_playing, g_mover, g_height, g_leaves, g_answer, g_bestMove, b_board, b_fromOf, b_toOf, b_moved, b_captured, past, b_tried, b_top)) : wpY_keepBoard post (g_playing, g_mover, g_height, g_leaves, g_answer, g_bestMove, b_board, b_fromOf, b_toOf, b_moved, b_captured, b_past, b_tried, b_top) :=
  ⟨37, yb_k2 hb hh hn C 36 0 rfl b_past (fun _ _ => rfl) (fun i hi => by omega)⟩
end
theorem zb_one {B : Nat → Nat} {q : Nat} (h : xw_c B 36 (6 + 8 * q) = 1) : ∃ k, cd_K B q k ∧ (List.range 36).filter (fun s => B s == 6 + 8 * q) = [k] := by
  unfold xw_c at h
  rw [← ce_len] at h
  obtain ⟨e, e1, e2, e3, e4⟩ := xl_one h
  refine ⟨e, ⟨e2, fun s hs => ⟨fun hb => e4 s hs (by rw [hb]; exact beq_self_eq_true _), fun hse => ?_⟩⟩, e1⟩
  rw [hse]; exact beq_iff_eq.mp e3
theorem zb_low {B : Nat → Nat} {q k : Nat} {x : Int64} {post : Int32 → Prop} (hx : cb_S x (fun s => B s == 6 + 8 * q)) (hf : (List.range 36).filter (fun s => B s == 6 + 8 * q) = [k]) (C : post (nI k)) : wpX_lowest post x := by
  have hl := cb_Sl hx
  rw [hf] at hl
  have hne : x ≠ 0 := fun h0 => by rw [h0, cb_l0] at hl; exact absurd hl (by simp)
  refine cb_lowest hne fun c hc e _ _ => ?_
  rw [hl] at e
  injection e with e1 _
  rw [← e1]; exact C
theorem zb_cnt (B : Nat → Nat) (p : Nat) : xw_c B 36 p ≤ 36 := by
  unfold xw_c
  have : ∀ n, cd_sm (fun s => if B s == p then 1 else 0) n ≤ n := by
    intro n
    induction n with
    | zero => exact Nat.le_refl _
    | succ n ih => rw [cd_sm]; split <;> omega
  exact this 36
theorem i_vc_begin {k : Nat} {u : SX} {v : SY} (I : i_Rel k u v) (hk : k + 3 ≤ 1536) (v1 : Int32) : wpX_begin (fun r u' => wpY_begin (fun r' v' => r' = r ∧ i_Rel (k + 3) u' v') v v1) u v1 := by
  refine zz_cs (P := fun u v => wpX_begin (fun r u' => wpY_begin (fun r' v' => r' = r ∧ i_Rel (k + 3) u' v') v v1) u v1) I ?_ ?_
  · intro f_going f_mover f_made f_played f_shields f_settled f_rootMove f_word0 f_word1 f_word2 f_word3 a_nextTo a_leaps a_pawnHits a_line a_at a_squaresOf a_held a_kingAt a_quiet a_positions a_playedMove a_playedPiece a_playedTaken a_moveList a_listEnd a_nextMove a_shieldLine a_left a_low a_firstLow a_high a_most a_rows a_knownWords a_knownMover a_knownDepth a_knownKind a_knownNumber g_playing g_mover g_height g_leaves g_answer g_bestMove b_board b_fromOf b_toOf b_moved b_captured b_past b_tried b_top B hT hB hok hkn
    have hv : yv_V B := hok.1
    have hR0 : ∀ ka : Nat → Int32, i_Rel (k + 3) (0, f_mover, f_made, f_played, f_shields, f_settled, f_rootMove, f_word0, f_word1, f_word2, f_word3, a_nextTo, a_leaps, a_pawnHits, a_line, a_at, a_squaresOf, a_held, ka, a_quiet, a_positions, a_playedMove, a_playedPiece, a_playedTaken, a_moveList, a_listEnd, a_nextMove, a_shieldLine, a_left, a_low, a_firstLow, a_high, a_most, a_rows, a_knownWords, a_knownMover, a_knownDepth, a_knownKind, a_knownNumber) (0, g_mover, g_height, g_leaves, g_answer, g_bestMove, fun s => nI (B s), b_fromOf, b_toOf, b_moved, b_captured, b_past, b_tried, b_top) := fun ka => zz_i0 hT hB rfl hok hkn rfl rfl
    have hno : ∀ z : Int32, z = -2 → ¬ v1 = 0 → ¬ v1 = 1 → wpY_begin (fun r' v' => r' = z ∧ i_Rel (k + 3) (0, f_mover, f_made, f_played, f_shields, f_settled, f_rootMove, f_word0, f_word1, f_word2, f_word3, a_nextTo, a_leaps, a_pawnHits, a_line, a_at, a_squaresOf, a_held, a_kingAt, a_quiet, a_positions, a_playedMove, a_playedPiece, a_playedTaken, a_moveList, a_listEnd, a_nextMove, a_shieldLine, a_left, a_low, a_firstLow, a_high, a_most, a_rows, a_knownWords, a_knownMover, a_knownDepth, a_knownKind, a_knownNumber) v') (0, g_mover, g_height, g_leaves, g_answer, g_bestMove, fun s => nI (B s), b_fromOf, b_toOf, b_moved, b_captured, b_past, b_tried, b_top) v1 := fun z hz h0 h1 => br_t rfl (br_f h0 (br_f h1 ⟨hz.symm, hR0 _⟩))
    refine br_t rfl ?_
    rcases pk_ix v1 (n := 2) (by decide) with h | h | ⟨m, hm, rfl⟩
    · refine br_t h (hno _ rfl (fun e => ?_) (fun e => ?_))
      · rw [e] at h; exact absurd h (by decide)
      · rw [e] at h; exact absurd h (by decide)
    · have h0 : ¬ v1 < 0 := Int32.not_lt.mpr (Int32.le_trans (by decide) h)
      have h1 : ¬ v1 ≤ 1 := fun h1 => absurd (Int32.le_trans h h1) (by decide)
      refine br_f h0 (br_f h1 (hno _ rfl (fun e => ?_) (fun e => ?_)))
      · rw [e] at h; exact absurd h (by decide)
      · rw [e] at h; exact absurd h (by decide)
    · have s6 := hB.2.1 6 (by decide) (by decide)
      have s14 := hB.2.1 14 (by decide) (by decide)
      have n6 := zb_cnt B 6
      have n14 := zb_cnt B 14
      -- the reference up to the kings
      have HY : ∀ q : Int32 → SY → Prop, wY_begin_21 q (nI m) 0 g_mover g_height g_leaves g_answer g_bestMove (fun s => nI (B s)) b_fromOf b_toOf b_moved b_captured b_past b_tried b_top → wpY_begin q (0, g_mover, g_height, g_leaves, g_answer, g_bestMove, fun s => nI (B s), b_fromOf, b_toOf, b_moved, b_captured, b_past, b_tried, b_top) (nI m) := fun q hq => br_t rfl (pk_eq m 0 (fun _ => hq) (fun h0 => pk_eq m 1 (fun _ => hq) (fun h1 => by omega)))
      refine br_f (nI_pos (by omega)) (pk_le m 1 (fun _ => ?_) (fun h => by omega))
      refine xw_ones hB (by decide) (by decide) (xw_ones hB (by decide) (by decide) ?_)
      refine pk_eq (xw_c B 36 6) 1 (fun h6 => pk_eq (xw_c B 36 14) 1 (fun h14 => ?_) (fun h14 => HY _ ?_)) (fun h6 => HY _ ?_)
      · obtain ⟨k0, hK0, f0⟩ := zb_one (q := 0) h6
        obtain ⟨k1, hK1, f1⟩ := zb_one (q := 1) h14
        refine zb_low (q := 0) s6 f0 (nm_e (zb_low (q := 1) s14 f1 (nm_e ?_)))
        have hKA : xb_K B (upd (upd a_kingAt 0 (nI k0)) 1 (nI k1)) := by
          intro q hq
          have : q = 0 ∨ q = 1 := by omega
          rcases this with rfl | rfl
          · exact ⟨k0, hK0, by rw [pk_un (by decide), pk_us]⟩
          · exact ⟨k1, hK1, pk_us⟩
        obtain ⟨kk, hKK, hkk⟩ := hKA (1 - m) (by omega)
        rw [xb_1m hm]
        refine xa_inCheck hT hB hv (by omega) hKK hkk ?_
        -- the reference after the kings
        have HY2 : ∀ q : Int32 → SY → Prop, (cd_ck B (1 - m) = true → q (-4) (0, g_mover, g_height, g_leaves, g_answer, g_bestMove, fun s => nI (B s), b_fromOf, b_toOf, b_moved, b_captured, b_past, b_tried, b_top)) → (cd_ck B (1 - m) = false → wpY_keepBoard (fun u => wpY_moves q u) (1, nI m, nI 0, g_leaves, g_answer, g_bestMove, fun s => nI (B s), b_fromOf, b_toOf, b_moved, b_captured, b_past, b_tried, b_top)) → wpY_begin q (0, g_mover, g_height, g_leaves, g_answer, g_bestMove, fun s => nI (B s), b_fromOf, b_toOf, b_moved, b_captured, b_past, b_tried, b_top) (nI m) := by
          intro q hq1 hq0
          refine HY q ?_
          unfold wY_begin_21
          refine ym_kings (m := 0) rfl hv (by decide) (pk_eq (xw_c B 36 6) 1 (fun _ => ym_kings (m := 1) rfl hv (by decide) (pk_eq (xw_c B 36 14) 1 (fun _ => ?_) (fun h => absurd h14 h))) (fun h => absurd h6 h))
          rw [xb_1m hm]
          refine ym_ck rfl hv (by omega) ?_
          cases hc : cd_ck B (1 - m) with
          | true => exact br_f (by decide) (hq1 hc)
          | false => exact br_t rfl (hq0 hc)
        cases hc : cd_ck B (1 - m) with
        | true =>
          exact br_f (by decide) (HY2 _ (fun _ => ⟨rfl, hR0 _⟩) (fun h => by rw [hc] at h; exact absurd h (by decide)))
        | false =>
          have hG : cd_G B m := ⟨hm, hok, ⟨k0, hK0⟩, ⟨k1, hK1⟩, hc⟩
          refine br_t rfl (nm_e ?_)
          refine xk_keep (n := 0) hB hv rfl (by decide) fun w0 w1 w2 w3 ps hps1 hps2 => ?_
          refine br_f (by decide) ?_
          refine xc_list (B := B) (m := m) (h := 0) (l := 0) ⟨hT, hB, hKA, hG, rfl, rfl, hkn⟩ (by decide) ?_
          intro f_shields_2 a_moveList_2 a_listEnd_2 a_nextMove_2 a_shieldLine_2 c1 c2 c3 c4 c5 c6
          refine HY2 _ (fun h => by rw [hc] at h; exact absurd h (by decide)) (fun _ => ?_)
          refine yb_keep (n := 0) rfl rfl (by decide) fun past hp1 hp2 => ?_
          refine yl_moves (m := m) (h := 0) rfl rfl hv rfl hm rfl (by decide) ?_
          intro b_fromOf_2 b_toOf_2 b_moved_2 b_captured_2 hZ
          refine ⟨by rw [c3, Nat.mul_zero, Nat.zero_add], ?_⟩
          refine zz_i1 (n := 0) (m := m) (H := fun _ => B) (X := fun _ => 0) (S := fun _ => m) hT hB rfl hok hkn rfl rfl rfl rfl rfl rfl rfl hKA ⟨by decide, rfl, rfl, fun _ _ => hG, fun j hj => by omega, fun j hj => by omega, fun j hj => by omega, fun j hj => ?_, fun j hj => ?_, fun j hj s hs => ?_⟩
          · have : j = 0 := by omega
            subst this; exact pk_us
          · have : j = 0 := by omega
            subst this; exact hps2
          · have : j = 0 := by omega
            subst this; exact hp2 s hs
      · unfold wY_begin_21
        exact ym_kings (m := 0) rfl hv (by decide) (pk_eq (xw_c B 36 6) 1 (fun _ => ym_kings (m := 1) rfl hv (by decide) (pk_eq (xw_c B 36 14) 1 (fun h => absurd h h14) (fun _ => ⟨rfl, hR0 _⟩))) (fun h => absurd h6 h))
      · unfold wY_begin_21
        exact ym_kings (m := 0) rfl hv (by decide) (pk_eq (xw_c B 36 6) 1 (fun h => absurd h h6) (fun _ => ⟨rfl, hR0 _⟩))
  · intro f_going f_mover f_made f_played f_shields f_settled f_rootMove f_word0 f_word1 f_word2 f_word3 a_nextTo a_leaps a_pawnHits a_line a_at a_squaresOf a_held a_kingAt a_quiet a_positions a_playedMove a_playedPiece a_playedTaken a_moveList a_listEnd a_nextMove a_shieldLine a_left a_low a_firstLow a_high a_most a_rows a_knownWords a_knownMover a_knownDepth a_knownKind a_knownNumber g_playing g_mover g_height g_leaves g_answer g_bestMove b_board b_fromOf b_toOf b_moved b_captured b_past b_tried b_top B n m H X S hS hP
    exact br_f (by decide) (br_f (by decide) ⟨rfl, zz_i2 (g_mover0 := 0) hS rfl rfl rfl rfl rfl rfl hP (fun _ _ => ⟨rfl, rfl, rfl⟩) yz_refl⟩)
end
section
/-! ===== the owed statements: result, move, undo ===== -/
def zr_v (B : Nat → Nat) (m n : Nat) (H : Nat → Nat → Nat) (X : Nat → Nat) : Int32 :=
  if cd_L B m = [] then (if cd_ck B m then 1 else 2) else if hs_tm H B n < 3 then (if hs_q H X n < 20 then (if n < 60 then 0 else 5) else 4) else 3
section
variable {f_going f_mover f_made f_played : Int32} {f_shields : Int64} {f_settled f_rootMove : Int32} {f_word0 f_word1 f_word2 f_word3 : Int64} {a_nextTo a_leaps a_pawnHits a_line : Nat → Int64} {a_at : Nat → Int32} {a_squaresOf a_held : Nat → Int64} {a_kingAt a_quiet : Nat → Int32} {a_positions : Nat → Int64} {a_playedMove a_playedPiece a_playedTaken a_moveList a_listEnd a_nextMove : Nat → Int32} {a_shieldLine : Nat → Int64} {a_left a_low a_firstLow a_high a_most a_rows : Nat → Int32} {a_knownWords : Nat → Int64} {a_knownMover a_knownDepth a_knownKind a_knownNumber : Nat → Int32} {post : Int32 → SX → Prop} {B : Nat → Nat} {n m : Nat} {H : Nat → Nat → Nat} {X S : Nat → Nat} {fo to mo ca past : Nat → Int32}
theorem zr_X (hgo : f_going = 1) (hmd : f_made = nI n) (hS : (xc_S B m n f_mover f_played a_nextTo a_leaps a_pawnHits a_line a_at a_squaresOf a_held a_kingAt a_knownWords a_knownMover a_knownDepth a_knownKind a_knownNumber)) (hP : zz_P n m B H X S a_playedMove a_playedPiece a_playedTaken a_quiet a_positions fo to mo ca past)
    (C : ∀ (f_shields_2 f_word0_2 f_word1_2 f_word2_2 f_word3_2 : Int64) (a_moveList_2 a_listEnd_2 a_nextMove_2 : Nat → Int32) (a_shieldLine_2 : Nat → Int64), post (zr_v B m n H X) (f_going, f_mover, f_made, f_played, f_shields_2, f_settled, f_rootMove, f_word0_2, f_word1_2, f_word2_2, f_word3_2, a_nextTo, a_leaps, a_pawnHits, a_line, a_at, a_squaresOf, a_held, a_kingAt, a_quiet, a_positions, a_playedMove, a_playedPiece, a_playedTaken, a_moveList_2, a_listEnd_2, a_nextMove_2, a_shieldLine_2, a_left, a_low, a_firstLow, a_high, a_most, a_rows, a_knownWords, a_knownMover, a_knownDepth, a_knownKind, a_knownNumber)) : wpX_result post (f_going, f_mover, f_made, f_played, f_shields, f_settled, f_rootMove, f_word0, f_word1, f_word2, f_word3, a_nextTo, a_leaps, a_pawnHits, a_line, a_at, a_squaresOf, a_held, a_kingAt, a_quiet, a_positions, a_playedMove, a_playedPiece, a_playedTaken, a_moveList, a_listEnd, a_nextMove, a_shieldLine, a_left, a_low, a_firstLow, a_high, a_most, a_rows, a_knownWords, a_knownMover, a_knownDepth, a_knownKind, a_knownNumber) := by
  have hG : cd_G B m := hS.2.2.2.1
  have hmo : f_mover = nI m := hS.2.2.2.2.1
  have hL84 := ce_L84 hG
  have hn60 := hP.1
  refine br_f (by rw [hgo]; decide) (xc_list (l := 0) hS (by decide) ?_)
  intro f_shields_2 a_moveList_2 a_listEnd_2 a_nextMove_2 a_shieldLine_2 c1 c2 c3 c4 c5 c6
  rw [Nat.mul_zero, Nat.zero_add] at c3
  dsimp only
  rw [c3]
  refine pk_eq (cd_L B m).length 0 (fun h0 => ?_) (fun h0 => ?_)
  · have hL0 : cd_L B m = [] := List.eq_nil_of_length_eq_zero h0
    unfold zr_v at C
    rw [if_pos hL0] at C
    subst hmo
    refine xc_inCheck hS hG.1 ?_
    cases hc : cd_ck B m with
    | false => rw [hc] at C; exact br_t rfl (C _ _ _ _ _ _ _ _ _)
    | true => rw [hc] at C; exact br_f (by decide) (C _ _ _ _ _ _ _ _ _)
  · have hL0 : cd_L B m ≠ [] := fun e => h0 (by rw [e]; rfl)
    unfold zr_v at C
    rw [if_neg hL0] at C
    have htm := hs_tm_le H B n
    have hq := hs_q_le H X n
    refine xk_times hS.2.1 hmd hG.2.1 (fun j hj => (hP.2.2.2.1 j hj).2.1) hn60 hP.2.2.2.2.2.2.2.2.1 fun w0 w1 w2 w3 => ?_
    dsimp only
    refine pk_lt (hs_tm H B n) 3 (fun h3 => ⟨by rw [hmd]; exact vp_in_nI (by omega) (by decide), ?_⟩) (fun h3 => ?_)
    · rw [if_pos h3] at C
      rw [show a_quiet f_made.toNatClampNeg = nI (hs_q H X n) from by rw [hmd, nI_clamp (by omega)]; exact hP.2.2.2.2.2.2.2.1 n (Nat.le_refl _)]
      refine pk_lt (hs_q H X n) 20 (fun h20 => ?_) (fun h20 => ?_)
      · rw [if_pos h20] at C
        subst hmd
        refine pk_lt n 60 (fun h60 => ?_) (fun h60 => ?_)
        · rw [if_pos h60] at C; exact C _ _ _ _ _ _ _ _ _
        · rw [if_neg (by omega)] at C; exact C _ _ _ _ _ _ _ _ _
      · rw [if_neg (by omega)] at C; exact C _ _ _ _ _ _ _ _ _
    · rw [if_neg (by omega)] at C; exact C _ _ _ _ _ _ _ _ _
end
section
variable {g_playing g_mover g_height g_leaves g_answer g_bestMove : Int32} {b_board b_fromOf b_toOf b_moved b_captured b_past b_tried b_top : Nat → Int32} {post : Int32 → SY → Prop} {B : Nat → Nat} {n m : Nat} {H : Nat → Nat → Nat} {X S : Nat → Nat} {pm pp pt qt : Nat → Int32} {ps : Nat → Int64}
theorem zr_Y (hgo : g_playing = 1) (hmo : g_mover = nI m) (hht : g_height = nI n) (hb : b_board = fun s => nI (B s)) (hG : cd_G B m) (hP : zz_P n m B H X S pm pp pt qt ps b_fromOf b_toOf b_moved b_captured b_past)
    (C : ∀ (b_fromOf_2 b_toOf_2 b_moved_2 b_captured_2 : Nat → Int32), (yf_Z n b_fromOf b_toOf b_moved b_captured b_fromOf_2 b_toOf_2 b_moved_2 b_captured_2) → post (zr_v B m n H X) (g_playing, g_mover, g_height, g_leaves, g_answer, g_bestMove, b_board, b_fromOf_2, b_toOf_2, b_moved_2, b_captured_2, b_past, b_tried, b_top)) : wpY_result post (g_playing, g_mover, g_height, g_leaves, g_answer, g_bestMove, b_board, b_fromOf, b_toOf, b_moved, b_captured, b_past, b_tried, b_top) := by
  have hv : yv_V B := hG.2.1.1
  have hn60 := hP.1
  refine br_f (by rw [hgo]; decide) (yl_nl (p := 0) hb hv hmo hG.1 hht (by omega) (by omega) ?_)
  intro b_fromOf_2 b_toOf_2 b_moved_2 b_captured_2 q hZ hq
  have hq6 : q ≤ 1296 := by omega
  refine pk_eq q 1296 (fun hqe => ?_) (fun hqe => ?_)
  · have hL0 : cd_L B m = [] := by
      rcases hq with h | h
      · exact ye_L0.mp h.2
      · omega
    unfold zr_v at C
    rw [if_pos hL0] at C
    subst hmo
    refine ym_ck hb hv hG.1 ?_
    cases hc : cd_ck B m with
    | false => rw [hc] at C; exact br_t rfl (C _ _ _ _ hZ)
    | true => rw [hc] at C; exact br_f (by decide) (C _ _ _ _ hZ)
  · have hL0 : cd_L B m ≠ [] := fun e => by
      rcases hq with h | h
      · exact hqe h.1
      · rw [ye_L0.mpr e] at h; exact absurd h.2.2 (by simp)
    unfold zr_v at C
    rw [if_neg hL0] at C
    have htm := hs_tm_le H B n
    have hqq := hs_q_le H X n
    obtain ⟨p1, p2, p3, p4, p5, p6, p7, p8, p9, p10⟩ := hP
    subst hht
    refine (?_ : ∃ n7 : Nat, _)
    refine ⟨n + 0 + 2, ys_7 (n := n) (H := H) hb hv (fun j hj => (p4 j hj).2.1.1) hn60 p10 n 0 0 (Nat.le_refl _) ?_⟩
    rw [Nat.zero_add]
    refine pk_lt (hs_tm H B n) 3 (fun h3 => ?_) (fun h3 => ?_)
    · rw [if_pos h3] at C
      refine ys_quiet (n := n) (H := H) (X := X) rfl hn60 (fun j hj => ?_) (fun j hj => ?_) (fun j hj => ?_) ?_
      · obtain ⟨x1, x2, _⟩ := ce_L_mem.mp (p5 j hj).2.1
        exact ⟨((p4 j (by omega)).2.1.1 _ x1).1, ((p4 j (by omega)).2.1.1 _ x2).1⟩
      · rw [(hZ j hj).2.2.2]; exact (p7 j hj).2.2.2
      · rw [(hZ j hj).2.2.1]; exact (p7 j hj).2.2.1
      · refine pk_lt (hs_q H X n) 20 (fun h20 => ?_) (fun h20 => ?_)
        · rw [if_pos h20] at C
          refine pk_lt n 60 (fun h60 => ?_) (fun h60 => ?_)
          · rw [if_pos h60] at C; exact C _ _ _ _ hZ
          · rw [if_neg (by omega)] at C; exact C _ _ _ _ hZ
        · rw [if_neg (by omega)] at C; exact C _ _ _ _ hZ
    · rw [if_neg (by omega)] at C; exact C _ _ _ _ hZ
end
theorem i_vc_result {k : Nat} {u : SX} {v : SY} (I : i_Rel k u v) (hk : k + 3 ≤ 1536) : wpX_result (fun r u' => wpY_result (fun r' v' => r' = r ∧ i_Rel (k + 3) u' v') v) u := by
  refine zz_cs (P := fun u v => wpX_result (fun r u' => wpY_result (fun r' v' => r' = r ∧ i_Rel (k + 3) u' v') v) u) I ?_ ?_
  · intro f_going f_mover f_made f_played f_shields f_settled f_rootMove f_word0 f_word1 f_word2 f_word3 a_nextTo a_leaps a_pawnHits a_line a_at a_squaresOf a_held a_kingAt a_quiet a_positions a_playedMove a_playedPiece a_playedTaken a_moveList a_listEnd a_nextMove a_shieldLine a_left a_low a_firstLow a_high a_most a_rows a_knownWords a_knownMover a_knownDepth a_knownKind a_knownNumber g_playing g_mover g_height g_leaves g_answer g_bestMove b_board b_fromOf b_toOf b_moved b_captured b_past b_tried b_top B hT hB hok hkn
    exact br_t rfl (br_t rfl ⟨rfl, zz_i0 hT hB rfl hok hkn rfl rfl⟩)
  · intro f_going f_mover f_made f_played f_shields f_settled f_rootMove f_word0 f_word1 f_word2 f_word3 a_nextTo a_leaps a_pawnHits a_line a_at a_squaresOf a_held a_kingAt a_quiet a_positions a_playedMove a_playedPiece a_playedTaken a_moveList a_listEnd a_nextMove a_shieldLine a_left a_low a_firstLow a_high a_most a_rows a_knownWords a_knownMover a_knownDepth a_knownKind a_knownNumber g_playing g_mover g_height g_leaves g_answer g_bestMove b_board b_fromOf b_toOf b_moved b_captured b_past b_tried b_top B n m H X S hS hP
    have hG : cd_G B m := hS.2.2.2.1
    refine zr_X rfl rfl hS hP ?_
    intro f_shields_2 f_word0_2 f_word1_2 f_word2_2 f_word3_2 a_moveList_2 a_listEnd_2 a_nextMove_2 a_shieldLine_2
    refine zr_Y rfl rfl rfl rfl hG hP ?_
    intro b_fromOf_2 b_toOf_2 b_moved_2 b_captured_2 hZ
    exact ⟨rfl, zz_i2 (g_mover0 := 0) hS rfl rfl rfl rfl rfl rfl hP (fun _ _ => ⟨rfl, rfl, rfl⟩) hZ⟩
theorem i_vc_undo {k : Nat} {u : SX} {v : SY} (I : i_Rel k u v) (hk : k + 3 ≤ 1536) : wpX_undo (fun r u' => wpY_undo (fun r' v' => r' = r ∧ i_Rel (k + 3) u' v') v) u := by
  refine zz_cs (P := fun u v => wpX_undo (fun r u' => wpY_undo (fun r' v' => r' = r ∧ i_Rel (k + 3) u' v') v) u) I ?_ ?_
  · intro f_going f_mover f_made f_played f_shields f_settled f_rootMove f_word0 f_word1 f_word2 f_word3 a_nextTo a_leaps a_pawnHits a_line a_at a_squaresOf a_held a_kingAt a_quiet a_positions a_playedMove a_playedPiece a_playedTaken a_moveList a_listEnd a_nextMove a_shieldLine a_left a_low a_firstLow a_high a_most a_rows a_knownWords a_knownMover a_knownDepth a_knownKind a_knownNumber g_playing g_mover g_height g_leaves g_answer g_bestMove b_board b_fromOf b_toOf b_moved b_captured b_past b_tried b_top B hT hB hok hkn
    exact br_t rfl (br_t rfl ⟨rfl, zz_i0 hT hB rfl hok hkn rfl rfl⟩)
  · intro f_going f_mover f_made f_played f_shields f_settled f_rootMove f_word0 f_word1 f_word2 f_word3 a_nextTo a_leaps a_pawnHits a_line a_at a_squaresOf a_held a_kingAt a_quiet a_positions a_playedMove a_playedPiece a_playedTaken a_moveList a_listEnd a_nextMove a_shieldLine a_left a_low a_firstLow a_high a_most a_rows a_knownWords a_knownMover a_knownDepth a_knownKind a_knownNumber g_playing g_mover g_height g_leaves g_answer g_bestMove b_board b_fromOf b_toOf b_moved b_captured b_past b_tried b_top B n m H X S hS hP
    have hP0 := hP
    obtain ⟨p1, p2, p3, p4, p5, p6, p7, p8, p9, p10⟩ := hP0
    refine br_f (by decide) (pk_eq n 0 (fun h0 => ?_) (fun h0 => ?_))
    · exact br_f (by decide) (pk_eq n 0 (fun _ => ⟨rfl, zz_i2 (g_mover0 := 0) hS rfl rfl rfl rfl rfl rfl hP (fun _ _ => ⟨rfl, rfl, rfl⟩) yz_refl⟩) (fun h => absurd h0 h))
    · obtain ⟨n1, rfl⟩ : ∃ n1, n = n1 + 1 := ⟨n - 1, by omega⟩
      obtain ⟨q1, q2, q3⟩ := p5 n1 (by omega)
      obtain ⟨m1, m2, m3⟩ := p6 n1 (by omega)
      obtain ⟨f1, f2, f3, f4⟩ := p7 n1 (by omega)
      have hG1 := p4 n1 (by omega)
      obtain ⟨x1, x2, x3⟩ := ce_L_mem.mp q2
      have hmm : m = 1 - S n1 := by rw [← p3, q1]
      have hBB : B = cd_nx (H n1) (X n1) := by rw [← p2, q3]
      rw [hmm, hBB] at hS ⊢
      refine xc_back hS hG1 (by omega) q2 m1 m2 m3 ?_
      intro f_mover_2 f_played_2 a_at_2 a_squaresOf_2 a_held_2 a_kingAt_2 hS2
      refine nm_r (e' := nI n1) (nI_pred n1) ?_
      refine br_f (by decide) (pk_eq (n1 + 1) 0 (fun h => by omega) (fun _ => ?_))
      refine ym_undo (B := H n1) (f := X n1 / 64) (t := X n1 % 64) (m := S n1) (h := n1) rfl rfl hG1.1 rfl (by omega) x1 x2 f1 f2 f3 f4 ⟨rfl, ?_⟩
      obtain ⟨s1, s2, s3, s4, s5, s6, s7⟩ := hS2
      exact zz_i1 (n := n1) (m := S n1) (H := H) (X := X) (S := S) s1 s2 rfl s4.2.1 s7 rfl rfl s5 rfl rfl s6 rfl s3 ⟨by omega, rfl, rfl, fun j hj => p4 j (by omega), fun j hj => p5 j (by omega), fun j hj => p6 j (by omega), fun j hj => p7 j (by omega), fun j hj => p8 j (by omega), fun j hj => p9 j (by omega), fun j hj => p10 j (by omega)⟩
end
section
/-! ===== the owed statements: move ===== -/
def zm_H (H : Nat → Nat → Nat) (n : Nat) (B' : Nat → Nat) : Nat → Nat → Nat := fun j => if j ≤ n then H j else B'
def zm_X (X : Nat → Nat) (n x : Nat) : Nat → Nat := fun j => if j < n then X j else x
theorem zm_H1 {H : Nat → Nat → Nat} {n : Nat} {B' : Nat → Nat} {j : Nat} (h : j ≤ n) : zm_H H n B' j = H j := if_pos h
theorem zm_H2 {H : Nat → Nat → Nat} {n : Nat} {B' : Nat → Nat} : zm_H H n B' (n + 1) = B' := if_neg (by omega)
theorem zm_X1 {X : Nat → Nat} {n x j : Nat} (h : j < n) : zm_X X n x j = X j := if_pos h
theorem zm_X2 {X : Nat → Nat} {n x : Nat} : zm_X X n x n = x := if_neg (by omega)
theorem zm_q {H : Nat → Nat → Nat} {X : Nat → Nat} {n x : Nat} {B' : Nat → Nat} : ∀ j, j ≤ n → hs_q (zm_H H n B') (zm_X X n x) j = hs_q H X j
  | 0, _ => rfl
  | j + 1, h => by
    rw [hs_q, hs_q, zm_H1 (by omega), zm_X1 (by omega), zm_q j (by omega)]
/-- one more move -/
theorem zm_P {n m x : Nat} {B : Nat → Nat} {H : Nat → Nat → Nat} {X S : Nat → Nat} {pm pp pt qt : Nat → Int32} {ps : Nat → Int64} {fo to mo ca past pm' pp' pt' qt' fo' to' mo' ca' past' : Nat → Int32} {ps' : Nat → Int64} (hP : zz_P n m B H X S pm pp pt qt ps fo to mo ca past) (hn : n < 60) (hx : x ∈ cd_L B m)
    (h1 : ∀ j, j < n → pm' j = pm j ∧ pp' j = pp j ∧ pt' j = pt j) (h2 : yf_Z n fo to mo ca fo' to' mo' ca') (g1 : pm' n = nI x ∧ pp' n = nI (B (x / 64)) ∧ pt' n = nI (B (x % 64))) (g2 : fo' n = nI (x / 64) ∧ to' n = nI (x % 64) ∧ mo' n = nI (B (x / 64)) ∧ ca' n = nI (B (x % 64)))
    (g3 : ∀ j, j ≤ n → qt' j = qt j) (g3' : qt' (n + 1) = nI (if hs_ld B x then 0 else hs_q H X n + 1)) (g4 : ∀ j, j < 4 * (n + 1) → ps' j = ps j) (g4' : xk_W (cd_nx B x) (ps' (4 * (n + 1))) (ps' (4 * (n + 1) + 1)) (ps' (4 * (n + 1) + 2)) (ps' (4 * (n + 1) + 3))) (g5 : ∀ j, j < 36 * (n + 1) → past' j = past j) (g5' : ∀ s, s < 36 → past' (36 * (n + 1) + s) = nI (cd_nx B x s)) :
    zz_P (n + 1) (1 - m) (cd_nx B x) (zm_H H n (cd_nx B x)) (zm_X X n x) (fun j => if j ≤ n then S j else 1 - m) pm' pp' pt' qt' ps' fo' to' mo' ca' past' := by
  obtain ⟨p1, p2, p3, p4, p5, p6, p7, p8, p9, p10⟩ := hP
  have hG : cd_G B m := by
    have := p4 n (Nat.le_refl _)
    rw [p2, p3] at this; exact this
  have hcs : ∀ j, j ≤ n + 1 → j ≤ n ∨ j = n + 1 := fun j hj => by omega
  have hct : ∀ j, j < n + 1 → j < n ∨ j = n := fun j hj => by omega
  refine ⟨by omega, zm_H2, if_neg (by omega), fun j hj => ?_, fun j hj => ?_, fun j hj => ?_, fun j hj => ?_, fun j hj => ?_, fun j hj => ?_, fun j hj s hs => ?_⟩
  · rcases hcs j hj with h | h
    · show cd_G (zm_H H n (cd_nx B x) j) (if j ≤ n then S j else 1 - m)
      rw [zm_H1 h, if_pos h]; exact p4 j h
    · subst h
      show cd_G (zm_H H n (cd_nx B x) (n + 1)) (if n + 1 ≤ n then S (n + 1) else 1 - m)
      rw [zm_H2, if_neg (by omega)]; exact ce_Gx hG hx
  · show (if j + 1 ≤ n then S (j + 1) else 1 - m) = 1 - (if j ≤ n then S j else 1 - m) ∧ zm_X X n x j ∈ cd_L (zm_H H n (cd_nx B x) j) (if j ≤ n then S j else 1 - m) ∧ zm_H H n (cd_nx B x) (j + 1) = cd_nx (zm_H H n (cd_nx B x) j) (zm_X X n x j)
    rcases hct j hj with h | h
    · obtain ⟨a1, a2, a3⟩ := p5 j h
      rw [if_pos (by omega), if_pos (by omega), zm_X1 h, zm_H1 (by omega), zm_H1 (by omega)]
      exact ⟨a1, a2, a3⟩
    · subst h
      rw [if_neg (by omega), if_pos (by omega), zm_X2, zm_H1 (Nat.le_refl _), zm_H2, p2, p3]
      exact ⟨rfl, hx, rfl⟩
  · rcases hct j hj with h | h
    · obtain ⟨a1, a2, a3⟩ := p6 j h
      obtain ⟨b1, b2, b3⟩ := h1 j h
      rw [zm_X1 h, zm_H1 (by omega)]
      exact ⟨b1.trans a1, b2.trans a2, b3.trans a3⟩
    · subst h
      rw [zm_X2, zm_H1 (Nat.le_refl _), p2]; exact g1
  · rcases hct j hj with h | h
    · obtain ⟨a1, a2, a3, a4⟩ := p7 j h
      obtain ⟨b1, b2, b3, b4⟩ := h2 j h
      rw [zm_X1 h, zm_H1 (by omega)]
      exact ⟨b1.trans a1, b2.trans a2, b3.trans a3, b4.trans a4⟩
    · subst h
      rw [zm_X2, zm_H1 (Nat.le_refl _), p2]; exact g2
  · rcases hcs j hj with h | h
    · rw [g3 j h, zm_q j h]; exact p8 j h
    · subst h
      rw [g3', hs_q, zm_H1 (Nat.le_refl _), zm_X2, zm_q n (Nat.le_refl _), p2]
  · rcases hcs j hj with h | h
    · rw [zm_H1 h, g4 _ (by omega), g4 _ (by omega), g4 _ (by omega), g4 _ (by omega)]; exact p9 j h
    · subst h; rw [zm_H2]; exact g4'
  · rcases hcs j hj with h | h
    · rw [zm_H1 h, g5 _ (by omega)]; exact p10 j h s hs
    · subst h; rw [zm_H2]; exact g5' s hs
section
variable {f_going f_mover f_made f_played : Int32} {f_shields : Int64} {f_settled f_rootMove : Int32} {f_word0 f_word1 f_word2 f_word3 : Int64} {a_nextTo a_leaps a_pawnHits a_line : Nat → Int64} {a_at : Nat → Int32} {a_squaresOf a_held : Nat → Int64} {a_kingAt a_quiet : Nat → Int32} {a_positions : Nat → Int64} {a_playedMove a_playedPiece a_playedTaken a_moveList a_listEnd a_nextMove : Nat → Int32} {a_shieldLine : Nat → Int64} {a_left a_low a_firstLow a_high a_most a_rows : Nat → Int32} {a_knownWords : Nat → Int64} {a_knownMover a_knownDepth a_knownKind a_knownNumber : Nat → Int32} {post : Int32 → SX → Prop} {B : Nat → Nat} {n m x : Nat}
theorem zm_191 {z : Nat} {tk : Int32} (hS : (xc_S B m (n + 1) f_mover f_played a_nextTo a_leaps a_pawnHits a_line a_at a_squaresOf a_held a_kingAt a_knownWords a_knownMover a_knownDepth a_knownKind a_knownNumber)) (hmd : f_made = nI (n + 1)) (hn : n < 60)
    (C : ∀ w0 w1 w2 w3 (ps : Nat → Int64) (qt : Nat → Int32), (∀ j, j < 4 * (n + 1) → ps j = a_positions j) → xk_W B (ps (4 * (n + 1))) (ps (4 * (n + 1) + 1)) (ps (4 * (n + 1) + 2)) (ps (4 * (n + 1) + 3)) → (∀ j, j ≤ n → qt j = a_quiet j) → qt (n + 1) = nI z → post tk (f_going, f_mover, f_made, f_played, f_shields, f_settled, f_rootMove, w0, w1, w2, w3, a_nextTo, a_leaps, a_pawnHits, a_line, a_at, a_squaresOf, a_held, a_kingAt, qt, ps, a_playedMove, a_playedPiece, a_playedTaken, a_moveList, a_listEnd, a_nextMove, a_shieldLine, a_left, a_low, a_firstLow, a_high, a_most, a_rows, a_knownWords, a_knownMover, a_knownDepth, a_knownKind, a_knownNumber)) :
    wX_move_191 post tk (nI z) (nI (n + 1)) f_going f_mover f_made f_played f_shields f_settled f_rootMove f_word0 f_word1 f_word2 f_word3 a_nextTo a_leaps a_pawnHits a_line a_at a_squaresOf a_held a_kingAt a_quiet a_positions a_playedMove a_playedPiece a_playedTaken a_moveList a_listEnd a_nextMove a_shieldLine a_left a_low a_firstLow a_high a_most a_rows a_knownWords a_knownMover a_knownDepth a_knownKind a_knownNumber := by
  unfold wX_move_191
  refine ⟨vp_in_nI (by omega) (by decide), nm_r (e' := upd a_quiet (n + 1) (nI z)) (by rw [nI_clamp (by omega)]) ?_⟩
  refine xk_keep hS.2.1 hS.2.2.2.1.2.1.1 hmd (by omega) fun w0 w1 w2 w3 ps h1 h2 => ?_
  exact C w0 w1 w2 w3 ps _ h1 h2 (fun j hj => pk_un (by omega)) pk_us
theorem zm_143 {q : Nat} {tk : Int32} (hS : (xc_S B m n f_mover f_played a_nextTo a_leaps a_pawnHits a_line a_at a_squaresOf a_held a_kingAt a_knownWords a_knownMover a_knownDepth a_knownKind a_knownNumber)) (hmd : f_made = nI n) (hn : n < 60) (hx : x ∈ cd_L B m) (hq : a_quiet n = nI q)
    (C : ∀ (f_mover_2 f_played_2 : Int32) (a_at_2 : Nat → Int32) (a_squaresOf_2 a_held_2 : Nat → Int64) (a_kingAt_2 : Nat → Int32), ∀ w0 w1 w2 w3 (ps : Nat → Int64) (qt : Nat → Int32), (xc_S (cd_nx B x) (1 - m) (n + 1) f_mover_2 f_played_2 a_nextTo a_leaps a_pawnHits a_line a_at_2 a_squaresOf_2 a_held_2 a_kingAt_2 a_knownWords a_knownMover a_knownDepth a_knownKind a_knownNumber) → (∀ j, j < 4 * (n + 1) → ps j = a_positions j) → xk_W (cd_nx B x) (ps (4 * (n + 1))) (ps (4 * (n + 1) + 1)) (ps (4 * (n + 1) + 2)) (ps (4 * (n + 1) + 3)) → (∀ j, j ≤ n → qt j = a_quiet j) → qt (n + 1) = nI (if hs_ld B x then 0 else q + 1) → post tk (f_going, f_mover_2, nI (n + 1), f_played_2, f_shields, f_settled, f_rootMove, w0, w1, w2, w3, a_nextTo, a_leaps, a_pawnHits, a_line, a_at_2, a_squaresOf_2, a_held_2, a_kingAt_2, qt, ps, upd a_playedMove n (nI x), upd a_playedPiece n (nI (B (x / 64))), upd a_playedTaken n (nI (B (x % 64))), a_moveList, a_listEnd, a_nextMove, a_shieldLine, a_left, a_low, a_firstLow, a_high, a_most, a_rows, a_knownWords, a_knownMover, a_knownDepth, a_knownKind, a_knownNumber)) :
    wX_move_143 post (nI x) tk (xb_b (hs_ld B x)) f_going f_mover f_made f_played f_shields f_settled f_rootMove f_word0 f_word1 f_word2 f_word3 a_nextTo a_leaps a_pawnHits a_line a_at a_squaresOf a_held a_kingAt a_quiet a_positions a_playedMove a_playedPiece a_playedTaken a_moveList a_listEnd a_nextMove a_shieldLine a_left a_low a_firstLow a_high a_most a_rows a_knownWords a_knownMover a_knownDepth a_knownKind a_knownNumber := by
  unfold wX_move_143
  refine xc_make hS (by omega) hx ?_
  intro f_mover_2 f_played_2 a_at_2 a_squaresOf_2 a_held_2 a_kingAt_2 hS2
  refine nm_r (e' := nI (n + 1)) (by rw [hmd, nI_1]) ?_
  have C' := fun w0 w1 w2 w3 ps qt => C f_mover_2 f_played_2 a_at_2 a_squaresOf_2 a_held_2 a_kingAt_2 w0 w1 w2 w3 ps qt hS2
  cases hl : hs_ld B x with
  | false =>
    rw [hl] at C'
    have e : nI (n + 1) - 1 = nI n := nI_pred n
    refine br_t rfl ?_
    rw [e, nI_clamp (by omega), hq, nI_1]
    exact ⟨vp_in_nI (by omega) (by decide), zm_191 hS2 rfl hn fun w0 w1 w2 w3 ps qt h1 h2 h3 h4 => C' w0 w1 w2 w3 ps qt h1 h2 h3 h4⟩
  | true =>
    rw [hl] at C'
    exact br_f (by decide) (zm_191 (z := 0) hS2 rfl hn fun w0 w1 w2 w3 ps qt h1 h2 h3 h4 => C' w0 w1 w2 w3 ps qt h1 h2 h3 h4)
/-- the scan of the list -/
theorem zm_63 {L : List Nat} {f t : Nat} (hM : xl_M a_moveList 0 L) (hle : a_listEnd 0 = nI L.length) (hlen : L.length ≤ 84) (hL : ∀ y, y ∈ L → y < 4096) (hB : xb_B B a_at a_squaresOf a_held) (hv : ∀ s, s < 36 → B s ≤ 14 ∧ B s ≠ 7 ∧ B s ≠ 8) (hf : f < 36) (ht : t < 36)
    (C0 : 64 * f + t ∉ L → post (-3) (f_going, f_mover, f_made, f_played, f_shields, f_settled, f_rootMove, f_word0, f_word1, f_word2, f_word3, a_nextTo, a_leaps, a_pawnHits, a_line, a_at, a_squaresOf, a_held, a_kingAt, a_quiet, a_positions, a_playedMove, a_playedPiece, a_playedTaken, a_moveList, a_listEnd, a_nextMove, a_shieldLine, a_left, a_low, a_firstLow, a_high, a_most, a_rows, a_knownWords, a_knownMover, a_knownDepth, a_knownKind, a_knownNumber)) (C1 : 64 * f + t ∈ L → wX_move_143 post (nI (64 * f + t)) (nI (B t)) (xb_b (hs_ld B (64 * f + t))) f_going f_mover f_made f_played f_shields f_settled f_rootMove f_word0 f_word1 f_word2 f_word3 a_nextTo a_leaps a_pawnHits a_line a_at a_squaresOf a_held a_kingAt a_quiet a_positions a_playedMove a_playedPiece a_playedTaken a_moveList a_listEnd a_nextMove a_shieldLine a_left a_low a_firstLow a_high a_most a_rows a_knownWords a_knownMover a_knownDepth a_knownKind a_knownNumber) :
    ∀ (rest done : List Nat) (b : Bool), done ++ rest = L → (b = true ↔ 64 * f + t ∈ done) → wX_move_63 post (nI f) (nI t) (nI (64 * f + t)) f_going f_mover f_made f_played f_shields f_settled f_rootMove f_word0 f_word1 f_word2 f_word3 a_nextTo a_leaps a_pawnHits a_line a_at a_squaresOf a_held a_kingAt a_quiet a_positions a_playedMove a_playedPiece a_playedTaken a_moveList a_listEnd a_nextMove a_shieldLine a_left a_low a_firstLow a_high a_most a_rows a_knownWords a_knownMover a_knownDepth a_knownKind a_knownNumber (rest.length + 1) (xb_b b) (nI done.length) := by
  intro rest
  induction rest with
  | nil =>
    intro done b hdr hb
    rw [List.append_nil] at hdr
    subst hdr
    rw [List.length_nil, wX_move_63]
    dsimp only
    rw [hle]
    refine pk_le done.length done.length (fun _ => ?_) (fun h => by omega)
    cases b with
    | false => exact br_t rfl (C0 fun h => absurd (hb.mpr h) (by decide))
    | true =>
      have hm := C1 (hb.mp rfl)
      have hfv := hv f hf
      have htv := hv t ht
      have e1 : (64 * f + t) / 64 = f := by omega
      have e2 : (64 * f + t) % 64 = t := by omega
      unfold hs_ld at hm
      rw [e1, e2] at hm
      have ek : cd_kd (B f) = B f % 8 := by unfold cd_kd; split <;> omega
      have hbt : a_at (nI t).toNatClampNeg = nI (B t) := by rw [nI_clamp (by omega), hB.1]
      have hbf : a_at (nI f).toNatClampNeg = nI (B f) := by rw [nI_clamp (by omega), hB.1]
      refine br_f (by decide) ⟨vp_in_nI ht (by decide), nm_r hbt (pk_eq (B t) 0 (fun h0 => ⟨vp_in_nI hf (by decide), ?_⟩) (fun h0 => ?_))⟩
      · rw [hbf, show nI (B f) &&& 7 = nI (B f % 8) from pk_andN (by omega) 3 (by decide)]
        rw [h0, ek] at hm
        rw [h0]
        refine pk_eq (B f % 8) 1 (fun h1 => ?_) (fun h1 => ?_)
        · rw [h1] at hm; exact hm
        · rw [beq_eq_false_iff_ne.mpr h1] at hm; exact hm
      · rw [beq_eq_false_iff_ne.mpr h0] at hm; exact hm
  | cons y rest ih =>
    intro done b hdr hb
    obtain ⟨g1, g2, g3, g4, g5⟩ := xc_get hdr
    have hy := hL y g3
    have hmd := hM _ g1
    rw [Nat.zero_add, g2] at hmd
    rw [List.length_cons, wX_move_63]
    dsimp only
    rw [hle, nI_clamp (n := done.length) (by omega), hmd]
    have ih' := fun b' hb' => ih (done ++ [y]) b' g4 hb'
    rw [g5] at ih'
    refine pk_le L.length done.length (fun h => by omega) (fun _ => ?_)
    cases b with
    | false =>
      have hnd : 64 * f + t ∉ done := fun h => absurd (hb.mpr h) (by decide)
      refine br_t rfl ⟨vp_in_nI (by omega) (by decide), pk_eq y (64 * f + t) (fun he => nm_r (nI_1 done.length) (ih' true ⟨fun _ => ?_, fun _ => rfl⟩)) (fun he => nm_r (nI_1 done.length) (ih' false ⟨fun h => absurd h (by decide), fun h => ?_⟩))⟩
      · rw [he]; simp
      · rcases List.mem_append.mp h with h | h
        · exact absurd h hnd
        · exact absurd (by simpa using h : 64 * f + t = y).symm he
    | true =>
      exact br_f (by decide) (nm_r (nI_1 done.length) (ih' true ⟨fun _ => List.mem_append_left _ (hb.mp rfl), fun _ => rfl⟩))
end
theorem i_vc_move {k : Nat} {u : SX} {v : SY} (I : i_Rel k u v) (hk : k + 3 ≤ 1536) (v1 : Int32) (v2 : Int32) : wpX_move (fun r u' => wpY_move (fun r' v' => r' = r ∧ i_Rel (k + 3) u' v') v v1 v2) u v1 v2 := by
  refine zz_cs (P := fun u v => wpX_move (fun r u' => wpY_move (fun r' v' => r' = r ∧ i_Rel (k + 3) u' v') v v1 v2) u v1 v2) I ?_ ?_
  · intro f_going f_mover f_made f_played f_shields f_settled f_rootMove f_word0 f_word1 f_word2 f_word3 a_nextTo a_leaps a_pawnHits a_line a_at a_squaresOf a_held a_kingAt a_quiet a_positions a_playedMove a_playedPiece a_playedTaken a_moveList a_listEnd a_nextMove a_shieldLine a_left a_low a_firstLow a_high a_most a_rows a_knownWords a_knownMover a_knownDepth a_knownKind a_knownNumber g_playing g_mover g_height g_leaves g_answer g_bestMove b_board b_fromOf b_toOf b_moved b_captured b_past b_tried b_top B hT hB hok hkn
    exact br_t rfl (br_t rfl ⟨rfl, zz_i0 hT hB rfl hok hkn rfl rfl⟩)
  · intro f_going f_mover f_made f_played f_shields f_settled f_rootMove f_word0 f_word1 f_word2 f_word3 a_nextTo a_leaps a_pawnHits a_line a_at a_squaresOf a_held a_kingAt a_quiet a_positions a_playedMove a_playedPiece a_playedTaken a_moveList a_listEnd a_nextMove a_shieldLine a_left a_low a_firstLow a_high a_most a_rows a_knownWords a_knownMover a_knownDepth a_knownKind a_knownNumber g_playing g_mover g_height g_leaves g_answer g_bestMove b_board b_fromOf b_toOf b_moved b_captured b_past b_tried b_top B n m H X S hS hP
    have hG : cd_G B m := hS.2.2.2.1
    have hv : yv_V B := hG.2.1.1
    have hL84 := ce_L84 hG
    have hn60 := hP.1
    refine br_f (by decide) (zr_X rfl rfl hS hP ?_)
    intro f_shields_2 f_word0_2 f_word1_2 f_word2_2 f_word3_2 a_moveList_2 a_listEnd_2 a_nextMove_2 a_shieldLine_2
    -- the reference after its result
    have HY : ∀ q : Int32 → SY → Prop, (∀ (b_fromOf_2 b_toOf_2 b_moved_2 b_captured_2 : Nat → Int32), (yf_Z n b_fromOf b_toOf b_moved b_captured b_fromOf_2 b_toOf_2 b_moved_2 b_captured_2) → ((zr_v B m n H X = 0 → wpY_isSquare (fun r_18 => ((r_18 = 0 → q (-3) (1, nI m, nI n, g_leaves, g_answer, g_bestMove, fun s => nI (B s), b_fromOf_2, b_toOf_2, b_moved_2, b_captured_2, b_past, b_tried, b_top)) ∧ (¬ r_18 = 0 → wpY_isSquare (fun r_34 => ((r_34 = 0 → q (-3) (1, nI m, nI n, g_leaves, g_answer, g_bestMove, fun s => nI (B s), b_fromOf_2, b_toOf_2, b_moved_2, b_captured_2, b_past, b_tried, b_top)) ∧ (¬ r_34 = 0 → wpY_isLegal (fun r_50 u => (r_50 = 0 → q (-3) u) ∧ (¬ r_50 = 0 → wpY_doMove (fun u => wpY_keepBoard (fun u => vp_in (u.2.2.1 - 1) 70 ∧ q (u.2.2.2.2.2.2.2.2.2.2.1 (u.2.2.1 - 1).toNatClampNeg) u) u) u v1 v2)) (1, nI m, nI n, g_leaves, g_answer, g_bestMove, fun s => nI (B s), b_fromOf_2, b_toOf_2, b_moved_2, b_captured_2, b_past, b_tried, b_top) v1 v2))) (1, nI m, nI n, g_leaves, g_answer, g_bestMove, fun s => nI (B s), b_fromOf_2, b_toOf_2, b_moved_2, b_captured_2, b_past, b_tried, b_top) v2)) ) (1, nI m, nI n, g_leaves, g_answer, g_bestMove, fun s => nI (B s), b_fromOf_2, b_toOf_2, b_moved_2, b_captured_2, b_past, b_tried, b_top) v1) ∧ (¬ zr_v B m n H X = 0 → q (-2) (1, nI m, nI n, g_leaves, g_answer, g_bestMove, fun s => nI (B s), b_fromOf_2, b_toOf_2, b_moved_2, b_captured_2, b_past, b_tried, b_top)))) → wpY_move q (1, nI m, nI n, g_leaves, g_answer, g_bestMove, fun s => nI (B s), b_fromOf, b_toOf, b_moved, b_captured, b_past, b_tried, b_top) v1 v2 := by
      intro q hq
      refine br_f (by decide) (zr_Y rfl rfl rfl rfl hG hP ?_)
      intro b_fromOf_2 b_toOf_2 b_moved_2 b_captured_2 hZ
      exact hq _ _ _ _ hZ
    have hR : ∀ (f_shields_3 f_word0_3 f_word1_3 f_word2_3 f_word3_3 : Int64) (a_moveList_3 a_listEnd_3 a_nextMove_3 : Nat → Int32) (a_shieldLine_3 : Nat → Int64), ∀ (b_fromOf_2 b_toOf_2 b_moved_2 b_captured_2 : Nat → Int32), (yf_Z n b_fromOf b_toOf b_moved b_captured b_fromOf_2 b_toOf_2 b_moved_2 b_captured_2) → i_Rel (k + 3) (1, nI m, nI n, nI n, f_shields_3, f_settled, f_rootMove, f_word0_3, f_word1_3, f_word2_3, f_word3_3, a_nextTo, a_leaps, a_pawnHits, a_line, a_at, a_squaresOf, a_held, a_kingAt, a_quiet, a_positions, a_playedMove, a_playedPiece, a_playedTaken, a_moveList_3, a_listEnd_3, a_nextMove_3, a_shieldLine_3, a_left, a_low, a_firstLow, a_high, a_most, a_rows, a_knownWords, a_knownMover, a_knownDepth, a_knownKind, a_knownNumber) (1, nI m, nI n, g_leaves, g_answer, g_bestMove, fun s => nI (B s), b_fromOf_2, b_toOf_2, b_moved_2, b_captured_2, b_past, b_tried, b_top) := by
      intro f_shields_3 f_word0_3 f_word1_3 f_word2_3 f_word3_3 a_moveList_3 a_listEnd_3 a_nextMove_3 a_shieldLine_3 b_fromOf_2 b_toOf_2 b_moved_2 b_captured_2 hZ
      exact zz_i2 (g_mover0 := 0) hS rfl rfl rfl rfl rfl rfl hP (fun _ _ => ⟨rfl, rfl, rfl⟩) hZ
    by_cases hz : zr_v B m n H X = 0
    · refine br_t hz ?_
      have hn : n < 60 := by
        refine Nat.lt_of_not_le fun h => ?_
        unfold zr_v at hz
        have h60 : ¬ n < 60 := by omega
        rw [if_neg h60] at hz
        split at hz
        · split at hz <;> exact absurd hz (by decide)
        · split at hz
          · split at hz <;> exact absurd hz (by decide)
          · exact absurd hz (by decide)
      -- squares that are none
      have hY1 : ∀ z : Int32, z = -3 → ((∀ s : Nat, s < 36 → v1 ≠ nI s) ∨ (∀ s : Nat, s < 36 → v2 ≠ nI s)) → wpY_move (fun r' v' => r' = z ∧ i_Rel (k + 3) (1, nI m, nI n, nI n, f_shields_2, f_settled, f_rootMove, f_word0_2, f_word1_2, f_word2_2, f_word3_2, a_nextTo, a_leaps, a_pawnHits, a_line, a_at, a_squaresOf, a_held, a_kingAt, a_quiet, a_positions, a_playedMove, a_playedPiece, a_playedTaken, a_moveList_2, a_listEnd_2, a_nextMove_2, a_shieldLine_2, a_left, a_low, a_firstLow, a_high, a_most, a_rows, a_knownWords, a_knownMover, a_knownDepth, a_knownKind, a_knownNumber) v') (1, nI m, nI n, g_leaves, g_answer, g_bestMove, fun s => nI (B s), b_fromOf, b_toOf, b_moved, b_captured, b_past, b_tried, b_top) v1 v2 := by
        intro z hz3 hno
        refine HY _ ?_
        intro b_fromOf_2 b_toOf_2 b_moved_2 b_captured_2 hZ
        refine br_t hz (ya_isSq (fun _ => br_t rfl ⟨hz3.symm, hR _ _ _ _ _ _ _ _ _ _ _ _ _ hZ⟩) (fun s hs e => br_f (by decide) (ya_isSq (fun _ => br_t rfl ⟨hz3.symm, hR _ _ _ _ _ _ _ _ _ _ _ _ _ hZ⟩) (fun s2 hs2 e2 => ?_))))
        rcases hno with h | h
        · exact absurd e (h s hs)
        · exact absurd e2 (h s2 hs2)
      rcases pk_ix v1 (n := 36) (by decide) with h | h | ⟨f, hf, hv1⟩
      · exact br_t h (hY1 _ rfl (Or.inl fun s hs e => nI_pos (n := s) (by omega) (by rw [← e]; exact h)))
      · have hn0 : ¬ v1 < 0 := Int32.not_lt.mpr (Int32.le_trans (by decide) h)
        exact br_f hn0 (br_t h (hY1 _ rfl (Or.inl fun s hs e => (Int32.not_lt.mpr h) (by rw [e]; exact nI_lt (b := 36) hs (by decide)))))
      · have hf0 : ¬ v1 < 0 := by rw [hv1]; exact nI_pos (by omega)
        have hf36 : ¬ 36 ≤ v1 := by rw [hv1]; exact nI_ge (b := 36) hf (by decide)
        rcases pk_ix v2 (n := 36) (by decide) with h | h | ⟨t, ht, hv2⟩
        · exact br_f hf0 (br_f hf36 (br_t h (hY1 _ rfl (Or.inr fun s hs e => nI_pos (n := s) (by omega) (by rw [← e]; exact h)))))
        · have hn0 : ¬ v2 < 0 := Int32.not_lt.mpr (Int32.le_trans (by decide) h)
          have hn36 : ¬ v2 < 36 := Int32.not_lt.mpr h
          exact br_f hf0 (br_f hf36 (br_f hn0 (br_f hn36 (hY1 _ rfl (Or.inr fun s hs e => hn36 (by rw [e]; exact nI_lt (b := 36) hs (by decide)))))))
        · subst hv1; subst hv2
          refine br_f hf0 (br_f hf36 (br_f (nI_pos (by omega)) (br_t (nI_lt (b := 36) ht (by decide)) (nm_r (e' := nI (64 * f + t)) (by rw [show (64 : Int32) = nI 64 from rfl, pk_mul, nI_add]) ?_))))
          refine xc_list (l := 0) hS (by decide) ?_
          intro f_shields_3 a_moveList_3 a_listEnd_3 a_nextMove_3 a_shieldLine_3 c1 c2 c3 c4 c5 c6
          rw [Nat.mul_zero] at c1
          rw [Nat.mul_zero, Nat.zero_add] at c3
          have e1 : (64 * f + t) / 64 = f := by omega
          have e2 : (64 * f + t) % 64 = t := by omega
          have hmem : 64 * f + t ∈ cd_L B m ↔ cd_lg B m f t = true := by
            rw [ce_L_mem, e1, e2]; exact ⟨fun h => h.2.2, fun h => ⟨hf, ht, h⟩⟩
          refine ⟨_, zm_63 (B := B) c1 c3 hL84 (fun y hy => by have := ce_L_mem.mp hy; omega) hS.2.1 hv hf ht ?_ ?_ (cd_L B m) [] false rfl ⟨fun h => absurd h (by decide), fun h => absurd h (by simp)⟩⟩
          · intro hnot
            have hlg : cd_lg B m f t = false := by
              cases hc : cd_lg B m f t with
              | false => rfl
              | true => exact absurd (hmem.mpr hc) hnot
            refine HY _ ?_
            intro b_fromOf_2 b_toOf_2 b_moved_2 b_captured_2 hZ
            refine br_t hz (ya_isSq (fun h => absurd rfl (h f hf)) (fun _ _ _ => br_f (by decide) (ya_isSq (fun h => absurd rfl (h t ht)) (fun _ _ _ => br_f (by decide) (ym_legal rfl hv rfl hG.1 rfl (by omega) hf ht ?_)))))
            intro b_fromOf_4 b_toOf_4 b_moved_4 b_captured_4 hZ4
            rw [hlg]
            exact br_t rfl ⟨rfl, hR _ _ _ _ _ _ _ _ _ _ _ _ _ (yz_trans (Nat.le_refl _) (Nat.le_refl _) hZ hZ4)⟩
          · intro hx
            refine zm_143 hS rfl hn hx (hP.2.2.2.2.2.2.2.1 n (Nat.le_refl _)) ?_
            intro f_mover_4 f_played_4 a_at_4 a_squaresOf_4 a_held_4 a_kingAt_4 w0 w1 w2 w3 ps qt hS4 d1 d2 d3 d4
            refine HY _ ?_
            intro b_fromOf_2 b_toOf_2 b_moved_2 b_captured_2 hZ
            refine br_t hz (ya_isSq (fun h => absurd rfl (h f hf)) (fun _ _ _ => br_f (by decide) (ya_isSq (fun h => absurd rfl (h t ht)) (fun _ _ _ => br_f (by decide) (ym_legal rfl hv rfl hG.1 rfl (by omega) hf ht ?_)))))
            intro b_fromOf_4 b_toOf_4 b_moved_4 b_captured_4 hZ4
            rw [hmem.mp hx]
            refine br_f (by decide) (ym_doMove rfl hv rfl hG.1 rfl (by omega) hf ht ?_)
            refine yb_keep (n := n + 1) rfl rfl (by omega) fun past hp1 hp2 => ?_
            have eh : nI (n + 1) - 1 = nI n := nI_pred n
            dsimp only
            rw [eh, nI_clamp (by omega), pk_us]
            refine ⟨vp_in_nI (by omega) (by decide), rfl, ?_⟩
            have hnx : cd_nx B (64 * f + t) = cd_mv B f t := by unfold cd_nx; rw [e1, e2]
            obtain ⟨s1, s2, s3, s4, s5, s6, s7⟩ := hS4
            refine zz_i1 (n := n + 1) (m := 1 - m) s1 s2 (by rw [hnx]) s4.2.1 s7 rfl rfl s5 rfl rfl s6 rfl s3 (zm_P hP hn hx (fun j hj => ⟨pk_un (by omega), pk_un (by omega), pk_un (by omega)⟩) (yz_trans (Nat.le_refl _) (Nat.le_refl _) (yz_trans (Nat.le_refl _) (Nat.le_refl _) hZ hZ4) yz_upd) ⟨pk_us, pk_us, pk_us⟩ ⟨?_, ?_, ?_, ?_⟩ d3 d4 d1 d2 hp1 (fun s hs => by rw [hnx]; exact hp2 s hs))
            · rw [pk_us, e1]
            · rw [pk_us, e2]
            · rw [pk_us, e1]
            · rw [pk_us, e2]
    · refine br_f hz (HY _ ?_)
      intro b_fromOf_2 b_toOf_2 b_moved_2 b_captured_2 hZ
      exact br_f hz ⟨rfl, hR _ _ _ _ _ _ _ _ _ _ _ _ _ hZ⟩
end
